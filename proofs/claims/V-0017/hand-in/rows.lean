section
theorem pk_us {f : Nat → Int32} {k : Nat} {x : Int32} : upd f k x k = x := if_pos rfl
theorem pk_un {f : Nat → Int32} {k j : Nat} {x : Int32} (h : j ≠ k) : upd f k x j = f j := if_neg h
theorem pk_sub {a b : Nat} (h : b ≤ a) : nI a - nI b = nI (a - b) := by
  obtain ⟨c, rfl⟩ : ∃ c, a = c + b := ⟨a - b, by omega⟩
  rw [← nI_add, Int32.add_sub_cancel, Nat.add_sub_cancel]
theorem pk_m1 (n : Nat) : nI (n + 1) + (-1) = nI n := by
  rw [← nI_1, Int32.add_assoc, show (1 : Int32) + (-1) = 0 from rfl, Int32.add_zero]
theorem pk_mul (a b : Nat) : nI a * nI b = nI (a * b) := (Int32.ofNat_mul a b).symm
theorem pk_div {a d : Nat} (ha : a < 2 ^ 31) (h0 : 0 < d) (hd : d < 2 ^ 31) : nI a / nI d = nI (a / d) := by
  apply Int32.toInt_inj.mp
  rw [lg_idiv_nonneg (by rw [nI_toInt ha]; omega) (by rw [nI_toInt hd]; omega), nI_toInt ha, nI_toInt hd, nI_toInt (Nat.lt_of_le_of_lt (Nat.div_le_self a d) ha)]
  first | rfl | exact (Int.natCast_ediv _ _).symm
theorem pk_rem {a d : Nat} (ha : a < 2 ^ 31) (h0 : 0 < d) (hd : d < 2 ^ 31) : nI a - nI a / nI d * nI d = nI (a % d) := by
  rw [pk_div ha h0 hd, pk_mul, pk_sub (Nat.div_mul_le_self a d)]
  exact congrArg nI (by have := Nat.div_add_mod' a d; omega)
theorem pk_sub_toInt {a b : Nat} (ha : a < 2 ^ 30) (hb : b < 2 ^ 30) : (nI a - nI b).toInt = (a : Int) - b := by
  rw [Int32.toInt_sub, nI_toInt (by omega), nI_toInt (by omega)]
  exact Int.bmod_eq_of_le (by omega) (by omega)
theorem pk_sneg {a b : Nat} (hb : b < 2 ^ 30) (h : a < b) : nI a - nI b < 0 := by
  rw [Int32.lt_iff_toInt_lt, pk_sub_toInt (by omega) hb, show (0 : Int32).toInt = 0 from by decide]
  omega
theorem pk_ix (x : Int32) {n : Nat} (hn : n < 2 ^ 31) : x < 0 ∨ nI n ≤ x ∨ ∃ j : Nat, j < n ∧ x = nI j := by
  by_cases h : x < 0
  · exact Or.inl h
  · obtain ⟨j, hj, rfl⟩ := nI_of h
    by_cases h2 : j < n
    · exact Or.inr (Or.inr ⟨j, h2, rfl⟩)
    · exact Or.inr (Or.inl (nI_le (by omega) hj))
theorem pk_le {x y : Int32} {A B : Prop} (a b : Nat) (f : a ≤ b → A) (g : b < a → B) (hx : x = nI a := by rfl) (hy : y = nI b := by rfl) (ha : a < 2 ^ 31 := by omega) (hb : b < 2 ^ 31 := by omega) : (x ≤ y → A) ∧ (¬ x ≤ y → B) := by
  subst hx hy
  rw [nI_leI ha hb]
  exact ⟨f, fun z => g (by omega)⟩
theorem pk_lt {x y : Int32} {A B : Prop} (a b : Nat) (f : a < b → A) (g : b ≤ a → B) (hx : x = nI a := by rfl) (hy : y = nI b := by rfl) (ha : a < 2 ^ 31 := by omega) (hb : b < 2 ^ 31 := by omega) : (x < y → A) ∧ (¬ x < y → B) := by
  subst hx hy
  rw [nI_ltI ha hb]
  exact ⟨f, fun z => g (by omega)⟩
theorem pk_eq {x y : Int32} {A B : Prop} (a b : Nat) (f : a = b → A) (g : a ≠ b → B) (hx : x = nI a := by rfl) (hy : y = nI b := by rfl) (ha : a < 2 ^ 31 := by omega) (hb : b < 2 ^ 31 := by omega) : (x = y → A) ∧ (¬ x = y → B) := by
  subst hx hy
  rw [nI_eq ha hb]
  exact ⟨f, g⟩
theorem pk_in {x : Int32} (n N : Nat) (h : n < N) (hx : x = nI n := by rfl) (hN : N < 2 ^ 31 := by omega) : vp_in x N := by
  subst hx
  exact vp_in_nI h hN
theorem pk_cl {x : Int32} (n : Nat) (hx : x = nI n := by rfl) (h : n < 2 ^ 31 := by omega) : x.toNatClampNeg = n := by
  subst hx
  exact nI_clamp h
/-! own rows: records as a list, state arrays by number, loop laws -/
abbrev sf_R := Int32 × Int32 × Int32 × Int32 × Int32 × Int32
abbrev sf_G := Nat → Nat → Int32
/-- record p of the list -/
def sf_n (l : List sf_R) (p : Nat) : sf_R := l.getD p (0, 0, 0, 0, 0, 0)
/-- record p of six arrays -/
def sf_q (q : sf_G) (p : Nat) : sf_R := (q 0 p, q 1 p, q 2 p, q 3 p, q 4 p, q 5 p)
/-- the six arrays hold the list -/
def sf_A (l : List sf_R) (q : sf_G) : Prop := ∀ p, p < l.length → sf_n l p = sf_q q p
def sf_st (g : sf_G) (f : Nat) (a : Nat → Int32) : sf_G := fun h => if h = f then a else g h
def sf_up (g : sf_G) (f i : Nat) (v : Int32) : sf_G := sf_st g f (upd (g f) i v)
theorem sf_n_at (A B : List sf_R) (r : sf_R) : sf_n (A ++ r :: B) A.length = r := by
  simp [sf_n, List.getD]
theorem sf_n_lt {A : List sf_R} (B : List sf_R) {p : Nat} (h : p < A.length) : sf_n (A ++ B) p = sf_n A p := by
  simp [sf_n, List.getD, List.getElem?_append_left h]
theorem sf_n_ge (A B : List sf_R) (k : Nat) : sf_n (A ++ B) (A.length + k) = sf_n B k := by
  simp [sf_n, List.getD, List.getElem?_append_right]
theorem sf_n_ne (A B : List sf_R) (r r' : sf_R) {p : Nat} (h : p ≠ A.length) : sf_n (A ++ r' :: B) p = sf_n (A ++ r :: B) p := by
  by_cases hp : p < A.length
  · rw [sf_n_lt _ hp, sf_n_lt _ hp]
  · obtain ⟨k, rfl⟩ : ∃ k, p = A.length + (k + 1) := ⟨p - A.length - 1, by omega⟩
    rw [sf_n_ge, sf_n_ge]
    simp [sf_n, List.getD]
theorem sf_n_mem {l : List sf_R} {p : Nat} (h : p < l.length) : sf_n l p ∈ l := by
  simp [sf_n, List.getD, List.getElem?_eq_getElem h]
theorem sf_split {l : List sf_R} {p : Nat} (h : p < l.length) : ∃ A B, l = A ++ sf_n l p :: B ∧ A.length = p := by
  refine ⟨l.take p, l.drop (p + 1), ?_, by simp; omega⟩
  have e : sf_n l p = l[p] := by simp [sf_n, List.getD, List.getElem?_eq_getElem h]
  rw [e, List.getElem_cons_drop, List.take_append_drop]
theorem sf_mem_n {l : List sf_R} {r : sf_R} (h : r ∈ l) : ∃ p, p < l.length ∧ sf_n l p = r := by
  obtain ⟨A, B, rfl⟩ := List.append_of_mem h
  exact ⟨A.length, by simp, sf_n_at A B r⟩
theorem sf_A_at {A B : List sf_R} {r : sf_R} {q : sf_G} (h : sf_A (A ++ r :: B) q) : r = sf_q q A.length := by
  rw [← h A.length (by simp), sf_n_at]
theorem sf_A_set {A B : List sf_R} {r r' : sf_R} {q q' : sf_G} (h : sf_A (A ++ r :: B) q) (ho : ∀ j, j ≠ A.length → sf_q q' j = sf_q q j) (hr : sf_q q' A.length = r') : sf_A (A ++ r' :: B) q' := by
  intro p hp
  by_cases e : p = A.length
  · subst e
    rw [sf_n_at, hr]
  · rw [sf_n_ne A B r r' e, h p (by simp at hp ⊢; omega), ho p e]
theorem sf_A_app {l : List sf_R} {r : sf_R} {q q' : sf_G} (h : sf_A l q) (ho : ∀ j, j < l.length → sf_q q' j = sf_q q j) (hr : sf_q q' l.length = r) : sf_A (l ++ [r]) q' := by
  intro p hp
  by_cases e : p = l.length
  · subst e
    rw [sf_n_at, hr]
  · have hp' : p < l.length := by simp at hp; omega
    rw [sf_n_lt _ hp', h p hp', ho p hp']
theorem sf_A_del {A B : List sf_R} {r : sf_R} {q q' : sf_G} (h : sf_A (A ++ r :: B) q) (h1 : ∀ j, j < A.length → sf_q q' j = sf_q q j) (h2 : ∀ j, A.length ≤ j → j < A.length + B.length → sf_q q' j = sf_q q (j + 1)) : sf_A (A ++ B) q' := by
  intro p hp
  have hp2 : p < A.length + B.length := by simpa using hp
  by_cases e : p < A.length
  · rw [h1 p e, ← h p (by simp; omega), sf_n_lt _ e, sf_n_lt _ e]
  · obtain ⟨k, rfl⟩ : ∃ k, p = A.length + k := ⟨p - A.length, by omega⟩
    rw [h2 _ (by omega) hp2, ← h _ (by simp; omega), sf_n_ge, show A.length + k + 1 = A.length + (k + 1) by omega, sf_n_ge]
    simp [sf_n, List.getD]
/-- the arrays while a gap at p is closed up to x -/
def sf_sh (q : sf_G) (p x : Nat) : sf_G := fun f j => if p ≤ j ∧ j < x then q f (j + 1) else q f j
theorem sf_sh_0 (q : sf_G) (p : Nat) : sf_sh q p p = q := by
  funext f j
  exact if_neg (by omega)
theorem sf_sh_s (q : sf_G) {p x : Nat} (h : p ≤ x) (f : Nat) : upd (sf_sh q p x f) x (sf_sh q p x f (x + 1)) = sf_sh q p (x + 1) f := by
  funext j
  simp only [upd, sf_sh]
  by_cases e : j = x
  · subst e
    rw [if_pos rfl, if_neg (by omega), if_pos (by omega)]
  · rw [if_neg e]
    by_cases d : p ≤ j ∧ j < x
    · rw [if_pos d, if_pos (by omega)]
    · rw [if_neg d, if_neg (by omega)]
theorem sf_sh_A {A B : List sf_R} {r : sf_R} {q : sf_G} (h : sf_A (A ++ r :: B) q) : sf_A (A ++ B) (sf_sh q A.length (A.length + B.length)) := by
  refine sf_A_del h (fun j hj => ?_) (fun j h1 h2 => ?_)
  · simp only [sf_q, sf_sh]
    simp only [show ¬ (A.length ≤ j ∧ j < A.length + B.length) from by omega, if_false]
  · simp only [sf_q, sf_sh]
    simp only [show (A.length ≤ j ∧ j < A.length + B.length) from ⟨h1, h2⟩, and_self, if_true]
theorem sf_q_up_ne {q : sf_G} {f i : Nat} {v : Int32} {j : Nat} (h : j ≠ i) : sf_q (sf_up q f i v) j = sf_q q j := by
  have k : ∀ a, sf_up q f i v a j = q a j := by
    intro a
    simp only [sf_up, sf_st]
    by_cases e : a = f
    · subst e
      rw [if_pos rfl, upd, if_neg h]
    · rw [if_neg e]
  simp only [sf_q, k]
theorem sf_A_up {A B : List sf_R} {r r' : sf_R} {q : sf_G} {f : Nat} {v : Int32} (h : sf_A (A ++ r :: B) q) (hr : sf_q (sf_up q f A.length v) A.length = r') : sf_A (A ++ r' :: B) (sf_up q f A.length v) :=
  sf_A_set h (fun _ hj => sf_q_up_ne hj) hr
theorem sf_A_nil (q : sf_G) : sf_A [] q := fun p hp => absurd hp (Nat.not_lt_zero p)

/-! searches and counts -/
def sf_fs (z : Int32) (v : Nat → Int32) (P : Nat → Bool) : Nat → Nat → Int32
  | 0, _ => z
  | d + 1, p => if P p then v p else sf_fs z v P d (p + 1)
theorem sf_fs_law (W : Nat → Nat → Prop) {post : Int32 → Prop} {z : Int32} {v : Nat → Int32} {P : Nat → Bool} {hi : Nat}
    (hE : post z → ∀ m, W (m + 1) hi)
    (hF : ∀ m p, p < hi → P p = true → post (v p) → W (m + 1) p)
    (hS : ∀ m p, p < hi → P p = false → W m (p + 1) → W (m + 1) p) :
    ∀ d p, p + d = hi → post (sf_fs z v P d p) → W (d + 1) p := by
  intro d
  induction d with
  | zero => intro p e h; rw [show p = hi by omega]; exact hE h 0
  | succ d ih =>
    intro p e h
    cases c : P p with
    | true => exact hF _ _ (by omega) c (by simpa [sf_fs, c] using h)
    | false => exact hS _ _ (by omega) c (ih _ (by omega) (by simpa [sf_fs, c] using h))
theorem sf_fs_none {z : Int32} {v : Nat → Int32} {P : Nat → Bool} : ∀ d p, (∀ j, p ≤ j → j < p + d → P j = false) → sf_fs z v P d p = z := by
  intro d
  induction d with
  | zero => intro p _; rfl
  | succ d ih =>
    intro p h
    rw [sf_fs, h p (by omega) (by omega), if_neg (by simp), ih _ (fun j h1 h2 => h j (by omega) (by omega))]
theorem sf_fs_some {z : Int32} {v : Nat → Int32} {P : Nat → Bool} : ∀ d p j, p ≤ j → j < p + d → P j = true → (∀ i, p ≤ i → i < j → P i = false) → sf_fs z v P d p = v j := by
  intro d
  induction d with
  | zero => intro p j h1 h2; omega
  | succ d ih =>
    intro p j h1 h2 hj hi
    by_cases e : p = j
    · subst e
      rw [sf_fs, hj, if_pos rfl]
    · rw [sf_fs, hi p (by omega) (by omega), if_neg (by simp)]
      exact ih _ _ (by omega) (by omega) hj (fun i a b => hi i (by omega) b)
theorem sf_fs_cases (P : Nat → Bool) : ∀ d p, (∀ j, p ≤ j → j < p + d → P j = false) ∨ ∃ j, p ≤ j ∧ j < p + d ∧ P j = true ∧ ∀ i, p ≤ i → i < j → P i = false := by
  intro d
  induction d with
  | zero => intro p; exact Or.inl (fun j a b => by omega)
  | succ d ih =>
    intro p
    cases c : P p with
    | true => exact Or.inr ⟨p, by omega, by omega, c, fun i a b => by omega⟩
    | false =>
      rcases ih (p + 1) with h | ⟨j, a, b, hj, hi⟩
      · refine Or.inl (fun j a b => ?_)
        by_cases e : j = p
        · subst e; exact c
        · exact h j (by omega) (by omega)
      · refine Or.inr ⟨j, by omega, by omega, hj, fun i x y => ?_⟩
        by_cases e : i = p
        · subst e; exact c
        · exact hi i (by omega) y
theorem sf_fs_congr {z : Int32} {v : Nat → Int32} {P Q : Nat → Bool} : ∀ d p, (∀ j, p ≤ j → j < p + d → P j = Q j) → sf_fs z v P d p = sf_fs z v Q d p := by
  intro d
  induction d with
  | zero => intro p _; rfl
  | succ d ih =>
    intro p h
    rw [sf_fs, sf_fs, h p (by omega) (by omega), ih _ (fun j a b => h j (by omega) (by omega))]
/-- first record: its place, or -1 -/
def sf_fi (P : sf_R → Bool) (l : List sf_R) : Int32 := sf_fs (-1) nI (fun p => P (sf_n l p)) l.length 0
theorem sf_fi_none {P : sf_R → Bool} {l : List sf_R} (h : ∀ r, r ∈ l → P r = false) : sf_fi P l = -1 :=
  sf_fs_none _ _ (fun j _ hj => h _ (sf_n_mem (by omega)))
theorem sf_fi_at {P : sf_R → Bool} {A B : List sf_R} {r : sf_R} (h : P r = true) (hA : ∀ a, a ∈ A → P a = false) : sf_fi P (A ++ r :: B) = nI A.length :=
  sf_fs_some _ _ _ (by omega) (by simp) (by rw [sf_n_at]; exact h) (fun i _ hi => by rw [sf_n_lt _ hi]; exact hA _ (sf_n_mem hi))
theorem sf_fi_cases (P : sf_R → Bool) (l : List sf_R) : (∀ r, r ∈ l → P r = false) ∨ ∃ A r B, l = A ++ r :: B ∧ P r = true ∧ ∀ a, a ∈ A → P a = false := by
  induction l with
  | nil => exact Or.inl (fun r h => by cases h)
  | cons x l ih =>
    cases c : P x with
    | true => exact Or.inr ⟨[], x, l, rfl, c, fun a h => by cases h⟩
    | false =>
      rcases ih with h | ⟨A, r, B, e, hr, hA⟩
      · refine Or.inl (fun r hr => ?_)
        rcases List.mem_cons.mp hr with rfl | hr
        · exact c
        · exact h r hr
      · refine Or.inr ⟨x :: A, r, B, by rw [e]; rfl, hr, fun a ha => ?_⟩
        rcases List.mem_cons.mp ha with rfl | ha
        · exact c
        · exact hA a ha
theorem sf_any_none {P : sf_R → Bool} {l : List sf_R} (h : ∀ r, r ∈ l → P r = false) : l.any P = false := by
  rw [List.any_eq_false]
  intro r hr
  rw [h r hr]
  exact Bool.false_ne_true
theorem sf_any_at {P : sf_R → Bool} {A B : List sf_R} {r : sf_R} (h : P r = true) : (A ++ r :: B).any P = true :=
  List.any_eq_true.mpr ⟨r, by simp, h⟩
/-- whether some record has P: 1 or 0 -/
def sf_b01 (b : Bool) : Int32 := if b then 1 else 0
theorem sf_fs_any {P : sf_R → Bool} {l : List sf_R} : sf_fs 0 (fun _ => 1) (fun p => P (sf_n l p)) l.length 0 = sf_b01 (l.any P) := by
  rcases sf_fi_cases P l with h | ⟨A, r, B, rfl, hr, hA⟩
  · rw [sf_any_none h, sf_fs_none _ _ (fun j _ hj => h _ (sf_n_mem (by omega)))]; rfl
  · rw [sf_any_at hr, sf_fs_some _ _ A.length (by omega) (by simp) (by rw [sf_n_at]; exact hr) (fun i _ hi => by rw [sf_n_lt _ hi]; exact hA _ (sf_n_mem hi))]; rfl
def sf_ct (P : Nat → Bool) : Nat → Nat → Nat
  | 0, _ => 0
  | d + 1, p => (if P p then 1 else 0) + sf_ct P d (p + 1)
theorem sf_ct_law (W : Nat → Nat → Nat → Prop) {post : Nat → Prop} {P : Nat → Bool} {hi : Nat}
    (hE : ∀ m c, post c → W (m + 1) c hi)
    (hT : ∀ m c p, p < hi → P p = true → W m (c + 1) (p + 1) → W (m + 1) c p)
    (hS : ∀ m c p, p < hi → P p = false → W m c (p + 1) → W (m + 1) c p) :
    ∀ d p c, p + d = hi → post (c + sf_ct P d p) → W (d + 1) c p := by
  intro d
  induction d with
  | zero => intro p c e h; rw [show p = hi by omega]; exact hE _ _ h
  | succ d ih =>
    intro p c e h
    cases b : P p with
    | true => exact hT _ _ _ (by omega) b (ih _ _ (by omega) (by simpa [sf_ct, b, Nat.add_assoc] using h))
    | false => exact hS _ _ _ (by omega) b (ih _ _ (by omega) (by simpa [sf_ct, b] using h))
theorem sf_ct_le (P : Nat → Bool) : ∀ d p, sf_ct P d p ≤ d := by
  intro d
  induction d with
  | zero => intro p; exact Nat.le_refl 0
  | succ d ih =>
    intro p
    have := ih (p + 1)
    rw [sf_ct]
    by_cases b : P p = true
    · rw [if_pos b]; omega
    · rw [if_neg b]; omega
theorem sf_ct_congr {P Q : Nat → Bool} : ∀ d p, (∀ j, p ≤ j → j < p + d → P j = Q j) → sf_ct P d p = sf_ct Q d p := by
  intro d
  induction d with
  | zero => intro p _; rfl
  | succ d ih =>
    intro p h
    rw [sf_ct, sf_ct, h p (by omega) (by omega), ih _ (fun j a b => h j (by omega) (by omega))]
theorem sf_ct_upd {P Q : Nat → Bool} {e : Nat} : ∀ d p, p ≤ e → e < p + d → (∀ j, p ≤ j → j < p + d → j ≠ e → P j = Q j) → sf_ct P d p + (if Q e then 1 else 0) = sf_ct Q d p + (if P e then 1 else 0) := by
  intro d
  induction d with
  | zero => intro p h1 h2; omega
  | succ d ih =>
    intro p h1 h2 h
    rw [sf_ct, sf_ct]
    by_cases c : p = e
    · subst c
      rw [sf_ct_congr d (p + 1) (fun j a b => h j (by omega) (by omega) (by omega))]
      omega
    · rw [h p (by omega) (by omega) c]
      have := ih (p + 1) (by omega) (by omega) (fun j a b k => h j (by omega) (by omega) k)
      omega
theorem sf_ct_zero {P : Nat → Bool} : ∀ d p, (∀ j, p ≤ j → j < p + d → P j = false) → sf_ct P d p = 0 := by
  intro d
  induction d with
  | zero => intro p _; rfl
  | succ d ih =>
    intro p h
    rw [sf_ct, h p (by omega) (by omega), ih _ (fun j a b => h j (by omega) (by omega))]
    rfl
theorem sf_ct_zero' {P : Nat → Bool} : ∀ d p, sf_ct P d p = 0 → ∀ j, p ≤ j → j < p + d → P j = false := by
  intro d
  induction d with
  | zero => intro p _ j a b; omega
  | succ d ih =>
    intro p h j a b
    rw [sf_ct] at h
    by_cases e : j = p
    · subst e
      cases c : P j with
      | false => rfl
      | true => rw [c, if_pos rfl] at h; omega
    · exact ih (p + 1) (by omega) j (by omega) (by omega)
end
section
/-! loop laws over records -/
theorem sf_snoc {α : Type} : ∀ (A : List α), A ≠ [] → ∃ L b, A = L ++ [b] := by
  intro A
  induction A with
  | nil => intro h; exact absurd rfl h
  | cons a A ih =>
    intro _
    by_cases e : A = []
    · subst e; exact ⟨[], a, rfl⟩
    · obtain ⟨L, b, rfl⟩ := ih e
      exact ⟨a :: L, b, rfl⟩
/-- ascending: every record is replaced by f of it, g is folded by F -/
theorem sf_map_law (W : Nat → Nat → sf_G → sf_G → Prop) (K : List sf_R → Prop) (f : sf_R → sf_R) (F : sf_G → sf_R → sf_G) {N : Nat} {Post : sf_G → sf_G → Prop}
    (hE : ∀ m g q, Post g q → W (m + 1) N g q)
    (hK : ∀ A r B, K (A ++ r :: B) → K (A ++ f r :: B))
    (hS : ∀ m g q A r B, (A ++ r :: B).length = N → K (A ++ r :: B) → sf_A (A ++ r :: B) q → (∀ q', sf_A (A ++ f r :: B) q' → W m (A.length + 1) (F g r) q') → W (m + 1) A.length g q) :
    ∀ B A g q, (A ++ B).length = N → K (A ++ B) → sf_A (A ++ B) q → (∀ q', sf_A (A ++ B.map f) q' → Post (B.foldl F g) q') → W (B.length + 1) A.length g q := by
  intro B
  induction B with
  | nil =>
    intro A g q hN hk hA hP
    have e : A.length = N := by simpa using hN
    rw [e]
    exact hE _ _ _ (hP q hA)
  | cons r B ih =>
    intro A g q hN hk hA hP
    refine hS _ _ _ A r B hN hk hA (fun q' h' => ?_)
    have h := ih (A ++ [f r]) (F g r) q' (by simp at hN ⊢; omega) (by simpa using hK _ _ _ hk) (by simpa using h') (fun q'' h'' => hP q'' (by simpa using h''))
    simpa using h
theorem sf_map_law0 (W : Nat → Nat → sf_G → Prop) (K : List sf_R → Prop) (f : sf_R → sf_R) {N : Nat} {Post : sf_G → Prop}
    (hE : ∀ m q, Post q → W (m + 1) N q)
    (hK : ∀ A r B, K (A ++ r :: B) → K (A ++ f r :: B))
    (hS : ∀ m q A r B, (A ++ r :: B).length = N → K (A ++ r :: B) → sf_A (A ++ r :: B) q → (∀ q', sf_A (A ++ f r :: B) q' → W m (A.length + 1) q') → W (m + 1) A.length q) :
    ∀ B A q, (A ++ B).length = N → K (A ++ B) → sf_A (A ++ B) q → (∀ q', sf_A (A ++ B.map f) q' → Post q') → W (B.length + 1) A.length q := by
  intro B
  induction B with
  | nil =>
    intro A q hN hk hA hP
    have e : A.length = N := by simpa using hN
    rw [e]
    exact hE _ _ (hP q hA)
  | cons r B ih =>
    intro A q hN hk hA hP
    refine hS _ _ A r B hN hk hA (fun q' h' => ?_)
    have h := ih (A ++ [f r]) q' (by simp at hN ⊢; omega) (by simpa using hK _ _ _ hk) (by simpa using h') (fun q'' h'' => hP q'' (by simpa using h''))
    simpa using h
/-- descending: every record is kept (changed) or dropped -/
theorem sf_flt_law (W : Nat → Nat → Nat → sf_G → Prop) (f : sf_R → Option sf_R) {Post : List sf_R → sf_G → Prop} {L : Nat}
    (hE : ∀ m l q, l.length ≤ L → sf_A l q → Post l q → W (m + 1) 0 l.length q)
    (hS : ∀ m q A r B, (A ++ r :: B).length ≤ L → sf_A (A ++ r :: B) q → (∀ q', sf_A (A ++ ((f r).toList ++ B)) q' → W m A.length (A ++ ((f r).toList ++ B)).length q') → W (m + 1) (A.length + 1) (A ++ r :: B).length q) :
    ∀ k A B q, A.length = k → (A ++ B).length ≤ L → sf_A (A ++ B) q → (∀ q', sf_A (A.filterMap f ++ B) q' → Post (A.filterMap f ++ B) q') → W (k + 1) k (A ++ B).length q := by
  intro k
  induction k with
  | zero =>
    intro A B q hk hL hA hP
    have e : A = [] := List.eq_nil_of_length_eq_zero hk
    subst e
    exact hE _ _ _ hL hA (hP q hA)
  | succ k ih =>
    intro A B q hk hL hA hP
    obtain ⟨A, r, rfl⟩ := sf_snoc A (by intro h; rw [h] at hk; simp at hk)
    have hk' : A.length = k := by simpa using hk
    have e : (A ++ [r]) ++ B = A ++ r :: B := by simp
    rw [e] at hA hL ⊢
    subst hk'
    refine hS _ q A r B hL hA (fun q' h' => ?_)
    refine ih A ((f r).toList ++ B) q' rfl ?_ h' (fun q'' h'' => ?_)
    · cases f r <;> simp at hL ⊢ <;> omega
    · have e2 : (A ++ [r]).filterMap f ++ B = A.filterMap f ++ ((f r).toList ++ B) := by
        rw [List.filterMap_append]
        cases h : f r <;> simp [h]
      have := hP q''
      rw [e2] at this
      exact this h''
/-- the list without record k -/
def sf_er (l : List sf_R) (k : Nat) : List sf_R := l.take k ++ l.drop (k + 1)
theorem sf_er_at (A B : List sf_R) (r : sf_R) : sf_er (A ++ r :: B) A.length = A ++ B := by
  induction A with
  | nil => rfl
  | cons a A ih => exact congrArg (a :: ·) ih
theorem sf_er_len {l : List sf_R} {k : Nat} (h : k < l.length) : (sf_er l k).length + 1 = l.length := by
  simp [sf_er]; omega
theorem sf_er_map (f : sf_R → sf_R) (l : List sf_R) (k : Nat) : sf_er (l.map f) k = (sf_er l k).map f := by
  simp [sf_er, List.map_append, List.map_take, List.map_drop]
/-! the kinds of records -/
def sf_MH (r : sf_R) : Bool := r.1 == 4 && (r.2.1 == 32 && r.2.2.2.2.2 != r.2.2.1)
def sf_rel (r : sf_R) : sf_R := (r.1, 16, r.2.2.1, r.2.2.2.1, r.2.2.2.2.1, -1)
def sf_sst (r : sf_R) (v : Int32) : sf_R := (r.1, v, r.2.2.1, r.2.2.2.1, r.2.2.2.2.1, r.2.2.2.2.2)
def sf_isAdd (e : Int32) (r : sf_R) : Bool := r.1 == 1 && r.2.2.1 == e
def sf_isInit (i : Int32) (r : sf_R) : Bool := r.1 == 2 && r.2.2.2.1 == i
def sf_isAl (i k : Int32) (r : sf_R) : Bool := r.1 == 3 && (r.2.2.2.1 == i && r.2.2.2.2.2 == k)
def sf_isOH (e : Int32) (r : sf_R) : Bool := r.1 == 4 && (r.2.1 == 32 && (r.2.2.1 == e && r.2.2.2.2.2 == e))
def sf_own (e : Int32) (r : sf_R) : sf_R := if sf_isOH e r then sf_rel r else r
def sf_MHat (e : Int32) (r : sf_R) : Bool := sf_MH r && r.2.2.1 == e
def sf_isRdy (r : sf_R) : Bool := (r.1 == 4 || (r.1 == 5 || r.1 == 6)) && r.2.1 == 0
def sf_rm (P : sf_R → Bool) (r : sf_R) : sf_R := if P r then sf_rel r else r
/-- SAFE(e) := empty -/
def sf_cs (g : sf_G) (e : Nat) : sf_G := sf_up (sf_up g 10 e 0) 11 e 0
def sf_rg (P : sf_R → Bool) (g : sf_G) (r : sf_R) : sf_G := if P r then sf_cs g r.2.2.1.toNatClampNeg else g
/-- SAFE of the slots of the records with P := empty -/
def sf_cg (P : sf_R → Bool) (l : List sf_R) (g : sf_G) : sf_G :=
  sf_st (sf_st g 10 (fun j => if l.any (fun r => P r && r.2.2.1.toNatClampNeg == j) then 0 else g 10 j)) 11 (fun j => if l.any (fun r => P r && r.2.2.1.toNatClampNeg == j) then 0 else g 11 j)
theorem sf_cg_fold (P : sf_R → Bool) : ∀ (l : List sf_R) (g : sf_G), l.foldl (sf_rg P) g = sf_cg P l g := by
  intro l
  induction l with
  | nil =>
    intro g
    funext h j
    simp only [List.foldl_nil, sf_cg, sf_st, List.any_nil]
    by_cases h1 : h = 11
    · subst h1; simp
    · by_cases h2 : h = 10
      · subst h2; simp
      · simp [h1, h2]
  | cons r l ih =>
    intro g
    rw [List.foldl_cons, ih]
    funext h j
    simp only [sf_cg, sf_st, List.any_cons, sf_rg]
    by_cases c : P r = true
    · simp only [c, if_true, Bool.true_and, sf_cs, sf_up, sf_st]
      by_cases h1 : h = 11
      · subst h1
        by_cases hj : r.2.2.1.toNatClampNeg = j
        · simp [upd, hj]
        · have hb : (r.2.2.1.toNatClampNeg == j) = false := by simpa using hj
          simp [upd, Ne.symm hj]
          rw [hb, Bool.false_or]
      · by_cases h2 : h = 10
        · subst h2
          by_cases hj : r.2.2.1.toNatClampNeg = j
          · simp [upd, hj]
          · have hb : (r.2.2.1.toNatClampNeg == j) = false := by simpa using hj
            simp [upd, Ne.symm hj]
            rw [hb, Bool.false_or]
        · simp [h1, h2]
    · have c' : P r = false := by simpa using c
      simp only [c', Bool.false_and, Bool.false_or]
      rfl
end
section
/-! the two states over g and a list of records; the small readers -/
def sf_Z (ib db nd lim : Nat) : Prop := 1 ≤ ib ∧ ib ≤ 4 ∧ 1 ≤ db ∧ db ≤ 4 ∧ 2 ≤ nd ∧ nd ≤ 16 ∧ 4 ≤ lim ∧ lim ≤ 48
def sf_bad (x : Int32) : Bool := decide (x < 1) || !decide (x ≤ 9999)
theorem sf_q_sst {q : sf_G} {p : Nat} {v : Int32} : sf_q (sf_up q 1 p v) p = sf_sst (sf_q q p) v := by
  simp [sf_q, sf_up, sf_st, upd, sf_sst]
theorem sf_q_rel {q : sf_G} {p : Nat} : sf_q (sf_up (sf_up q 1 p 16) 5 p (-1)) p = sf_rel (sf_q q p) := by
  simp [sf_q, sf_up, sf_st, upd, sf_rel]
theorem sf_A_sst {A B : List sf_R} {r : sf_R} {q : sf_G} (v : Int32) (h : sf_A (A ++ r :: B) q) : sf_A (A ++ sf_sst r v :: B) (sf_up q 1 A.length v) :=
  sf_A_up h (by rw [sf_q_sst, ← sf_A_at h])
theorem sf_A_rel {A B : List sf_R} {r : sf_R} {q : sf_G} (h : sf_A (A ++ r :: B) q) : sf_A (A ++ sf_rel r :: B) (sf_up (sf_up q 1 A.length 16) 5 A.length (-1)) :=
  sf_A_set h (fun j hj => by rw [sf_q_up_ne hj, sf_q_up_ne hj]) (by rw [sf_q_rel, ← sf_A_at h])
section
variable {ib db nd lim : Nat} {g : sf_G} {l : List sf_R}
def sf_mX (ib db nd lim n : Nat) (g q : sf_G) : SX := (nI ib, nI db, nI (4 * ib), nI (4 * db), nI nd, nI (1 + ib + db + nd), nI lim, nI n, g 21 0, g 22 0, g 23 0, g 0, g 1, g 2, g 3, g 4, g 5, g 6, g 7, g 8, g 9, g 10, g 11, g 12, g 13, g 14, g 15, g 16, g 17, g 18, g 19, g 20, q 0, q 1, q 2, q 3, q 4, q 5)
def sf_X (ib db nd lim : Nat) (g : sf_G) (l : List sf_R) (u : SX) : Prop := l.length ≤ 128 ∧ ∃ q, u = sf_mX ib db nd lim l.length g q ∧ sf_A l q
theorem sf_X_bad {post : Int32 → Prop} {u : SX} (x : Int32) (hp : post (sf_b01 (sf_bad x))) : wpX_badName post u x := by
  by_cases h1 : x < 1
  · refine br_t h1 ?_
    simpa [sf_bad, h1, sf_b01] using hp
  · refine br_f h1 ?_
    by_cases h2 : x ≤ 9999
    · refine br_t h2 ?_
      simpa [sf_bad, h1, h2, sf_b01] using hp
    · refine br_f h2 ?_
      simpa [sf_bad, h1, h2, sf_b01] using hp
def sf_mY (ib db nd lim n : Nat) (g q : sf_G) : SY := (nI ib, nI db, nI nd, nI lim, nI (4 * ib), nI (4 * db), nI (1 + ib + db + nd), nI n, g 21 0, g 22 0, g 23 0, g 0, g 1, g 2, g 16, g 18, g 12, g 13, g 6, g 7, g 3, g 4, g 5, g 17, g 19, g 14, g 15, g 8, g 9, g 10, g 11, g 20, q 0, q 1, q 2, q 3, q 4, q 5)
def sf_Y (ib db nd lim : Nat) (g : sf_G) (l : List sf_R) (u : SY) : Prop := l.length ≤ 128 ∧ ∃ q, u = sf_mY ib db nd lim l.length g q ∧ sf_A l q
theorem sf_Y_bad {post : Int32 → Prop} {u : SY} (x : Int32) (hp : post (sf_b01 (sf_bad x))) : wpY_badName post u x := by
  by_cases h1 : x < 1
  · refine br_t h1 ?_
    simpa [sf_bad, h1, sf_b01] using hp
  · refine br_f h1 ?_
    by_cases h2 : x ≤ 9999
    · refine br_t h2 ?_
      simpa [sf_bad, h1, h2, sf_b01] using hp
    · refine br_f h2 ?_
      simpa [sf_bad, h1, h2, sf_b01] using hp
theorem sf_X_over {post : Int32 → Prop} {u : SX} (hZ : sf_Z ib db nd lim) (h : sf_X ib db nd lim g l u) (n : Nat) (hn : n ≤ 3) (hp : post (sf_b01 (decide (lim < l.length + n)))) : wpX_overLimit post u (nI n) := by
  obtain ⟨hL, q, rfl, hA⟩ := h
  obtain ⟨-, -, -, -, -, -, z1, z2⟩ := hZ
  by_cases c : lim < l.length + n
  · refine br_f (by rw [nI_add]; exact nI_ge c (by omega)) ?_
    simpa [c, sf_b01] using hp
  · refine br_t (by rw [nI_add]; exact nI_le (by omega) (by omega)) ?_
    simpa [c, sf_b01] using hp
theorem sf_X_MH {post : Int32 → Prop} {u : SX} (h : sf_X ib db nd lim g l u) {p : Nat} (hlt : p < l.length) (hp : post (sf_b01 (sf_MH (sf_n l p)))) : wpX_isMoveHeld post u (nI p) := by
  obtain ⟨hL, q, rfl, hA⟩ := h
  rw [hA p hlt] at hp
  have hi : vp_in (nI p) 128 := vp_in_nI (by omega) (by decide)
  have hc : (nI p).toNatClampNeg = p := nI_clamp (by omega)
  refine And.intro hi ?_
  rw [hc]
  by_cases c1 : q 0 p = 4
  · refine br_t c1 (And.intro hi ?_)
    by_cases c2 : q 1 p = 32
    · refine br_t c2 (And.intro hi (And.intro hi ?_))
      by_cases c3 : q 5 p = q 2 p
      · refine br_t c3 ?_
        simpa [sf_MH, sf_q, c1, c2, c3, sf_b01] using hp
      · refine br_f c3 ?_
        simpa [sf_MH, sf_q, c1, c2, c3, sf_b01] using hp
    · refine br_f c2 ?_
      simpa [sf_MH, sf_q, c1, c2, sf_b01] using hp
  · refine br_f c1 ?_
    simpa [sf_MH, sf_q, c1, sf_b01] using hp
theorem sf_Y_over {post : Int32 → Prop} {u : SY} (hZ : sf_Z ib db nd lim) (h : sf_Y ib db nd lim g l u) (n : Nat) (hn : n ≤ 3) (hp : post (sf_b01 (decide (lim < l.length + n)))) : wpY_overLimit post u (nI n) := by
  obtain ⟨hL, q, rfl, hA⟩ := h
  obtain ⟨-, -, -, -, -, -, z1, z2⟩ := hZ
  by_cases c : lim < l.length + n
  · refine br_f (by rw [nI_add]; exact nI_ge c (by omega)) ?_
    simpa [c, sf_b01] using hp
  · refine br_t (by rw [nI_add]; exact nI_le (by omega) (by omega)) ?_
    simpa [c, sf_b01] using hp
theorem sf_Y_MH {post : Int32 → Prop} {u : SY} (h : sf_Y ib db nd lim g l u) {p : Nat} (hlt : p < l.length) (hp : post (sf_b01 (sf_MH (sf_n l p)))) : wpY_isMoveHeld post u (nI p) := by
  obtain ⟨hL, q, rfl, hA⟩ := h
  rw [hA p hlt] at hp
  have hi : vp_in (nI p) 256 := vp_in_nI (by omega) (by decide)
  have hc : (nI p).toNatClampNeg = p := nI_clamp (by omega)
  refine And.intro hi ?_
  rw [hc]
  by_cases c1 : q 0 p = 4
  · refine br_t c1 (And.intro hi ?_)
    by_cases c2 : q 1 p = 32
    · refine br_t c2 (And.intro hi (And.intro hi ?_))
      by_cases c3 : q 5 p = q 2 p
      · refine br_t c3 ?_
        simpa [sf_MH, sf_q, c1, c2, c3, sf_b01] using hp
      · refine br_f c3 ?_
        simpa [sf_MH, sf_q, c1, c2, c3, sf_b01] using hp
    · refine br_f c2 ?_
      simpa [sf_MH, sf_q, c1, c2, sf_b01] using hp
  · refine br_f c1 ?_
    simpa [sf_MH, sf_q, c1, sf_b01] using hp
theorem sf_X_findAdd {post : Int32 → Prop} {u : SX} (h : sf_X ib db nd lim g l u) (e : Int32) (hp : post (sf_fi (sf_isAdd e) l)) : wpX_findAdd post u e := by
  obtain ⟨hL, q, rfl, hA⟩ := h
  refine Exists.intro (l.length + 1) (sf_fs_law (fun m p => wX_findAdd_2 post e (nI ib) (nI db) (nI (4 * ib)) (nI (4 * db)) (nI nd) (nI (1 + ib + db + nd)) (nI lim) (nI (l.length)) (g 21 0) (g 22 0) (g 23 0) (g 0) (g 1) (g 2) (g 3) (g 4) (g 5) (g 6) (g 7) (g 8) (g 9) (g 10) (g 11) (g 12) (g 13) (g 14) (g 15) (g 16) (g 17) (g 18) (g 19) (g 20) (q 0) (q 1) (q 2) (q 3) (q 4) (q 5) m (nI p)) (P := fun p => sf_isAdd e (sf_n l p)) (hi := l.length) ?_ ?_ ?_ l.length 0 (by omega) hp)
  · intro hz m
    exact br_t (nI_le (Nat.le_refl _) (by omega)) hz
  · intro m p hlt c hz
    have hi : vp_in (nI p) 128 := vp_in_nI (by omega) (by decide)
    have hc : (nI p).toNatClampNeg = p := nI_clamp (by omega)
    have c : sf_isAdd e (sf_q q p) = true := by rw [← hA p hlt]; exact c
    simp [sf_isAdd, sf_q] at c
    refine br_f (nI_ge hlt (by omega)) (And.intro hi ?_)
    rw [hc]
    exact br_t c.1 (And.intro hi (br_t c.2 hz))
  · intro m p hlt c hW
    have hi : vp_in (nI p) 128 := vp_in_nI (by omega) (by decide)
    have hc : (nI p).toNatClampNeg = p := nI_clamp (by omega)
    have c : sf_isAdd e (sf_q q p) = false := by rw [← hA p hlt]; exact c
    simp [sf_isAdd, sf_q] at c
    refine br_f (nI_ge hlt (by omega)) (And.intro hi ?_)
    rw [hc]
    by_cases z : q 0 p = 1
    · exact br_t z (And.intro hi (br_f (c z) (nm_r (nI_1 p) hW)))
    · exact br_f z (nm_r (nI_1 p) hW)
theorem sf_X_findInit {post : Int32 → Prop} {u : SX} (h : sf_X ib db nd lim g l u) (e : Int32) (hp : post (sf_fi (sf_isInit e) l)) : wpX_findInit post u e := by
  obtain ⟨hL, q, rfl, hA⟩ := h
  refine Exists.intro (l.length + 1) (sf_fs_law (fun m p => wX_findInit_2 post e (nI ib) (nI db) (nI (4 * ib)) (nI (4 * db)) (nI nd) (nI (1 + ib + db + nd)) (nI lim) (nI (l.length)) (g 21 0) (g 22 0) (g 23 0) (g 0) (g 1) (g 2) (g 3) (g 4) (g 5) (g 6) (g 7) (g 8) (g 9) (g 10) (g 11) (g 12) (g 13) (g 14) (g 15) (g 16) (g 17) (g 18) (g 19) (g 20) (q 0) (q 1) (q 2) (q 3) (q 4) (q 5) m (nI p)) (P := fun p => sf_isInit e (sf_n l p)) (hi := l.length) ?_ ?_ ?_ l.length 0 (by omega) hp)
  · intro hz m
    exact br_t (nI_le (Nat.le_refl _) (by omega)) hz
  · intro m p hlt c hz
    have hi : vp_in (nI p) 128 := vp_in_nI (by omega) (by decide)
    have hc : (nI p).toNatClampNeg = p := nI_clamp (by omega)
    have c : sf_isInit e (sf_q q p) = true := by rw [← hA p hlt]; exact c
    simp [sf_isInit, sf_q] at c
    refine br_f (nI_ge hlt (by omega)) (And.intro hi ?_)
    rw [hc]
    exact br_t c.1 (And.intro hi (br_t c.2 hz))
  · intro m p hlt c hW
    have hi : vp_in (nI p) 128 := vp_in_nI (by omega) (by decide)
    have hc : (nI p).toNatClampNeg = p := nI_clamp (by omega)
    have c : sf_isInit e (sf_q q p) = false := by rw [← hA p hlt]; exact c
    simp [sf_isInit, sf_q] at c
    refine br_f (nI_ge hlt (by omega)) (And.intro hi ?_)
    rw [hc]
    by_cases z : q 0 p = 2
    · exact br_t z (And.intro hi (br_f (c z) (nm_r (nI_1 p) hW)))
    · exact br_f z (nm_r (nI_1 p) hW)
theorem sf_X_findAlloc {post : Int32 → Prop} {u : SX} (h : sf_X ib db nd lim g l u) (e k : Int32) (hp : post (sf_fi (sf_isAl e k) l)) : wpX_findAlloc post u e k := by
  obtain ⟨hL, q, rfl, hA⟩ := h
  refine Exists.intro (l.length + 1) (sf_fs_law (fun m p => wX_findAlloc_2 post e k (nI ib) (nI db) (nI (4 * ib)) (nI (4 * db)) (nI nd) (nI (1 + ib + db + nd)) (nI lim) (nI (l.length)) (g 21 0) (g 22 0) (g 23 0) (g 0) (g 1) (g 2) (g 3) (g 4) (g 5) (g 6) (g 7) (g 8) (g 9) (g 10) (g 11) (g 12) (g 13) (g 14) (g 15) (g 16) (g 17) (g 18) (g 19) (g 20) (q 0) (q 1) (q 2) (q 3) (q 4) (q 5) m (nI p)) (P := fun p => sf_isAl e k (sf_n l p)) (hi := l.length) ?_ ?_ ?_ l.length 0 (by omega) hp)
  · intro hz m
    exact br_t (nI_le (Nat.le_refl _) (by omega)) hz
  · intro m p hlt c hz
    have hi : vp_in (nI p) 128 := vp_in_nI (by omega) (by decide)
    have hc : (nI p).toNatClampNeg = p := nI_clamp (by omega)
    have c : sf_isAl e k (sf_q q p) = true := by rw [← hA p hlt]; exact c
    simp [sf_isAl, sf_q] at c
    refine br_f (nI_ge hlt (by omega)) (And.intro hi ?_)
    rw [hc]
    exact br_t c.1 (And.intro hi (br_t c.2.1 (And.intro hi (br_t c.2.2 hz))))
  · intro m p hlt c hW
    have hi : vp_in (nI p) 128 := vp_in_nI (by omega) (by decide)
    have hc : (nI p).toNatClampNeg = p := nI_clamp (by omega)
    have c : sf_isAl e k (sf_q q p) = false := by rw [← hA p hlt]; exact c
    simp [sf_isAl, sf_q] at c
    refine br_f (nI_ge hlt (by omega)) (And.intro hi ?_)
    rw [hc]
    by_cases z : q 0 p = 3
    · refine br_t z (And.intro hi ?_)
      by_cases z2 : q 3 p = e
      · exact br_t z2 (And.intro hi (br_f (c z z2) (nm_r (nI_1 p) hW)))
      · exact br_f z2 (nm_r (nI_1 p) hW)
    · exact br_f z (nm_r (nI_1 p) hW)
theorem sf_Y_findAdd {post : Int32 → Prop} {u : SY} (h : sf_Y ib db nd lim g l u) (e : Int32) (hp : post (sf_fi (sf_isAdd e) l)) : wpY_addAt post u e := by
  obtain ⟨hL, q, rfl, hA⟩ := h
  refine Exists.intro (l.length + 1) (sf_fs_law (fun m p => wY_addAt_2 post e (nI ib) (nI db) (nI nd) (nI lim) (nI (4 * ib)) (nI (4 * db)) (nI (1 + ib + db + nd)) (nI (l.length)) (g 21 0) (g 22 0) (g 23 0) (g 0) (g 1) (g 2) (g 16) (g 18) (g 12) (g 13) (g 6) (g 7) (g 3) (g 4) (g 5) (g 17) (g 19) (g 14) (g 15) (g 8) (g 9) (g 10) (g 11) (g 20) (q 0) (q 1) (q 2) (q 3) (q 4) (q 5) m (nI p)) (P := fun p => sf_isAdd e (sf_n l p)) (hi := l.length) ?_ ?_ ?_ l.length 0 (by omega) hp)
  · intro hz m
    exact br_t (nI_le (Nat.le_refl _) (by omega)) hz
  · intro m p hlt c hz
    have hi : vp_in (nI p) 256 := vp_in_nI (by omega) (by decide)
    have hc : (nI p).toNatClampNeg = p := nI_clamp (by omega)
    have c : sf_isAdd e (sf_q q p) = true := by rw [← hA p hlt]; exact c
    simp [sf_isAdd, sf_q] at c
    refine br_f (nI_ge hlt (by omega)) (And.intro hi ?_)
    rw [hc]
    exact br_t c.1 (And.intro hi (br_t c.2 hz))
  · intro m p hlt c hW
    have hi : vp_in (nI p) 256 := vp_in_nI (by omega) (by decide)
    have hc : (nI p).toNatClampNeg = p := nI_clamp (by omega)
    have c : sf_isAdd e (sf_q q p) = false := by rw [← hA p hlt]; exact c
    simp [sf_isAdd, sf_q] at c
    refine br_f (nI_ge hlt (by omega)) (And.intro hi ?_)
    rw [hc]
    by_cases z : q 0 p = 1
    · exact br_t z (And.intro hi (br_f (c z) (nm_r (nI_1 p) hW)))
    · exact br_f z (nm_r (nI_1 p) hW)
theorem sf_Y_findInit {post : Int32 → Prop} {u : SY} (h : sf_Y ib db nd lim g l u) (e : Int32) (hp : post (sf_fi (sf_isInit e) l)) : wpY_initOf post u e := by
  obtain ⟨hL, q, rfl, hA⟩ := h
  refine Exists.intro (l.length + 1) (sf_fs_law (fun m p => wY_initOf_2 post e (nI ib) (nI db) (nI nd) (nI lim) (nI (4 * ib)) (nI (4 * db)) (nI (1 + ib + db + nd)) (nI (l.length)) (g 21 0) (g 22 0) (g 23 0) (g 0) (g 1) (g 2) (g 16) (g 18) (g 12) (g 13) (g 6) (g 7) (g 3) (g 4) (g 5) (g 17) (g 19) (g 14) (g 15) (g 8) (g 9) (g 10) (g 11) (g 20) (q 0) (q 1) (q 2) (q 3) (q 4) (q 5) m (nI p)) (P := fun p => sf_isInit e (sf_n l p)) (hi := l.length) ?_ ?_ ?_ l.length 0 (by omega) hp)
  · intro hz m
    exact br_t (nI_le (Nat.le_refl _) (by omega)) hz
  · intro m p hlt c hz
    have hi : vp_in (nI p) 256 := vp_in_nI (by omega) (by decide)
    have hc : (nI p).toNatClampNeg = p := nI_clamp (by omega)
    have c : sf_isInit e (sf_q q p) = true := by rw [← hA p hlt]; exact c
    simp [sf_isInit, sf_q] at c
    refine br_f (nI_ge hlt (by omega)) (And.intro hi ?_)
    rw [hc]
    exact br_t c.1 (And.intro hi (br_t c.2 hz))
  · intro m p hlt c hW
    have hi : vp_in (nI p) 256 := vp_in_nI (by omega) (by decide)
    have hc : (nI p).toNatClampNeg = p := nI_clamp (by omega)
    have c : sf_isInit e (sf_q q p) = false := by rw [← hA p hlt]; exact c
    simp [sf_isInit, sf_q] at c
    refine br_f (nI_ge hlt (by omega)) (And.intro hi ?_)
    rw [hc]
    by_cases z : q 0 p = 2
    · exact br_t z (And.intro hi (br_f (c z) (nm_r (nI_1 p) hW)))
    · exact br_f z (nm_r (nI_1 p) hW)
theorem sf_Y_findAlloc {post : Int32 → Prop} {u : SY} (h : sf_Y ib db nd lim g l u) (e k : Int32) (hp : post (sf_fi (sf_isAl e k) l)) : wpY_allocOf post u e k := by
  obtain ⟨hL, q, rfl, hA⟩ := h
  refine Exists.intro (l.length + 1) (sf_fs_law (fun m p => wY_allocOf_2 post e k (nI ib) (nI db) (nI nd) (nI lim) (nI (4 * ib)) (nI (4 * db)) (nI (1 + ib + db + nd)) (nI (l.length)) (g 21 0) (g 22 0) (g 23 0) (g 0) (g 1) (g 2) (g 16) (g 18) (g 12) (g 13) (g 6) (g 7) (g 3) (g 4) (g 5) (g 17) (g 19) (g 14) (g 15) (g 8) (g 9) (g 10) (g 11) (g 20) (q 0) (q 1) (q 2) (q 3) (q 4) (q 5) m (nI p)) (P := fun p => sf_isAl e k (sf_n l p)) (hi := l.length) ?_ ?_ ?_ l.length 0 (by omega) hp)
  · intro hz m
    exact br_t (nI_le (Nat.le_refl _) (by omega)) hz
  · intro m p hlt c hz
    have hi : vp_in (nI p) 256 := vp_in_nI (by omega) (by decide)
    have hc : (nI p).toNatClampNeg = p := nI_clamp (by omega)
    have c : sf_isAl e k (sf_q q p) = true := by rw [← hA p hlt]; exact c
    simp [sf_isAl, sf_q] at c
    refine br_f (nI_ge hlt (by omega)) (And.intro hi ?_)
    rw [hc]
    exact br_t c.1 (And.intro hi (br_t c.2.1 (And.intro hi (br_t c.2.2 hz))))
  · intro m p hlt c hW
    have hi : vp_in (nI p) 256 := vp_in_nI (by omega) (by decide)
    have hc : (nI p).toNatClampNeg = p := nI_clamp (by omega)
    have c : sf_isAl e k (sf_q q p) = false := by rw [← hA p hlt]; exact c
    simp [sf_isAl, sf_q] at c
    refine br_f (nI_ge hlt (by omega)) (And.intro hi ?_)
    rw [hc]
    by_cases z : q 0 p = 3
    · refine br_t z (And.intro hi ?_)
      by_cases z2 : q 3 p = e
      · exact br_t z2 (And.intro hi (br_f (c z z2) (nm_r (nI_1 p) hW)))
      · exact br_f z2 (nm_r (nI_1 p) hW)
    · exact br_f z (nm_r (nI_1 p) hW)
theorem sf_X_MHat {post : Int32 → Prop} {u : SX} (h : sf_X ib db nd lim g l u) (e : Int32) (hp : post (sf_b01 (l.any (sf_MHat e)))) : wpX_hasMoveHeld post u e := by
  obtain ⟨hL, q, rfl, hA⟩ := h
  rw [← sf_fs_any] at hp
  refine Exists.intro (l.length + 1) (sf_fs_law (fun m p => wX_hasMoveHeld_2 post e (nI ib) (nI db) (nI (4 * ib)) (nI (4 * db)) (nI nd) (nI (1 + ib + db + nd)) (nI lim) (nI (l.length)) (g 21 0) (g 22 0) (g 23 0) (g 0) (g 1) (g 2) (g 3) (g 4) (g 5) (g 6) (g 7) (g 8) (g 9) (g 10) (g 11) (g 12) (g 13) (g 14) (g 15) (g 16) (g 17) (g 18) (g 19) (g 20) (q 0) (q 1) (q 2) (q 3) (q 4) (q 5) m (nI p)) (P := fun p => sf_MHat e (sf_n l p)) (hi := l.length) ?_ ?_ ?_ l.length 0 (by omega) hp)
  · intro hz m
    exact br_t (nI_le (Nat.le_refl _) (by omega)) hz
  · intro m p hlt c hz
    have hi : vp_in (nI p) 128 := vp_in_nI (by omega) (by decide)
    have hc : (nI p).toNatClampNeg = p := nI_clamp (by omega)
    have c : sf_MHat e (sf_n l p) = true := c
    have c2 : q 2 p = e := by
      rw [hA p hlt] at c
      simp [sf_MHat, sf_q] at c
      exact c.2
    have c1 : sf_MH (sf_n l p) = true := by simp [sf_MHat] at c; exact c.1
    refine br_f (nI_ge hlt (by omega)) (And.intro hi ?_)
    rw [hc]
    refine br_t c2 (sf_X_MH ⟨hL, q, rfl, hA⟩ hlt ?_)
    rw [c1]
    exact br_f (by decide) hz
  · intro m p hlt c hW
    have hi : vp_in (nI p) 128 := vp_in_nI (by omega) (by decide)
    have hc : (nI p).toNatClampNeg = p := nI_clamp (by omega)
    have c : sf_MHat e (sf_n l p) = false := c
    refine br_f (nI_ge hlt (by omega)) (And.intro hi ?_)
    rw [hc]
    by_cases z : q 2 p = e
    · have c1 : sf_MH (sf_n l p) = false := by
        have z' : (sf_n l p).2.2.1 = e := by rw [hA p hlt]; exact z
        simpa [sf_MHat, z'] using c
      refine br_t z (sf_X_MH ⟨hL, q, rfl, hA⟩ hlt ?_)
      rw [c1]
      exact br_t (by decide) (nm_r (nI_1 p) hW)
    · exact br_f z (nm_r (nI_1 p) hW)
theorem sf_Y_MHat {post : Int32 → Prop} {u : SY} (h : sf_Y ib db nd lim g l u) (e : Int32) (hp : post (sf_b01 (l.any (sf_MHat e)))) : wpY_moveHeldAt post u e := by
  obtain ⟨hL, q, rfl, hA⟩ := h
  rw [← sf_fs_any] at hp
  refine Exists.intro (l.length + 1) (sf_fs_law (fun m p => wY_moveHeldAt_2 post e (nI ib) (nI db) (nI nd) (nI lim) (nI (4 * ib)) (nI (4 * db)) (nI (1 + ib + db + nd)) (nI (l.length)) (g 21 0) (g 22 0) (g 23 0) (g 0) (g 1) (g 2) (g 16) (g 18) (g 12) (g 13) (g 6) (g 7) (g 3) (g 4) (g 5) (g 17) (g 19) (g 14) (g 15) (g 8) (g 9) (g 10) (g 11) (g 20) (q 0) (q 1) (q 2) (q 3) (q 4) (q 5) m (nI p)) (P := fun p => sf_MHat e (sf_n l p)) (hi := l.length) ?_ ?_ ?_ l.length 0 (by omega) hp)
  · intro hz m
    exact br_t (nI_le (Nat.le_refl _) (by omega)) hz
  · intro m p hlt c hz
    have hi : vp_in (nI p) 256 := vp_in_nI (by omega) (by decide)
    have hc : (nI p).toNatClampNeg = p := nI_clamp (by omega)
    have c : sf_MHat e (sf_n l p) = true := c
    have c2 : q 2 p = e := by
      rw [hA p hlt] at c
      simp [sf_MHat, sf_q] at c
      exact c.2
    have c1 : sf_MH (sf_n l p) = true := by simp [sf_MHat] at c; exact c.1
    refine br_f (nI_ge hlt (by omega)) (sf_Y_MH ⟨hL, q, rfl, hA⟩ hlt ?_)
    rw [c1]
    refine br_f (by decide) (And.intro hi ?_)
    rw [hc]
    exact br_t c2 hz
  · intro m p hlt c hW
    have hi : vp_in (nI p) 256 := vp_in_nI (by omega) (by decide)
    have hc : (nI p).toNatClampNeg = p := nI_clamp (by omega)
    have c : sf_MHat e (sf_n l p) = false := c
    refine br_f (nI_ge hlt (by omega)) (sf_Y_MH ⟨hL, q, rfl, hA⟩ hlt ?_)
    cases c1 : sf_MH (sf_n l p) with
    | true =>
      have z : ¬ q 2 p = e := by
        intro z
        have z' : (sf_n l p).2.2.1 = e := by rw [hA p hlt]; exact z
        simp [sf_MHat, z', c1] at c
      refine br_f (by decide) (And.intro hi ?_)
      rw [hc]
      exact br_f z (nm_r (nI_1 p) hW)
    | false => exact br_t (by decide) (nm_r (nI_1 p) hW)
end
end
section
/-! the small stores -/
def sf_dI (g : sf_G) (i : Nat) : sf_G := sf_up g 20 (1 + (i - 1) / 4) 1
def sf_dS (ib : Nat) (g : sf_G) (e : Nat) : sf_G := sf_up g 20 (1 + ib + e / 4) 1
def sf_dD (ib db : Nat) (g : sf_G) (b : Nat) : sf_G := sf_up g 20 (ib + db + b) 1
def sf_cm (g : sf_G) (e : Nat) : sf_G := sf_up (sf_up g 6 e 0) 7 e 0
theorem sf_t1 : vp_nar .boolean 1 = 1 := rfl
theorem sf_t0 : vp_nar .boolean 0 = 0 := rfl
theorem sf_ixI {i : Nat} (h : 1 ≤ i) (h2 : i ≤ 16) : (1 : Int32) + ((nI i - 1) / 4) = nI (1 + (i - 1) / 4) := by
  show nI 1 + ((nI i - nI 1) / nI 4) = _
  rw [pk_sub h, pk_div (by omega) (by decide) (by decide), nI_add]
theorem sf_ixS {ib e : Nat} (h2 : e < 16) : ((1 : Int32) + nI ib) + (nI e / 4) = nI (1 + ib + e / 4) := by
  show (nI 1 + nI ib) + (nI e / nI 4) = _
  rw [pk_div (by omega) (by decide) (by decide), nI_add, nI_add]
theorem sf_4ne : ¬ (4 : Int32) = 0 := by decide
def sf_fld (r : sf_R) (f : Nat) : Int32 := match f with
  | 0 => r.1
  | 1 => r.2.1
  | 2 => r.2.2.1
  | 3 => r.2.2.2.1
  | 4 => r.2.2.2.2.1
  | _ => r.2.2.2.2.2
def sf_wr (q : sf_G) (p : Nat) (r : sf_R) : sf_G := fun f => upd (q f) p (sf_fld r f)
theorem sf_wr_A {l : List sf_R} {q : sf_G} (h : sf_A l q) (r : sf_R) : sf_A (l ++ [r]) (sf_wr q l.length r) := by
  refine sf_A_app h (fun j hj => ?_) ?_
  · simp [sf_q, sf_wr, upd, Nat.ne_of_lt hj]
  · simp [sf_q, sf_wr, upd, sf_fld]
def sf_K1 (l : List sf_R) : Prop := ∀ r, r ∈ l → r.1 = 4 → ∃ e, e < 16 ∧ r.2.2.1 = nI e
theorem sf_K1_rm {P : sf_R → Bool} {A B : List sf_R} {r : sf_R} (h : sf_K1 (A ++ r :: B)) : sf_K1 (A ++ sf_rm P r :: B) := by
  intro x hx h4
  rcases List.mem_append.mp hx with a | a
  · exact h x (List.mem_append.mpr (Or.inl a)) h4
  · rcases List.mem_cons.mp a with rfl | a
    · have hr := h r (by simp)
      by_cases c : P r = true
      · simp only [sf_rm, c, if_true, sf_rel] at h4 ⊢
        exact hr h4
      · simp only [sf_rm, c] at h4 ⊢
        exact hr h4
    · exact h x (List.mem_append.mpr (Or.inr (List.mem_cons_of_mem _ a))) h4
section
variable {ib db nd lim : Nat} {g : sf_G} {l A B : List sf_R} {r : sf_R}
theorem sf_X_append {post : SX → Prop} {u : SX} (h : sf_X ib db nd lim g l u) (hl : l.length < 128) (k s e i b o : Int32) (hp : ∀ u', sf_X ib db nd lim g (l ++ [(k, s, e, i, b, o)]) u' → post u') : wpX_append post u k s e i b o := by
  obtain ⟨hL, q, rfl, hA⟩ := h
  have hi : vp_in (nI l.length) 128 := vp_in_nI (by omega) (by decide)
  have hc : (nI l.length).toNatClampNeg = l.length := nI_clamp (by omega)
  refine br_t (nI_lt (b := 128) (by omega) (by decide)) (And.intro hi (nm_e (And.intro hi (nm_e (And.intro hi (nm_e (And.intro hi (nm_e (And.intro hi (nm_e (And.intro hi (nm_e (nm_r (nI_1 _) ?_)))))))))))))
  rw [hc]
  refine hp _ ⟨by simp; omega, sf_wr q l.length (k, s, e, i, b, o), ?_, sf_wr_A hA _⟩
  rw [List.length_append]
  rfl
theorem sf_X_del {post : SX → Prop} {u : SX} (h : sf_X ib db nd lim g (A ++ r :: B) u) (hp : ∀ u', sf_X ib db nd lim g (A ++ B) u' → post u') : wpX_deleteRecord post u (nI A.length) := by
  obtain ⟨hL, q, rfl, hA⟩ := h
  have hlen : (A ++ r :: B).length = A.length + B.length + 1 := by simp; omega
  have hlen2 : (A ++ B).length = A.length + B.length := by simp
  have key : ∀ d x, A.length ≤ x → x + d = A.length + B.length → wX_deleteRecord_15 post (nI ib) (nI db) (nI (4 * ib)) (nI (4 * db)) (nI nd) (nI (1 + ib + db + nd)) (nI lim) (nI ((A ++ r :: B).length)) (g 21 0) (g 22 0) (g 23 0) (d + 1) (nI x) (g 0) (g 1) (g 2) (g 3) (g 4) (g 5) (g 6) (g 7) (g 8) (g 9) (g 10) (g 11) (g 12) (g 13) (g 14) (g 15) (g 16) (g 17) (g 18) (g 19) (g 20) ((sf_sh q A.length x) 0) ((sf_sh q A.length x) 1) ((sf_sh q A.length x) 2) ((sf_sh q A.length x) 3) ((sf_sh q A.length x) 4) ((sf_sh q A.length x) 5) := by
    intro d
    induction d with
    | zero =>
      intro x h1 h2
      refine br_t (by rw [hlen, nI_pred]; exact nI_le (by omega) (by omega)) (nm_r (e' := nI (A ++ B).length) (by rw [hlen, nI_pred, hlen2]) (hp _ ⟨by omega, sf_sh q A.length x, rfl, ?_⟩))
      rw [show x = A.length + B.length by omega]
      exact sf_sh_A hA
    | succ d ih =>
      intro x h1 h2
      have hi : vp_in (nI x) 128 := vp_in_nI (by omega) (by decide)
      have hi1 : vp_in (nI x + 1) 128 := by rw [nI_1]; exact vp_in_nI (by omega) (by decide)
      have hs : ∀ f, upd (sf_sh q A.length x f) (nI x).toNatClampNeg (sf_sh q A.length x f (nI x + 1).toNatClampNeg) = sf_sh q A.length (x + 1) f := by
        intro f
        rw [nI_1, nI_clamp (by omega), nI_clamp (by omega)]
        exact sf_sh_s q h1 f
      exact br_f (by rw [hlen, nI_pred]; exact nI_ge (by omega) (by omega)) (And.intro hi1 (And.intro hi (nm_r (hs 0) (And.intro hi1 (And.intro hi (nm_r (hs 1) (And.intro hi1 (And.intro hi (nm_r (hs 2) (And.intro hi1 (And.intro hi (nm_r (hs 3) (And.intro hi1 (And.intro hi (nm_r (hs 4) (And.intro hi1 (And.intro hi (nm_r (hs 5) (nm_r (nI_1 x) (ih (x + 1) (by omega) (by omega)))))))))))))))))))))
  refine br_f (nI_pos (by omega)) (br_t (nI_lt (by omega) (by omega)) (Exists.intro (B.length + 1) ?_))
  have := key B.length A.length (by omega) (by omega)
  rw [sf_sh_0] at this
  exact this
theorem sf_X_dirtyInode {post : SX → Prop} {u : SX} (h : sf_X ib db nd lim g l u) {i : Nat} (h1 : 1 ≤ i) (h2 : i ≤ 16) (hp : ∀ u', sf_X ib db nd lim (sf_dI g i) l u' → post u') : wpX_dirtyInode post u (nI i) := by
  obtain ⟨hL, q, rfl, hA⟩ := h
  refine And.intro sf_4ne ?_
  rw [sf_ixI h1 h2]
  refine And.intro (vp_in_nI (by omega) (by decide)) (nm_r (e' := upd (g 20) (1 + (i - 1) / 4) 1) (by rw [nI_clamp (by omega), sf_t1]) (hp _ ⟨hL, q, rfl, hA⟩))
theorem sf_X_dirtySlot {post : SX → Prop} {u : SX} (hZ : sf_Z ib db nd lim) (h : sf_X ib db nd lim g l u) {e : Nat} (h2 : e < 16) (hp : ∀ u', sf_X ib db nd lim (sf_dS ib g e) l u' → post u') : wpX_dirtySlot post u (nI e) := by
  obtain ⟨hL, q, rfl, hA⟩ := h
  obtain ⟨z1, z2, -⟩ := hZ
  refine And.intro sf_4ne ?_
  rw [sf_ixS h2]
  refine And.intro (vp_in_nI (by omega) (by decide)) (nm_r (e' := upd (g 20) (1 + ib + e / 4) 1) (by rw [nI_clamp (by omega), sf_t1]) (hp _ ⟨hL, q, rfl, hA⟩))
theorem sf_X_own {post : SX → Prop} {u : SX} (h : sf_X ib db nd lim g l u) (e : Int32) (hp : ∀ u', sf_X ib db nd lim g (l.map (sf_own e)) u' → post u') : wpX_endOwnHeld post u e := by
  obtain ⟨hL, q, rfl, hA⟩ := h
  refine Exists.intro (l.length + 1) (sf_map_law0 (fun m p q => wX_endOwnHeld_2 post e (nI ib) (nI db) (nI (4 * ib)) (nI (4 * db)) (nI nd) (nI (1 + ib + db + nd)) (nI lim) (nI (l.length)) (g 21 0) (g 22 0) (g 23 0) m (nI p) (g 0) (g 1) (g 2) (g 3) (g 4) (g 5) (g 6) (g 7) (g 8) (g 9) (g 10) (g 11) (g 12) (g 13) (g 14) (g 15) (g 16) (g 17) (g 18) (g 19) (g 20) (q 0) (q 1) (q 2) (q 3) (q 4) (q 5)) (fun _ => True) (sf_own e) (N := l.length) (Post := fun q => post (sf_mX ib db nd lim l.length g q)) ?_ (fun _ _ _ _ => trivial) ?_ l [] q rfl trivial hA (fun q' h' => hp _ ⟨by simpa using hL, q', by rw [List.length_map], by simpa using h'⟩))
  · intro m q hz
    exact br_t (nI_le (Nat.le_refl _) (by omega)) hz
  · intro m q A r B hN _ hA hn
    have hlt : A.length < l.length := by rw [← hN]; simp
    have hi : vp_in (nI A.length) 128 := vp_in_nI (by omega) (by decide)
    have hc : (nI A.length).toNatClampNeg = A.length := nI_clamp (by omega)
    have hr := sf_A_at hA
    refine br_f (nI_ge hlt (by omega)) (And.intro hi ?_)
    rw [hc]
    by_cases c1 : q 0 A.length = 4
    · refine br_t c1 (And.intro hi ?_)
      by_cases c2 : q 1 A.length = 32
      · refine br_t c2 (And.intro hi ?_)
        by_cases c3 : q 2 A.length = e
        · refine br_t c3 (And.intro hi ?_)
          by_cases c4 : q 5 A.length = e
          · have hf : sf_own e r = sf_rel r := by rw [hr]; simp [sf_own, sf_isOH, sf_q, c1, c2, c3, c4]
            rw [hf] at hn
            exact br_t c4 (And.intro hi (nm_e (And.intro hi (nm_e (nm_r (nI_1 _) (hn _ (sf_A_rel hA)))))))
          · have hf : sf_own e r = r := by rw [hr]; simp [sf_own, sf_isOH, sf_q, c4]
            rw [hf] at hn
            exact br_f c4 (nm_r (nI_1 _) (hn q hA))
        · have hf : sf_own e r = r := by rw [hr]; simp [sf_own, sf_isOH, sf_q, c3]
          rw [hf] at hn
          exact br_f c3 (nm_r (nI_1 _) (hn q hA))
      · have hf : sf_own e r = r := by rw [hr]; simp [sf_own, sf_isOH, sf_q, c2]
        rw [hf] at hn
        exact br_f c2 (nm_r (nI_1 _) (hn q hA))
    · have hf : sf_own e r = r := by rw [hr]; simp [sf_own, sf_isOH, sf_q, c1]
      rw [hf] at hn
      exact br_f c1 (nm_r (nI_1 _) (hn q hA))
theorem sf_Y_append {post : SY → Prop} {u : SY} (h : sf_Y ib db nd lim g l u) (hl : l.length < 128) (k s e i b o : Int32) (hp : ∀ u', sf_Y ib db nd lim g (l ++ [(k, s, e, i, b, o)]) u' → post u') : wpY_append post u k s e i b o := by
  obtain ⟨hL, q, rfl, hA⟩ := h
  have hi : vp_in (nI l.length) 256 := vp_in_nI (by omega) (by decide)
  have hc : (nI l.length).toNatClampNeg = l.length := nI_clamp (by omega)
  refine br_t (nI_lt (b := 256) (by omega) (by decide)) (And.intro hi (nm_e (And.intro hi (nm_e (And.intro hi (nm_e (And.intro hi (nm_e (And.intro hi (nm_e (And.intro hi (nm_e (nm_r (nI_1 _) ?_)))))))))))))
  rw [hc]
  refine hp _ ⟨by simp; omega, sf_wr q l.length (k, s, e, i, b, o), ?_, sf_wr_A hA _⟩
  rw [List.length_append]
  rfl
theorem sf_Y_del {post : SY → Prop} {u : SY} (h : sf_Y ib db nd lim g (A ++ r :: B) u) (hp : ∀ u', sf_Y ib db nd lim g (A ++ B) u' → post u') : wpY_deleteRecord post u (nI A.length) := by
  obtain ⟨hL, q, rfl, hA⟩ := h
  have hlen : (A ++ r :: B).length = A.length + B.length + 1 := by simp; omega
  have hlen2 : (A ++ B).length = A.length + B.length := by simp
  have key : ∀ d x, A.length ≤ x → x + d = A.length + B.length → wY_deleteRecord_15 post (nI ib) (nI db) (nI nd) (nI lim) (nI (4 * ib)) (nI (4 * db)) (nI (1 + ib + db + nd)) (nI ((A ++ r :: B).length)) (g 21 0) (g 22 0) (g 23 0) (d + 1) (nI x) (g 0) (g 1) (g 2) (g 16) (g 18) (g 12) (g 13) (g 6) (g 7) (g 3) (g 4) (g 5) (g 17) (g 19) (g 14) (g 15) (g 8) (g 9) (g 10) (g 11) (g 20) ((sf_sh q A.length x) 0) ((sf_sh q A.length x) 1) ((sf_sh q A.length x) 2) ((sf_sh q A.length x) 3) ((sf_sh q A.length x) 4) ((sf_sh q A.length x) 5) := by
    intro d
    induction d with
    | zero =>
      intro x h1 h2
      refine br_t (by rw [nI_1, hlen]; exact nI_le (by omega) (by omega)) (nm_r (e' := nI (A ++ B).length) (by rw [hlen, nI_pred, hlen2]) (hp _ ⟨by omega, sf_sh q A.length x, rfl, ?_⟩))
      rw [show x = A.length + B.length by omega]
      exact sf_sh_A hA
    | succ d ih =>
      intro x h1 h2
      have hi : vp_in (nI x) 256 := vp_in_nI (by omega) (by decide)
      have hi1 : vp_in (nI x + 1) 256 := by rw [nI_1]; exact vp_in_nI (by omega) (by decide)
      have hs : ∀ f, upd (sf_sh q A.length x f) (nI x).toNatClampNeg (sf_sh q A.length x f (nI x + 1).toNatClampNeg) = sf_sh q A.length (x + 1) f := by
        intro f
        rw [nI_1, nI_clamp (by omega), nI_clamp (by omega)]
        exact sf_sh_s q h1 f
      exact br_f (by rw [nI_1, hlen]; exact nI_ge (by omega) (by omega)) (And.intro hi1 (And.intro hi (nm_r (hs 0) (And.intro hi1 (And.intro hi (nm_r (hs 1) (And.intro hi1 (And.intro hi (nm_r (hs 2) (And.intro hi1 (And.intro hi (nm_r (hs 3) (And.intro hi1 (And.intro hi (nm_r (hs 4) (And.intro hi1 (And.intro hi (nm_r (hs 5) (nm_r (nI_1 x) (ih (x + 1) (by omega) (by omega)))))))))))))))))))))
  refine br_f (nI_pos (by omega)) (br_t (nI_lt (by omega) (by omega)) (Exists.intro (B.length + 1) ?_))
  have := key B.length A.length (by omega) (by omega)
  rw [sf_sh_0] at this
  exact this
theorem sf_Y_dirtyInode {post : SY → Prop} {u : SY} (h : sf_Y ib db nd lim g l u) {i : Nat} (h1 : 1 ≤ i) (h2 : i ≤ 16) (hp : ∀ u', sf_Y ib db nd lim (sf_dI g i) l u' → post u') : wpY_dirtyInode post u (nI i) := by
  obtain ⟨hL, q, rfl, hA⟩ := h
  refine And.intro sf_4ne ?_
  rw [sf_ixI h1 h2]
  refine And.intro (vp_in_nI (by omega) (by decide)) (nm_r (e' := upd (g 20) (1 + (i - 1) / 4) 1) (by rw [nI_clamp (by omega), sf_t1]) (hp _ ⟨hL, q, rfl, hA⟩))
theorem sf_Y_dirtySlot {post : SY → Prop} {u : SY} (hZ : sf_Z ib db nd lim) (h : sf_Y ib db nd lim g l u) {e : Nat} (h2 : e < 16) (hp : ∀ u', sf_Y ib db nd lim (sf_dS ib g e) l u' → post u') : wpY_dirtySlot post u (nI e) := by
  obtain ⟨hL, q, rfl, hA⟩ := h
  obtain ⟨z1, z2, -⟩ := hZ
  refine And.intro sf_4ne ?_
  rw [sf_ixS h2]
  refine And.intro (vp_in_nI (by omega) (by decide)) (nm_r (e' := upd (g 20) (1 + ib + e / 4) 1) (by rw [nI_clamp (by omega), sf_t1]) (hp _ ⟨hL, q, rfl, hA⟩))
theorem sf_Y_own {post : SY → Prop} {u : SY} (h : sf_Y ib db nd lim g l u) (e : Int32) (hp : ∀ u', sf_Y ib db nd lim g (l.map (sf_own e)) u' → post u') : wpY_ownHeldToDir post u e := by
  obtain ⟨hL, q, rfl, hA⟩ := h
  refine Exists.intro (l.length + 1) (sf_map_law0 (fun m p q => wY_ownHeldToDir_2 post e (nI ib) (nI db) (nI nd) (nI lim) (nI (4 * ib)) (nI (4 * db)) (nI (1 + ib + db + nd)) (nI (l.length)) (g 21 0) (g 22 0) (g 23 0) m (nI p) (g 0) (g 1) (g 2) (g 16) (g 18) (g 12) (g 13) (g 6) (g 7) (g 3) (g 4) (g 5) (g 17) (g 19) (g 14) (g 15) (g 8) (g 9) (g 10) (g 11) (g 20) (q 0) (q 1) (q 2) (q 3) (q 4) (q 5)) (fun _ => True) (sf_own e) (N := l.length) (Post := fun q => post (sf_mY ib db nd lim l.length g q)) ?_ (fun _ _ _ _ => trivial) ?_ l [] q rfl trivial hA (fun q' h' => hp _ ⟨by simpa using hL, q', by rw [List.length_map], by simpa using h'⟩))
  · intro m q hz
    exact br_t (nI_le (Nat.le_refl _) (by omega)) hz
  · intro m q A r B hN _ hA hn
    have hlt : A.length < l.length := by rw [← hN]; simp
    have hi : vp_in (nI A.length) 256 := vp_in_nI (by omega) (by decide)
    have hc : (nI A.length).toNatClampNeg = A.length := nI_clamp (by omega)
    have hr := sf_A_at hA
    refine br_f (nI_ge hlt (by omega)) (And.intro hi ?_)
    rw [hc]
    by_cases c1 : q 0 A.length = 4
    · refine br_t c1 (And.intro hi ?_)
      by_cases c2 : q 1 A.length = 32
      · refine br_t c2 (And.intro hi ?_)
        by_cases c3 : q 2 A.length = e
        · refine br_t c3 (And.intro hi ?_)
          by_cases c4 : q 5 A.length = e
          · have hf : sf_own e r = sf_rel r := by rw [hr]; simp [sf_own, sf_isOH, sf_q, c1, c2, c3, c4]
            rw [hf] at hn
            exact br_t c4 (And.intro hi (nm_e (And.intro hi (nm_e (nm_r (nI_1 _) (hn _ (sf_A_rel hA)))))))
          · have hf : sf_own e r = r := by rw [hr]; simp [sf_own, sf_isOH, sf_q, c4]
            rw [hf] at hn
            exact br_f c4 (nm_r (nI_1 _) (hn q hA))
        · have hf : sf_own e r = r := by rw [hr]; simp [sf_own, sf_isOH, sf_q, c3]
          rw [hf] at hn
          exact br_f c3 (nm_r (nI_1 _) (hn q hA))
      · have hf : sf_own e r = r := by rw [hr]; simp [sf_own, sf_isOH, sf_q, c2]
        rw [hf] at hn
        exact br_f c2 (nm_r (nI_1 _) (hn q hA))
    · have hf : sf_own e r = r := by rw [hr]; simp [sf_own, sf_isOH, sf_q, c1]
      rw [hf] at hn
      exact br_f c1 (nm_r (nI_1 _) (hn q hA))
theorem sf_X_clearSafe {post : SX → Prop} {u : SX} (h : sf_X ib db nd lim g l u) {e : Nat} (h2 : e < 16) (hp : ∀ u', sf_X ib db nd lim (sf_cs g e) l u' → post u') : wpX_clearSafe post u (nI e) := by
  obtain ⟨hL, q, rfl, hA⟩ := h
  have hi : vp_in (nI e) 16 := vp_in_nI h2 (by decide)
  have hc : (nI e).toNatClampNeg = e := nI_clamp (by omega)
  refine And.intro hi (nm_e (And.intro hi (nm_e ?_)))
  rw [hc]
  exact hp _ ⟨hL, q, rfl, hA⟩
theorem sf_X_clearMem {post : SX → Prop} {u : SX} (h : sf_X ib db nd lim g l u) {e : Nat} (h2 : e < 16) (hp : ∀ u', sf_X ib db nd lim (sf_cm g e) l u' → post u') : wpX_clearMemory post u (nI e) := by
  obtain ⟨hL, q, rfl, hA⟩ := h
  have hi : vp_in (nI e) 16 := vp_in_nI h2 (by decide)
  have hc : (nI e).toNatClampNeg = e := nI_clamp (by omega)
  refine And.intro hi (nm_e (And.intro hi (nm_e ?_)))
  rw [hc]
  exact hp _ ⟨hL, q, rfl, hA⟩
theorem sf_X_dirtyData {post : SX → Prop} {u : SX} (hZ : sf_Z ib db nd lim) (h : sf_X ib db nd lim g l u) {b : Nat} (h2 : b ≤ nd) (hp : ∀ u', sf_X ib db nd lim (sf_dD ib db g b) l u' → post u') : wpX_dirtyData post u (nI b) := by
  obtain ⟨hL, q, rfl, hA⟩ := h
  obtain ⟨z1, z2, z3, z4, z5, z6, -⟩ := hZ
  refine And.intro (by rw [nI_add, nI_add]; exact vp_in_nI (by omega) (by decide)) (nm_r (e' := upd (g 20) (ib + db + b) 1) (by rw [nI_add, nI_add, nI_clamp (by omega), sf_t1]) (hp _ ⟨hL, q, rfl, hA⟩))
theorem sf_X_release {post : SX → Prop} {u : SX} (h : sf_X ib db nd lim g (A ++ r :: B) u) {e : Nat} (h2 : e < 16) (he : r.2.2.1 = nI e) (hp : ∀ u', sf_X ib db nd lim (sf_cs g e) (A ++ sf_rel r :: B) u' → post u') : wpX_release post u (nI A.length) := by
  obtain ⟨hL, q, rfl, hA⟩ := h
  have hr := sf_A_at hA
  have hlen : A.length < (A ++ r :: B).length := by simp
  have hi : vp_in (nI A.length) 128 := vp_in_nI (by omega) (by decide)
  have hc : (nI A.length).toNatClampNeg = A.length := nI_clamp (by omega)
  have hs : q 2 A.length = nI e := by rw [← he, hr]; rfl
  refine And.intro hi (nm_e (And.intro hi (nm_e (And.intro hi ?_))))
  rw [hc, hs]
  refine sf_X_clearSafe (g := g) (l := A ++ sf_rel r :: B) ⟨by simpa using hL, sf_up (sf_up q 1 A.length 16) 5 A.length (-1), ?_, sf_A_rel hA⟩ h2 hp
  simp only [List.length_append, List.length_cons]
  rfl
theorem sf_Y_release {post : SY → Prop} {u : SY} (h : sf_Y ib db nd lim g (A ++ r :: B) u) {e : Nat} (h2 : e < 16) (he : r.2.2.1 = nI e) (hp : ∀ u', sf_Y ib db nd lim (sf_cs g e) (A ++ sf_rel r :: B) u' → post u') : wpY_release post u (nI A.length) := by
  obtain ⟨hL, q, rfl, hA⟩ := h
  have hr := sf_A_at hA
  have hlen : A.length < (A ++ r :: B).length := by simp
  have hi : vp_in (nI A.length) 256 := vp_in_nI (by omega) (by decide)
  have hc : (nI A.length).toNatClampNeg = A.length := nI_clamp (by omega)
  have hs : q 2 A.length = nI e := by rw [← he, hr]; rfl
  have hj : vp_in (nI e) 16 := vp_in_nI h2 (by decide)
  have hd : (nI e).toNatClampNeg = e := nI_clamp (by omega)
  refine And.intro hi (nm_r (e' := nI e) (by rw [hc, hs]) (And.intro hi (nm_e (And.intro hi (nm_e (And.intro hj (nm_e (And.intro hj (nm_e ?_)))))))))
  rw [hc, hd]
  refine hp _ ⟨by simpa using hL, sf_up (sf_up q 1 A.length 16) 5 A.length (-1), ?_, sf_A_rel hA⟩
  simp only [List.length_append, List.length_cons]
  rfl
theorem sf_X_relo {post : SX → Prop} {u : SX} (h : sf_X ib db nd lim g l u) (hK : sf_K1 l) (e : Int32) (hp : ∀ u', sf_X ib db nd lim (sf_cg (fun r => sf_MH r && r.2.2.2.2.2 == e) l g) (l.map (sf_rm (fun r => sf_MH r && r.2.2.2.2.2 == e))) u' → post u') : wpX_releaseMovesTo post u e := by
  obtain ⟨hL, q, rfl, hA⟩ := h
  rw [← sf_cg_fold] at hp
  refine Exists.intro (l.length + 1) (sf_map_law (fun m p g q => wX_releaseMovesTo_2 post e m (nI p) (nI ib) (nI db) (nI (4 * ib)) (nI (4 * db)) (nI nd) (nI (1 + ib + db + nd)) (nI lim) (nI (l.length)) (g 21 0) (g 22 0) (g 23 0) (g 0) (g 1) (g 2) (g 3) (g 4) (g 5) (g 6) (g 7) (g 8) (g 9) (g 10) (g 11) (g 12) (g 13) (g 14) (g 15) (g 16) (g 17) (g 18) (g 19) (g 20) (q 0) (q 1) (q 2) (q 3) (q 4) (q 5)) sf_K1 (sf_rm (fun r => sf_MH r && r.2.2.2.2.2 == e)) (sf_rg (fun r => sf_MH r && r.2.2.2.2.2 == e)) (N := l.length) (Post := fun g q => post (sf_mX ib db nd lim l.length g q)) ?_ (fun _ _ _ hk => sf_K1_rm hk) ?_ l [] g q rfl hK hA (fun q' h' => hp _ ⟨by simpa using hL, q', by rw [List.length_map], by simpa using h'⟩))
  · intro m g q hz
    exact br_t (nI_le (Nat.le_refl _) (by omega)) hz
  · intro m g q A r B hN hk hA hn
    have hlt : A.length < l.length := by rw [← hN]; simp
    have hlt2 : A.length < (A ++ r :: B).length := by simp
    have hi : vp_in (nI A.length) 128 := vp_in_nI (by omega) (by decide)
    have hc : (nI A.length).toNatClampNeg = A.length := nI_clamp (by omega)
    have hr := sf_A_at hA
    have hu : sf_X ib db nd lim g (A ++ r :: B) (sf_mX ib db nd lim l.length g q) := ⟨by omega, q, by rw [hN], hA⟩
    refine br_f (nI_ge hlt (by omega)) (sf_X_MH hu hlt2 ?_)
    rw [sf_n_at]
    cases c1 : sf_MH r with
    | false =>
      have hf : sf_rm (fun r => sf_MH r && r.2.2.2.2.2 == e) r = r := by simp [sf_rm, c1]
      have hg : sf_rg (fun r => sf_MH r && r.2.2.2.2.2 == e) g r = g := by simp [sf_rg, c1]
      rw [hf, hg] at hn
      exact br_t (by decide) (nm_r (nI_1 _) (hn q hA))
    | true =>
      refine br_f (by decide) (And.intro hi ?_)
      rw [hc]
      by_cases c2 : q 5 A.length = e
      · have c3 : r.2.2.2.2.2 = e := by rw [hr]; exact c2
        have c4 : r.1 = 4 := by
          simp [sf_MH] at c1
          exact c1.1
        obtain ⟨e', h1, h2⟩ := hk r (by simp) c4
        have hf : sf_rm (fun r => sf_MH r && r.2.2.2.2.2 == e) r = sf_rel r := by simp [sf_rm, c1, c3]
        have hg : sf_rg (fun r => sf_MH r && r.2.2.2.2.2 == e) g r = sf_cs g e' := by simp [sf_rg, c1, c3, h2, nI_clamp (show e' < 2 ^ 31 by omega)]
        rw [hf, hg] at hn
        refine br_t c2 (sf_X_release hu h1 h2 (fun u' hu' => ?_))
        obtain ⟨hL', q', rfl, hA'⟩ := hu'
        have hN' : (A ++ sf_rel r :: B).length = l.length := by rw [← hN]; simp
        rw [hN']
        exact nm_r (nI_1 _) (hn q' hA')
      · have c3 : ¬ r.2.2.2.2.2 = e := by rw [hr]; exact c2
        have hf : sf_rm (fun r => sf_MH r && r.2.2.2.2.2 == e) r = r := by simp [sf_rm, c3]
        have hg : sf_rg (fun r => sf_MH r && r.2.2.2.2.2 == e) g r = g := by simp [sf_rg, c3]
        rw [hf, hg] at hn
        exact br_f c2 (nm_r (nI_1 _) (hn q hA))
theorem sf_Y_relo {post : SY → Prop} {u : SY} (h : sf_Y ib db nd lim g l u) (hK : sf_K1 l) (e : Int32) (hp : ∀ u', sf_Y ib db nd lim (sf_cg (fun r => sf_MH r && r.2.2.2.2.2 == e) l g) (l.map (sf_rm (fun r => sf_MH r && r.2.2.2.2.2 == e))) u' → post u') : wpY_releaseOther post u e := by
  obtain ⟨hL, q, rfl, hA⟩ := h
  rw [← sf_cg_fold] at hp
  refine Exists.intro (l.length + 1) (sf_map_law (fun m p g q => wY_releaseOther_2 post e m (nI p) (nI ib) (nI db) (nI nd) (nI lim) (nI (4 * ib)) (nI (4 * db)) (nI (1 + ib + db + nd)) (nI (l.length)) (g 21 0) (g 22 0) (g 23 0) (g 0) (g 1) (g 2) (g 16) (g 18) (g 12) (g 13) (g 6) (g 7) (g 3) (g 4) (g 5) (g 17) (g 19) (g 14) (g 15) (g 8) (g 9) (g 10) (g 11) (g 20) (q 0) (q 1) (q 2) (q 3) (q 4) (q 5)) sf_K1 (sf_rm (fun r => sf_MH r && r.2.2.2.2.2 == e)) (sf_rg (fun r => sf_MH r && r.2.2.2.2.2 == e)) (N := l.length) (Post := fun g q => post (sf_mY ib db nd lim l.length g q)) ?_ (fun _ _ _ hk => sf_K1_rm hk) ?_ l [] g q rfl hK hA (fun q' h' => hp _ ⟨by simpa using hL, q', by rw [List.length_map], by simpa using h'⟩))
  · intro m g q hz
    exact br_t (nI_le (Nat.le_refl _) (by omega)) hz
  · intro m g q A r B hN hk hA hn
    have hlt : A.length < l.length := by rw [← hN]; simp
    have hlt2 : A.length < (A ++ r :: B).length := by simp
    have hi : vp_in (nI A.length) 256 := vp_in_nI (by omega) (by decide)
    have hc : (nI A.length).toNatClampNeg = A.length := nI_clamp (by omega)
    have hr := sf_A_at hA
    have hu : sf_Y ib db nd lim g (A ++ r :: B) (sf_mY ib db nd lim l.length g q) := ⟨by omega, q, by rw [hN], hA⟩
    refine br_f (nI_ge hlt (by omega)) (sf_Y_MH hu hlt2 ?_)
    rw [sf_n_at]
    cases c1 : sf_MH r with
    | false =>
      have hf : sf_rm (fun r => sf_MH r && r.2.2.2.2.2 == e) r = r := by simp [sf_rm, c1]
      have hg : sf_rg (fun r => sf_MH r && r.2.2.2.2.2 == e) g r = g := by simp [sf_rg, c1]
      rw [hf, hg] at hn
      exact br_t (by decide) (nm_r (nI_1 _) (hn q hA))
    | true =>
      refine br_f (by decide) (And.intro hi ?_)
      rw [hc]
      by_cases c2 : q 5 A.length = e
      · have c3 : r.2.2.2.2.2 = e := by rw [hr]; exact c2
        have c4 : r.1 = 4 := by
          simp [sf_MH] at c1
          exact c1.1
        obtain ⟨e', h1, h2⟩ := hk r (by simp) c4
        have hf : sf_rm (fun r => sf_MH r && r.2.2.2.2.2 == e) r = sf_rel r := by simp [sf_rm, c1, c3]
        have hg : sf_rg (fun r => sf_MH r && r.2.2.2.2.2 == e) g r = sf_cs g e' := by simp [sf_rg, c1, c3, h2, nI_clamp (show e' < 2 ^ 31 by omega)]
        rw [hf, hg] at hn
        refine br_t c2 (sf_Y_release hu h1 h2 (fun u' hu' => ?_))
        obtain ⟨hL', q', rfl, hA'⟩ := hu'
        have hN' : (A ++ sf_rel r :: B).length = l.length := by rw [← hN]; simp
        rw [hN']
        exact nm_r (nI_1 _) (hn q' hA')
      · have c3 : ¬ r.2.2.2.2.2 = e := by rw [hr]; exact c2
        have hf : sf_rm (fun r => sf_MH r && r.2.2.2.2.2 == e) r = r := by simp [sf_rm, c3]
        have hg : sf_rg (fun r => sf_MH r && r.2.2.2.2.2 == e) g r = g := by simp [sf_rg, c3]
        rw [hf, hg] at hn
        exact br_f c2 (nm_r (nI_1 _) (hn q hA))
end
end
section
/-! readers of the arrays -/
def sf_fn (db : Nat) (g : sf_G) (x : Int32) : Int32 := sf_fs (-1) nI (fun e => g 6 e == x) (4 * db) 0
def sf_us (db : Nat) (g : sf_G) (l : List sf_R) : Int32 := sf_fs (-1) nI (fun e => g 6 e == 0 && !l.any (sf_MHat (nI e))) (4 * db) 0
def sf_el (db : Nat) (g : sf_G) (e x : Int32) : Int32 := sf_fs (-1) nI (fun t => !decide (nI t = e) && (!decide (g 8 t = 0) && decide (g 8 t = x))) (4 * db) 0
def sf_bz (g : sf_G) (l : List sf_R) (x : Int32) : Bool := l.any (fun r => sf_MH r && g 10 r.2.2.1.toNatClampNeg == x)
def sf_fr (a : Nat → Int32) (n : Nat) : Int32 := sf_fs 0 nI (fun i => a i == 0) n 1
def sf_us0 (g : sf_G) (n : Nat) (x : Int32) : Nat := sf_ct (fun e => g 9 e == x) n 0
def sf_nd (ib : Nat) (g : sf_G) (x : Int32) : Bool := decide (∃ p, p < 12 * ib ∧ g 5 (p + 3) = x)
/-- a pair of arrays: both empty or none -/
def sf_pr (n : Nat) (a b : Nat → Int32) : Prop := ∀ e, e < n → (a e = 0 ↔ b e = 0)
def sf_K2 (ne : Nat) (l : List sf_R) : Prop := ∀ r, r ∈ l → r.1 = 4 → ∃ e, e < ne ∧ r.2.2.1 = nI e
section
variable {ib db nd lim : Nat} {g : sf_G} {l A B : List sf_R} {r : sf_R}
theorem sf_X_findName {post : Int32 → Prop} {u : SX} (hZ : sf_Z ib db nd lim) (h : sf_X ib db nd lim g l u) (x : Int32) (hp : post (sf_fn db g x)) : wpX_findName post u x := by
  obtain ⟨hL, q, rfl, hA⟩ := h
  obtain ⟨z1, z2, z3, z4, -⟩ := hZ
  refine Exists.intro (4 * db + 1) (sf_fs_law (fun m p => wX_findName_2 post x (nI ib) (nI db) (nI (4 * ib)) (nI (4 * db)) (nI nd) (nI (1 + ib + db + nd)) (nI lim) (nI (l.length)) (g 21 0) (g 22 0) (g 23 0) (g 0) (g 1) (g 2) (g 3) (g 4) (g 5) (g 6) (g 7) (g 8) (g 9) (g 10) (g 11) (g 12) (g 13) (g 14) (g 15) (g 16) (g 17) (g 18) (g 19) (g 20) (q 0) (q 1) (q 2) (q 3) (q 4) (q 5) m (nI p)) (P := fun e => g 6 e == x) (hi := 4 * db) ?_ ?_ ?_ (4 * db) 0 (by omega) hp)
  · intro hz m
    exact br_t (nI_le (Nat.le_refl _) (by omega)) hz
  · intro m p hlt c hz
    have hi : vp_in (nI p) 16 := vp_in_nI (by omega) (by decide)
    have hc : (nI p).toNatClampNeg = p := nI_clamp (by omega)
    have c : g 6 p = x := by simpa using c
    refine br_f (nI_ge hlt (by omega)) (And.intro hi ?_)
    rw [hc]
    exact br_t c hz
  · intro m p hlt c hW
    have hi : vp_in (nI p) 16 := vp_in_nI (by omega) (by decide)
    have hc : (nI p).toNatClampNeg = p := nI_clamp (by omega)
    have c : ¬ g 6 p = x := by simpa using c
    refine br_f (nI_ge hlt (by omega)) (And.intro hi ?_)
    rw [hc]
    exact br_f c (nm_r (nI_1 p) hW)
theorem sf_Y_findName {post : Int32 → Prop} {u : SY} (hZ : sf_Z ib db nd lim) (h : sf_Y ib db nd lim g l u) (x : Int32) (hp : post (sf_fn db g x)) : wpY_findName post u x := by
  obtain ⟨hL, q, rfl, hA⟩ := h
  obtain ⟨z1, z2, z3, z4, -⟩ := hZ
  refine Exists.intro (4 * db + 1) (sf_fs_law (fun m p => wY_findName_2 post x (nI ib) (nI db) (nI nd) (nI lim) (nI (4 * ib)) (nI (4 * db)) (nI (1 + ib + db + nd)) (nI (l.length)) (g 21 0) (g 22 0) (g 23 0) (g 0) (g 1) (g 2) (g 16) (g 18) (g 12) (g 13) (g 6) (g 7) (g 3) (g 4) (g 5) (g 17) (g 19) (g 14) (g 15) (g 8) (g 9) (g 10) (g 11) (g 20) (q 0) (q 1) (q 2) (q 3) (q 4) (q 5) m (nI p)) (P := fun e => g 6 e == x) (hi := 4 * db) ?_ ?_ ?_ (4 * db) 0 (by omega) hp)
  · intro hz m
    exact br_t (nI_le (Nat.le_refl _) (by omega)) hz
  · intro m p hlt c hz
    have hi : vp_in (nI p) 16 := vp_in_nI (by omega) (by decide)
    have hc : (nI p).toNatClampNeg = p := nI_clamp (by omega)
    have c : g 6 p = x := by simpa using c
    refine br_f (nI_ge hlt (by omega)) (And.intro hi ?_)
    rw [hc]
    exact br_t c hz
  · intro m p hlt c hW
    have hi : vp_in (nI p) 16 := vp_in_nI (by omega) (by decide)
    have hc : (nI p).toNatClampNeg = p := nI_clamp (by omega)
    have c : ¬ g 6 p = x := by simpa using c
    refine br_f (nI_ge hlt (by omega)) (And.intro hi ?_)
    rw [hc]
    exact br_f c (nm_r (nI_1 p) hW)
theorem sf_X_usable {post : Int32 → Prop} {u : SX} (hZ : sf_Z ib db nd lim) (h : sf_X ib db nd lim g l u) (hp : post (sf_us db g l)) : wpX_lowestUsableSlot post u := by
  obtain ⟨hL, q, rfl, hA⟩ := h
  obtain ⟨z1, z2, z3, z4, -⟩ := hZ
  refine Exists.intro (4 * db + 1) (sf_fs_law (fun m p => wX_lowestUsableSlot_2 post (nI ib) (nI db) (nI (4 * ib)) (nI (4 * db)) (nI nd) (nI (1 + ib + db + nd)) (nI lim) (nI (l.length)) (g 21 0) (g 22 0) (g 23 0) (g 0) (g 1) (g 2) (g 3) (g 4) (g 5) (g 6) (g 7) (g 8) (g 9) (g 10) (g 11) (g 12) (g 13) (g 14) (g 15) (g 16) (g 17) (g 18) (g 19) (g 20) (q 0) (q 1) (q 2) (q 3) (q 4) (q 5) m (nI p)) (P := fun e => g 6 e == 0 && !l.any (sf_MHat (nI e))) (hi := 4 * db) ?_ ?_ ?_ (4 * db) 0 (by omega) hp)
  · intro hz m
    exact br_t (nI_le (Nat.le_refl _) (by omega)) hz
  · intro m p hlt c hz
    have hi : vp_in (nI p) 16 := vp_in_nI (by omega) (by decide)
    have hc : (nI p).toNatClampNeg = p := nI_clamp (by omega)
    rw [Bool.and_eq_true] at c
    have c1 : g 6 p = 0 := by simpa using c.1
    have c2 : l.any (sf_MHat (nI p)) = false := by simpa using c.2
    refine br_f (nI_ge hlt (by omega)) (And.intro hi ?_)
    rw [hc]
    refine br_t c1 (sf_X_MHat ⟨hL, q, rfl, hA⟩ _ ?_)
    rw [c2]
    exact br_t (by decide) hz
  · intro m p hlt c hW
    have hi : vp_in (nI p) 16 := vp_in_nI (by omega) (by decide)
    have hc : (nI p).toNatClampNeg = p := nI_clamp (by omega)
    refine br_f (nI_ge hlt (by omega)) (And.intro hi ?_)
    rw [hc]
    by_cases c1 : g 6 p = 0
    · refine br_t c1 (sf_X_MHat ⟨hL, q, rfl, hA⟩ _ ?_)
      have c2 : l.any (sf_MHat (nI p)) = true := by
        cases k : l.any (sf_MHat (nI p)) with
        | true => rfl
        | false =>
          have : (g 6 p == 0 && !l.any (sf_MHat (nI p))) = false := c
          rw [k, c1] at this
          exact absurd this (by decide)
      rw [c2]
      exact br_f (by decide) (nm_r (nI_1 p) hW)
    · exact br_f c1 (nm_r (nI_1 p) hW)
theorem sf_Y_usable {post : Int32 → Prop} {u : SY} (hZ : sf_Z ib db nd lim) (h : sf_Y ib db nd lim g l u) (h67 : sf_pr (4 * db) (g 6) (g 7)) (hp : post (sf_us db g l)) : wpY_usableSlot post u := by
  obtain ⟨hL, q, rfl, hA⟩ := h
  obtain ⟨z1, z2, z3, z4, -⟩ := hZ
  refine Exists.intro (4 * db + 1) (sf_fs_law (fun m p => wY_usableSlot_2 post (nI ib) (nI db) (nI nd) (nI lim) (nI (4 * ib)) (nI (4 * db)) (nI (1 + ib + db + nd)) (nI (l.length)) (g 21 0) (g 22 0) (g 23 0) (g 0) (g 1) (g 2) (g 16) (g 18) (g 12) (g 13) (g 6) (g 7) (g 3) (g 4) (g 5) (g 17) (g 19) (g 14) (g 15) (g 8) (g 9) (g 10) (g 11) (g 20) (q 0) (q 1) (q 2) (q 3) (q 4) (q 5) m (nI p)) (P := fun e => g 6 e == 0 && !l.any (sf_MHat (nI e))) (hi := 4 * db) ?_ ?_ ?_ (4 * db) 0 (by omega) hp)
  · intro hz m
    exact br_t (nI_le (Nat.le_refl _) (by omega)) hz
  · intro m p hlt c hz
    have hi : vp_in (nI p) 16 := vp_in_nI (by omega) (by decide)
    have hc : (nI p).toNatClampNeg = p := nI_clamp (by omega)
    rw [Bool.and_eq_true] at c
    have c1 : g 6 p = 0 := by simpa using c.1
    have c2 : l.any (sf_MHat (nI p)) = false := by simpa using c.2
    refine br_f (nI_ge hlt (by omega)) (And.intro hi ?_)
    rw [hc]
    refine br_t c1 (And.intro hi (br_t ((h67 p hlt).mp c1) (sf_Y_MHat ⟨hL, q, rfl, hA⟩ _ ?_)))
    rw [c2]
    exact br_t (by decide) hz
  · intro m p hlt c hW
    have hi : vp_in (nI p) 16 := vp_in_nI (by omega) (by decide)
    have hc : (nI p).toNatClampNeg = p := nI_clamp (by omega)
    refine br_f (nI_ge hlt (by omega)) (And.intro hi ?_)
    rw [hc]
    by_cases c1 : g 6 p = 0
    · refine br_t c1 (And.intro hi (br_t ((h67 p hlt).mp c1) (sf_Y_MHat ⟨hL, q, rfl, hA⟩ _ ?_)))
      have c2 : l.any (sf_MHat (nI p)) = true := by
        cases k : l.any (sf_MHat (nI p)) with
        | true => rfl
        | false =>
          have : (g 6 p == 0 && !l.any (sf_MHat (nI p))) = false := c
          rw [k, c1] at this
          exact absurd this (by decide)
      rw [c2]
      exact br_f (by decide) (nm_r (nI_1 p) hW)
    · exact br_f c1 (nm_r (nI_1 p) hW)
theorem sf_el_P {g : sf_G} {t : Nat} {e x : Int32} : (!decide (nI t = e) && (!decide (g 8 t = 0) && decide (g 8 t = x))) = true ↔ (¬ nI t = e ∧ ¬ g 8 t = 0 ∧ g 8 t = x) := by
  simp
theorem sf_X_else {post : Int32 → Prop} {u : SX} (hZ : sf_Z ib db nd lim) (h : sf_X ib db nd lim g l u) (e x : Int32) (hp : post (sf_el db g e x)) : wpX_otherDiskSlot post u x e := by
  obtain ⟨hL, q, rfl, hA⟩ := h
  obtain ⟨z1, z2, z3, z4, -⟩ := hZ
  refine Exists.intro (4 * db + 1) (sf_fs_law (fun m p => wX_otherDiskSlot_2 post x e (nI ib) (nI db) (nI (4 * ib)) (nI (4 * db)) (nI nd) (nI (1 + ib + db + nd)) (nI lim) (nI (l.length)) (g 21 0) (g 22 0) (g 23 0) (g 0) (g 1) (g 2) (g 3) (g 4) (g 5) (g 6) (g 7) (g 8) (g 9) (g 10) (g 11) (g 12) (g 13) (g 14) (g 15) (g 16) (g 17) (g 18) (g 19) (g 20) (q 0) (q 1) (q 2) (q 3) (q 4) (q 5) m (nI p)) (P := fun t => !decide (nI t = e) && (!decide (g 8 t = 0) && decide (g 8 t = x))) (hi := 4 * db) ?_ ?_ ?_ (4 * db) 0 (by omega) hp)
  · intro hz m
    exact br_t (nI_le (Nat.le_refl _) (by omega)) hz
  · intro m p hlt c hz
    have hi : vp_in (nI p) 16 := vp_in_nI (by omega) (by decide)
    have hc : (nI p).toNatClampNeg = p := nI_clamp (by omega)
    obtain ⟨c1, c2, c3⟩ := sf_el_P.mp c
    refine br_f (nI_ge hlt (by omega)) (br_f c1 (And.intro hi ?_))
    rw [hc]
    exact br_f c2 (And.intro hi (br_t c3 hz))
  · intro m p hlt c hW
    have hi : vp_in (nI p) 16 := vp_in_nI (by omega) (by decide)
    have hc : (nI p).toNatClampNeg = p := nI_clamp (by omega)
    have c' : ¬ (¬ nI p = e ∧ ¬ g 8 p = 0 ∧ g 8 p = x) := fun k => by
      have := sf_el_P.mpr k
      rw [c] at this
      exact Bool.false_ne_true this
    refine br_f (nI_ge hlt (by omega)) ?_
    by_cases c1 : nI p = e
    · exact br_t c1 (nm_r (nI_1 p) hW)
    · refine br_f c1 (And.intro hi ?_)
      rw [hc]
      by_cases c2 : g 8 p = 0
      · exact br_t c2 (nm_r (nI_1 p) hW)
      · refine br_f c2 (And.intro hi ?_)
        exact br_f (fun c3 => c' ⟨c1, c2, c3⟩) (nm_r (nI_1 p) hW)
theorem sf_Y_else {post : Int32 → Prop} {u : SY} (hZ : sf_Z ib db nd lim) (h : sf_Y ib db nd lim g l u) (h89 : sf_pr (4 * db) (g 8) (g 9)) (e x : Int32) (hp : post (sf_el db g e x)) : wpY_diskSlotElsewhere post u e x := by
  obtain ⟨hL, q, rfl, hA⟩ := h
  obtain ⟨z1, z2, z3, z4, -⟩ := hZ
  refine Exists.intro (4 * db + 1) (sf_fs_law (fun m p => wY_diskSlotElsewhere_2 post e x (nI ib) (nI db) (nI nd) (nI lim) (nI (4 * ib)) (nI (4 * db)) (nI (1 + ib + db + nd)) (nI (l.length)) (g 21 0) (g 22 0) (g 23 0) (g 0) (g 1) (g 2) (g 16) (g 18) (g 12) (g 13) (g 6) (g 7) (g 3) (g 4) (g 5) (g 17) (g 19) (g 14) (g 15) (g 8) (g 9) (g 10) (g 11) (g 20) (q 0) (q 1) (q 2) (q 3) (q 4) (q 5) m (nI p)) (P := fun t => !decide (nI t = e) && (!decide (g 8 t = 0) && decide (g 8 t = x))) (hi := 4 * db) ?_ ?_ ?_ (4 * db) 0 (by omega) hp)
  · intro hz m
    exact br_t (nI_le (Nat.le_refl _) (by omega)) hz
  · intro m p hlt c hz
    have hi : vp_in (nI p) 16 := vp_in_nI (by omega) (by decide)
    have hc : (nI p).toNatClampNeg = p := nI_clamp (by omega)
    obtain ⟨c1, c2, c3⟩ := sf_el_P.mp c
    refine br_f (nI_ge hlt (by omega)) (br_f c1 (And.intro hi ?_))
    rw [hc]
    exact br_t c3 (And.intro hi (br_f c2 hz))
  · intro m p hlt c hW
    have hi : vp_in (nI p) 16 := vp_in_nI (by omega) (by decide)
    have hc : (nI p).toNatClampNeg = p := nI_clamp (by omega)
    have c' : ¬ (¬ nI p = e ∧ ¬ g 8 p = 0 ∧ g 8 p = x) := fun k => by
      have := sf_el_P.mpr k
      rw [c] at this
      exact Bool.false_ne_true this
    refine br_f (nI_ge hlt (by omega)) ?_
    by_cases c1 : nI p = e
    · exact br_t c1 (nm_r (nI_1 p) hW)
    · refine br_f c1 (And.intro hi ?_)
      rw [hc]
      by_cases c3 : g 8 p = x
      · refine br_t c3 (And.intro hi ?_)
        by_cases c2 : g 8 p = 0
        · exact br_t c2 (And.intro hi (br_t ((h89 p hlt).mp c2) (nm_r (nI_1 p) hW)))
        · exact absurd ⟨c1, c2, c3⟩ c'
      · exact br_f c3 (nm_r (nI_1 p) hW)
theorem sf_X_busy {post : Int32 → Prop} {u : SX} (hZ : sf_Z ib db nd lim) (h : sf_X ib db nd lim g l u) (hK : sf_K2 (4 * db) l) (x : Int32) (hp : post (sf_b01 (sf_bz g l x))) : wpX_isBusy post u x := by
  obtain ⟨hL, q, rfl, hA⟩ := h
  obtain ⟨z1, z2, z3, z4, -⟩ := hZ
  rw [sf_bz, ← sf_fs_any] at hp
  refine Exists.intro (l.length + 1) (sf_fs_law (fun m p => wX_isBusy_2 post x (nI ib) (nI db) (nI (4 * ib)) (nI (4 * db)) (nI nd) (nI (1 + ib + db + nd)) (nI lim) (nI (l.length)) (g 21 0) (g 22 0) (g 23 0) (g 0) (g 1) (g 2) (g 3) (g 4) (g 5) (g 6) (g 7) (g 8) (g 9) (g 10) (g 11) (g 12) (g 13) (g 14) (g 15) (g 16) (g 17) (g 18) (g 19) (g 20) (q 0) (q 1) (q 2) (q 3) (q 4) (q 5) m (nI p)) (P := fun p => sf_MH (sf_n l p) && g 10 (sf_n l p).2.2.1.toNatClampNeg == x) (hi := l.length) ?_ ?_ ?_ l.length 0 (by omega) hp)
  · intro hz m
    exact br_t (nI_le (Nat.le_refl _) (by omega)) hz
  · intro m p hlt c hz
    have hi : vp_in (nI p) 128 := vp_in_nI (by omega) (by decide)
    have hc : (nI p).toNatClampNeg = p := nI_clamp (by omega)
    rw [Bool.and_eq_true] at c
    have h4 : (sf_n l p).1 = 4 := by
      have := c.1
      simp [sf_MH] at this
      exact this.1
    obtain ⟨e, he, hs⟩ := hK _ (sf_n_mem hlt) h4
    have hs2 : q 2 p = nI e := by rw [← hs, hA p hlt]; rfl
    have c2 : g 10 e = x := by
      have := c.2
      rw [hs, nI_clamp (by omega)] at this
      simpa using this
    refine br_f (nI_ge hlt (by omega)) (sf_X_MH ⟨hL, q, rfl, hA⟩ hlt ?_)
    rw [c.1]
    refine br_f (by decide) (And.intro hi ?_)
    rw [hc, hs2]
    refine And.intro (vp_in_nI (by omega) (by decide)) ?_
    rw [nI_clamp (by omega)]
    exact br_t c2 hz
  · intro m p hlt c hW
    have hi : vp_in (nI p) 128 := vp_in_nI (by omega) (by decide)
    have hc : (nI p).toNatClampNeg = p := nI_clamp (by omega)
    refine br_f (nI_ge hlt (by omega)) (sf_X_MH ⟨hL, q, rfl, hA⟩ hlt ?_)
    cases k : sf_MH (sf_n l p) with
    | false => exact br_t (by decide) (nm_r (nI_1 p) hW)
    | true =>
      have h4 : (sf_n l p).1 = 4 := by
        have := k
        simp [sf_MH] at this
        exact this.1
      obtain ⟨e, he, hs⟩ := hK _ (sf_n_mem hlt) h4
      have hs2 : q 2 p = nI e := by rw [← hs, hA p hlt]; rfl
      have c2 : ¬ g 10 e = x := by
        intro z
        have c : (sf_MH (sf_n l p) && g 10 (sf_n l p).2.2.1.toNatClampNeg == x) = false := c
        rw [k, hs, nI_clamp (by omega), z] at c
        simp at c
      refine br_f (by decide) (And.intro hi ?_)
      rw [hc, hs2]
      refine And.intro (vp_in_nI (by omega) (by decide)) ?_
      rw [nI_clamp (by omega)]
      exact br_f c2 (nm_r (nI_1 p) hW)
theorem sf_bz_slots (hd : db ≤ 4) (hK : sf_K2 (4 * db) l) (x : Int32) : sf_fs 0 (fun _ => 1) (fun e => g 10 e == x && l.any (sf_MHat (nI e))) (4 * db) 0 = sf_b01 (sf_bz g l x) := by
  cases k : sf_bz g l x with
  | true =>
    rw [sf_bz, List.any_eq_true] at k
    obtain ⟨r, hr, c⟩ := k
    rw [Bool.and_eq_true] at c
    have h4 : r.1 = 4 := by
      have := c.1
      simp [sf_MH] at this
      exact this.1
    obtain ⟨e, he, hs⟩ := hK r hr h4
    have P : (g 10 e == x && l.any (sf_MHat (nI e))) = true := by
      have c2 := c.2
      rw [hs, nI_clamp (by omega)] at c2
      rw [c2, List.any_eq_true.mpr ⟨r, hr, by rw [sf_MHat, c.1, hs]; simp⟩]
      rfl
    rcases sf_fs_cases (fun e => g 10 e == x && l.any (sf_MHat (nI e))) (4 * db) 0 with n | ⟨j, j1, j2, j3, j4⟩
    · have := n e (by omega) (by omega)
      rw [P] at this
      exact absurd this (by decide)
    · rw [sf_fs_some _ _ j j1 j2 j3 j4]; rfl
  | false =>
    rw [sf_fs_none]
    · rfl
    · intro j _ hj
      cases c : (g 10 j == x && l.any (sf_MHat (nI j))) with
      | false => rfl
      | true =>
        rw [Bool.and_eq_true] at c
        obtain ⟨r, hr, d⟩ := List.any_eq_true.mp c.2
        rw [sf_MHat, Bool.and_eq_true] at d
        have hs : r.2.2.1 = nI j := by simpa using d.2
        rw [sf_bz, List.any_eq_false] at k
        refine absurd ?_ (k r hr)
        rw [d.1, hs, nI_clamp (by omega), c.1]
        rfl
theorem sf_Y_busy {post : Int32 → Prop} {u : SY} (hZ : sf_Z ib db nd lim) (h : sf_Y ib db nd lim g l u) (hK : sf_K2 (4 * db) l) (x : Int32) (hp : post (sf_b01 (sf_bz g l x))) : wpY_isBusy post u x := by
  obtain ⟨hL, q, rfl, hA⟩ := h
  obtain ⟨z1, z2, z3, z4, -⟩ := hZ
  rw [← sf_bz_slots z4 hK] at hp
  refine Exists.intro (4 * db + 1) (sf_fs_law (fun m p => wY_isBusy_2 post x (nI ib) (nI db) (nI nd) (nI lim) (nI (4 * ib)) (nI (4 * db)) (nI (1 + ib + db + nd)) (nI (l.length)) (g 21 0) (g 22 0) (g 23 0) (g 0) (g 1) (g 2) (g 16) (g 18) (g 12) (g 13) (g 6) (g 7) (g 3) (g 4) (g 5) (g 17) (g 19) (g 14) (g 15) (g 8) (g 9) (g 10) (g 11) (g 20) (q 0) (q 1) (q 2) (q 3) (q 4) (q 5) m (nI p)) (P := fun e => g 10 e == x && l.any (sf_MHat (nI e))) (hi := 4 * db) ?_ ?_ ?_ (4 * db) 0 (by omega) hp)
  · intro hz m
    exact br_t (nI_le (Nat.le_refl _) (by omega)) hz
  · intro m p hlt c hz
    have hi : vp_in (nI p) 16 := vp_in_nI (by omega) (by decide)
    have hc : (nI p).toNatClampNeg = p := nI_clamp (by omega)
    rw [Bool.and_eq_true] at c
    have c1 : g 10 p = x := by simpa using c.1
    refine br_f (nI_ge hlt (by omega)) (And.intro hi ?_)
    rw [hc]
    refine br_t c1 (sf_Y_MHat ⟨hL, q, rfl, hA⟩ _ ?_)
    rw [c.2]
    exact br_f (by decide) hz
  · intro m p hlt c hW
    have hi : vp_in (nI p) 16 := vp_in_nI (by omega) (by decide)
    have hc : (nI p).toNatClampNeg = p := nI_clamp (by omega)
    refine br_f (nI_ge hlt (by omega)) (And.intro hi ?_)
    rw [hc]
    by_cases c1 : g 10 p = x
    · refine br_t c1 (sf_Y_MHat ⟨hL, q, rfl, hA⟩ _ ?_)
      have c2 : l.any (sf_MHat (nI p)) = false := by
        cases k : l.any (sf_MHat (nI p)) with
        | false => rfl
        | true =>
          have c : (g 10 p == x && l.any (sf_MHat (nI p))) = false := c
          rw [k, c1] at c
          simp at c
      rw [c2]
      exact br_t (by decide) (nm_r (nI_1 p) hW)
    · exact br_f c1 (nm_r (nI_1 p) hW)
end
end
section
/-! enterName, copyMap, the settling of the map and of data, the closing of ADDs -/
def sf_ent (db : Nat) (g : sf_G) (e : Nat) (x : Int32) : Int32 := if sf_el db g (nI e) x = -1 then 4 else 12
/-- copy of a into b between lo and hi -/
def sf_cp (a b : Nat → Int32) (lo hi : Nat) : Nat → Int32 := fun j => if lo ≤ j ∧ j < hi then a j else b j
theorem sf_cp_0 (a b : Nat → Int32) (lo : Nat) : sf_cp a b lo lo = b := by
  funext j
  exact if_neg (by omega)
theorem sf_cp_s {a b : Nat → Int32} {lo i : Nat} {v : Int32} (h : lo ≤ i) (hv : v = a i) : upd (sf_cp a b lo i) i v = sf_cp a b lo (i + 1) := by
  funext j
  simp only [upd, sf_cp]
  by_cases e : j = i
  · subst e
    rw [if_pos rfl, if_pos (by omega), hv]
  · rw [if_neg e]
    by_cases d : lo ≤ j ∧ j < i
    · rw [if_pos d, if_pos (by omega)]
    · rw [if_neg d, if_neg (by omega)]
theorem sf_fi_any {P : sf_R → Bool} {l : List sf_R} (h : l.length ≤ 128) : sf_fi P l = -1 ↔ l.any P = false := by
  rcases sf_fi_cases P l with c | ⟨A, r, B, rfl, hr, hA⟩
  · rw [sf_fi_none c, sf_any_none c]
    exact ⟨fun _ => rfl, fun _ => rfl⟩
  · rw [sf_fi_at hr hA, sf_any_at hr]
    refine ⟨fun k => ?_, fun k => absurd k (by decide)⟩
    have hl : A.length < 128 := by simp at h; omega
    have k2 := congrArg Int32.toInt k
    rw [nI_toInt (by omega), show ((-1 : Int32)).toInt = -1 from by decide] at k2
    omega
theorem sf_nI_m1 {n : Nat} (h : n < 2 ^ 31) : ¬ nI n = -1 := by
  intro k
  have k2 := congrArg Int32.toInt k
  rw [nI_toInt h, show ((-1 : Int32)).toInt = -1 from by decide] at k2
  omega
/-- the map's bits go to the disk -/
def sf_gmap (ib nd : Nat) (g : sf_G) : sf_G := sf_st (sf_st g 17 (sf_cp (g 16) (g 17) 1 (4 * ib + 1))) 19 (sf_cp (g 18) (g 19) 1 (nd + 1))
def sf_sat (v : Int32) (r : sf_R) : Option sf_R := if r.2.1 &&& v = 0 then none else some (sf_sst r (r.2.1 &&& v))
def sf_fmap (r : sf_R) : Option sf_R := if r.1 = 2 then none else if r.1 = 3 then sf_sat (-2) r else some r
def sf_fdat (b : Int32) (r : sf_R) : Option sf_R := if r.1 = 3 ∧ r.2.2.2.2.1 = b then sf_sat (-3) r else some r
/-- closing the ADD at place k, if it is one with STATE 0 -/
def sf_cl1 (g : sf_G) (l : List sf_R) (k : Nat) : sf_G × List sf_R :=
  if (sf_n l k).1 = 1 ∧ (sf_n l k).2.1 = 0 then
    (sf_up (sf_up g 10 (sf_n l k).2.2.1.toNatClampNeg (g 6 (sf_n l k).2.2.1.toNatClampNeg)) 11 (sf_n l k).2.2.1.toNatClampNeg (g 7 (sf_n l k).2.2.1.toNatClampNeg), (sf_er l k).map (sf_own (sf_n l k).2.2.1))
  else (g, l)
def sf_cl : Nat → sf_G → List sf_R → sf_G × List sf_R
  | 0, g, l => (g, l)
  | k + 1, g, l => sf_cl k (sf_cl1 g l k).1 (sf_cl1 g l k).2
def sf_K3 (l : List sf_R) : Prop := ∀ r, r ∈ l → r.1 = 1 → ∃ e, e < 16 ∧ r.2.2.1 = nI e
theorem sf_K3_er {A B : List sf_R} {r : sf_R} {x : Int32} (h : sf_K3 (A ++ r :: B)) : sf_K3 ((A ++ B).map (sf_own x)) := by
  intro y hy k
  obtain ⟨z, hz, rfl⟩ := List.mem_map.mp hy
  have e1 : (sf_own x z).1 = z.1 ∧ (sf_own x z).2.2.1 = z.2.2.1 := by
    rw [sf_own]
    by_cases c : sf_isOH x z = true
    · rw [if_pos c]; exact ⟨rfl, rfl⟩
    · rw [if_neg c]; exact ⟨rfl, rfl⟩
  rw [e1.1] at k
  rw [e1.2]
  refine h z ?_ k
  rcases List.mem_append.mp hz with a | a
  · exact List.mem_append.mpr (Or.inl a)
  · exact List.mem_append.mpr (Or.inr (List.mem_cons_of_mem _ a))
theorem sf_mneg (k : Nat) : nI k + (-1) = nI k - 1 := (Int32.sub_eq_add_neg (nI k) 1).symm
theorem sf_m0neg : nI 0 - 1 < 0 := by decide
section
variable {ib db nd lim : Nat} {g : sf_G} {l A B : List sf_R} {r : sf_R}
theorem sf_X_enter {post : SX → Prop} {u : SX} (hZ : sf_Z ib db nd lim) (h : sf_X ib db nd lim g l u) (hl : l.length < 128) {e : Nat} (h2 : e < 16) (x i : Int32) (hp : ∀ u', sf_X ib db nd lim (sf_dS ib (sf_up (sf_up g 6 e x) 7 e i) e) (l ++ [(1, sf_ent db g e x, nI e, i, 0, -1)]) u' → post u') : wpX_enterName post u (nI e) x i := by
  obtain ⟨hL, q, rfl, hA⟩ := h
  have hi : vp_in (nI e) 16 := vp_in_nI h2 (by decide)
  have hc : (nI e).toNatClampNeg = e := nI_clamp (by omega)
  refine And.intro hi (nm_e (And.intro hi (nm_e ?_)))
  rw [hc]
  refine sf_X_else (g := sf_up (sf_up g 6 e x) 7 e i) (l := l) hZ ⟨hL, q, rfl, hA⟩ (nI e) x ?_
  by_cases c : sf_el db g (nI e) x = -1
  · refine br_t c ?_
    rw [sf_ent, if_pos c] at hp
    exact sf_X_append (g := sf_up (sf_up g 6 e x) 7 e i) ⟨hL, q, rfl, hA⟩ hl _ _ _ _ _ _ (fun u1 h1 => sf_X_dirtySlot hZ h1 h2 hp)
  · refine br_f c ?_
    rw [sf_ent, if_neg c] at hp
    exact sf_X_append (g := sf_up (sf_up g 6 e x) 7 e i) ⟨hL, q, rfl, hA⟩ hl _ _ _ _ _ _ (fun u1 h1 => sf_X_dirtySlot hZ h1 h2 hp)
theorem sf_Y_appAdd {post : SY → Prop} {u : SY} (hZ : sf_Z ib db nd lim) (h : sf_Y ib db nd lim g l u) (h89 : sf_pr (4 * db) (g 8) (g 9)) (hl : l.length < 128) {e : Nat} (h2 : e < 16) (i : Int32) (hp : ∀ u', sf_Y ib db nd lim g (l ++ [(1, sf_ent db g e (g 6 e), nI e, i, 0, -1)]) u' → post u') : wpY_appendAdd post u (nI e) i := by
  obtain ⟨hL, q, rfl, hA⟩ := h
  have hi : vp_in (nI e) 16 := vp_in_nI h2 (by decide)
  have hc : (nI e).toNatClampNeg = e := nI_clamp (by omega)
  refine And.intro hi ?_
  rw [hc]
  refine sf_Y_else hZ ⟨hL, q, rfl, hA⟩ h89 (nI e) (g 6 e) ?_
  by_cases c : sf_el db g (nI e) (g 6 e) = -1
  · refine br_t c ?_
    rw [sf_ent, if_pos c] at hp
    exact sf_Y_append ⟨hL, q, rfl, hA⟩ hl _ _ _ _ _ _ hp
  · refine br_f c (nm_r (e' := 12) (by decide) ?_)
    rw [sf_ent, if_neg c] at hp
    exact sf_Y_append ⟨hL, q, rfl, hA⟩ hl _ _ _ _ _ _ hp
theorem sf_X_copyMap {post : SX → Prop} {u : SX} (hZ : sf_Z ib db nd lim) (h : sf_X ib db nd lim g l u) (hp : ∀ u', sf_X ib db nd lim (sf_gmap ib nd g) l u' → post u') : wpX_copyMap post u := by
  obtain ⟨hL, q, rfl, hA⟩ := h
  obtain ⟨z1, z2, z3, z4, z5, z6, -⟩ := hZ
  have k2 : ∀ d i, 1 ≤ i → i + d = nd + 1 → wX_copyMap_30 post (nI ib) (nI db) (nI (4 * ib)) (nI (4 * db)) (nI nd) (nI (1 + ib + db + nd)) (nI lim) (nI (l.length)) (g 21 0) (g 22 0) (g 23 0) (d + 1) (nI i) ((sf_st (sf_st g 17 (sf_cp (g 16) (g 17) 1 (4 * ib + 1))) 19 (sf_cp (g 18) (g 19) 1 i)) 0) ((sf_st (sf_st g 17 (sf_cp (g 16) (g 17) 1 (4 * ib + 1))) 19 (sf_cp (g 18) (g 19) 1 i)) 1) ((sf_st (sf_st g 17 (sf_cp (g 16) (g 17) 1 (4 * ib + 1))) 19 (sf_cp (g 18) (g 19) 1 i)) 2) ((sf_st (sf_st g 17 (sf_cp (g 16) (g 17) 1 (4 * ib + 1))) 19 (sf_cp (g 18) (g 19) 1 i)) 3) ((sf_st (sf_st g 17 (sf_cp (g 16) (g 17) 1 (4 * ib + 1))) 19 (sf_cp (g 18) (g 19) 1 i)) 4) ((sf_st (sf_st g 17 (sf_cp (g 16) (g 17) 1 (4 * ib + 1))) 19 (sf_cp (g 18) (g 19) 1 i)) 5) ((sf_st (sf_st g 17 (sf_cp (g 16) (g 17) 1 (4 * ib + 1))) 19 (sf_cp (g 18) (g 19) 1 i)) 6) ((sf_st (sf_st g 17 (sf_cp (g 16) (g 17) 1 (4 * ib + 1))) 19 (sf_cp (g 18) (g 19) 1 i)) 7) ((sf_st (sf_st g 17 (sf_cp (g 16) (g 17) 1 (4 * ib + 1))) 19 (sf_cp (g 18) (g 19) 1 i)) 8) ((sf_st (sf_st g 17 (sf_cp (g 16) (g 17) 1 (4 * ib + 1))) 19 (sf_cp (g 18) (g 19) 1 i)) 9) ((sf_st (sf_st g 17 (sf_cp (g 16) (g 17) 1 (4 * ib + 1))) 19 (sf_cp (g 18) (g 19) 1 i)) 10) ((sf_st (sf_st g 17 (sf_cp (g 16) (g 17) 1 (4 * ib + 1))) 19 (sf_cp (g 18) (g 19) 1 i)) 11) ((sf_st (sf_st g 17 (sf_cp (g 16) (g 17) 1 (4 * ib + 1))) 19 (sf_cp (g 18) (g 19) 1 i)) 12) ((sf_st (sf_st g 17 (sf_cp (g 16) (g 17) 1 (4 * ib + 1))) 19 (sf_cp (g 18) (g 19) 1 i)) 13) ((sf_st (sf_st g 17 (sf_cp (g 16) (g 17) 1 (4 * ib + 1))) 19 (sf_cp (g 18) (g 19) 1 i)) 14) ((sf_st (sf_st g 17 (sf_cp (g 16) (g 17) 1 (4 * ib + 1))) 19 (sf_cp (g 18) (g 19) 1 i)) 15) ((sf_st (sf_st g 17 (sf_cp (g 16) (g 17) 1 (4 * ib + 1))) 19 (sf_cp (g 18) (g 19) 1 i)) 16) ((sf_st (sf_st g 17 (sf_cp (g 16) (g 17) 1 (4 * ib + 1))) 19 (sf_cp (g 18) (g 19) 1 i)) 17) ((sf_st (sf_st g 17 (sf_cp (g 16) (g 17) 1 (4 * ib + 1))) 19 (sf_cp (g 18) (g 19) 1 i)) 18) ((sf_st (sf_st g 17 (sf_cp (g 16) (g 17) 1 (4 * ib + 1))) 19 (sf_cp (g 18) (g 19) 1 i)) 19) ((sf_st (sf_st g 17 (sf_cp (g 16) (g 17) 1 (4 * ib + 1))) 19 (sf_cp (g 18) (g 19) 1 i)) 20) (q 0) (q 1) (q 2) (q 3) (q 4) (q 5) := by
    intro d
    induction d with
    | zero =>
      intro i i1 i2
      have e : i = nd + 1 := by omega
      subst e
      exact br_t (nI_lt (by omega) (by omega)) (hp _ ⟨hL, q, rfl, hA⟩)
    | succ d ih =>
      intro i i1 i2
      have hi : vp_in (nI i) 17 := vp_in_nI (by omega) (by decide)
      have hc : (nI i).toNatClampNeg = i := nI_clamp (by omega)
      exact br_f (nI_nlt (by omega) (by omega)) (And.intro hi (And.intro hi (nm_r (e' := sf_cp (g 18) (g 19) 1 (i + 1)) (by rw [hc]; exact sf_cp_s i1 rfl) (nm_r (nI_1 i) (ih (i + 1) (by omega) (by omega))))))
  have k1 : ∀ d i, 1 ≤ i → i + d = 4 * ib + 1 → wX_copyMap_2 post (nI ib) (nI db) (nI (4 * ib)) (nI (4 * db)) (nI nd) (nI (1 + ib + db + nd)) (nI lim) (nI (l.length)) (g 21 0) (g 22 0) (g 23 0) (d + 1) (nI i) ((sf_st g 17 (sf_cp (g 16) (g 17) 1 i)) 0) ((sf_st g 17 (sf_cp (g 16) (g 17) 1 i)) 1) ((sf_st g 17 (sf_cp (g 16) (g 17) 1 i)) 2) ((sf_st g 17 (sf_cp (g 16) (g 17) 1 i)) 3) ((sf_st g 17 (sf_cp (g 16) (g 17) 1 i)) 4) ((sf_st g 17 (sf_cp (g 16) (g 17) 1 i)) 5) ((sf_st g 17 (sf_cp (g 16) (g 17) 1 i)) 6) ((sf_st g 17 (sf_cp (g 16) (g 17) 1 i)) 7) ((sf_st g 17 (sf_cp (g 16) (g 17) 1 i)) 8) ((sf_st g 17 (sf_cp (g 16) (g 17) 1 i)) 9) ((sf_st g 17 (sf_cp (g 16) (g 17) 1 i)) 10) ((sf_st g 17 (sf_cp (g 16) (g 17) 1 i)) 11) ((sf_st g 17 (sf_cp (g 16) (g 17) 1 i)) 12) ((sf_st g 17 (sf_cp (g 16) (g 17) 1 i)) 13) ((sf_st g 17 (sf_cp (g 16) (g 17) 1 i)) 14) ((sf_st g 17 (sf_cp (g 16) (g 17) 1 i)) 15) ((sf_st g 17 (sf_cp (g 16) (g 17) 1 i)) 16) ((sf_st g 17 (sf_cp (g 16) (g 17) 1 i)) 17) ((sf_st g 17 (sf_cp (g 16) (g 17) 1 i)) 18) ((sf_st g 17 (sf_cp (g 16) (g 17) 1 i)) 19) ((sf_st g 17 (sf_cp (g 16) (g 17) 1 i)) 20) (q 0) (q 1) (q 2) (q 3) (q 4) (q 5) := by
    intro d
    induction d with
    | zero =>
      intro i i1 i2
      have e : i = 4 * ib + 1 := by omega
      subst e
      refine br_t (nI_lt (by omega) (by omega)) (Exists.intro (nd + 1) ?_)
      have := k2 nd 1 (by omega) (by omega)
      rw [sf_cp_0] at this
      exact this
    | succ d ih =>
      intro i i1 i2
      have hi : vp_in (nI i) 17 := vp_in_nI (by omega) (by decide)
      have hc : (nI i).toNatClampNeg = i := nI_clamp (by omega)
      exact br_f (nI_nlt (by omega) (by omega)) (And.intro hi (And.intro hi (nm_r (e' := sf_cp (g 16) (g 17) 1 (i + 1)) (by rw [hc]; exact sf_cp_s i1 rfl) (nm_r (nI_1 i) (ih (i + 1) (by omega) (by omega))))))
  refine Exists.intro (4 * ib + 1) ?_
  have := k1 (4 * ib) 1 (by omega) (by omega)
  rw [sf_cp_0] at this
  exact this
theorem sf_X_sat {post : SX → Prop} {u : SX} (h : sf_X ib db nd lim g (A ++ r :: B) u) (p v : Int32) (hv : p ^^^ (-1) = v) (hp : ∀ u', sf_X ib db nd lim g (A ++ ((sf_sat v r).toList ++ B)) u' → post u') : wpX_satisfyAlloc post u (nI A.length) p := by
  obtain ⟨hL, q, rfl, hA⟩ := h
  have hr := sf_A_at hA
  have hlen : A.length < (A ++ r :: B).length := by simp
  have hi : vp_in (nI A.length) 128 := vp_in_nI (by omega) (by decide)
  have hc : (nI A.length).toNatClampNeg = A.length := nI_clamp (by omega)
  have hs : q 1 A.length = r.2.1 := by rw [hr]; rfl
  refine And.intro hi (And.intro hi (nm_r (e' := upd (q 1) A.length (r.2.1 &&& v)) (by rw [hc, hv, hs]) (And.intro hi ?_)))
  rw [hc, pk_us]
  have hN : (A ++ sf_sst r (r.2.1 &&& v) :: B).length = (A ++ r :: B).length := by simp
  have hu : sf_X ib db nd lim g (A ++ sf_sst r (r.2.1 &&& v) :: B) (sf_mX ib db nd lim (A ++ r :: B).length g (sf_up q 1 A.length (r.2.1 &&& v))) := ⟨by omega, _, by rw [hN], sf_A_sst _ hA⟩
  by_cases c : r.2.1 &&& v = 0
  · rw [sf_sat, if_pos c] at hp
    exact br_t c (sf_X_del hu hp)
  · rw [sf_sat, if_neg c] at hp
    exact br_f c (hp _ hu)
theorem sf_X_settleMap {post : SX → Prop} {u : SX} (h : sf_X ib db nd lim g l u) (hp : ∀ u', sf_X ib db nd lim g (l.filterMap sf_fmap) u' → post u') : wpX_settleMap post u := by
  obtain ⟨hL, q, rfl, hA⟩ := h
  refine nm_e (Exists.intro (l.length + 1) ?_)
  have key := sf_flt_law (fun m k n q => wX_settleMap_7 post m (nI k - 1) (nI ib) (nI db) (nI (4 * ib)) (nI (4 * db)) (nI nd) (nI (1 + ib + db + nd)) (nI lim) (nI n) (g 21 0) (g 22 0) (g 23 0) (g 0) (g 1) (g 2) (g 3) (g 4) (g 5) (g 6) (g 7) (g 8) (g 9) (g 10) (g 11) (g 12) (g 13) (g 14) (g 15) (g 16) (g 17) (g 18) (g 19) (g 20) (q 0) (q 1) (q 2) (q 3) (q 4) (q 5)) sf_fmap (Post := fun l q => post (sf_mX ib db nd lim l.length g q)) (L := 128) ?_ ?_ l.length l [] q rfl (by simpa using hL) (by simpa using hA) (fun q' h' => ?_)
  · simpa using key
  · intro m l q _ _ hz
    exact br_t sf_m0neg hz
  · intro m q A r B hL hA hn
    have hr := sf_A_at hA
    have hlen : A.length < (A ++ r :: B).length := by simp
    have hi : vp_in (nI A.length) 128 := vp_in_nI (by omega) (by decide)
    have hc : (nI A.length).toNatClampNeg = A.length := nI_clamp (by omega)
    have hu : sf_X ib db nd lim g (A ++ r :: B) (sf_mX ib db nd lim (A ++ r :: B).length g q) := ⟨hL, q, rfl, hA⟩
    have hk : q 0 A.length = r.1 := by rw [hr]; rfl
    rw [nI_pred]
    refine br_f (nI_pos (by omega)) (And.intro hi ?_)
    rw [hc, hk]
    by_cases c1 : r.1 = 2
    · rw [sf_fmap, if_pos c1] at hn
      refine br_t c1 (sf_X_del hu (fun u' hu' => ?_))
      obtain ⟨_, q', rfl, hA'⟩ := hu'
      exact nm_r (sf_mneg _) (hn q' hA')
    · refine br_f c1 (And.intro hi ?_)
      by_cases c2 : r.1 = 3
      · rw [sf_fmap, if_neg c1, if_pos c2] at hn
        refine br_t c2 (sf_X_sat hu 1 (-2) (by decide) (fun u' hu' => ?_))
        obtain ⟨_, q', rfl, hA'⟩ := hu'
        exact nm_r (sf_mneg _) (hn q' hA')
      · rw [sf_fmap, if_neg c1, if_neg c2] at hn
        exact br_f c2 (nm_r (sf_mneg _) (hn q hA))
  · refine hp _ ⟨?_, q', by simp, by simpa using h'⟩
    exact Nat.le_trans (List.length_filterMap_le _ _) hL
theorem sf_X_settleData {post : SX → Prop} {u : SX} (h : sf_X ib db nd lim g l u) (b : Int32) (hp : ∀ u', sf_X ib db nd lim g (l.filterMap (sf_fdat b)) u' → post u') : wpX_settleData post u b := by
  obtain ⟨hL, q, rfl, hA⟩ := h
  refine nm_e (Exists.intro (l.length + 1) ?_)
  have key := sf_flt_law (fun m k n q => wX_settleData_7 post b m (nI k - 1) (nI ib) (nI db) (nI (4 * ib)) (nI (4 * db)) (nI nd) (nI (1 + ib + db + nd)) (nI lim) (nI n) (g 21 0) (g 22 0) (g 23 0) (g 0) (g 1) (g 2) (g 3) (g 4) (g 5) (g 6) (g 7) (g 8) (g 9) (g 10) (g 11) (g 12) (g 13) (g 14) (g 15) (g 16) (g 17) (g 18) (g 19) (g 20) (q 0) (q 1) (q 2) (q 3) (q 4) (q 5)) (sf_fdat b) (Post := fun l q => post (sf_mX ib db nd lim l.length g q)) (L := 128) ?_ ?_ l.length l [] q rfl (by simpa using hL) (by simpa using hA) (fun q' h' => ?_)
  · simpa using key
  · intro m l q _ _ hz
    exact br_t sf_m0neg hz
  · intro m q A r B hL hA hn
    have hr := sf_A_at hA
    have hlen : A.length < (A ++ r :: B).length := by simp
    have hi : vp_in (nI A.length) 128 := vp_in_nI (by omega) (by decide)
    have hc : (nI A.length).toNatClampNeg = A.length := nI_clamp (by omega)
    have hu : sf_X ib db nd lim g (A ++ r :: B) (sf_mX ib db nd lim (A ++ r :: B).length g q) := ⟨hL, q, rfl, hA⟩
    have hk : q 0 A.length = r.1 := by rw [hr]; rfl
    have hb : q 4 A.length = r.2.2.2.2.1 := by rw [hr]; rfl
    rw [nI_pred]
    refine br_f (nI_pos (by omega)) (And.intro hi ?_)
    rw [hc, hk, hb]
    by_cases c1 : r.1 = 3
    · refine br_t c1 (And.intro hi ?_)
      by_cases c2 : r.2.2.2.2.1 = b
      · rw [sf_fdat, if_pos ⟨c1, c2⟩] at hn
        refine br_t c2 (sf_X_sat hu 2 (-3) (by decide) (fun u' hu' => ?_))
        obtain ⟨_, q', rfl, hA'⟩ := hu'
        exact nm_r (sf_mneg _) (hn q' hA')
      · rw [sf_fdat, if_neg (fun k => c2 k.2)] at hn
        exact br_f c2 (nm_r (sf_mneg _) (hn q hA))
    · rw [sf_fdat, if_neg (fun k => c1 k.1)] at hn
      exact br_f c1 (nm_r (sf_mneg _) (hn q hA))
  · refine hp _ ⟨?_, q', by simp, by simpa using h'⟩
    exact Nat.le_trans (List.length_filterMap_le _ _) hL
end
end
section
/-! the reference's map and data blocks; the closing of ADDs on both sides -/
theorem sf_fmap_two (l : List sf_R) : (l.map (fun r => if r.1 = 2 ∨ r.1 = 3 then sf_sst r (r.2.1 &&& (-2)) else r)).filterMap (fun r => if r.1 = 2 then none else if r.1 = 3 ∧ r.2.1 = 0 then none else some r) = l.filterMap sf_fmap := by
  rw [List.filterMap_map]
  refine congrArg (fun f => l.filterMap f) (funext fun r => ?_)
  show (if (if r.1 = 2 ∨ r.1 = 3 then sf_sst r (r.2.1 &&& (-2)) else r).1 = 2 then none else if (if r.1 = 2 ∨ r.1 = 3 then sf_sst r (r.2.1 &&& (-2)) else r).1 = 3 ∧ (if r.1 = 2 ∨ r.1 = 3 then sf_sst r (r.2.1 &&& (-2)) else r).2.1 = 0 then none else some (if r.1 = 2 ∨ r.1 = 3 then sf_sst r (r.2.1 &&& (-2)) else r)) = _
  by_cases c : r.1 = 2
  · rw [if_pos (Or.inl c), sf_fmap, if_pos c, if_pos (show (sf_sst r (r.2.1 &&& (-2))).1 = 2 from c)]
  · by_cases d : r.1 = 3
    · rw [if_pos (Or.inr d), sf_fmap, if_neg c, if_pos d, if_neg (show ¬ (sf_sst r (r.2.1 &&& (-2))).1 = 2 from c), sf_sat]
      by_cases z : r.2.1 &&& (-2) = 0
      · rw [if_pos z, if_pos ⟨d, z⟩]
      · rw [if_neg z, if_neg (fun k => z k.2)]
    · have h : ¬ (r.1 = 2 ∨ r.1 = 3) := by
        rintro (k | k)
        · exact c k
        · exact d k
      rw [if_neg h, sf_fmap, if_neg c, if_neg d, if_neg c, if_neg (fun k => d k.1)]
section
variable {ib db nd lim : Nat} {g : sf_G} {l A B : List sf_R} {r : sf_R}
theorem sf_Y_map114 {post : SY → Prop} {q : sf_G} (hL : l.length ≤ 128) (hA : sf_A l q) (hp : ∀ u', sf_Y ib db nd lim g (l.filterMap (fun r => if r.1 = 2 then none else if r.1 = 3 ∧ r.2.1 = 0 then none else some r)) u' → post u') : wY_writeMap_114 post (l.length + 1) (nI l.length - 1) (nI ib) (nI db) (nI nd) (nI lim) (nI (4 * ib)) (nI (4 * db)) (nI (1 + ib + db + nd)) (nI (l.length)) (g 21 0) (g 22 0) (g 23 0) (g 0) (g 1) (g 2) (g 16) (g 18) (g 12) (g 13) (g 6) (g 7) (g 3) (g 4) (g 5) (g 17) (g 19) (g 14) (g 15) (g 8) (g 9) (g 10) (g 11) (g 20) (q 0) (q 1) (q 2) (q 3) (q 4) (q 5) := by
  have key := sf_flt_law (fun m k n q => wY_writeMap_114 post m (nI k - 1) (nI ib) (nI db) (nI nd) (nI lim) (nI (4 * ib)) (nI (4 * db)) (nI (1 + ib + db + nd)) (nI n) (g 21 0) (g 22 0) (g 23 0) (g 0) (g 1) (g 2) (g 16) (g 18) (g 12) (g 13) (g 6) (g 7) (g 3) (g 4) (g 5) (g 17) (g 19) (g 14) (g 15) (g 8) (g 9) (g 10) (g 11) (g 20) (q 0) (q 1) (q 2) (q 3) (q 4) (q 5)) (fun r => if r.1 = 2 then none else if r.1 = 3 ∧ r.2.1 = 0 then none else some r) (Post := fun l q => post (sf_mY ib db nd lim l.length g q)) (L := 128) ?_ ?_ l.length l [] q rfl (by simpa using hL) (by simpa using hA) (fun q' h' => ?_)
  · simpa using key
  · intro m l q _ _ hz
    exact br_t sf_m0neg hz
  · intro m q A r B hL hA hn
    have hr := sf_A_at hA
    have hlen : A.length < (A ++ r :: B).length := by simp
    have hi : vp_in (nI A.length) 256 := vp_in_nI (by omega) (by decide)
    have hc : (nI A.length).toNatClampNeg = A.length := nI_clamp (by omega)
    have hu : sf_Y ib db nd lim g (A ++ r :: B) (sf_mY ib db nd lim (A ++ r :: B).length g q) := ⟨hL, q, rfl, hA⟩
    have hk : q 0 A.length = r.1 := by rw [hr]; rfl
    have hs : q 1 A.length = r.2.1 := by rw [hr]; rfl
    rw [nI_pred]
    refine br_f (nI_pos (by omega)) (And.intro hi ?_)
    rw [hc, hk, hs]
    by_cases c1 : r.1 = 2
    · rw [if_pos c1] at hn
      refine br_t c1 (sf_Y_del hu (fun u' hu' => ?_))
      obtain ⟨_, q', rfl, hA'⟩ := hu'
      exact nm_r (sf_mneg _) (hn q' hA')
    · refine br_f c1 (And.intro hi ?_)
      by_cases c2 : r.1 = 3
      · refine br_t c2 (And.intro hi ?_)
        by_cases c3 : r.2.1 = 0
        · rw [if_neg c1, if_pos ⟨c2, c3⟩] at hn
          refine br_t c3 (sf_Y_del hu (fun u' hu' => ?_))
          obtain ⟨_, q', rfl, hA'⟩ := hu'
          exact nm_r (sf_mneg _) (hn q' hA')
        · rw [if_neg c1, if_neg (fun k => c3 k.2)] at hn
          exact br_f c3 (nm_r (sf_mneg _) (hn q hA))
      · rw [if_neg c1, if_neg (fun k => c2 k.1)] at hn
        exact br_f c2 (nm_r (sf_mneg _) (hn q hA))
  · refine hp _ ⟨?_, q', by simp, by simpa using h'⟩
    exact Nat.le_trans (List.length_filterMap_le _ _) hL
theorem sf_Y_writeMap {post : SY → Prop} {u : SY} (hZ : sf_Z ib db nd lim) (h : sf_Y ib db nd lim g l u) (hp : ∀ u', sf_Y ib db nd lim (sf_gmap ib nd g) (l.filterMap sf_fmap) u' → post u') : wpY_writeMap post u := by
  obtain ⟨hL, q, rfl, hA⟩ := h
  obtain ⟨z1, z2, z3, z4, z5, z6, -⟩ := hZ
  rw [← sf_fmap_two] at hp
  have k3 : wY_writeMap_58 post (nI ib) (nI db) (nI nd) (nI lim) (nI (4 * ib)) (nI (4 * db)) (nI (1 + ib + db + nd)) (nI (l.length)) (g 21 0) (g 22 0) (g 23 0) (l.length + 1) 0 ((sf_gmap ib nd g) 0) ((sf_gmap ib nd g) 1) ((sf_gmap ib nd g) 2) ((sf_gmap ib nd g) 16) ((sf_gmap ib nd g) 18) ((sf_gmap ib nd g) 12) ((sf_gmap ib nd g) 13) ((sf_gmap ib nd g) 6) ((sf_gmap ib nd g) 7) ((sf_gmap ib nd g) 3) ((sf_gmap ib nd g) 4) ((sf_gmap ib nd g) 5) ((sf_gmap ib nd g) 17) ((sf_gmap ib nd g) 19) ((sf_gmap ib nd g) 14) ((sf_gmap ib nd g) 15) ((sf_gmap ib nd g) 8) ((sf_gmap ib nd g) 9) ((sf_gmap ib nd g) 10) ((sf_gmap ib nd g) 11) ((sf_gmap ib nd g) 20) (q 0) (q 1) (q 2) (q 3) (q 4) (q 5) := by
    refine sf_map_law0 (fun m p q => wY_writeMap_58 post (nI ib) (nI db) (nI nd) (nI lim) (nI (4 * ib)) (nI (4 * db)) (nI (1 + ib + db + nd)) (nI (l.length)) (g 21 0) (g 22 0) (g 23 0) m (nI p) ((sf_gmap ib nd g) 0) ((sf_gmap ib nd g) 1) ((sf_gmap ib nd g) 2) ((sf_gmap ib nd g) 16) ((sf_gmap ib nd g) 18) ((sf_gmap ib nd g) 12) ((sf_gmap ib nd g) 13) ((sf_gmap ib nd g) 6) ((sf_gmap ib nd g) 7) ((sf_gmap ib nd g) 3) ((sf_gmap ib nd g) 4) ((sf_gmap ib nd g) 5) ((sf_gmap ib nd g) 17) ((sf_gmap ib nd g) 19) ((sf_gmap ib nd g) 14) ((sf_gmap ib nd g) 15) ((sf_gmap ib nd g) 8) ((sf_gmap ib nd g) 9) ((sf_gmap ib nd g) 10) ((sf_gmap ib nd g) 11) ((sf_gmap ib nd g) 20) (q 0) (q 1) (q 2) (q 3) (q 4) (q 5)) (fun _ => True) (fun r => if r.1 = 2 ∨ r.1 = 3 then sf_sst r (r.2.1 &&& (-2)) else r) (N := l.length) (Post := fun q => sf_A (l.map (fun r => if r.1 = 2 ∨ r.1 = 3 then sf_sst r (r.2.1 &&& (-2)) else r)) q) ?_ (fun _ _ _ _ => trivial) ?_ l [] q rfl trivial hA (fun q' h' => by simpa using h')
    · intro m q hz
      refine br_t (nI_le (Nat.le_refl _) (by omega)) (nm_e (Exists.intro (l.length + 1) ?_))
      have k := sf_Y_map114 (ib := ib) (db := db) (nd := nd) (lim := lim) (g := sf_gmap ib nd g) (post := post) (by rw [List.length_map]; exact hL) hz hp
      rw [List.length_map] at k
      exact k
    · intro m q A r B hN _ hA hn
      have hlt : A.length < l.length := by rw [← hN]; simp
      have hi : vp_in (nI A.length) 256 := vp_in_nI (by omega) (by decide)
      have hc : (nI A.length).toNatClampNeg = A.length := nI_clamp (by omega)
      have hr := sf_A_at hA
      have hk : q 0 A.length = r.1 := by rw [hr]; rfl
      have hs : q 1 A.length = r.2.1 := by rw [hr]; rfl
      refine br_f (nI_ge hlt (by omega)) (And.intro hi ?_)
      rw [hc, hk]
      by_cases c1 : r.1 = 2
      · rw [if_pos (Or.inl c1)] at hn
        exact br_t c1 (And.intro hi (And.intro hi (nm_r (e' := upd (q 1) A.length (r.2.1 &&& (-2))) (by rw [hc, hs]) (nm_r (nI_1 _) (hn _ (sf_A_sst _ hA))))))
      · refine br_f c1 (And.intro hi ?_)
        by_cases c2 : r.1 = 3
        · rw [if_pos (Or.inr c2)] at hn
          exact br_t c2 (And.intro hi (And.intro hi (nm_r (e' := upd (q 1) A.length (r.2.1 &&& (-2))) (by rw [hc, hs]) (nm_r (nI_1 _) (hn _ (sf_A_sst _ hA))))))
        · rw [if_neg (fun k => by rcases k with k | k; exact c1 k; exact c2 k)] at hn
          exact br_f c2 (nm_r (nI_1 _) (hn q hA))
  have k2 : ∀ d i, 1 ≤ i → i + d = nd + 1 → wY_writeMap_30 post (nI ib) (nI db) (nI nd) (nI lim) (nI (4 * ib)) (nI (4 * db)) (nI (1 + ib + db + nd)) (nI (l.length)) (g 21 0) (g 22 0) (g 23 0) (d + 1) (nI i) ((sf_st (sf_st g 17 (sf_cp (g 16) (g 17) 1 (4 * ib + 1))) 19 (sf_cp (g 18) (g 19) 1 i)) 0) ((sf_st (sf_st g 17 (sf_cp (g 16) (g 17) 1 (4 * ib + 1))) 19 (sf_cp (g 18) (g 19) 1 i)) 1) ((sf_st (sf_st g 17 (sf_cp (g 16) (g 17) 1 (4 * ib + 1))) 19 (sf_cp (g 18) (g 19) 1 i)) 2) ((sf_st (sf_st g 17 (sf_cp (g 16) (g 17) 1 (4 * ib + 1))) 19 (sf_cp (g 18) (g 19) 1 i)) 16) ((sf_st (sf_st g 17 (sf_cp (g 16) (g 17) 1 (4 * ib + 1))) 19 (sf_cp (g 18) (g 19) 1 i)) 18) ((sf_st (sf_st g 17 (sf_cp (g 16) (g 17) 1 (4 * ib + 1))) 19 (sf_cp (g 18) (g 19) 1 i)) 12) ((sf_st (sf_st g 17 (sf_cp (g 16) (g 17) 1 (4 * ib + 1))) 19 (sf_cp (g 18) (g 19) 1 i)) 13) ((sf_st (sf_st g 17 (sf_cp (g 16) (g 17) 1 (4 * ib + 1))) 19 (sf_cp (g 18) (g 19) 1 i)) 6) ((sf_st (sf_st g 17 (sf_cp (g 16) (g 17) 1 (4 * ib + 1))) 19 (sf_cp (g 18) (g 19) 1 i)) 7) ((sf_st (sf_st g 17 (sf_cp (g 16) (g 17) 1 (4 * ib + 1))) 19 (sf_cp (g 18) (g 19) 1 i)) 3) ((sf_st (sf_st g 17 (sf_cp (g 16) (g 17) 1 (4 * ib + 1))) 19 (sf_cp (g 18) (g 19) 1 i)) 4) ((sf_st (sf_st g 17 (sf_cp (g 16) (g 17) 1 (4 * ib + 1))) 19 (sf_cp (g 18) (g 19) 1 i)) 5) ((sf_st (sf_st g 17 (sf_cp (g 16) (g 17) 1 (4 * ib + 1))) 19 (sf_cp (g 18) (g 19) 1 i)) 17) ((sf_st (sf_st g 17 (sf_cp (g 16) (g 17) 1 (4 * ib + 1))) 19 (sf_cp (g 18) (g 19) 1 i)) 19) ((sf_st (sf_st g 17 (sf_cp (g 16) (g 17) 1 (4 * ib + 1))) 19 (sf_cp (g 18) (g 19) 1 i)) 14) ((sf_st (sf_st g 17 (sf_cp (g 16) (g 17) 1 (4 * ib + 1))) 19 (sf_cp (g 18) (g 19) 1 i)) 15) ((sf_st (sf_st g 17 (sf_cp (g 16) (g 17) 1 (4 * ib + 1))) 19 (sf_cp (g 18) (g 19) 1 i)) 8) ((sf_st (sf_st g 17 (sf_cp (g 16) (g 17) 1 (4 * ib + 1))) 19 (sf_cp (g 18) (g 19) 1 i)) 9) ((sf_st (sf_st g 17 (sf_cp (g 16) (g 17) 1 (4 * ib + 1))) 19 (sf_cp (g 18) (g 19) 1 i)) 10) ((sf_st (sf_st g 17 (sf_cp (g 16) (g 17) 1 (4 * ib + 1))) 19 (sf_cp (g 18) (g 19) 1 i)) 11) ((sf_st (sf_st g 17 (sf_cp (g 16) (g 17) 1 (4 * ib + 1))) 19 (sf_cp (g 18) (g 19) 1 i)) 20) (q 0) (q 1) (q 2) (q 3) (q 4) (q 5) := by
    intro d
    induction d with
    | zero =>
      intro i i1 i2
      have e : i = nd + 1 := by omega
      subst e
      exact br_t (nI_lt (by omega) (by omega)) (Exists.intro (l.length + 1) k3)
    | succ d ih =>
      intro i i1 i2
      have hi : vp_in (nI i) 17 := vp_in_nI (by omega) (by decide)
      have hc : (nI i).toNatClampNeg = i := nI_clamp (by omega)
      exact br_f (nI_nlt (by omega) (by omega)) (And.intro hi (And.intro hi (nm_r (e' := sf_cp (g 18) (g 19) 1 (i + 1)) (by rw [hc]; exact sf_cp_s i1 rfl) (nm_r (nI_1 i) (ih (i + 1) (by omega) (by omega))))))
  have k1 : ∀ d i, 1 ≤ i → i + d = 4 * ib + 1 → wY_writeMap_2 post (nI ib) (nI db) (nI nd) (nI lim) (nI (4 * ib)) (nI (4 * db)) (nI (1 + ib + db + nd)) (nI (l.length)) (g 21 0) (g 22 0) (g 23 0) (d + 1) (nI i) ((sf_st g 17 (sf_cp (g 16) (g 17) 1 i)) 0) ((sf_st g 17 (sf_cp (g 16) (g 17) 1 i)) 1) ((sf_st g 17 (sf_cp (g 16) (g 17) 1 i)) 2) ((sf_st g 17 (sf_cp (g 16) (g 17) 1 i)) 16) ((sf_st g 17 (sf_cp (g 16) (g 17) 1 i)) 18) ((sf_st g 17 (sf_cp (g 16) (g 17) 1 i)) 12) ((sf_st g 17 (sf_cp (g 16) (g 17) 1 i)) 13) ((sf_st g 17 (sf_cp (g 16) (g 17) 1 i)) 6) ((sf_st g 17 (sf_cp (g 16) (g 17) 1 i)) 7) ((sf_st g 17 (sf_cp (g 16) (g 17) 1 i)) 3) ((sf_st g 17 (sf_cp (g 16) (g 17) 1 i)) 4) ((sf_st g 17 (sf_cp (g 16) (g 17) 1 i)) 5) ((sf_st g 17 (sf_cp (g 16) (g 17) 1 i)) 17) ((sf_st g 17 (sf_cp (g 16) (g 17) 1 i)) 19) ((sf_st g 17 (sf_cp (g 16) (g 17) 1 i)) 14) ((sf_st g 17 (sf_cp (g 16) (g 17) 1 i)) 15) ((sf_st g 17 (sf_cp (g 16) (g 17) 1 i)) 8) ((sf_st g 17 (sf_cp (g 16) (g 17) 1 i)) 9) ((sf_st g 17 (sf_cp (g 16) (g 17) 1 i)) 10) ((sf_st g 17 (sf_cp (g 16) (g 17) 1 i)) 11) ((sf_st g 17 (sf_cp (g 16) (g 17) 1 i)) 20) (q 0) (q 1) (q 2) (q 3) (q 4) (q 5) := by
    intro d
    induction d with
    | zero =>
      intro i i1 i2
      have e : i = 4 * ib + 1 := by omega
      subst e
      refine br_t (nI_lt (by omega) (by omega)) (Exists.intro (nd + 1) ?_)
      have := k2 nd 1 (by omega) (by omega)
      rw [sf_cp_0] at this
      exact this
    | succ d ih =>
      intro i i1 i2
      have hi : vp_in (nI i) 17 := vp_in_nI (by omega) (by decide)
      have hc : (nI i).toNatClampNeg = i := nI_clamp (by omega)
      exact br_f (nI_nlt (by omega) (by omega)) (And.intro hi (And.intro hi (nm_r (e' := sf_cp (g 16) (g 17) 1 (i + 1)) (by rw [hc]; exact sf_cp_s i1 rfl) (nm_r (nI_1 i) (ih (i + 1) (by omega) (by omega))))))
  refine Exists.intro (4 * ib + 1) ?_
  have := k1 (4 * ib) 1 (by omega) (by omega)
  rw [sf_cp_0] at this
  exact this
/-- a data block goes to the disk -/
def sf_gdat (g : sf_G) (b : Nat) : sf_G := sf_up (sf_up g 14 b (g 12 b)) 15 b (g 13 b)
theorem sf_Y_writeData {post : SY → Prop} {u : SY} (h : sf_Y ib db nd lim g l u) {b : Nat} (hb : b ≤ 16) (hp : ∀ u', sf_Y ib db nd lim (sf_gdat g b) (l.filterMap (sf_fdat (nI b))) u' → post u') : wpY_writeData post u (nI b) := by
  obtain ⟨hL, q, rfl, hA⟩ := h
  have hi : vp_in (nI b) 17 := vp_in_nI (by omega) (by decide)
  have hc : (nI b).toNatClampNeg = b := nI_clamp (by omega)
  refine And.intro hi (And.intro hi (nm_r (e' := upd (g 14) b (g 12 b)) (by rw [hc]) (And.intro hi (And.intro hi (nm_r (e' := upd (g 15) b (g 13 b)) (by rw [hc]) (nm_e (Exists.intro (l.length + 1) ?_)))))))
  have key := sf_flt_law (fun m k n q => wY_writeData_31 post (nI b) m (nI k - 1) (nI ib) (nI db) (nI nd) (nI lim) (nI (4 * ib)) (nI (4 * db)) (nI (1 + ib + db + nd)) (nI n) ((sf_gdat g b) 21 0) ((sf_gdat g b) 22 0) ((sf_gdat g b) 23 0) ((sf_gdat g b) 0) ((sf_gdat g b) 1) ((sf_gdat g b) 2) ((sf_gdat g b) 16) ((sf_gdat g b) 18) ((sf_gdat g b) 12) ((sf_gdat g b) 13) ((sf_gdat g b) 6) ((sf_gdat g b) 7) ((sf_gdat g b) 3) ((sf_gdat g b) 4) ((sf_gdat g b) 5) ((sf_gdat g b) 17) ((sf_gdat g b) 19) ((sf_gdat g b) 14) ((sf_gdat g b) 15) ((sf_gdat g b) 8) ((sf_gdat g b) 9) ((sf_gdat g b) 10) ((sf_gdat g b) 11) ((sf_gdat g b) 20) (q 0) (q 1) (q 2) (q 3) (q 4) (q 5)) (sf_fdat (nI b)) (Post := fun l q => post (sf_mY ib db nd lim l.length (sf_gdat g b) q)) (L := 128) ?_ ?_ l.length l [] q rfl (by simpa using hL) (by simpa using hA) (fun q' h' => ?_)
  · rw [List.append_nil] at key
    exact key
  · intro m l q _ _ hz
    exact br_t sf_m0neg hz
  · intro m q A r B hL hA hn
    have hr := sf_A_at hA
    have hlen : A.length < (A ++ r :: B).length := by simp
    have hi : vp_in (nI A.length) 256 := vp_in_nI (by omega) (by decide)
    have hc : (nI A.length).toNatClampNeg = A.length := nI_clamp (by omega)
    have hk : q 0 A.length = r.1 := by rw [hr]; rfl
    have hbk : q 4 A.length = r.2.2.2.2.1 := by rw [hr]; rfl
    have hs : q 1 A.length = r.2.1 := by rw [hr]; rfl
    rw [nI_pred]
    refine br_f (nI_pos (by omega)) (And.intro hi ?_)
    rw [hc, hk, hbk]
    by_cases c1 : r.1 = 3
    · refine br_t c1 (And.intro hi ?_)
      by_cases c2 : r.2.2.2.2.1 = nI b
      · rw [sf_fdat, if_pos ⟨c1, c2⟩, sf_sat] at hn
        refine br_t c2 (And.intro hi (And.intro hi (nm_r (e' := upd (q 1) A.length (r.2.1 &&& (-3))) (by rw [hs]) (And.intro hi ?_))))
        rw [pk_us]
        have hN : (A ++ sf_sst r (r.2.1 &&& (-3)) :: B).length = (A ++ r :: B).length := by simp
        have hu : sf_Y ib db nd lim (sf_gdat g b) (A ++ sf_sst r (r.2.1 &&& (-3)) :: B) (sf_mY ib db nd lim (A ++ r :: B).length (sf_gdat g b) (sf_up q 1 A.length (r.2.1 &&& (-3)))) := ⟨by omega, _, by rw [hN], sf_A_sst _ hA⟩
        by_cases c3 : r.2.1 &&& (-3) = 0
        · rw [if_pos c3] at hn
          refine br_t c3 (sf_Y_del hu (fun u' hu' => ?_))
          obtain ⟨_, q', rfl, hA'⟩ := hu'
          exact nm_r (sf_mneg _) (hn q' hA')
        · rw [if_neg c3] at hn
          have hn2 := hn _ (sf_A_sst _ hA)
          have e3 : (A ++ ((some (sf_sst r (r.2.1 &&& (-3)))).toList ++ B)).length = (A ++ r :: B).length := by simp
          rw [e3] at hn2
          exact br_f c3 (nm_r (sf_mneg _) hn2)
      · rw [sf_fdat, if_neg (fun k => c2 k.2)] at hn
        exact br_f c2 (nm_r (sf_mneg _) (hn q hA))
    · rw [sf_fdat, if_neg (fun k => c1 k.1)] at hn
      exact br_f c1 (nm_r (sf_mneg _) (hn q hA))
  · refine hp _ ⟨?_, q', by simp, by simpa using h'⟩
    exact Nat.le_trans (List.length_filterMap_le _ _) hL
theorem sf_cl1_at {A B : List sf_R} {r : sf_R} {e : Nat} (he : e < 16) (hs : r.2.2.1 = nI e) (h1 : r.1 = 1) (h0 : r.2.1 = 0) : sf_cl1 g (A ++ r :: B) A.length = (sf_up (sf_up g 10 e (g 6 e)) 11 e (g 7 e), (A ++ B).map (sf_own (nI e))) := by
  rw [sf_cl1, sf_n_at, if_pos ⟨h1, h0⟩, sf_er_at, hs, nI_clamp (by omega)]
theorem sf_cl1_no {A B : List sf_R} {r : sf_R} (h : ¬ (r.1 = 1 ∧ r.2.1 = 0)) : sf_cl1 g (A ++ r :: B) A.length = (g, A ++ r :: B) := by
  rw [sf_cl1, sf_n_at, if_neg h]
theorem sf_X_cl {post : SX → Prop} : ∀ k (g : sf_G) (l : List sf_R) (q : sf_G), k ≤ l.length → l.length ≤ 128 → sf_K3 l → sf_A l q → (∀ u', sf_X ib db nd lim (sf_cl k g l).1 (sf_cl k g l).2 u' → post u') → wX_closeFinishedAdds_7 post (k + 1) (nI k - 1) (nI ib) (nI db) (nI (4 * ib)) (nI (4 * db)) (nI nd) (nI (1 + ib + db + nd)) (nI lim) (nI (l.length)) (g 21 0) (g 22 0) (g 23 0) (g 0) (g 1) (g 2) (g 3) (g 4) (g 5) (g 6) (g 7) (g 8) (g 9) (g 10) (g 11) (g 12) (g 13) (g 14) (g 15) (g 16) (g 17) (g 18) (g 19) (g 20) (q 0) (q 1) (q 2) (q 3) (q 4) (q 5) := by
  intro k
  induction k with
  | zero =>
    intro g l q hk hL hK hA hp
    exact br_t sf_m0neg (hp _ ⟨hL, q, rfl, hA⟩)
  | succ k ih =>
    intro g l q hk hL hK hA hp
    obtain ⟨A, B, hl, hAk⟩ := sf_split (l := l) (p := k) (by omega)
    generalize sf_n l k = r at hl
    subst hl hAk
    have hr := sf_A_at hA
    have hlen : A.length < (A ++ r :: B).length := by simp
    have hi : vp_in (nI A.length) 128 := vp_in_nI (by omega) (by decide)
    have hc : (nI A.length).toNatClampNeg = A.length := nI_clamp (by omega)
    have h0 : q 0 A.length = r.1 := by rw [hr]; rfl
    have h1 : q 1 A.length = r.2.1 := by rw [hr]; rfl
    have h2 : q 2 A.length = r.2.2.1 := by rw [hr]; rfl
    rw [nI_pred]
    refine br_f (nI_pos (by omega)) (And.intro hi ?_)
    rw [hc, h0, h1, h2]
    by_cases c1 : r.1 = 1
    · refine br_t c1 (And.intro hi ?_)
      by_cases c2 : r.2.1 = 0
      · obtain ⟨e, he, hs⟩ := hK r (by simp) c1
        have hj : vp_in (nI e) 16 := vp_in_nI he (by decide)
        have hd : (nI e).toNatClampNeg = e := nI_clamp (by omega)
        rw [sf_cl, sf_cl1_at he hs c1 c2] at hp
        refine br_t c2 (And.intro hi (nm_r hs (And.intro hj (And.intro hj (nm_e (And.intro hj (And.intro hj (nm_e ?_))))))))
        rw [hd]
        refine sf_X_own (g := sf_up (sf_up g 10 e (g 6 e)) 11 e (g 7 e)) ⟨hL, q, rfl, hA⟩ (nI e) (fun u1 hu1 => ?_)
        rw [List.map_append, List.map_cons] at hu1
        have hm : nI A.length = nI (A.map (sf_own (nI e))).length := by rw [List.length_map]
        obtain ⟨hL1, q1, rfl, hA1⟩ := hu1
        rw [hm]
        refine sf_X_del (g := sf_up (sf_up g 10 e (g 6 e)) 11 e (g 7 e)) (A := A.map (sf_own (nI e))) (r := sf_own (nI e) r) (B := B.map (sf_own (nI e))) ⟨hL1, q1, rfl, hA1⟩ (fun u2 hu2 => ?_)
        rw [← List.map_append] at hu2
        obtain ⟨hL2, q2, rfl, hA2⟩ := hu2
        rw [← hm]
        exact nm_r (sf_mneg _) (ih _ _ q2 (by simp) hL2 (sf_K3_er hK) hA2 hp)
      · rw [sf_cl, sf_cl1_no (fun k => c2 k.2)] at hp
        exact br_f c2 (nm_r (sf_mneg _) (ih g _ q (by simp) hL hK hA hp))
    · rw [sf_cl, sf_cl1_no (fun k => c1 k.1)] at hp
      exact br_f c1 (nm_r (sf_mneg _) (ih g _ q (by simp) hL hK hA hp))
theorem sf_Y_cl {post : SY → Prop} : ∀ k (g : sf_G) (l : List sf_R) (q : sf_G), k ≤ l.length → l.length ≤ 128 → sf_K3 l → sf_A l q → (∀ u', sf_Y ib db nd lim (sf_cl k g l).1 (sf_cl k g l).2 u' → post u') → wY_closeAdds_7 post (k + 1) (nI k - 1) (nI ib) (nI db) (nI nd) (nI lim) (nI (4 * ib)) (nI (4 * db)) (nI (1 + ib + db + nd)) (nI (l.length)) (g 21 0) (g 22 0) (g 23 0) (g 0) (g 1) (g 2) (g 16) (g 18) (g 12) (g 13) (g 6) (g 7) (g 3) (g 4) (g 5) (g 17) (g 19) (g 14) (g 15) (g 8) (g 9) (g 10) (g 11) (g 20) (q 0) (q 1) (q 2) (q 3) (q 4) (q 5) := by
  intro k
  induction k with
  | zero =>
    intro g l q hk hL hK hA hp
    exact br_t sf_m0neg (hp _ ⟨hL, q, rfl, hA⟩)
  | succ k ih =>
    intro g l q hk hL hK hA hp
    obtain ⟨A, B, hl, hAk⟩ := sf_split (l := l) (p := k) (by omega)
    generalize sf_n l k = r at hl
    subst hl hAk
    have hr := sf_A_at hA
    have hlen : A.length < (A ++ r :: B).length := by simp
    have hi : vp_in (nI A.length) 256 := vp_in_nI (by omega) (by decide)
    have hc : (nI A.length).toNatClampNeg = A.length := nI_clamp (by omega)
    have h0 : q 0 A.length = r.1 := by rw [hr]; rfl
    have h1 : q 1 A.length = r.2.1 := by rw [hr]; rfl
    have h2 : q 2 A.length = r.2.2.1 := by rw [hr]; rfl
    rw [nI_pred]
    refine br_f (nI_pos (by omega)) (And.intro hi ?_)
    rw [hc, h0, h1, h2]
    by_cases c1 : r.1 = 1
    · refine br_t c1 (And.intro hi ?_)
      by_cases c2 : r.2.1 = 0
      · obtain ⟨e, he, hs⟩ := hK r (by simp) c1
        have hj : vp_in (nI e) 16 := vp_in_nI he (by decide)
        have hd : (nI e).toNatClampNeg = e := nI_clamp (by omega)
        rw [sf_cl, sf_cl1_at he hs c1 c2] at hp
        refine br_t c2 (And.intro hi (nm_r hs ?_))
        refine sf_Y_del (g := g) (A := A) (r := r) (B := B) ⟨hL, q, rfl, hA⟩ (fun u1 hu1 => ?_)
        obtain ⟨hL1, q1, rfl, hA1⟩ := hu1
        refine And.intro hj (And.intro hj (nm_e (And.intro hj (And.intro hj (nm_e ?_)))))
        rw [hd]
        refine sf_Y_own (g := sf_up (sf_up g 10 e (g 6 e)) 11 e (g 7 e)) ⟨hL1, q1, rfl, hA1⟩ (nI e) (fun u2 hu2 => ?_)
        obtain ⟨hL2, q2, rfl, hA2⟩ := hu2
        exact nm_r (sf_mneg _) (ih _ _ q2 (by simp) hL2 (sf_K3_er hK) hA2 hp)
      · rw [sf_cl, sf_cl1_no (fun k => c2 k.2)] at hp
        exact br_f c2 (nm_r (sf_mneg _) (ih g _ q (by simp) hL hK hA hp))
    · rw [sf_cl, sf_cl1_no (fun k => c1 k.1)] at hp
      exact br_f c1 (nm_r (sf_mneg _) (ih g _ q (by simp) hL hK hA hp))
theorem sf_X_close {post : SX → Prop} {u : SX} (h : sf_X ib db nd lim g l u) (hK : sf_K3 l) (hp : ∀ u', sf_X ib db nd lim (sf_cl l.length g l).1 (sf_cl l.length g l).2 u' → post u') : wpX_closeFinishedAdds post u := by
  obtain ⟨hL, q, rfl, hA⟩ := h
  exact nm_e (Exists.intro (l.length + 1) (sf_X_cl l.length g l q (Nat.le_refl _) hL hK hA hp))
theorem sf_Y_close {post : SY → Prop} {u : SY} (h : sf_Y ib db nd lim g l u) (hK : sf_K3 l) (hp : ∀ u', sf_Y ib db nd lim (sf_cl l.length g l).1 (sf_cl l.length g l).2 u' → post u') : wpY_closeAdds post u := by
  obtain ⟨hL, q, rfl, hA⟩ := h
  exact nm_e (Exists.intro (l.length + 1) (sf_Y_cl l.length g l q (Nat.le_refl _) hL hK hA hp))
end
end
section
/-! the writing of an inode block -/
def sf_vm (l : List sf_R) (a : Nat → Int32) (j : Nat) : Int32 := if l.any (sf_isInit (nI j)) then 0 else a j
def sf_vp (l : List sf_R) (a : Nat → Int32) (x : Nat) : Int32 := if l.any (sf_isInit (nI (x / 3))) then 0 else if l.any (sf_isAl (nI (x / 3)) (nI (x % 3))) then 0 else a x
theorem sf_vp_k (l : List sf_R) (a : Nat → Int32) {i k : Nat} (hk : k < 3) : sf_vp l a (3 * i + k) = if l.any (sf_isInit (nI i)) then 0 else if l.any (sf_isAl (nI i) (nI k)) then 0 else a (3 * i + k) := by
  rw [sf_vp, show (3 * i + k) / 3 = i by omega, show (3 * i + k) % 3 = k by omega]
def sf_gin (g : sf_G) (l : List sf_R) (F i : Nat) : sf_G := sf_st (sf_st (sf_st g 3 (sf_cp (sf_vm l (g 0)) (g 3) F i)) 4 (sf_cp (sf_vm l (g 1)) (g 4) F i)) 5 (sf_cp (sf_vp l (g 2)) (g 5) (3 * F) (3 * i))
def sf_gin2 (g : sf_G) (l : List sf_R) (F i k : Nat) : sf_G := sf_st (sf_st (sf_st g 3 (sf_cp (sf_vm l (g 0)) (g 3) F (i + 1))) 4 (sf_cp (sf_vm l (g 1)) (g 4) F (i + 1))) 5 (sf_cp (sf_vp l (g 2)) (g 5) (3 * F) (3 * i + k))
def sf_sm (c : Nat → Nat) : Nat → Nat → Nat
  | 0, _ => 0
  | d + 1, p => c p + sf_sm c d (p + 1)
def sf_ca (l : List sf_R) (i : Nat) : Nat := sf_ct (fun k => l.any (sf_isAl (nI i) (nI k))) 3 0
def sf_ci (l : List sf_R) (i : Nat) : Nat := if l.any (sf_isInit (nI i)) then 1 else sf_ca l i
def sf_fin (F : Int32) (l0 : List sf_R) (r : sf_R) : sf_R :=
  if r.2.2.2.1 < F then r else if F + 4 ≤ r.2.2.2.1 then r else if r.1 = 1 then (if l0.any (sf_isInit r.2.2.2.1) then r else sf_sst r (r.2.1 &&& (-5))) else if r.1 = 5 then sf_sst r 0 else if r.1 = 6 then sf_sst r 0 else r
theorem sf_fin_same (F : Int32) (l0 : List sf_R) (r : sf_R) : (sf_fin F l0 r).1 = r.1 ∧ (sf_fin F l0 r).2.2.1 = r.2.2.1 ∧ (sf_fin F l0 r).2.2.2.1 = r.2.2.2.1 ∧ (sf_fin F l0 r).2.2.2.2.1 = r.2.2.2.2.1 ∧ (sf_fin F l0 r).2.2.2.2.2 = r.2.2.2.2.2 := by
  rw [sf_fin]
  by_cases c1 : r.2.2.2.1 < F
  · rw [if_pos c1]; exact ⟨rfl, rfl, rfl, rfl, rfl⟩
  · rw [if_neg c1]
    by_cases c2 : F + 4 ≤ r.2.2.2.1
    · rw [if_pos c2]; exact ⟨rfl, rfl, rfl, rfl, rfl⟩
    · rw [if_neg c2]
      by_cases c3 : r.1 = 1
      · rw [if_pos c3]
        by_cases c4 : l0.any (sf_isInit r.2.2.2.1) = true
        · rw [if_pos c4]; exact ⟨rfl, rfl, rfl, rfl, rfl⟩
        · rw [if_neg c4]; exact ⟨rfl, rfl, rfl, rfl, rfl⟩
      · rw [if_neg c3]
        by_cases c5 : r.1 = 5
        · rw [if_pos c5]; exact ⟨rfl, rfl, rfl, rfl, rfl⟩
        · rw [if_neg c5]
          by_cases c6 : r.1 = 6
          · rw [if_pos c6]; exact ⟨rfl, rfl, rfl, rfl, rfl⟩
          · rw [if_neg c6]; exact ⟨rfl, rfl, rfl, rfl, rfl⟩
theorem sf_any_set {P : sf_R → Bool} {A B : List sf_R} {r r' : sf_R} (h : P r' = P r) : (A ++ r' :: B).any P = (A ++ r :: B).any P := by
  simp [List.any_append, List.any_cons, h]
theorem sf_isInit_same {x : Int32} {r r' : sf_R} (h1 : r'.1 = r.1) (h2 : r'.2.2.2.1 = r.2.2.2.1) : sf_isInit x r' = sf_isInit x r := by
  rw [sf_isInit, sf_isInit, h1, h2]
theorem sf_n4 (F : Nat) : nI F + 4 = nI (F + 4) := nI_add F 4
section
variable {ib db nd lim : Nat} {g : sf_G} {l A B : List sf_R} {r : sf_R}
theorem sf_X_cptr {post : Int32 → SX → Prop} {q : sf_G} {F i : Nat} (hF : F ≤ i) (hi16 : i ≤ 16) (hL : l.length ≤ 128) (hA : sf_A l q) (hI : l.any (sf_isInit (nI i)) = false) :
    ∀ d k c, k + d = 3 → (∀ u', sf_X ib db nd lim (sf_gin g l F (i + 1)) l u' → post (nI (c + sf_ct (fun k => l.any (sf_isAl (nI i) (nI k))) d k)) u') → wX_copyPointers_4 post (nI i) (nI ib) (nI db) (nI (4 * ib)) (nI (4 * db)) (nI nd) (nI (1 + ib + db + nd)) (nI lim) (nI (l.length)) (g 21 0) (g 22 0) (g 23 0) (d + 1) (nI c) (nI k) ((sf_gin2 g l F i k) 0) ((sf_gin2 g l F i k) 1) ((sf_gin2 g l F i k) 2) ((sf_gin2 g l F i k) 3) ((sf_gin2 g l F i k) 4) ((sf_gin2 g l F i k) 5) ((sf_gin2 g l F i k) 6) ((sf_gin2 g l F i k) 7) ((sf_gin2 g l F i k) 8) ((sf_gin2 g l F i k) 9) ((sf_gin2 g l F i k) 10) ((sf_gin2 g l F i k) 11) ((sf_gin2 g l F i k) 12) ((sf_gin2 g l F i k) 13) ((sf_gin2 g l F i k) 14) ((sf_gin2 g l F i k) 15) ((sf_gin2 g l F i k) 16) ((sf_gin2 g l F i k) 17) ((sf_gin2 g l F i k) 18) ((sf_gin2 g l F i k) 19) ((sf_gin2 g l F i k) 20) (q 0) (q 1) (q 2) (q 3) (q 4) (q 5) := by
  intro d
  induction d with
  | zero =>
    intro k c e hp
    have e3 : k = 3 := by omega
    subst e3
    exact br_t (by decide) (hp _ ⟨hL, q, rfl, hA⟩)
  | succ d ih =>
    intro k c e hp
    have hx : ((3 : Int32) * nI i) + nI k = nI (3 * i + k) := by
      show (nI 3 * nI i) + nI k = _
      rw [pk_mul, nI_add]
    have hi : vp_in (nI (3 * i + k)) 51 := vp_in_nI (by omega) (by decide)
    have hc : (nI (3 * i + k)).toNatClampNeg = 3 * i + k := nI_clamp (by omega)
    have h3 : ¬ (3 : Int32) ≤ nI k := nI_ge (b := 3) (by omega) (by decide)
    refine br_f h3 (sf_X_findAlloc (g := sf_gin2 g l F i k) (l := l) ⟨hL, q, rfl, hA⟩ _ _ ?_)
    rw [hx, hc]
    cases a : l.any (sf_isAl (nI i) (nI k)) with
    | false =>
      refine br_t ((sf_fi_any hL).mpr a) (And.intro hi (And.intro hi (nm_r (e' := sf_cp (sf_vp l (g 2)) (g 5) (3 * F) (3 * i + (k + 1))) (sf_cp_s (by omega) ?_) (nm_r (nI_1 k) (ih (k + 1) c (by omega) ?_)))))
      · rw [sf_vp_k l (g 2) (by omega), hI, a]
        rfl
      · have e2 : sf_ct (fun k => l.any (sf_isAl (nI i) (nI k))) (d + 1) k = sf_ct (fun k => l.any (sf_isAl (nI i) (nI k))) d (k + 1) := by
          rw [sf_ct, a]; simp
        rw [e2] at hp
        exact hp
    | true =>
      refine br_f (fun z => ?_) (And.intro hi (nm_r (e' := sf_cp (sf_vp l (g 2)) (g 5) (3 * F) (3 * i + (k + 1))) (sf_cp_s (by omega) ?_) (nm_r (nI_1 c) (nm_r (nI_1 k) (ih (k + 1) (c + 1) (by omega) ?_)))))
      · have := (sf_fi_any hL).mp z
        rw [a] at this
        exact absurd this (by decide)
      · rw [sf_vp_k l (g 2) (by omega), hI, a]
        rfl
      · have e2 : c + sf_ct (fun k => l.any (sf_isAl (nI i) (nI k))) (d + 1) k = c + 1 + sf_ct (fun k => l.any (sf_isAl (nI i) (nI k))) d (k + 1) := by
          rw [sf_ct, a]; simp; omega
        rw [e2] at hp
        exact hp
theorem sf_X_copyIno {post : Int32 → SX → Prop} {u : SX} (h : sf_X ib db nd lim g l u) {F : Nat} (hF : F + 4 ≤ 17) (hp : ∀ u', sf_X ib db nd lim (sf_gin g l F (F + 4)) l u' → post (nI (sf_sm (sf_ci l) 4 F)) u') : wpX_copyInodes post u (nI F) := by
  obtain ⟨hL, q, rfl, hA⟩ := h
  have key : ∀ d i c (q : sf_G), sf_A l q → F ≤ i → i + d = F + 4 → (∀ u', sf_X ib db nd lim (sf_gin g l F (F + 4)) l u' → post (nI (c + sf_sm (sf_ci l) d i)) u') → wX_copyInodes_4 post (nI F) (d + 1) (nI c) (nI i) (nI ib) (nI db) (nI (4 * ib)) (nI (4 * db)) (nI nd) (nI (1 + ib + db + nd)) (nI lim) (nI (l.length)) (g 21 0) (g 22 0) (g 23 0) ((sf_gin g l F i) 0) ((sf_gin g l F i) 1) ((sf_gin g l F i) 2) ((sf_gin g l F i) 3) ((sf_gin g l F i) 4) ((sf_gin g l F i) 5) ((sf_gin g l F i) 6) ((sf_gin g l F i) 7) ((sf_gin g l F i) 8) ((sf_gin g l F i) 9) ((sf_gin g l F i) 10) ((sf_gin g l F i) 11) ((sf_gin g l F i) 12) ((sf_gin g l F i) 13) ((sf_gin g l F i) 14) ((sf_gin g l F i) 15) ((sf_gin g l F i) 16) ((sf_gin g l F i) 17) ((sf_gin g l F i) 18) ((sf_gin g l F i) 19) ((sf_gin g l F i) 20) (q 0) (q 1) (q 2) (q 3) (q 4) (q 5) := by
    intro d
    induction d with
    | zero =>
      intro i c q hA h1 h2 hp
      have e : i = F + 4 := by omega
      subst e
      exact br_t (by rw [sf_n4]; exact nI_le (by omega) (by omega)) (hp _ ⟨hL, q, rfl, hA⟩)
    | succ d ih =>
      intro i c q hA h1 h2 hp
      have hi : vp_in (nI i) 17 := vp_in_nI (by omega) (by decide)
      have hc : (nI i).toNatClampNeg = i := nI_clamp (by omega)
      refine br_f (by rw [sf_n4]; exact nI_ge (by omega) (by omega)) (sf_X_findInit (g := sf_gin g l F i) (l := l) ⟨hL, q, rfl, hA⟩ _ ?_)
      rw [hc]
      cases a : l.any (sf_isInit (nI i)) with
      | false =>
        have e2 : c + sf_sm (sf_ci l) (d + 1) i = c + sf_ca l i + sf_sm (sf_ci l) d (i + 1) := by
          rw [sf_sm, sf_ci, a]; simp; omega
        rw [e2] at hp
        refine br_t ((sf_fi_any hL).mpr a) (And.intro hi (And.intro hi (nm_r (e' := sf_cp (sf_vm l (g 0)) (g 3) F (i + 1)) (sf_cp_s h1 (by rw [sf_vm, a]; rfl)) (And.intro hi (And.intro hi (nm_r (e' := sf_cp (sf_vm l (g 1)) (g 4) F (i + 1)) (sf_cp_s h1 (by rw [sf_vm, a]; rfl)) ?_))))))
        refine Exists.intro 4 (sf_X_cptr (g := g) (l := l) (F := F) (q := q) h1 (by omega) hL hA a 3 0 0 rfl (fun u1 h1' => ?_))
        obtain ⟨_, q1, rfl, hA1⟩ := h1'
        rw [Nat.zero_add]
        refine nm_r (nI_add _ _) (nm_r (nI_1 i) ?_)
        exact ih (i + 1) (c + sf_ca l i) q1 hA1 (by omega) (by omega) hp
      | true =>
        have e2 : c + sf_sm (sf_ci l) (d + 1) i = c + 1 + sf_sm (sf_ci l) d (i + 1) := by
          rw [sf_sm, sf_ci, a]; simp; omega
        rw [e2] at hp
        refine br_f (fun z => ?_) (And.intro hi (nm_r (e' := sf_cp (sf_vm l (g 0)) (g 3) F (i + 1)) (sf_cp_s h1 (by rw [sf_vm, a]; rfl)) (And.intro hi (nm_r (e' := sf_cp (sf_vm l (g 1)) (g 4) F (i + 1)) (sf_cp_s h1 (by rw [sf_vm, a]; rfl)) (Exists.intro 4 ?_)))))
        · have := (sf_fi_any hL).mp z
          rw [a] at this
          exact absurd this (by decide)
        · have k2 : ∀ d2 k, k + d2 = 3 → wX_copyInodes_37 post (wX_copyInodes_4 post (nI F) (d + 1)) (nI F) (nI c) (nI i) (nI ib) (nI db) (nI (4 * ib)) (nI (4 * db)) (nI nd) (nI (1 + ib + db + nd)) (nI lim) (nI (l.length)) (g 21 0) (g 22 0) (g 23 0) (d2 + 1) (nI k) ((sf_gin2 g l F i k) 0) ((sf_gin2 g l F i k) 1) ((sf_gin2 g l F i k) 2) ((sf_gin2 g l F i k) 3) ((sf_gin2 g l F i k) 4) ((sf_gin2 g l F i k) 5) ((sf_gin2 g l F i k) 6) ((sf_gin2 g l F i k) 7) ((sf_gin2 g l F i k) 8) ((sf_gin2 g l F i k) 9) ((sf_gin2 g l F i k) 10) ((sf_gin2 g l F i k) 11) ((sf_gin2 g l F i k) 12) ((sf_gin2 g l F i k) 13) ((sf_gin2 g l F i k) 14) ((sf_gin2 g l F i k) 15) ((sf_gin2 g l F i k) 16) ((sf_gin2 g l F i k) 17) ((sf_gin2 g l F i k) 18) ((sf_gin2 g l F i k) 19) ((sf_gin2 g l F i k) 20) (q 0) (q 1) (q 2) (q 3) (q 4) (q 5) := by
            intro d2
            induction d2 with
            | zero =>
              intro k e
              have e3 : k = 3 := by omega
              subst e3
              exact br_t (by decide) (nm_r (nI_1 c) (nm_r (nI_1 i) (ih (i + 1) (c + 1) q hA (by omega) (by omega) hp)))
            | succ d2 ih2 =>
              intro k e
              have hx : ((3 : Int32) * nI i) + nI k = nI (3 * i + k) := by
                show (nI 3 * nI i) + nI k = _
                rw [pk_mul, nI_add]
              have hi : vp_in (nI (3 * i + k)) 51 := vp_in_nI (by omega) (by decide)
              have hc : (nI (3 * i + k)).toNatClampNeg = 3 * i + k := nI_clamp (by omega)
              refine br_f (nI_ge (b := 3) (by omega) (by decide)) ?_
              rw [hx, hc]
              exact And.intro hi (nm_r (e' := sf_cp (sf_vp l (g 2)) (g 5) (3 * F) (3 * i + (k + 1))) (sf_cp_s (by omega) (by rw [sf_vp_k l (g 2) (by omega), a]; rfl)) (nm_r (nI_1 k) (ih2 (k + 1) (by omega))))
          exact k2 3 0 rfl
  refine Exists.intro 5 ?_
  have := key 4 F 0 q hA (by omega) (by omega) (by simpa using hp)
  have e : sf_gin g l F F = g := by
    funext f
    rw [sf_gin, sf_cp_0, sf_cp_0, sf_cp_0]
    by_cases c5 : f = 5
    · subst c5; rfl
    · by_cases c4 : f = 4
      · subst c4; rfl
      · by_cases c3 : f = 3
        · subst c3; rfl
        · simp only [sf_st, if_neg c5, if_neg c4, if_neg c3]
  rw [e] at this
  exact this
end
end
section
/-! settling an inode block on X; the whole of it on Y -/
theorem sf_ct_shift {P : Nat → Bool} : ∀ d p, sf_ct P d (p + 1) = sf_ct (fun j => P (j + 1)) d p := by
  intro d
  induction d with
  | zero => intro p; rfl
  | succ d ih => intro p; rw [sf_ct, sf_ct, ih]
theorem sf_ct_countP (P : sf_R → Bool) : ∀ l : List sf_R, sf_ct (fun p => P (sf_n l p)) l.length 0 = l.countP P := by
  intro l
  induction l with
  | nil => rfl
  | cons a l ih =>
    rw [List.length_cons, sf_ct, sf_ct_shift, List.countP_cons, ← ih]
    have e : (fun j => P (sf_n (a :: l) (j + 1))) = (fun j => P (sf_n l j)) := by
      funext j
      simp [sf_n, List.getD]
    rw [e]
    have e2 : sf_n (a :: l) 0 = a := rfl
    rw [e2]
    exact Nat.add_comm _ _
/-- ADDs of inode i lose NEEDS_INODE -/
def sf_h (i : Nat) (r : sf_R) : sf_R := if r.1 = 1 ∧ r.2.2.2.1 = nI i then sf_sst r (r.2.1 &&& (-5)) else r
def sf_hr (l0 : List sf_R) : Nat → Nat → sf_R → sf_R
  | 0, _, r => r
  | d + 1, i, r => sf_hr l0 d (i + 1) (if l0.any (sf_isInit (nI i)) then r else sf_h i r)
def sf_fr2 (F : Int32) (r : sf_R) : sf_R := if (r.1 = 5 ∨ r.1 = 6) ∧ r.2.1 = 4 ∧ ¬ r.2.2.2.1 < F ∧ ¬ F + 4 ≤ r.2.2.2.1 then sf_sst r 0 else r
theorem sf_h_ne {i : Nat} {r : sf_R} (h : r.1 ≠ 1) : sf_h i r = r := if_neg (fun k => h k.1)
theorem sf_hr_ne {l0 : List sf_R} {r : sf_R} (h : r.1 ≠ 1) : ∀ d i, sf_hr l0 d i r = r := by
  intro d
  induction d with
  | zero => intro i; rfl
  | succ d ih =>
    intro i
    rw [sf_hr, sf_h_ne h]
    have e : (if l0.any (sf_isInit (nI i)) = true then r else r) = r := by split <;> rfl
    rw [e]
    exact ih _
theorem sf_hr_out {l0 : List sf_R} {r : sf_R} {j : Nat} (hj : r.2.2.2.1 = nI j) (h16 : j ≤ 16) : ∀ d i, i + d ≤ 17 → (j < i ∨ i + d ≤ j) → sf_hr l0 d i r = r := by
  intro d
  induction d with
  | zero => intro i _ _; rfl
  | succ d ih =>
    intro i h1 h2
    have e1 : sf_h i r = r := if_neg (fun k => by
      have := (nI_eq (by omega) (by omega)).mp (hj.symm.trans k.2)
      omega)
    rw [sf_hr, e1]
    have e : (if l0.any (sf_isInit (nI i)) = true then r else r) = r := by split <;> rfl
    rw [e]
    exact ih _ (by omega) (by omega)
theorem sf_hr_in {l0 : List sf_R} {r : sf_R} {j : Nat} (h1 : r.1 = 1) (hj : r.2.2.2.1 = nI j) (h16 : j ≤ 16) : ∀ d i, i + d ≤ 17 → i ≤ j → j < i + d → sf_hr l0 d i r = if l0.any (sf_isInit (nI j)) then r else sf_sst r (r.2.1 &&& (-5)) := by
  intro d
  induction d with
  | zero => intro i _ a b; omega
  | succ d ih =>
    intro i a b c
    by_cases e : i = j
    · subst e
      rw [sf_hr, show sf_h i r = sf_sst r (r.2.1 &&& (-5)) from if_pos ⟨h1, hj⟩]
      cases k : l0.any (sf_isInit (nI i)) with
      | true => exact sf_hr_out hj h16 d (i + 1) (by omega) (by omega)
      | false => exact sf_hr_out (r := sf_sst r (r.2.1 &&& (-5))) hj h16 d (i + 1) (by omega) (by omega)
    · have e1 : sf_h i r = r := if_neg (fun k => e ((nI_eq (by omega) (by omega)).mp (hj.symm.trans k.2)).symm)
      rw [sf_hr, e1]
      have e2 : (if l0.any (sf_isInit (nI i)) = true then r else r) = r := by split <;> rfl
      rw [e2]
      exact ih _ (by omega) (by omega) (by omega)
theorem sf_fin_two {l0 : List sf_R} {r : sf_R} {j F : Nat} (hj : r.2.2.2.1 = nI j) (h16 : j ≤ 16) (hF : F + 4 ≤ 17) (hst : r.1 = 5 ∨ r.1 = 6 → r.2.1 = 0 ∨ r.2.1 = 4) : sf_fr2 (nI F) (sf_hr l0 4 F r) = sf_fin (nI F) l0 r := by
  have a1 : (r.2.2.2.1 < nI F) ↔ j < F := by rw [hj]; exact nI_ltI (by omega) (by omega)
  have a2 : (nI F + 4 ≤ r.2.2.2.1) ↔ F + 4 ≤ j := by rw [hj, sf_n4]; exact nI_leI (by omega) (by omega)
  have hne1 : ∀ x : sf_R, x.1 = 1 → sf_fr2 (nI F) x = x := fun x hx => if_neg (fun k => by
    rcases k.1 with k | k <;> rw [hx] at k <;> exact absurd k (by decide))
  by_cases c1 : r.1 = 1
  · by_cases o : j < F ∨ F + 4 ≤ j
    · rw [sf_hr_out hj h16 4 F (by omega) o, hne1 r c1, sf_fin]
      rcases o with o | o
      · rw [if_pos (a1.mpr o)]
      · rw [if_neg (fun k => by have := a1.mp k; omega), if_pos (a2.mpr o)]
    · rw [sf_hr_in c1 hj h16 4 F (by omega) (by omega) (by omega), sf_fin, if_neg (fun k => o (Or.inl (a1.mp k))), if_neg (fun k => o (Or.inr (a2.mp k))), if_pos c1, hj]
      cases l0.any (sf_isInit (nI j)) with
      | true => exact hne1 r c1
      | false => exact hne1 _ c1
  · rw [sf_hr_ne c1, sf_fin]
    by_cases o1 : r.2.2.2.1 < nI F
    · rw [if_pos o1, sf_fr2, if_neg (fun k => k.2.2.1 o1)]
    · rw [if_neg o1]
      by_cases o2 : nI F + 4 ≤ r.2.2.2.1
      · rw [if_pos o2, sf_fr2, if_neg (fun k => k.2.2.2 o2)]
      · rw [if_neg o2, if_neg c1]
        have hz : ∀ (_ : r.1 = 5 ∨ r.1 = 6), sf_fr2 (nI F) r = sf_sst r 0 := by
          intro c
          rcases hst c with z | z
          · rw [sf_fr2, if_neg (fun k => by rw [z] at k; exact absurd k.2.1 (by decide))]
            rw [sf_sst, ← z]
          · rw [sf_fr2, if_pos ⟨c, z, o1, o2⟩]
        by_cases c5 : r.1 = 5
        · rw [if_pos c5, hz (Or.inl c5)]
        · rw [if_neg c5]
          by_cases c6 : r.1 = 6
          · rw [if_pos c6, hz (Or.inr c6)]
          · rw [if_neg c6, sf_fr2, if_neg (fun k => by rcases k.1 with k | k; exact c5 k; exact c6 k)]
section
variable {ib db nd lim : Nat} {g : sf_G} {l A B : List sf_R} {r : sf_R}
theorem sf_K3_map {f : sf_R → sf_R} (hf : ∀ r, (f r).1 = r.1 ∧ (f r).2.2.1 = r.2.2.1) (h : sf_K3 l) : sf_K3 (l.map f) := by
  intro x hx k
  obtain ⟨r, hr, rfl⟩ := List.mem_map.mp hx
  rw [(hf r).1] at k
  rw [(hf r).2]
  exact h r hr k
theorem sf_X_settleIno {post : SX → Prop} {u : SX} (h : sf_X ib db nd lim g l u) (hK : sf_K3 l) (F : Nat) (hp : ∀ u', sf_X ib db nd lim (sf_cl (l.map (sf_fin (nI F) l)).length g (l.map (sf_fin (nI F) l))).1 (sf_cl (l.map (sf_fin (nI F) l)).length g (l.map (sf_fin (nI F) l))).2 u' → post u') : wpX_settleInodes post u (nI F) := by
  obtain ⟨hL, q, rfl, hA⟩ := h
  refine Exists.intro (l.length + 1) (sf_map_law0 (fun m p q => wX_settleInodes_2 post (nI F) (nI ib) (nI db) (nI (4 * ib)) (nI (4 * db)) (nI nd) (nI (1 + ib + db + nd)) (nI lim) (nI (l.length)) (g 21 0) (g 22 0) (g 23 0) m (nI p) (g 0) (g 1) (g 2) (g 3) (g 4) (g 5) (g 6) (g 7) (g 8) (g 9) (g 10) (g 11) (g 12) (g 13) (g 14) (g 15) (g 16) (g 17) (g 18) (g 19) (g 20) (q 0) (q 1) (q 2) (q 3) (q 4) (q 5)) (fun l' => ∀ x, l'.any (sf_isInit x) = l.any (sf_isInit x)) (sf_fin (nI F) l) (N := l.length) (Post := fun q => sf_A (l.map (sf_fin (nI F) l)) q) ?_ ?_ ?_ l [] q rfl (fun _ => rfl) hA (fun q' h' => by simpa using h'))
  · intro m q hz
    have hlen : (l.map (sf_fin (nI F) l)).length = l.length := List.length_map _
    exact br_t (nI_le (Nat.le_refl _) (by omega)) (sf_X_close (g := g) (l := l.map (sf_fin (nI F) l)) ⟨by omega, q, by rw [hlen]; rfl, hz⟩ (sf_K3_map (fun r => ⟨(sf_fin_same (nI F) l r).1, (sf_fin_same (nI F) l r).2.1⟩) hK) hp)
  · intro A r B hk x
    rw [sf_any_set (sf_isInit_same (sf_fin_same (nI F) l r).1 (sf_fin_same (nI F) l r).2.2.1)]
    exact hk x
  · intro m q A r B hN hk hA hn
    have hlt : A.length < l.length := by rw [← hN]; simp
    have hi : vp_in (nI A.length) 128 := vp_in_nI (by omega) (by decide)
    have hc : (nI A.length).toNatClampNeg = A.length := nI_clamp (by omega)
    have hr := sf_A_at hA
    have h0 : q 0 A.length = r.1 := by rw [hr]; rfl
    have h1 : q 1 A.length = r.2.1 := by rw [hr]; rfl
    have h3 : q 3 A.length = r.2.2.2.1 := by rw [hr]; rfl
    have hu : sf_X ib db nd lim g (A ++ r :: B) (sf_mX ib db nd lim l.length g q) := ⟨by omega, q, by rw [hN], hA⟩
    refine br_f (nI_ge hlt (by omega)) (And.intro hi (nm_r (e' := r.2.2.2.1) (by rw [hc, h3]) ?_))
    rw [hc]
    by_cases c1 : r.2.2.2.1 < nI F
    · rw [sf_fin, if_pos c1] at hn
      exact br_t c1 (nm_r (nI_1 _) (hn q hA))
    · refine br_f c1 ?_
      by_cases c2 : nI F + 4 ≤ r.2.2.2.1
      · rw [sf_fin, if_neg c1, if_pos c2] at hn
        exact br_t c2 (nm_r (nI_1 _) (hn q hA))
      · refine br_f c2 (And.intro hi (nm_r (e' := r.1) (by rw [h0]) ?_))
        rw [sf_fin, if_neg c1, if_neg c2] at hn
        by_cases c3 : r.1 = 1
        · rw [if_pos c3] at hn
          refine br_t c3 (sf_X_findInit hu _ ?_)
          cases a : l.any (sf_isInit r.2.2.2.1) with
          | false =>
            rw [a] at hn
            exact br_t ((sf_fi_any hu.1).mpr (by rw [hk]; exact a)) (And.intro hi (And.intro hi (nm_r (e' := upd (q 1) A.length (r.2.1 &&& (-5))) (by rw [h1]) (nm_r (nI_1 _) (hn _ (sf_A_sst _ hA))))))
          | true =>
            rw [a] at hn
            refine br_f (fun z => ?_) (nm_r (nI_1 _) (hn q hA))
            have := (sf_fi_any hu.1).mp z
            rw [hk, a] at this
            exact absurd this (by decide)
        · rw [if_neg c3] at hn
          refine br_f c3 ?_
          by_cases c5 : r.1 = 5
          · rw [if_pos c5] at hn
            exact br_t c5 (And.intro hi (nm_e (nm_r (nI_1 _) (hn _ (sf_A_sst _ hA)))))
          · rw [if_neg c5] at hn
            refine br_f c5 ?_
            by_cases c6 : r.1 = 6
            · rw [if_pos c6] at hn
              exact br_t c6 (And.intro hi (nm_e (nm_r (nI_1 _) (hn _ (sf_A_sst _ hA)))))
            · rw [if_neg c6] at hn
              exact br_f c6 (nm_r (nI_1 _) (hn q hA))
/-! the reference -/
theorem sf_Y_iv01 {post : Int32 → Prop} {u : SY} (h : sf_Y ib db nd lim g l u) {i : Nat} (hi : i ≤ 16) (f : Nat) (hf : f < 2) (hp : post (sf_vm l (g f) i)) : wpY_inodeValue post u 2 (nI i) (nI f) := by
  obtain ⟨hL, q, rfl, hA⟩ := h
  have hv : vp_in (nI i) 17 := vp_in_nI (by omega) (by decide)
  have hc : (nI i).toNatClampNeg = i := nI_clamp (by omega)
  refine br_f (by decide) (br_f (fun z => by have := (nI_eq (a := f) (b := 5) (by omega) (by decide)).mp z; omega) (br_t (by decide) (sf_Y_findInit ⟨hL, q, rfl, hA⟩ _ ?_)))
  cases a : l.any (sf_isInit (nI i)) with
  | true =>
    rw [sf_vm, a] at hp
    refine br_f (fun z => ?_) hp
    have := (sf_fi_any hL).mp z
    rw [a] at this
    exact absurd this (by decide)
  | false =>
    rw [sf_vm, a] at hp
    refine br_t ((sf_fi_any hL).mpr a) (br_t (nI_lt (b := 2) (by omega) (by decide)) ?_)
    by_cases c : f = 0
    · subst c
      refine br_t (by decide) (And.intro hv ?_)
      rw [hc]
      exact hp
    · have c1 : f = 1 := by omega
      subst c1
      refine br_f (by decide) (br_t (by decide) (And.intro hv ?_))
      rw [hc]
      exact hp
theorem sf_Y_iv2 {post : Int32 → Prop} {u : SY} (h : sf_Y ib db nd lim g l u) {i : Nat} (hi : i ≤ 16) (k : Nat) (hk : k < 3) (hp : post (sf_vp l (g 2) (3 * i + k))) : wpY_inodeValue post u 2 (nI i) (2 + nI k) := by
  obtain ⟨hL, q, rfl, hA⟩ := h
  have e2 : (2 : Int32) + nI k = nI (2 + k) := nI_add 2 k
  have ek : nI (2 + k) - 2 = nI k := by
    show nI (2 + k) - nI 2 = _
    rw [pk_sub (by omega)]
    exact congrArg nI (by omega)
  have ex : ((nI i * 3) + nI (2 + k)) - 2 = nI (3 * i + k) := by
    show ((nI i * nI 3) + nI (2 + k)) - nI 2 = _
    rw [pk_mul, nI_add, pk_sub (by omega)]
    exact congrArg nI (by omega)
  have hv : vp_in (nI (3 * i + k)) 51 := vp_in_nI (by omega) (by decide)
  have hc : (nI (3 * i + k)).toNatClampNeg = 3 * i + k := nI_clamp (by omega)
  rw [sf_vp_k l (g 2) hk] at hp
  rw [e2]
  refine br_f (by decide) (br_f (fun z => by have := (nI_eq (a := 2 + k) (b := 5) (by omega) (by decide)).mp z; omega) (br_t (by decide) (sf_Y_findInit ⟨hL, q, rfl, hA⟩ _ ?_)))
  cases a : l.any (sf_isInit (nI i)) with
  | true =>
    rw [a] at hp
    refine br_f (fun z => ?_) hp
    have := (sf_fi_any hL).mp z
    rw [a] at this
    exact absurd this (by decide)
  | false =>
    rw [a] at hp
    refine br_t ((sf_fi_any hL).mpr a) (br_f (nI_nlt (b := 2) (by omega) (by omega)) (sf_Y_findAlloc ⟨hL, q, rfl, hA⟩ _ _ ?_))
    rw [ek]
    cases b : l.any (sf_isAl (nI i) (nI k)) with
    | true =>
      rw [b] at hp
      refine br_f (fun z => ?_) hp
      have := (sf_fi_any hL).mp z
      rw [b] at this
      exact absurd this (by decide)
    | false =>
      rw [b] at hp
      refine br_t ((sf_fi_any hL).mpr b) (br_f (fun z => by have := (nI_eq (a := 2 + k) (b := 0) (by omega) (by decide)).mp z; omega) (br_f (fun z => by have := (nI_eq (a := 2 + k) (b := 1) (by omega) (by decide)).mp z; omega) ?_))
      rw [ex]
      refine And.intro hv ?_
      rw [hc]
      exact hp
end
end
section
/-! the reference's writing of an inode block -/
theorem sf_h_same (i : Nat) (r : sf_R) : (sf_h i r).1 = r.1 ∧ (sf_h i r).2.2.1 = r.2.2.1 ∧ (sf_h i r).2.2.2.1 = r.2.2.2.1 := by
  rw [sf_h]
  by_cases c : r.1 = 1 ∧ r.2.2.2.1 = nI i
  · rw [if_pos c]; exact ⟨rfl, rfl, rfl⟩
  · rw [if_neg c]; exact ⟨rfl, rfl, rfl⟩
theorem sf_fr2_same (F : Int32) (r : sf_R) : (sf_fr2 F r).1 = r.1 ∧ (sf_fr2 F r).2.2.1 = r.2.2.1 := by
  rw [sf_fr2]
  split
  · exact ⟨rfl, rfl⟩
  · exact ⟨rfl, rfl⟩
theorem sf_any_map {P : sf_R → Bool} {f : sf_R → sf_R} {l : List sf_R} (h : ∀ r, P (f r) = P r) : (l.map f).any P = l.any P := by
  rw [List.any_map]
  exact congrArg (fun p => l.any p) (funext fun r => h r)
section
variable {ib db nd lim : Nat} {g : sf_G} {l A B : List sf_R} {r : sf_R}
theorem sf_Y_i253 {post : Int32 → SY → Prop} {q : sf_G} (hL : l.length ≤ 128) (hA : sf_A l q) (hK : sf_K3 l) (F : Nat) (C : Int32) (hp : ∀ u', sf_Y ib db nd lim (sf_cl (l.map (sf_fr2 (nI F))).length g (l.map (sf_fr2 (nI F)))).1 (sf_cl (l.map (sf_fr2 (nI F))).length g (l.map (sf_fr2 (nI F)))).2 u' → post C u') : wY_writeInodes_253 post (nI F) C (nI ib) (nI db) (nI nd) (nI lim) (nI (4 * ib)) (nI (4 * db)) (nI (1 + ib + db + nd)) (nI (l.length)) (g 21 0) (g 22 0) (g 23 0) (l.length + 1) 0 (g 0) (g 1) (g 2) (g 16) (g 18) (g 12) (g 13) (g 6) (g 7) (g 3) (g 4) (g 5) (g 17) (g 19) (g 14) (g 15) (g 8) (g 9) (g 10) (g 11) (g 20) (q 0) (q 1) (q 2) (q 3) (q 4) (q 5) := by
  refine sf_map_law0 (fun m p q => wY_writeInodes_253 post (nI F) C (nI ib) (nI db) (nI nd) (nI lim) (nI (4 * ib)) (nI (4 * db)) (nI (1 + ib + db + nd)) (nI (l.length)) (g 21 0) (g 22 0) (g 23 0) m (nI p) (g 0) (g 1) (g 2) (g 16) (g 18) (g 12) (g 13) (g 6) (g 7) (g 3) (g 4) (g 5) (g 17) (g 19) (g 14) (g 15) (g 8) (g 9) (g 10) (g 11) (g 20) (q 0) (q 1) (q 2) (q 3) (q 4) (q 5)) (fun _ => True) (sf_fr2 (nI F)) (N := l.length) (Post := fun q => sf_A (l.map (sf_fr2 (nI F))) q) ?_ (fun _ _ _ _ => trivial) ?_ l [] q rfl trivial hA (fun q' h' => by simpa using h')
  · intro m q hz
    have hlen : (l.map (sf_fr2 (nI F))).length = l.length := List.length_map _
    exact br_t (nI_le (Nat.le_refl _) (by omega)) (sf_Y_close (g := g) (l := l.map (sf_fr2 (nI F))) ⟨by omega, q, by rw [hlen]; rfl, hz⟩ (sf_K3_map (fun r => sf_fr2_same (nI F) r) hK) hp)
  · intro m q A r B hN _ hA hn
    have hlt : A.length < l.length := by rw [← hN]; simp
    have hi : vp_in (nI A.length) 256 := vp_in_nI (by omega) (by decide)
    have hc : (nI A.length).toNatClampNeg = A.length := nI_clamp (by omega)
    have hr := sf_A_at hA
    have h0 : q 0 A.length = r.1 := by rw [hr]; rfl
    have h1 : q 1 A.length = r.2.1 := by rw [hr]; rfl
    have h3 : q 3 A.length = r.2.2.2.1 := by rw [hr]; rfl
    have inner : (r.1 = 5 ∨ r.1 = 6) → wY_writeInodes_285 post (wY_writeInodes_253 post (nI F) C (nI ib) (nI db) (nI nd) (nI lim) (nI (4 * ib)) (nI (4 * db)) (nI (1 + ib + db + nd)) (nI (l.length)) (g 21 0) (g 22 0) (g 23 0) m) (nI F) C (nI A.length) (nI ib) (nI db) (nI nd) (nI lim) (nI (4 * ib)) (nI (4 * db)) (nI (1 + ib + db + nd)) (nI (l.length)) (g 21 0) (g 22 0) (g 23 0) (g 0) (g 1) (g 2) (g 16) (g 18) (g 12) (g 13) (g 6) (g 7) (g 3) (g 4) (g 5) (g 17) (g 19) (g 14) (g 15) (g 8) (g 9) (g 10) (g 11) (g 20) (q 0) (q 1) (q 2) (q 3) (q 4) (q 5) := by
      intro c56
      refine And.intro hi ?_
      rw [hc, h1, h3]
      by_cases c1 : r.2.1 = 4
      · refine br_t c1 (And.intro hi ?_)
        by_cases c2 : r.2.2.2.1 < nI F
        · rw [sf_fr2, if_neg (fun k => k.2.2.1 c2)] at hn
          exact br_t c2 (nm_r (nI_1 _) (hn q hA))
        · refine br_f c2 (And.intro hi ?_)
          by_cases c3 : nI F + 4 ≤ r.2.2.2.1
          · rw [sf_fr2, if_neg (fun k => k.2.2.2 c3)] at hn
            exact br_t c3 (nm_r (nI_1 _) (hn q hA))
          · rw [sf_fr2, if_pos ⟨c56, c1, c2, c3⟩] at hn
            exact br_f c3 (And.intro hi (nm_e (nm_r (nI_1 _) (hn _ (sf_A_sst _ hA)))))
      · rw [sf_fr2, if_neg (fun k => c1 k.2.1)] at hn
        exact br_f c1 (nm_r (nI_1 _) (hn q hA))
    refine br_f (nI_ge hlt (by omega)) (And.intro hi ?_)
    rw [hc, h0]
    by_cases c5 : r.1 = 5
    · exact br_t c5 (inner (Or.inl c5))
    · refine br_f c5 (And.intro hi ?_)
      by_cases c6 : r.1 = 6
      · exact br_t c6 (inner (Or.inr c6))
      · rw [sf_fr2, if_neg (fun k => by rcases k.1 with k | k; exact c5 k; exact c6 k)] at hn
        exact br_f c6 (nm_r (nI_1 _) (hn q hA))
theorem sf_Y_i189 {post : Int32 → SY → Prop} {q : sf_G} {J : Int32 → (Nat → Int32) → (Nat → Int32) → (Nat → Int32) → (Nat → Int32) → (Nat → Int32) → (Nat → Int32) → (Nat → Int32) → (Nat → Int32) → (Nat → Int32) → (Nat → Int32) → (Nat → Int32) → (Nat → Int32) → (Nat → Int32) → (Nat → Int32) → (Nat → Int32) → (Nat → Int32) → (Nat → Int32) → (Nat → Int32) → (Nat → Int32) → (Nat → Int32) → (Nat → Int32) → (Nat → Int32) → (Nat → Int32) → (Nat → Int32) → (Nat → Int32) → (Nat → Int32) → (Nat → Int32) → Prop} (hL : l.length ≤ 128) (hA : sf_A l q) (F i : Nat) (C : Int32) (hJ : ∀ q', sf_A (l.map (sf_h i)) q' → J (nI (i + 1)) (g 0) (g 1) (g 2) (g 16) (g 18) (g 12) (g 13) (g 6) (g 7) (g 3) (g 4) (g 5) (g 17) (g 19) (g 14) (g 15) (g 8) (g 9) (g 10) (g 11) (g 20) (q' 0) (q' 1) (q' 2) (q' 3) (q' 4) (q' 5)) : wY_writeInodes_189 post J (nI F) C (nI i) (nI ib) (nI db) (nI nd) (nI lim) (nI (4 * ib)) (nI (4 * db)) (nI (1 + ib + db + nd)) (nI (l.length)) (g 21 0) (g 22 0) (g 23 0) (l.length + 1) 0 (g 0) (g 1) (g 2) (g 16) (g 18) (g 12) (g 13) (g 6) (g 7) (g 3) (g 4) (g 5) (g 17) (g 19) (g 14) (g 15) (g 8) (g 9) (g 10) (g 11) (g 20) (q 0) (q 1) (q 2) (q 3) (q 4) (q 5) := by
  refine sf_map_law0 (fun m p q => wY_writeInodes_189 post J (nI F) C (nI i) (nI ib) (nI db) (nI nd) (nI lim) (nI (4 * ib)) (nI (4 * db)) (nI (1 + ib + db + nd)) (nI (l.length)) (g 21 0) (g 22 0) (g 23 0) m (nI p) (g 0) (g 1) (g 2) (g 16) (g 18) (g 12) (g 13) (g 6) (g 7) (g 3) (g 4) (g 5) (g 17) (g 19) (g 14) (g 15) (g 8) (g 9) (g 10) (g 11) (g 20) (q 0) (q 1) (q 2) (q 3) (q 4) (q 5)) (fun _ => True) (sf_h i) (N := l.length) (Post := fun q => sf_A (l.map (sf_h i)) q) ?_ (fun _ _ _ _ => trivial) ?_ l [] q rfl trivial hA (fun q' h' => by simpa using h')
  · intro m q hz
    exact br_t (nI_le (Nat.le_refl _) (by omega)) (nm_r (nI_1 i) (hJ q hz))
  · intro m q A r B hN _ hA hn
    have hlt : A.length < l.length := by rw [← hN]; simp
    have hi : vp_in (nI A.length) 256 := vp_in_nI (by omega) (by decide)
    have hc : (nI A.length).toNatClampNeg = A.length := nI_clamp (by omega)
    have hr := sf_A_at hA
    have h0 : q 0 A.length = r.1 := by rw [hr]; rfl
    have h1 : q 1 A.length = r.2.1 := by rw [hr]; rfl
    have h3 : q 3 A.length = r.2.2.2.1 := by rw [hr]; rfl
    refine br_f (nI_ge hlt (by omega)) (And.intro hi ?_)
    rw [hc, h0, h3]
    by_cases c1 : r.1 = 1
    · refine br_t c1 (And.intro hi ?_)
      by_cases c2 : r.2.2.2.1 = nI i
      · rw [sf_h, if_pos ⟨c1, c2⟩] at hn
        exact br_t c2 (And.intro hi (And.intro hi (nm_r (e' := upd (q 1) A.length (r.2.1 &&& (-5))) (by rw [h1]) (nm_r (nI_1 _) (hn _ (sf_A_sst _ hA))))))
      · rw [sf_h, if_neg (fun k => c2 k.2)] at hn
        exact br_f c2 (nm_r (nI_1 _) (hn q hA))
    · rw [sf_h, if_neg (fun k => c1 k.1)] at hn
      exact br_f c1 (nm_r (nI_1 _) (hn q hA))
theorem sf_Y_i164 {post : Int32 → SY → Prop} {l0 : List sf_R} {F : Nat} {C : Int32} (hF : F + 4 ≤ 17) : ∀ d i (l : List sf_R) (q : sf_G), i + d = F + 4 → l.length ≤ 128 → (∀ x, l.any (sf_isInit x) = l0.any (sf_isInit x)) → sf_A l q → sf_K3 l →
    (∀ u', sf_Y ib db nd lim (sf_cl ((l.map (sf_hr l0 d i)).map (sf_fr2 (nI F))).length g ((l.map (sf_hr l0 d i)).map (sf_fr2 (nI F)))).1 (sf_cl ((l.map (sf_hr l0 d i)).map (sf_fr2 (nI F))).length g ((l.map (sf_hr l0 d i)).map (sf_fr2 (nI F)))).2 u' → post C u') →
    wY_writeInodes_164 post (nI F) C (nI ib) (nI db) (nI nd) (nI lim) (nI (4 * ib)) (nI (4 * db)) (nI (1 + ib + db + nd)) (nI (l.length)) (g 21 0) (g 22 0) (g 23 0) (d + 1) (nI i) (g 0) (g 1) (g 2) (g 16) (g 18) (g 12) (g 13) (g 6) (g 7) (g 3) (g 4) (g 5) (g 17) (g 19) (g 14) (g 15) (g 8) (g 9) (g 10) (g 11) (g 20) (q 0) (q 1) (q 2) (q 3) (q 4) (q 5) := by
  intro d
  induction d with
  | zero =>
    intro i l q e hL hI hA hK hp
    refine br_t (by rw [sf_n4]; exact nI_le (by omega) (by omega)) (Exists.intro (l.length + 1) (sf_Y_i253 hL hA hK F C ?_))
    have e2 : l.map (sf_hr l0 0 i) = l := List.map_id l
    rw [e2] at hp
    exact hp
  | succ d ih =>
    intro i l q e hL hI hA hK hp
    refine br_f (by rw [sf_n4]; exact nI_ge (by omega) (by omega)) (sf_Y_findInit ⟨hL, q, rfl, hA⟩ _ ?_)
    cases a : l0.any (sf_isInit (nI i)) with
    | true =>
      refine br_f (fun z => ?_) (nm_r (nI_1 i) (ih (i + 1) l q (by omega) hL hI hA hK ?_))
      · have := (sf_fi_any hL).mp z
        rw [hI, a] at this
        exact absurd this (by decide)
      · have e2 : sf_hr l0 (d + 1) i = sf_hr l0 d (i + 1) := by
          funext r
          rw [sf_hr, a]
          rfl
        rw [e2] at hp
        exact hp
    | false =>
      refine br_t ((sf_fi_any hL).mpr (by rw [hI]; exact a)) (Exists.intro (l.length + 1) (sf_Y_i189 hL hA F i C (fun q' h' => ?_)))
      have hlen : (l.map (sf_h i)).length = l.length := List.length_map _
      have k := ih (i + 1) (l.map (sf_h i)) q' (by omega) (by omega) (fun x => by rw [sf_any_map (fun r => sf_isInit_same (sf_h_same i r).1 (sf_h_same i r).2.2)]; exact hI x) h' (sf_K3_map (fun r => ⟨(sf_h_same i r).1, (sf_h_same i r).2.1⟩) hK) ?_
      · rw [hlen] at k
        exact k
      · have e2 : l.map (sf_hr l0 (d + 1) i) = (l.map (sf_h i)).map (sf_hr l0 d (i + 1)) := by
          rw [List.map_map]
          refine congrArg (fun f => l.map f) (funext fun r => ?_)
          rw [sf_hr, a]
          rfl
        rw [e2] at hp
        exact hp
theorem sf_Y_i113 {post : Int32 → SY → Prop} {q : sf_G} {J : Int32 → Int32 → (Nat → Int32) → (Nat → Int32) → (Nat → Int32) → (Nat → Int32) → (Nat → Int32) → (Nat → Int32) → (Nat → Int32) → (Nat → Int32) → (Nat → Int32) → (Nat → Int32) → (Nat → Int32) → (Nat → Int32) → (Nat → Int32) → (Nat → Int32) → (Nat → Int32) → (Nat → Int32) → (Nat → Int32) → (Nat → Int32) → (Nat → Int32) → (Nat → Int32) → (Nat → Int32) → (Nat → Int32) → (Nat → Int32) → (Nat → Int32) → (Nat → Int32) → (Nat → Int32) → (Nat → Int32) → Prop} (hL : l.length ≤ 128) (hA : sf_A l q) (F i c : Nat) (hJ : J (nI (c + l.countP (fun r => r.1 == 3 && r.2.2.2.1 == nI i))) (nI (i + 1)) (g 0) (g 1) (g 2) (g 16) (g 18) (g 12) (g 13) (g 6) (g 7) (g 3) (g 4) (g 5) (g 17) (g 19) (g 14) (g 15) (g 8) (g 9) (g 10) (g 11) (g 20) (q 0) (q 1) (q 2) (q 3) (q 4) (q 5)) : wY_writeInodes_113 post J (nI F) (nI i) (nI ib) (nI db) (nI nd) (nI lim) (nI (4 * ib)) (nI (4 * db)) (nI (1 + ib + db + nd)) (nI (l.length)) (g 21 0) (g 22 0) (g 23 0) (g 0) (g 1) (g 2) (g 16) (g 18) (g 12) (g 13) (g 6) (g 7) (g 3) (g 4) (g 5) (g 17) (g 19) (g 14) (g 15) (g 8) (g 9) (g 10) (g 11) (g 20) (q 0) (q 1) (q 2) (q 3) (q 4) (q 5) (l.length + 1) (nI c) 0 := by
  rw [← sf_ct_countP] at hJ
  refine sf_ct_law (fun m c p => wY_writeInodes_113 post J (nI F) (nI i) (nI ib) (nI db) (nI nd) (nI lim) (nI (4 * ib)) (nI (4 * db)) (nI (1 + ib + db + nd)) (nI (l.length)) (g 21 0) (g 22 0) (g 23 0) (g 0) (g 1) (g 2) (g 16) (g 18) (g 12) (g 13) (g 6) (g 7) (g 3) (g 4) (g 5) (g 17) (g 19) (g 14) (g 15) (g 8) (g 9) (g 10) (g 11) (g 20) (q 0) (q 1) (q 2) (q 3) (q 4) (q 5) m (nI c) (nI p)) (post := fun c => J (nI c) (nI (i + 1)) (g 0) (g 1) (g 2) (g 16) (g 18) (g 12) (g 13) (g 6) (g 7) (g 3) (g 4) (g 5) (g 17) (g 19) (g 14) (g 15) (g 8) (g 9) (g 10) (g 11) (g 20) (q 0) (q 1) (q 2) (q 3) (q 4) (q 5)) (P := fun p => (sf_n l p).1 == 3 && (sf_n l p).2.2.2.1 == nI i) (hi := l.length) ?_ ?_ ?_ l.length 0 c (by omega) hJ
  · intro m c hz
    exact br_t (nI_le (Nat.le_refl _) (by omega)) (nm_r (nI_1 i) hz)
  · intro m c p hlt k hW
    have hi : vp_in (nI p) 256 := vp_in_nI (by omega) (by decide)
    have hc : (nI p).toNatClampNeg = p := nI_clamp (by omega)
    have k : ((sf_q q p).1 == 3 && (sf_q q p).2.2.2.1 == nI i) = true := by rw [← hA p hlt]; exact k
    simp [sf_q] at k
    refine br_f (nI_ge hlt (by omega)) (And.intro hi ?_)
    rw [hc]
    exact br_t k.1 (And.intro hi (br_t k.2 (nm_r (nI_1 c) (nm_r (nI_1 p) hW))))
  · intro m c p hlt k hW
    have hi : vp_in (nI p) 256 := vp_in_nI (by omega) (by decide)
    have hc : (nI p).toNatClampNeg = p := nI_clamp (by omega)
    have k : ((sf_q q p).1 == 3 && (sf_q q p).2.2.2.1 == nI i) = false := by rw [← hA p hlt]; exact k
    simp [sf_q] at k
    refine br_f (nI_ge hlt (by omega)) (And.intro hi ?_)
    rw [hc]
    by_cases z : q 0 p = 3
    · exact br_t z (And.intro hi (br_f (k z) (nm_r (nI_1 p) hW)))
    · exact br_f z (nm_r (nI_1 p) hW)
theorem sf_gin_0 (g : sf_G) (l : List sf_R) (F : Nat) : sf_gin g l F F = g := by
  funext f
  rw [sf_gin, sf_cp_0, sf_cp_0, sf_cp_0]
  by_cases c5 : f = 5
  · subst c5; rfl
  · by_cases c4 : f = 4
    · subst c4; rfl
    · by_cases c3 : f = 3
      · subst c3; rfl
      · simp only [sf_st, if_neg c5, if_neg c4, if_neg c3]
theorem sf_Y_writeIno {post : Int32 → SY → Prop} {u : SY} (h : sf_Y ib db nd lim g l u) (hK : sf_K3 l) {b F : Nat} (b1 : 1 ≤ b) (b2 : b ≤ 4) (hF : F = 4 * (b - 1) + 1) (hr : ∀ r, r ∈ l → (∃ j, j ≤ 16 ∧ r.2.2.2.1 = nI j) ∧ (r.1 = 5 ∨ r.1 = 6 → r.2.1 = 0 ∨ r.2.1 = 4)) (hU : ∀ i, F ≤ i → i < F + 4 → l.countP (fun r => r.1 == 3 && r.2.2.2.1 == nI i) = sf_ca l i)
    (hp : ∀ u', sf_Y ib db nd lim (sf_cl (l.map (sf_fin (nI F) l)).length (sf_gin g l F (F + 4)) (l.map (sf_fin (nI F) l))).1 (sf_cl (l.map (sf_fin (nI F) l)).length (sf_gin g l F (F + 4)) (l.map (sf_fin (nI F) l))).2 u' → post (nI (sf_sm (sf_ci l) 4 F)) u') : wpY_writeInodes post u (nI b) := by
  obtain ⟨hL, q, rfl, hA⟩ := h
  have eF : ((nI b - 1) * 4) + 1 = nI F := by
    show ((nI b - nI 1) * nI 4) + nI 1 = _
    rw [pk_sub b1, pk_mul, nI_add]
    exact congrArg nI (by omega)
  have em : (l.map (sf_hr l 4 F)).map (sf_fr2 (nI F)) = l.map (sf_fin (nI F) l) := by
    rw [List.map_map]
    refine List.map_congr_left (fun r hr1 => ?_)
    obtain ⟨⟨j, j1, j2⟩, h2⟩ := hr r hr1
    exact sf_fin_two j2 j1 (by omega) h2
  rw [← em] at hp
  have key : ∀ d i c, F ≤ i → i + d = F + 4 → (∀ u', sf_Y ib db nd lim (sf_cl ((l.map (sf_hr l 4 F)).map (sf_fr2 (nI F))).length (sf_gin g l F (F + 4)) ((l.map (sf_hr l 4 F)).map (sf_fr2 (nI F)))).1 (sf_cl ((l.map (sf_hr l 4 F)).map (sf_fr2 (nI F))).length (sf_gin g l F (F + 4)) ((l.map (sf_hr l 4 F)).map (sf_fr2 (nI F)))).2 u' → post (nI (c + sf_sm (sf_ci l) d i)) u') → wY_writeInodes_13 post (nI F) (nI ib) (nI db) (nI nd) (nI lim) (nI (4 * ib)) (nI (4 * db)) (nI (1 + ib + db + nd)) (nI (l.length)) (g 21 0) (g 22 0) (g 23 0) (d + 1) (nI c) (nI i) ((sf_gin g l F i) 0) ((sf_gin g l F i) 1) ((sf_gin g l F i) 2) ((sf_gin g l F i) 16) ((sf_gin g l F i) 18) ((sf_gin g l F i) 12) ((sf_gin g l F i) 13) ((sf_gin g l F i) 6) ((sf_gin g l F i) 7) ((sf_gin g l F i) 3) ((sf_gin g l F i) 4) ((sf_gin g l F i) 5) ((sf_gin g l F i) 17) ((sf_gin g l F i) 19) ((sf_gin g l F i) 14) ((sf_gin g l F i) 15) ((sf_gin g l F i) 8) ((sf_gin g l F i) 9) ((sf_gin g l F i) 10) ((sf_gin g l F i) 11) ((sf_gin g l F i) 20) (q 0) (q 1) (q 2) (q 3) (q 4) (q 5) := by
    intro d
    induction d with
    | zero =>
      intro i c h1 h2 hp
      have e : i = F + 4 := by omega
      subst e
      exact br_t (by rw [sf_n4]; exact nI_le (by omega) (by omega)) (Exists.intro 5 (sf_Y_i164 (g := sf_gin g l F (F + 4)) (l0 := l) (by omega) 4 F l q (by omega) hL (fun _ => rfl) hA hK hp))
    | succ d ih =>
      intro i c h1 h2 hp
      have hi : vp_in (nI i) 17 := vp_in_nI (by omega) (by decide)
      have hc : (nI i).toNatClampNeg = i := nI_clamp (by omega)
      refine br_f (by rw [sf_n4]; exact nI_ge (by omega) (by omega)) (sf_Y_iv01 (g := sf_gin g l F i) (l := l) ⟨hL, q, rfl, hA⟩ (by omega) 0 (by omega) ?_)
      refine And.intro hi (nm_r (e' := sf_cp (sf_vm l (g 0)) (g 3) F (i + 1)) (by rw [hc]; exact sf_cp_s h1 rfl) ?_)
      refine sf_Y_iv01 (g := sf_st (sf_gin g l F i) 3 (sf_cp (sf_vm l (g 0)) (g 3) F (i + 1))) (l := l) ⟨hL, q, rfl, hA⟩ (by omega) 1 (by omega) ?_
      refine And.intro hi (nm_r (e' := sf_cp (sf_vm l (g 1)) (g 4) F (i + 1)) (by rw [hc]; exact sf_cp_s h1 rfl) (Exists.intro 4 ?_))
      have k2 : ∀ d2 k, k + d2 = 3 → wY_writeInodes_54 post (wY_writeInodes_13 post (nI F) (nI ib) (nI db) (nI nd) (nI lim) (nI (4 * ib)) (nI (4 * db)) (nI (1 + ib + db + nd)) (nI (l.length)) (g 21 0) (g 22 0) (g 23 0) (d + 1)) (nI F) (nI c) (nI i) (nI ib) (nI db) (nI nd) (nI lim) (nI (4 * ib)) (nI (4 * db)) (nI (1 + ib + db + nd)) (nI (l.length)) (g 21 0) (g 22 0) (g 23 0) (d2 + 1) (nI k) ((sf_gin2 g l F i k) 0) ((sf_gin2 g l F i k) 1) ((sf_gin2 g l F i k) 2) ((sf_gin2 g l F i k) 16) ((sf_gin2 g l F i k) 18) ((sf_gin2 g l F i k) 12) ((sf_gin2 g l F i k) 13) ((sf_gin2 g l F i k) 6) ((sf_gin2 g l F i k) 7) ((sf_gin2 g l F i k) 3) ((sf_gin2 g l F i k) 4) ((sf_gin2 g l F i k) 5) ((sf_gin2 g l F i k) 17) ((sf_gin2 g l F i k) 19) ((sf_gin2 g l F i k) 14) ((sf_gin2 g l F i k) 15) ((sf_gin2 g l F i k) 8) ((sf_gin2 g l F i k) 9) ((sf_gin2 g l F i k) 10) ((sf_gin2 g l F i k) 11) ((sf_gin2 g l F i k) 20) (q 0) (q 1) (q 2) (q 3) (q 4) (q 5) := by
        intro d2
        induction d2 with
        | zero =>
          intro k e
          have e3 : k = 3 := by omega
          subst e3
          refine br_t (by decide) (sf_Y_findInit (g := sf_gin2 g l F i 3) (l := l) ⟨hL, q, rfl, hA⟩ _ ?_)
          cases a : l.any (sf_isInit (nI i)) with
          | true =>
            have e2 : c + sf_sm (sf_ci l) (d + 1) i = c + 1 + sf_sm (sf_ci l) d (i + 1) := by
              rw [sf_sm, sf_ci, a]; simp; omega
            rw [e2] at hp
            refine br_f (fun z => ?_) (nm_r (nI_1 c) (nm_r (nI_1 i) (ih (i + 1) (c + 1) (by omega) (by omega) hp)))
            have := (sf_fi_any hL).mp z
            rw [a] at this
            exact absurd this (by decide)
          | false =>
            have e2 : c + sf_sm (sf_ci l) (d + 1) i = c + sf_ca l i + sf_sm (sf_ci l) d (i + 1) := by
              rw [sf_sm, sf_ci, a]; simp; omega
            rw [e2] at hp
            refine br_t ((sf_fi_any hL).mpr a) (Exists.intro (l.length + 1) (sf_Y_i113 (g := sf_gin2 g l F i 3) hL hA F i c ?_))
            rw [hU i h1 (by omega)]
            exact ih (i + 1) (c + sf_ca l i) (by omega) (by omega) hp
        | succ d2 ih2 =>
          intro k e
          have hx : (nI i * 3) + nI k = nI (3 * i + k) := by
            show (nI i * nI 3) + nI k = _
            rw [pk_mul, nI_add]
            exact congrArg nI (by omega)
          have hi : vp_in (nI (3 * i + k)) 51 := vp_in_nI (by omega) (by decide)
          have hc : (nI (3 * i + k)).toNatClampNeg = 3 * i + k := nI_clamp (by omega)
          refine br_f (nI_ge (b := 3) (by omega) (by decide)) (sf_Y_iv2 (g := sf_gin2 g l F i k) (l := l) ⟨hL, q, rfl, hA⟩ (by omega) k (by omega) ?_)
          rw [hx, hc]
          exact And.intro hi (nm_r (e' := sf_cp (sf_vp l (g 2)) (g 5) (3 * F) (3 * i + (k + 1))) (sf_cp_s (by omega) rfl) (nm_r (nI_1 k) (ih2 (k + 1) (by omega))))
      exact k2 3 0 rfl
  refine nm_r eF (Exists.intro 5 ?_)
  have := key 4 F 0 (by omega) (by omega) (by simpa using hp)
  rw [sf_gin_0] at this
  exact this
end
end
section
/-! the writing of a directory block -/
def sf_gdir (g : sf_G) (F i : Nat) : sf_G := sf_st (sf_st g 8 (sf_cp (g 10) (g 8) F i)) 9 (sf_cp (g 11) (g 9) F i)
theorem sf_gdir_0 (g : sf_G) (F : Nat) : sf_gdir g F F = g := by
  funext f
  rw [sf_gdir, sf_cp_0, sf_cp_0]
  by_cases c5 : f = 9
  · subst c5; rfl
  · by_cases c4 : f = 8
    · subst c4; rfl
    · simp only [sf_st, if_neg c5, if_neg c4]
def sf_cd (l : List sf_R) (e : Nat) : Bool := l.any (sf_isAdd (nI e)) || l.any (sf_MHat (nI e))
def sf_f1 (F : Int32) (r : sf_R) : sf_R := if r.1 = 4 ∧ r.2.1 = 16 ∧ ¬ r.2.2.1 < F ∧ ¬ F + 4 ≤ r.2.2.1 then sf_sst r 0 else r
def sf_PX (F : Int32) (l0 : List sf_R) (r : sf_R) : Bool := sf_MH r && (!decide (r.2.2.2.2.2 < F) && (!decide (F + 4 ≤ r.2.2.2.2.2) && !l0.any (sf_isAdd r.2.2.2.2.2)))
def sf_f3 (db : Nat) (g : sf_G) (r : sf_R) : sf_R := if r.1 = 1 ∧ ¬ (r.2.1 &&& 8) = 0 ∧ sf_el db g r.2.2.1 (g 6 r.2.2.1.toNatClampNeg) = -1 then sf_sst r (r.2.1 &&& (-9)) else r
theorem sf_f1_same (F : Int32) (r : sf_R) : (sf_f1 F r).1 = r.1 ∧ (sf_f1 F r).2.2.1 = r.2.2.1 ∧ (sf_f1 F r).2.2.2.1 = r.2.2.2.1 := by
  rw [sf_f1]
  split
  · exact ⟨rfl, rfl, rfl⟩
  · exact ⟨rfl, rfl, rfl⟩
theorem sf_f3_same (db : Nat) (g : sf_G) (r : sf_R) : (sf_f3 db g r).1 = r.1 ∧ (sf_f3 db g r).2.2.1 = r.2.2.1 := by
  rw [sf_f3]
  split
  · exact ⟨rfl, rfl⟩
  · exact ⟨rfl, rfl⟩
theorem sf_rm_same (P : sf_R → Bool) (r : sf_R) : (sf_rm P r).1 = r.1 ∧ (sf_rm P r).2.2.1 = r.2.2.1 ∧ (sf_rm P r).2.2.2.1 = r.2.2.2.1 := by
  rw [sf_rm]
  split
  · exact ⟨rfl, rfl, rfl⟩
  · exact ⟨rfl, rfl, rfl⟩
theorem sf_isAdd_same {x : Int32} {r r' : sf_R} (h1 : r'.1 = r.1) (h2 : r'.2.2.1 = r.2.2.1) : sf_isAdd x r' = sf_isAdd x r := by
  rw [sf_isAdd, sf_isAdd, h1, h2]
theorem sf_K1_map {l : List sf_R} {f : sf_R → sf_R} (hf : ∀ r, (f r).1 = r.1 ∧ (f r).2.2.1 = r.2.2.1) (h : sf_K1 l) : sf_K1 (l.map f) := by
  intro x hx k
  obtain ⟨r, hr, rfl⟩ := List.mem_map.mp hx
  rw [(hf r).1] at k
  rw [(hf r).2]
  exact h r hr k
/-! releases slot by slot are the release by one test -/
def sf_PQ (F : Nat) (l0 : List sf_R) : Nat → sf_R → Bool
  | 0, _ => false
  | d + 1, r => sf_PQ F l0 d r || (sf_MH r && r.2.2.2.2.2 == nI (F + d) && !l0.any (sf_isAdd (nI (F + d))))
theorem sf_PQ_MH {F : Nat} {l0 : List sf_R} {r : sf_R} : ∀ d, sf_PQ F l0 d r = true → sf_MH r = true := by
  intro d
  induction d with
  | zero => intro h; exact absurd h Bool.false_ne_true
  | succ d ih =>
    intro h
    rw [sf_PQ, Bool.or_eq_true] at h
    rcases h with h | h
    · exact ih h
    · rw [Bool.and_eq_true, Bool.and_eq_true] at h
      exact h.1.1
theorem sf_PQ_iff {F : Nat} {l0 : List sf_R} {r : sf_R} : ∀ d, sf_PQ F l0 d r = true ↔ sf_MH r = true ∧ ∃ j, F ≤ j ∧ j < F + d ∧ r.2.2.2.2.2 = nI j ∧ l0.any (sf_isAdd (nI j)) = false := by
  intro d
  induction d with
  | zero =>
    refine ⟨fun h => absurd h Bool.false_ne_true, ?_⟩
    rintro ⟨_, j, a, b, _⟩
    omega
  | succ d ih =>
    rw [sf_PQ, Bool.or_eq_true, ih, Bool.and_eq_true, Bool.and_eq_true]
    constructor
    · rintro (⟨h, j, a, b, c⟩ | ⟨⟨h, k⟩, m⟩)
      · exact ⟨h, j, a, by omega, c⟩
      · exact ⟨h, F + d, by omega, by omega, by simpa using k, by simpa using m⟩
    · rintro ⟨h, j, a, b, c, e⟩
      by_cases q : j = F + d
      · subst q
        exact Or.inr ⟨⟨h, by simpa using c⟩, by simpa using e⟩
      · exact Or.inl ⟨h, j, a, by omega, c, e⟩
theorem sf_PQ_PX {F : Nat} {l0 : List sf_R} (hF : F ≤ 16) : sf_PQ F l0 4 = sf_PX (nI F) l0 := by
  funext r
  have h : sf_PQ F l0 4 r = true ↔ sf_PX (nI F) l0 r = true := by
    rw [sf_PQ_iff, sf_PX, Bool.and_eq_true, Bool.and_eq_true, Bool.and_eq_true]
    refine and_congr_right fun _ => ?_
    simp only [Bool.not_eq_true', decide_eq_false_iff_not]
    constructor
    · rintro ⟨j, a, b, c, e⟩
      rw [c, sf_n4]
      exact ⟨nI_nlt (by omega) (by omega), nI_ge (by omega) (by omega), e⟩
    · rintro ⟨a, b, c⟩
      obtain ⟨j, j1, j2⟩ := nI_of (x := r.2.2.2.2.2) (by
        intro k
        apply a
        have k1 := Int32.lt_iff_toInt_lt.mp k
        rw [Int32.lt_iff_toInt_lt, nI_toInt (by omega)]
        rw [show (0 : Int32).toInt = 0 from by decide] at k1
        omega)
      rw [j2, sf_n4] at b
      rw [j2] at a c
      rw [nI_ltI j1 (by omega)] at a
      rw [nI_leI (by omega) j1] at b
      exact ⟨j, by omega, by omega, j2, c⟩
  cases h1 : sf_PQ F l0 4 r <;> cases h2 : sf_PX (nI F) l0 r <;> simp [h1, h2] at h ⊢
theorem sf_rm_rm {Q P : sf_R → Bool} (hP : ∀ r, P r = true → sf_MH r = true) (r : sf_R) : sf_rm P (sf_rm Q r) = sf_rm (fun r => Q r || P r) r := by
  by_cases c : Q r = true
  · have e : sf_rm Q r = sf_rel r := by rw [sf_rm, if_pos c]
    have e2 : ¬ P (sf_rel r) = true := by
      intro k
      have := hP _ k
      simp [sf_MH, sf_rel] at this
    rw [e, sf_rm, if_neg e2, sf_rm, if_pos (by rw [c]; rfl)]
  · have e : sf_rm Q r = r := by rw [sf_rm, if_neg c]
    have c' : Q r = false := by simpa using c
    rw [e, sf_rm, sf_rm, c', Bool.false_or]
theorem sf_cg_cg {Q P : sf_R → Bool} (hP : ∀ r, P r = true → sf_MH r = true) (l : List sf_R) (g : sf_G) : sf_cg P (l.map (sf_rm Q)) (sf_cg Q l g) = sf_cg (fun r => Q r || P r) l g := by
  have hany : ∀ j, ((l.map (sf_rm Q)).any (fun r => P r && r.2.2.1.toNatClampNeg == j) || l.any (fun r => Q r && r.2.2.1.toNatClampNeg == j)) = l.any (fun r => (Q r || P r) && r.2.2.1.toNatClampNeg == j) := by
    intro j
    rw [List.any_map]
    induction l with
    | nil => rfl
    | cons a l ih =>
      rw [List.any_cons, List.any_cons, List.any_cons, ← ih]
      have e : ((fun r => P r && r.2.2.1.toNatClampNeg == j) ∘ sf_rm Q) a = (P (sf_rm Q a) && a.2.2.1.toNatClampNeg == j) := by
        show (P (sf_rm Q a) && (sf_rm Q a).2.2.1.toNatClampNeg == j) = _
        rw [(sf_rm_same Q a).2.1]
      rw [e]
      have e2 : ((P (sf_rm Q a) && a.2.2.1.toNatClampNeg == j) || (Q a && a.2.2.1.toNatClampNeg == j)) = ((Q a || P a) && a.2.2.1.toNatClampNeg == j) := by
        cases c : Q a with
        | true =>
          have e3 : P (sf_rm Q a) = false := by
            rw [sf_rm, if_pos c]
            cases k : P (sf_rel a) with
            | false => rfl
            | true =>
              have := hP _ k
              simp [sf_MH, sf_rel] at this
          rw [e3]
          simp
        | false =>
          rw [sf_rm, c]
          simp
      rw [← e2]
      generalize (P (sf_rm Q a) && a.2.2.1.toNatClampNeg == j) = x1
      generalize (Q a && a.2.2.1.toNatClampNeg == j) = x2
      generalize l.any ((fun r => P r && r.2.2.1.toNatClampNeg == j) ∘ sf_rm Q) = x3
      generalize l.any (fun r => Q r && r.2.2.1.toNatClampNeg == j) = x4
      cases x1 <;> cases x2 <;> cases x3 <;> cases x4 <;> rfl
  funext f j
  have hj := hany j
  rw [sf_cg, sf_cg, sf_cg]
  simp only [sf_st]
  by_cases c5 : f = 11
  · subst c5
    simp only [if_true]
    rw [← hj]
    cases (l.map (sf_rm Q)).any (fun r => P r && r.2.2.1.toNatClampNeg == j) <;> cases l.any (fun r => Q r && r.2.2.1.toNatClampNeg == j) <;> rfl
  · by_cases c4 : f = 10
    · subst c4
      simp only [if_neg (show ¬ (10 : Nat) = 11 by decide), if_true]
      rw [← hj]
      cases (l.map (sf_rm Q)).any (fun r => P r && r.2.2.1.toNatClampNeg == j) <;> cases l.any (fun r => Q r && r.2.2.1.toNatClampNeg == j) <;> rfl
    · simp only [if_neg c5, if_neg c4]
theorem sf_cg_no {P : sf_R → Bool} (hP : ∀ r, P r = false) (l : List sf_R) (g : sf_G) : sf_cg P l g = g := by
  have h : ∀ j, l.any (fun r => P r && r.2.2.1.toNatClampNeg == j) = false := by
    intro j
    exact sf_any_none (fun r _ => by rw [hP r]; rfl)
  funext f j
  rw [sf_cg]
  simp only [sf_st, h]
  by_cases c5 : f = 11
  · subst c5; rfl
  · by_cases c4 : f = 10
    · subst c4; rfl
    · simp only [if_neg c5, if_neg c4]
theorem sf_rm_no {P : sf_R → Bool} (hP : ∀ r, P r = false) (l : List sf_R) : l.map (sf_rm P) = l := by
  have e : sf_rm P = id := by
    funext r
    rw [sf_rm, hP r]
    rfl
  rw [e, List.map_id]
end
section
/-! the directory block: the walks -/
section
variable {ib db nd lim : Nat} {g : sf_G} {l A B : List sf_R} {r : sf_R}
theorem sf_X_d3 {post : SX → Prop} {q : sf_G} (C : Int32) (hZ : sf_Z ib db nd lim) (h89 : sf_pr (4 * db) (g 8) (g 9)) (hL : l.length ≤ 128) (hA : sf_A l q) (hK : sf_K3 l) (hp : ∀ u', sf_X ib db nd lim (sf_cl (l.map (sf_f3 db g)).length g (l.map (sf_f3 db g))).1 (sf_cl (l.map (sf_f3 db g)).length g (l.map (sf_f3 db g))).2 u' → post u') : wX_settleSlots_125 post (nI ib) (nI db) (nI (4 * ib)) (nI (4 * db)) (nI nd) (nI (1 + ib + db + nd)) (nI lim) (nI (l.length)) (g 21 0) (g 22 0) (g 23 0) (l.length + 1) 0 (g 0) (g 1) (g 2) (g 3) (g 4) (g 5) (g 6) (g 7) (g 8) (g 9) (g 10) (g 11) (g 12) (g 13) (g 14) (g 15) (g 16) (g 17) (g 18) (g 19) (g 20) (q 0) (q 1) (q 2) (q 3) (q 4) (q 5) := by
  refine sf_map_law0 (fun m p q => wX_settleSlots_125 post (nI ib) (nI db) (nI (4 * ib)) (nI (4 * db)) (nI nd) (nI (1 + ib + db + nd)) (nI lim) (nI (l.length)) (g 21 0) (g 22 0) (g 23 0) m (nI p) (g 0) (g 1) (g 2) (g 3) (g 4) (g 5) (g 6) (g 7) (g 8) (g 9) (g 10) (g 11) (g 12) (g 13) (g 14) (g 15) (g 16) (g 17) (g 18) (g 19) (g 20) (q 0) (q 1) (q 2) (q 3) (q 4) (q 5)) sf_K3 (sf_f3 db g) (N := l.length) (Post := fun q => sf_A (l.map (sf_f3 db g)) q) ?_ ?_ ?_ l [] q rfl hK hA (fun q' h' => by simpa using h')
  · intro m q hz
    have hlen : (l.map (sf_f3 db g)).length = l.length := List.length_map _
    exact br_t (nI_le (Nat.le_refl _) (by omega)) (sf_X_close (g := g) (l := l.map (sf_f3 db g)) ⟨by omega, q, by rw [hlen]; rfl, hz⟩ (sf_K3_map (fun r => sf_f3_same db g r) hK) hp)
  · intro A r B hk x hx h1
    rcases List.mem_append.mp hx with a | a
    · exact hk x (List.mem_append.mpr (Or.inl a)) h1
    · rcases List.mem_cons.mp a with rfl | a
      · rw [(sf_f3_same db g r).1] at h1
        rw [(sf_f3_same db g r).2]
        exact hk r (by simp) h1
      · exact hk x (List.mem_append.mpr (Or.inr (List.mem_cons_of_mem _ a))) h1
  · intro m q A r B hN hk hA hn
    have hlt : A.length < l.length := by rw [← hN]; simp
    have hi : vp_in (nI A.length) 128 := vp_in_nI (by omega) (by decide)
    have hc : (nI A.length).toNatClampNeg = A.length := nI_clamp (by omega)
    have hr := sf_A_at hA
    have h0 : q 0 A.length = r.1 := by rw [hr]; rfl
    have h1 : q 1 A.length = r.2.1 := by rw [hr]; rfl
    have h2 : q 2 A.length = r.2.2.1 := by rw [hr]; rfl
    have hu : sf_X ib db nd lim g (A ++ r :: B) (sf_mX ib db nd lim l.length g q) := ⟨by omega, q, by rw [hN], hA⟩
    refine br_f (nI_ge hlt (by omega)) (And.intro hi ?_)
    rw [hc, h0, h1, h2]
    by_cases c1 : r.1 = 1
    · refine br_t c1 (And.intro hi ?_)
      obtain ⟨e, he, hs⟩ := hk r (by simp) c1
      by_cases c2 : (r.2.1 &&& 8) = 0
      · rw [sf_f3, if_neg (fun k => k.2.1 c2)] at hn
        exact br_t c2 (nm_r (nI_1 _) (hn q hA))
      · refine br_f c2 (And.intro hi (nm_e (And.intro (by rw [hs]; exact vp_in_nI he (by decide)) (sf_X_else hZ hu _ _ ?_))))
        by_cases c3 : sf_el db g r.2.2.1 (g 6 r.2.2.1.toNatClampNeg) = -1
        · rw [sf_f3, if_pos ⟨c1, c2, c3⟩] at hn
          exact br_t c3 (And.intro hi (And.intro hi (nm_e (nm_r (nI_1 _) (hn _ (sf_A_sst _ hA))))))
        · rw [sf_f3, if_neg (fun k => c3 k.2.2)] at hn
          exact br_f c3 (nm_r (nI_1 _) (hn q hA))
    · rw [sf_f3, if_neg (fun k => c1 k.1)] at hn
      exact br_f c1 (nm_r (nI_1 _) (hn q hA))
theorem sf_Y_d3 {post : Int32 → SY → Prop} {q : sf_G} (C : Int32) (hZ : sf_Z ib db nd lim) (h89 : sf_pr (4 * db) (g 8) (g 9)) (hL : l.length ≤ 128) (hA : sf_A l q) (hK : sf_K3 l) (hp : ∀ u', sf_Y ib db nd lim (sf_cl (l.map (sf_f3 db g)).length g (l.map (sf_f3 db g))).1 (sf_cl (l.map (sf_f3 db g)).length g (l.map (sf_f3 db g))).2 u' → post C u') : wY_writeDirectory_198 post C (nI ib) (nI db) (nI nd) (nI lim) (nI (4 * ib)) (nI (4 * db)) (nI (1 + ib + db + nd)) (nI (l.length)) (g 21 0) (g 22 0) (g 23 0) (l.length + 1) 0 (g 0) (g 1) (g 2) (g 16) (g 18) (g 12) (g 13) (g 6) (g 7) (g 3) (g 4) (g 5) (g 17) (g 19) (g 14) (g 15) (g 8) (g 9) (g 10) (g 11) (g 20) (q 0) (q 1) (q 2) (q 3) (q 4) (q 5) := by
  refine sf_map_law0 (fun m p q => wY_writeDirectory_198 post C (nI ib) (nI db) (nI nd) (nI lim) (nI (4 * ib)) (nI (4 * db)) (nI (1 + ib + db + nd)) (nI (l.length)) (g 21 0) (g 22 0) (g 23 0) m (nI p) (g 0) (g 1) (g 2) (g 16) (g 18) (g 12) (g 13) (g 6) (g 7) (g 3) (g 4) (g 5) (g 17) (g 19) (g 14) (g 15) (g 8) (g 9) (g 10) (g 11) (g 20) (q 0) (q 1) (q 2) (q 3) (q 4) (q 5)) sf_K3 (sf_f3 db g) (N := l.length) (Post := fun q => sf_A (l.map (sf_f3 db g)) q) ?_ ?_ ?_ l [] q rfl hK hA (fun q' h' => by simpa using h')
  · intro m q hz
    have hlen : (l.map (sf_f3 db g)).length = l.length := List.length_map _
    exact br_t (nI_le (Nat.le_refl _) (by omega)) (sf_Y_close (g := g) (l := l.map (sf_f3 db g)) ⟨by omega, q, by rw [hlen]; rfl, hz⟩ (sf_K3_map (fun r => sf_f3_same db g r) hK) hp)
  · intro A r B hk x hx h1
    rcases List.mem_append.mp hx with a | a
    · exact hk x (List.mem_append.mpr (Or.inl a)) h1
    · rcases List.mem_cons.mp a with rfl | a
      · rw [(sf_f3_same db g r).1] at h1
        rw [(sf_f3_same db g r).2]
        exact hk r (by simp) h1
      · exact hk x (List.mem_append.mpr (Or.inr (List.mem_cons_of_mem _ a))) h1
  · intro m q A r B hN hk hA hn
    have hlt : A.length < l.length := by rw [← hN]; simp
    have hi : vp_in (nI A.length) 256 := vp_in_nI (by omega) (by decide)
    have hc : (nI A.length).toNatClampNeg = A.length := nI_clamp (by omega)
    have hr := sf_A_at hA
    have h0 : q 0 A.length = r.1 := by rw [hr]; rfl
    have h1 : q 1 A.length = r.2.1 := by rw [hr]; rfl
    have h2 : q 2 A.length = r.2.2.1 := by rw [hr]; rfl
    have hu : sf_Y ib db nd lim g (A ++ r :: B) (sf_mY ib db nd lim l.length g q) := ⟨by omega, q, by rw [hN], hA⟩
    refine br_f (nI_ge hlt (by omega)) (And.intro hi ?_)
    rw [hc, h0, h1, h2]
    by_cases c1 : r.1 = 1
    · refine br_t c1 (And.intro hi ?_)
      obtain ⟨e, he, hs⟩ := hk r (by simp) c1
      by_cases c2 : (r.2.1 &&& 8) = 0
      · rw [sf_f3, if_neg (fun k => k.2.1 c2)] at hn
        exact br_t c2 (nm_r (nI_1 _) (hn q hA))
      · refine br_f c2 (And.intro hi (nm_e (And.intro (by rw [hs]; exact vp_in_nI he (by decide)) (sf_Y_else hZ hu h89 _ _ ?_))))
        by_cases c3 : sf_el db g r.2.2.1 (g 6 r.2.2.1.toNatClampNeg) = -1
        · rw [sf_f3, if_pos ⟨c1, c2, c3⟩] at hn
          exact br_t c3 (And.intro hi (And.intro hi (nm_e (nm_r (nI_1 _) (hn _ (sf_A_sst _ hA))))))
        · rw [sf_f3, if_neg (fun k => c3 k.2.2)] at hn
          exact br_f c3 (nm_r (nI_1 _) (hn q hA))
    · rw [sf_f3, if_neg (fun k => c1 k.1)] at hn
      exact br_f c1 (nm_r (nI_1 _) (hn q hA))
theorem sf_X_d2 {post : SX → Prop} {q : sf_G} (hZ : sf_Z ib db nd lim) (h89 : sf_pr (4 * db) (g 8) (g 9)) (F : Nat) (hL : l.length ≤ 128) (hA : sf_A l q) (hK : sf_K3 l) (hK1 : sf_K1 l)
    (hp : ∀ u', sf_X ib db nd lim (sf_cl ((l.map (sf_rm (sf_PX (nI F) l))).map (sf_f3 db (sf_cg (sf_PX (nI F) l) l g))).length (sf_cg (sf_PX (nI F) l) l g) ((l.map (sf_rm (sf_PX (nI F) l))).map (sf_f3 db (sf_cg (sf_PX (nI F) l) l g)))).1 (sf_cl ((l.map (sf_rm (sf_PX (nI F) l))).map (sf_f3 db (sf_cg (sf_PX (nI F) l) l g))).length (sf_cg (sf_PX (nI F) l) l g) ((l.map (sf_rm (sf_PX (nI F) l))).map (sf_f3 db (sf_cg (sf_PX (nI F) l) l g)))).2 u' → post u') :
    wX_settleSlots_68 post (nI F) (l.length + 1) 0 (nI ib) (nI db) (nI (4 * ib)) (nI (4 * db)) (nI nd) (nI (1 + ib + db + nd)) (nI lim) (nI (l.length)) (g 21 0) (g 22 0) (g 23 0) (g 0) (g 1) (g 2) (g 3) (g 4) (g 5) (g 6) (g 7) (g 8) (g 9) (g 10) (g 11) (g 12) (g 13) (g 14) (g 15) (g 16) (g 17) (g 18) (g 19) (g 20) (q 0) (q 1) (q 2) (q 3) (q 4) (q 5) := by
  refine sf_map_law (fun m p g q => wX_settleSlots_68 post (nI F) m (nI p) (nI ib) (nI db) (nI (4 * ib)) (nI (4 * db)) (nI nd) (nI (1 + ib + db + nd)) (nI lim) (nI (l.length)) (g 21 0) (g 22 0) (g 23 0) (g 0) (g 1) (g 2) (g 3) (g 4) (g 5) (g 6) (g 7) (g 8) (g 9) (g 10) (g 11) (g 12) (g 13) (g 14) (g 15) (g 16) (g 17) (g 18) (g 19) (g 20) (q 0) (q 1) (q 2) (q 3) (q 4) (q 5)) (fun l' => sf_K1 l' ∧ ∀ x, l'.any (sf_isAdd x) = l.any (sf_isAdd x)) (sf_rm (sf_PX (nI F) l)) (sf_rg (sf_PX (nI F) l)) (N := l.length) (Post := fun g' q => g' = sf_cg (sf_PX (nI F) l) l g ∧ sf_A (l.map (sf_rm (sf_PX (nI F) l))) q) ?_ ?_ ?_ l [] g q rfl ⟨hK1, fun _ => rfl⟩ hA (fun q' h' => ⟨sf_cg_fold _ _ _, by simpa using h'⟩)
  · rintro m g' q ⟨rfl, hz⟩
    have hlen : (l.map (sf_rm (sf_PX (nI F) l))).length = l.length := List.length_map _
    refine br_t (nI_le (Nat.le_refl _) (by omega)) (Exists.intro (l.length + 1) ?_)
    have k := sf_X_d3 (ib := ib) (db := db) (nd := nd) (lim := lim) (g := sf_cg (sf_PX (nI F) l) l g) (l := l.map (sf_rm (sf_PX (nI F) l))) (post := post) (q := q) 0 hZ h89 (by omega) hz (sf_K3_map (fun r => ⟨(sf_rm_same _ r).1, (sf_rm_same _ r).2.1⟩) hK) hp
    rw [hlen] at k
    exact k
  · intro A r B hk
    refine ⟨sf_K1_rm hk.1, fun x => ?_⟩
    rw [sf_any_set (sf_isAdd_same (sf_rm_same _ r).1 (sf_rm_same _ r).2.1)]
    exact hk.2 x
  · intro m g q A r B hN hk hA hn
    have hlt : A.length < l.length := by rw [← hN]; simp
    have hlt2 : A.length < (A ++ r :: B).length := by simp
    have hi : vp_in (nI A.length) 128 := vp_in_nI (by omega) (by decide)
    have hc : (nI A.length).toNatClampNeg = A.length := nI_clamp (by omega)
    have hr := sf_A_at hA
    have h5 : q 5 A.length = r.2.2.2.2.2 := by rw [hr]; rfl
    have hu : sf_X ib db nd lim g (A ++ r :: B) (sf_mX ib db nd lim l.length g q) := ⟨by omega, q, by rw [hN], hA⟩
    have hno : sf_PX (nI F) l r = false → wX_settleSlots_68 post (nI F) m (nI (A.length + 1)) (nI ib) (nI db) (nI (4 * ib)) (nI (4 * db)) (nI nd) (nI (1 + ib + db + nd)) (nI lim) (nI (l.length)) (g 21 0) (g 22 0) (g 23 0) (g 0) (g 1) (g 2) (g 3) (g 4) (g 5) (g 6) (g 7) (g 8) (g 9) (g 10) (g 11) (g 12) (g 13) (g 14) (g 15) (g 16) (g 17) (g 18) (g 19) (g 20) (q 0) (q 1) (q 2) (q 3) (q 4) (q 5) := by
      intro c
      have hf : sf_rm (sf_PX (nI F) l) r = r := by rw [sf_rm, c]; rfl
      have hg : sf_rg (sf_PX (nI F) l) g r = g := by rw [sf_rg, c]; rfl
      rw [hf, hg] at hn
      exact hn q hA
    refine br_f (nI_ge hlt (by omega)) (sf_X_MH hu hlt2 ?_)
    rw [sf_n_at]
    cases c1 : sf_MH r with
    | false => exact br_t (by decide) (nm_r (nI_1 _) (hno (by rw [sf_PX, c1]; rfl)))
    | true =>
      refine br_f (by decide) (And.intro hi (nm_r (e' := r.2.2.2.2.2) (by rw [hc, h5]) ?_))
      by_cases c2 : r.2.2.2.2.2 < nI F
      · exact br_t c2 (nm_r (nI_1 _) (hno (by simp [sf_PX, c2])))
      · refine br_f c2 ?_
        by_cases c3 : nI F + 4 ≤ r.2.2.2.2.2
        · exact br_t c3 (nm_r (nI_1 _) (hno (by simp [sf_PX, c3])))
        · refine br_f c3 (sf_X_findAdd hu _ ?_)
          cases c4 : l.any (sf_isAdd r.2.2.2.2.2) with
          | true =>
            refine br_f (fun z => ?_) (nm_r (nI_1 _) (hno (by rw [sf_PX, c4]; simp)))
            have := (sf_fi_any hu.1).mp z
            rw [hk.2, c4] at this
            exact absurd this (by decide)
          | false =>
            have cP : sf_PX (nI F) l r = true := by
              rw [sf_PX, c1, c4]
              simp [c2, c3]
            have h4 : r.1 = 4 := by
              simp [sf_MH] at c1
              exact c1.1
            obtain ⟨e', h1, h2⟩ := hk.1 r (by simp) h4
            have hf : sf_rm (sf_PX (nI F) l) r = sf_rel r := by rw [sf_rm, cP]; rfl
            have hg : sf_rg (sf_PX (nI F) l) g r = sf_cs g e' := by rw [sf_rg, cP, h2, nI_clamp (show e' < 2 ^ 31 by omega)]; rfl
            rw [hf, hg] at hn
            refine br_t ((sf_fi_any hu.1).mpr (by rw [hk.2]; exact c4)) (sf_X_release hu h1 h2 (fun u' hu' => ?_))
            obtain ⟨hL', q', rfl, hA'⟩ := hu'
            have hN' : (A ++ sf_rel r :: B).length = l.length := by rw [← hN]; simp
            rw [hN']
            exact nm_r (nI_1 _) (hn q' hA')
/-- what a directory block's settling leaves -/
def sf_dl (F : Nat) (l : List sf_R) : List sf_R := (l.map (sf_f1 (nI F))).map (sf_rm (sf_PX (nI F) (l.map (sf_f1 (nI F)))))
def sf_dg (F : Nat) (g : sf_G) (l : List sf_R) : sf_G := sf_cg (sf_PX (nI F) (l.map (sf_f1 (nI F)))) (l.map (sf_f1 (nI F))) g
def sf_dr (db F : Nat) (g : sf_G) (l : List sf_R) : sf_G × List sf_R := sf_cl ((sf_dl F l).map (sf_f3 db (sf_dg F g l))).length (sf_dg F g l) ((sf_dl F l).map (sf_f3 db (sf_dg F g l)))
theorem sf_X_d1 {post : SX → Prop} {q : sf_G} (C : Int32) (F : Nat) (hL : l.length ≤ 128) (hA : sf_A l q)
    (H : ∀ q', sf_A (l.map (sf_f1 (nI F))) q' → ∃ n, wX_settleSlots_68 post (nI F) n 0 (nI ib) (nI db) (nI (4 * ib)) (nI (4 * db)) (nI nd) (nI (1 + ib + db + nd)) (nI lim) (nI (l.length)) (g 21 0) (g 22 0) (g 23 0) (g 0) (g 1) (g 2) (g 3) (g 4) (g 5) (g 6) (g 7) (g 8) (g 9) (g 10) (g 11) (g 12) (g 13) (g 14) (g 15) (g 16) (g 17) (g 18) (g 19) (g 20) (q' 0) (q' 1) (q' 2) (q' 3) (q' 4) (q' 5)) : wX_settleSlots_2 post (nI F) (nI ib) (nI db) (nI (4 * ib)) (nI (4 * db)) (nI nd) (nI (1 + ib + db + nd)) (nI lim) (nI (l.length)) (g 21 0) (g 22 0) (g 23 0) (l.length + 1) 0 (g 0) (g 1) (g 2) (g 3) (g 4) (g 5) (g 6) (g 7) (g 8) (g 9) (g 10) (g 11) (g 12) (g 13) (g 14) (g 15) (g 16) (g 17) (g 18) (g 19) (g 20) (q 0) (q 1) (q 2) (q 3) (q 4) (q 5) := by
  refine sf_map_law0 (fun m p q => wX_settleSlots_2 post (nI F) (nI ib) (nI db) (nI (4 * ib)) (nI (4 * db)) (nI nd) (nI (1 + ib + db + nd)) (nI lim) (nI (l.length)) (g 21 0) (g 22 0) (g 23 0) m (nI p) (g 0) (g 1) (g 2) (g 3) (g 4) (g 5) (g 6) (g 7) (g 8) (g 9) (g 10) (g 11) (g 12) (g 13) (g 14) (g 15) (g 16) (g 17) (g 18) (g 19) (g 20) (q 0) (q 1) (q 2) (q 3) (q 4) (q 5)) (fun _ => True) (sf_f1 (nI F)) (N := l.length) (Post := fun q => sf_A (l.map (sf_f1 (nI F))) q) ?_ (fun _ _ _ _ => trivial) ?_ l [] q rfl trivial hA (fun q' h' => by simpa using h')
  · intro m q hz
    exact br_t (nI_le (Nat.le_refl _) (by omega)) (H q hz)
  · intro m q A r B hN _ hA hn
    have hlt : A.length < l.length := by rw [← hN]; simp
    have hi : vp_in (nI A.length) 128 := vp_in_nI (by omega) (by decide)
    have hc : (nI A.length).toNatClampNeg = A.length := nI_clamp (by omega)
    have hr := sf_A_at hA
    have h0 : q 0 A.length = r.1 := by rw [hr]; rfl
    have h1 : q 1 A.length = r.2.1 := by rw [hr]; rfl
    have h2 : q 2 A.length = r.2.2.1 := by rw [hr]; rfl
    refine br_f (nI_ge hlt (by omega)) (And.intro hi ?_)
    rw [hc, h0, h1, h2]
    by_cases c1 : r.1 = 4
    · refine br_t c1 (And.intro hi ?_)
      by_cases c2 : r.2.1 = 16
      · refine br_t c2 (And.intro hi ?_)
        by_cases c3 : r.2.2.1 < nI F
        · rw [sf_f1, if_neg (fun k => k.2.2.1 c3)] at hn
          exact br_t c3 (nm_r (nI_1 _) (hn q hA))
        · refine br_f c3 (And.intro hi ?_)
          by_cases c4 : nI F + 4 ≤ r.2.2.1
          · rw [sf_f1, if_neg (fun k => k.2.2.2 c4)] at hn
            exact br_t c4 (nm_r (nI_1 _) (hn q hA))
          · rw [sf_f1, if_pos ⟨c1, c2, c3, c4⟩] at hn
            exact br_f c4 (And.intro hi (nm_e (nm_r (nI_1 _) (hn _ (sf_A_sst _ hA)))))
      · rw [sf_f1, if_neg (fun k => c2 k.2.1)] at hn
        exact br_f c2 (nm_r (nI_1 _) (hn q hA))
    · rw [sf_f1, if_neg (fun k => c1 k.1)] at hn
      exact br_f c1 (nm_r (nI_1 _) (hn q hA))
theorem sf_Y_d1 {post : Int32 → SY → Prop} {q : sf_G} (C : Int32) (F : Nat) (hL : l.length ≤ 128) (hA : sf_A l q)
    (H : ∀ q', sf_A (l.map (sf_f1 (nI F))) q' → ∃ n, wY_writeDirectory_161 post (nI F) C n (nI F) (nI ib) (nI db) (nI nd) (nI lim) (nI (4 * ib)) (nI (4 * db)) (nI (1 + ib + db + nd)) (nI (l.length)) (g 21 0) (g 22 0) (g 23 0) (g 0) (g 1) (g 2) (g 16) (g 18) (g 12) (g 13) (g 6) (g 7) (g 3) (g 4) (g 5) (g 17) (g 19) (g 14) (g 15) (g 8) (g 9) (g 10) (g 11) (g 20) (q' 0) (q' 1) (q' 2) (q' 3) (q' 4) (q' 5)) : wY_writeDirectory_88 post (nI F) C (nI ib) (nI db) (nI nd) (nI lim) (nI (4 * ib)) (nI (4 * db)) (nI (1 + ib + db + nd)) (nI (l.length)) (g 21 0) (g 22 0) (g 23 0) (l.length + 1) 0 (g 0) (g 1) (g 2) (g 16) (g 18) (g 12) (g 13) (g 6) (g 7) (g 3) (g 4) (g 5) (g 17) (g 19) (g 14) (g 15) (g 8) (g 9) (g 10) (g 11) (g 20) (q 0) (q 1) (q 2) (q 3) (q 4) (q 5) := by
  refine sf_map_law0 (fun m p q => wY_writeDirectory_88 post (nI F) C (nI ib) (nI db) (nI nd) (nI lim) (nI (4 * ib)) (nI (4 * db)) (nI (1 + ib + db + nd)) (nI (l.length)) (g 21 0) (g 22 0) (g 23 0) m (nI p) (g 0) (g 1) (g 2) (g 16) (g 18) (g 12) (g 13) (g 6) (g 7) (g 3) (g 4) (g 5) (g 17) (g 19) (g 14) (g 15) (g 8) (g 9) (g 10) (g 11) (g 20) (q 0) (q 1) (q 2) (q 3) (q 4) (q 5)) (fun _ => True) (sf_f1 (nI F)) (N := l.length) (Post := fun q => sf_A (l.map (sf_f1 (nI F))) q) ?_ (fun _ _ _ _ => trivial) ?_ l [] q rfl trivial hA (fun q' h' => by simpa using h')
  · intro m q hz
    exact br_t (nI_le (Nat.le_refl _) (by omega)) (H q hz)
  · intro m q A r B hN _ hA hn
    have hlt : A.length < l.length := by rw [← hN]; simp
    have hi : vp_in (nI A.length) 256 := vp_in_nI (by omega) (by decide)
    have hc : (nI A.length).toNatClampNeg = A.length := nI_clamp (by omega)
    have hr := sf_A_at hA
    have h0 : q 0 A.length = r.1 := by rw [hr]; rfl
    have h1 : q 1 A.length = r.2.1 := by rw [hr]; rfl
    have h2 : q 2 A.length = r.2.2.1 := by rw [hr]; rfl
    refine br_f (nI_ge hlt (by omega)) (And.intro hi ?_)
    rw [hc, h0, h1, h2]
    by_cases c1 : r.1 = 4
    · refine br_t c1 (And.intro hi ?_)
      by_cases c2 : r.2.1 = 16
      · refine br_t c2 (And.intro hi ?_)
        by_cases c3 : r.2.2.1 < nI F
        · rw [sf_f1, if_neg (fun k => k.2.2.1 c3)] at hn
          exact br_t c3 (nm_r (nI_1 _) (hn q hA))
        · refine br_f c3 (And.intro hi ?_)
          by_cases c4 : nI F + 4 ≤ r.2.2.1
          · rw [sf_f1, if_neg (fun k => k.2.2.2 c4)] at hn
            exact br_t c4 (nm_r (nI_1 _) (hn q hA))
          · rw [sf_f1, if_pos ⟨c1, c2, c3, c4⟩] at hn
            exact br_f c4 (And.intro hi (nm_e (nm_r (nI_1 _) (hn _ (sf_A_sst _ hA)))))
      · rw [sf_f1, if_neg (fun k => c2 k.2.1)] at hn
        exact br_f c2 (nm_r (nI_1 _) (hn q hA))
    · rw [sf_f1, if_neg (fun k => c1 k.1)] at hn
      exact br_f c1 (nm_r (nI_1 _) (hn q hA))
end
end
section
/-! the directory block, put together -/
section
variable {ib db nd lim : Nat} {g : sf_G} {l A B : List sf_R} {r : sf_R}
theorem sf_X_settleSlots {post : SX → Prop} {u : SX} (hZ : sf_Z ib db nd lim) (h : sf_X ib db nd lim g l u) (h89 : sf_pr (4 * db) (g 8) (g 9)) (F : Nat) (hK : sf_K3 l) (hK1 : sf_K1 l) (hp : ∀ u', sf_X ib db nd lim (sf_dr db F g l).1 (sf_dr db F g l).2 u' → post u') : wpX_settleSlots post u (nI F) := by
  obtain ⟨hL, q, rfl, hA⟩ := h
  refine Exists.intro (l.length + 1) (sf_X_d1 0 F hL hA (fun q' h' => Exists.intro (l.length + 1) ?_))
  have hlen : (l.map (sf_f1 (nI F))).length = l.length := List.length_map _
  have k := sf_X_d2 (ib := ib) (db := db) (nd := nd) (lim := lim) (g := g) (l := l.map (sf_f1 (nI F))) (q := q') (post := post) hZ h89 F (by omega) h' (sf_K3_map (fun r => ⟨(sf_f1_same _ r).1, (sf_f1_same _ r).2.1⟩) hK) (sf_K1_map (fun r => ⟨(sf_f1_same _ r).1, (sf_f1_same _ r).2.1⟩) hK1) hp
  rw [hlen] at k
  exact k
theorem sf_X_copySlots {post : Int32 → SX → Prop} {u : SX} (h : sf_X ib db nd lim g l u) {F : Nat} (hF : F + 4 ≤ 16) (hp : ∀ u', sf_X ib db nd lim (sf_gdir g F (F + 4)) l u' → post (nI (sf_ct (sf_cd l) 4 F)) u') : wpX_copySlots post u (nI F) := by
  obtain ⟨hL, q, rfl, hA⟩ := h
  have key : ∀ d i c, F ≤ i → i + d = F + 4 → (∀ u', sf_X ib db nd lim (sf_gdir g F (F + 4)) l u' → post (nI (c + sf_ct (sf_cd l) d i)) u') → wX_copySlots_4 post (nI F) (nI ib) (nI db) (nI (4 * ib)) (nI (4 * db)) (nI nd) (nI (1 + ib + db + nd)) (nI lim) (nI (l.length)) (g 21 0) (g 22 0) (g 23 0) (d + 1) (nI c) (nI i) ((sf_gdir g F i) 0) ((sf_gdir g F i) 1) ((sf_gdir g F i) 2) ((sf_gdir g F i) 3) ((sf_gdir g F i) 4) ((sf_gdir g F i) 5) ((sf_gdir g F i) 6) ((sf_gdir g F i) 7) ((sf_gdir g F i) 8) ((sf_gdir g F i) 9) ((sf_gdir g F i) 10) ((sf_gdir g F i) 11) ((sf_gdir g F i) 12) ((sf_gdir g F i) 13) ((sf_gdir g F i) 14) ((sf_gdir g F i) 15) ((sf_gdir g F i) 16) ((sf_gdir g F i) 17) ((sf_gdir g F i) 18) ((sf_gdir g F i) 19) ((sf_gdir g F i) 20) (q 0) (q 1) (q 2) (q 3) (q 4) (q 5) := by
    intro d
    induction d with
    | zero =>
      intro i c h1 h2 hp
      have e : i = F + 4 := by omega
      subst e
      exact br_t (by rw [sf_n4]; exact nI_le (by omega) (by omega)) (hp _ ⟨hL, q, rfl, hA⟩)
    | succ d ih =>
      intro i c h1 h2 hp
      have hi : vp_in (nI i) 16 := vp_in_nI (by omega) (by decide)
      have hc : (nI i).toNatClampNeg = i := nI_clamp (by omega)
      refine br_f (by rw [sf_n4]; exact nI_ge (by omega) (by omega)) (And.intro hi (And.intro hi (nm_r (e' := sf_cp (g 10) (g 8) F (i + 1)) (by rw [hc]; exact sf_cp_s h1 rfl) (And.intro hi (And.intro hi (nm_r (e' := sf_cp (g 11) (g 9) F (i + 1)) (by rw [hc]; exact sf_cp_s h1 rfl) ?_))))))
      refine sf_X_findAdd (g := sf_gdir g F (i + 1)) (l := l) ⟨hL, q, rfl, hA⟩ _ ?_
      cases a : l.any (sf_isAdd (nI i)) with
      | true =>
        have e2 : c + sf_ct (sf_cd l) (d + 1) i = c + 1 + sf_ct (sf_cd l) d (i + 1) := by
          rw [sf_ct, sf_cd, a]; simp; omega
        rw [e2] at hp
        refine br_f (fun z => ?_) (nm_r (nI_1 c) (nm_r (nI_1 i) (ih (i + 1) (c + 1) (by omega) (by omega) hp)))
        have := (sf_fi_any hL).mp z
        rw [a] at this
        exact absurd this (by decide)
      | false =>
        refine br_t ((sf_fi_any hL).mpr a) (sf_X_MHat (g := sf_gdir g F (i + 1)) (l := l) ⟨hL, q, rfl, hA⟩ _ ?_)
        cases b : l.any (sf_MHat (nI i)) with
        | true =>
          have e2 : c + sf_ct (sf_cd l) (d + 1) i = c + 1 + sf_ct (sf_cd l) d (i + 1) := by
            rw [sf_ct, sf_cd, a, b]; simp; omega
          rw [e2] at hp
          exact br_f (by decide) (nm_r (nI_1 c) (nm_r (nI_1 i) (ih (i + 1) (c + 1) (by omega) (by omega) hp)))
        | false =>
          have e2 : c + sf_ct (sf_cd l) (d + 1) i = c + sf_ct (sf_cd l) d (i + 1) := by
            rw [sf_ct, sf_cd, a, b]; simp
          rw [e2] at hp
          exact br_t (by decide) (nm_r (nI_1 i) (ih (i + 1) c (by omega) (by omega) hp))
  refine Exists.intro 5 ?_
  have := key 4 F 0 (by omega) (by omega) (by simpa using hp)
  rw [sf_gdir_0] at this
  exact this
theorem sf_Y_d2 {post : Int32 → SY → Prop} {g0 : sf_G} {l1 : List sf_R} {F : Nat} {C : Int32} (hZ : sf_Z ib db nd lim) (h89 : sf_pr (4 * db) (g0 8) (g0 9)) (hF : F + 4 ≤ 16) (hL : l1.length ≤ 128) (hK : sf_K3 l1) (hK1 : sf_K1 l1)
    (hp : ∀ u', sf_Y ib db nd lim (sf_cl ((l1.map (sf_rm (sf_PX (nI F) l1))).map (sf_f3 db (sf_cg (sf_PX (nI F) l1) l1 g0))).length (sf_cg (sf_PX (nI F) l1) l1 g0) ((l1.map (sf_rm (sf_PX (nI F) l1))).map (sf_f3 db (sf_cg (sf_PX (nI F) l1) l1 g0)))).1 (sf_cl ((l1.map (sf_rm (sf_PX (nI F) l1))).map (sf_f3 db (sf_cg (sf_PX (nI F) l1) l1 g0))).length (sf_cg (sf_PX (nI F) l1) l1 g0) ((l1.map (sf_rm (sf_PX (nI F) l1))).map (sf_f3 db (sf_cg (sf_PX (nI F) l1) l1 g0)))).2 u' → post C u') :
    ∀ d k (g : sf_G) (l : List sf_R) (q : sf_G), k + d = 4 → g = sf_cg (sf_PQ F l1 k) l1 g0 → l = l1.map (sf_rm (sf_PQ F l1 k)) → sf_A l q → wY_writeDirectory_161 post (nI F) C (d + 1) (nI (F + k)) (nI ib) (nI db) (nI nd) (nI lim) (nI (4 * ib)) (nI (4 * db)) (nI (1 + ib + db + nd)) (nI (l.length)) (g 21 0) (g 22 0) (g 23 0) (g 0) (g 1) (g 2) (g 16) (g 18) (g 12) (g 13) (g 6) (g 7) (g 3) (g 4) (g 5) (g 17) (g 19) (g 14) (g 15) (g 8) (g 9) (g 10) (g 11) (g 20) (q 0) (q 1) (q 2) (q 3) (q 4) (q 5) := by
  intro d
  induction d with
  | zero =>
    intro k g l q e hg hl hA
    have e4 : k = 4 := by omega
    subst e4
    rw [sf_PQ_PX (by omega)] at hg hl
    subst hg hl
    have hlen : (l1.map (sf_rm (sf_PX (nI F) l1))).length = l1.length := List.length_map _
    exact br_t (by rw [sf_n4]; exact nI_le (by omega) (by omega)) (Exists.intro ((l1.map (sf_rm (sf_PX (nI F) l1))).length + 1) (sf_Y_d3 (g := sf_cg (sf_PX (nI F) l1) l1 g0) C hZ h89 (by omega) hA (sf_K3_map (fun r => ⟨(sf_rm_same _ r).1, (sf_rm_same _ r).2.1⟩) hK) hp))
  | succ d ih =>
    intro k g l q e hg hl hA
    have hlen : l.length = l1.length := by rw [hl]; exact List.length_map _
    have hI : ∀ x, l.any (sf_isAdd x) = l1.any (sf_isAdd x) := by
      intro x
      rw [hl]
      exact sf_any_map (fun r => sf_isAdd_same (sf_rm_same _ r).1 (sf_rm_same _ r).2.1)
    have hK1' : sf_K1 l := by
      rw [hl]
      exact sf_K1_map (fun r => ⟨(sf_rm_same _ r).1, (sf_rm_same _ r).2.1⟩) hK1
    refine br_f (by rw [sf_n4]; exact nI_ge (by omega) (by omega)) (sf_Y_findAdd ⟨by omega, q, rfl, hA⟩ _ ?_)
    cases a : l1.any (sf_isAdd (nI (F + k))) with
    | true =>
      have eP : sf_PQ F l1 (k + 1) = sf_PQ F l1 k := by
        funext r
        rw [sf_PQ, a]
        simp
      refine br_f (fun z => ?_) (nm_r (nI_1 _) (ih (k + 1) g l q (by omega) (by rw [eP]; exact hg) (by rw [eP]; exact hl) hA))
      have := (sf_fi_any (by omega)).mp z
      rw [hI, a] at this
      exact absurd this (by decide)
    | false =>
      have eP : (fun r => sf_PQ F l1 k r || (sf_MH r && r.2.2.2.2.2 == nI (F + k))) = sf_PQ F l1 (k + 1) := by
        funext r
        rw [sf_PQ, a]
        simp
      have hM : ∀ r, (sf_MH r && r.2.2.2.2.2 == nI (F + k)) = true → sf_MH r = true := fun r h => (Bool.and_eq_true _ _ ▸ h).1
      refine br_t ((sf_fi_any (by omega)).mpr (by rw [hI]; exact a)) (sf_Y_relo ⟨by omega, q, rfl, hA⟩ hK1' _ (fun u' hu' => ?_))
      obtain ⟨hL', q', rfl, hA'⟩ := hu'
      refine nm_r (nI_1 _) (ih (k + 1) _ _ q' (by omega) ?_ ?_ hA')
      · rw [hg, hl, sf_cg_cg hM, eP]
      · rw [hl, List.map_map]
        refine congrArg (fun f => l1.map f) (funext fun r => ?_)
        show sf_rm _ (sf_rm _ r) = _
        rw [sf_rm_rm hM, eP]
theorem sf_Y_writeDir {post : Int32 → SY → Prop} {u : SY} {b F : Nat} (hZ : sf_Z ib db nd lim) (h : sf_Y ib db nd lim g l u) (h89 : sf_pr (4 * db) (sf_gdir g F (F + 4) 8) (sf_gdir g F (F + 4) 9)) (hb : 1 + ib ≤ b) (hF : F = 4 * (b - 1 - ib)) (hF2 : F + 4 ≤ 16) (hK : sf_K3 l) (hK1 : sf_K1 l)
    (hp : ∀ u', sf_Y ib db nd lim (sf_dr db F (sf_gdir g F (F + 4)) l).1 (sf_dr db F (sf_gdir g F (F + 4)) l).2 u' → post (nI (sf_ct (sf_cd l) 4 F)) u') : wpY_writeDirectory post u (nI b) := by
  obtain ⟨hL, q, rfl, hA⟩ := h
  have eF : ((nI b - 1) - nI ib) * 4 = nI F := by
    show ((nI b - nI 1) - nI ib) * nI 4 = _
    rw [pk_sub (by omega), pk_sub (by omega), pk_mul]
    exact congrArg nI (by omega)
  have key : ∀ d i c, F ≤ i → i + d = F + 4 → (∀ u', sf_Y ib db nd lim (sf_dr db F (sf_gdir g F (F + 4)) l).1 (sf_dr db F (sf_gdir g F (F + 4)) l).2 u' → post (nI (c + sf_ct (sf_cd l) d i)) u') → wY_writeDirectory_16 post (nI F) (nI ib) (nI db) (nI nd) (nI lim) (nI (4 * ib)) (nI (4 * db)) (nI (1 + ib + db + nd)) (nI (l.length)) (g 21 0) (g 22 0) (g 23 0) (d + 1) (nI c) (nI i) ((sf_gdir g F i) 0) ((sf_gdir g F i) 1) ((sf_gdir g F i) 2) ((sf_gdir g F i) 16) ((sf_gdir g F i) 18) ((sf_gdir g F i) 12) ((sf_gdir g F i) 13) ((sf_gdir g F i) 6) ((sf_gdir g F i) 7) ((sf_gdir g F i) 3) ((sf_gdir g F i) 4) ((sf_gdir g F i) 5) ((sf_gdir g F i) 17) ((sf_gdir g F i) 19) ((sf_gdir g F i) 14) ((sf_gdir g F i) 15) ((sf_gdir g F i) 8) ((sf_gdir g F i) 9) ((sf_gdir g F i) 10) ((sf_gdir g F i) 11) ((sf_gdir g F i) 20) (q 0) (q 1) (q 2) (q 3) (q 4) (q 5) := by
    intro d
    induction d with
    | zero =>
      intro i c h1 h2 hp
      have e : i = F + 4 := by omega
      subst e
      refine br_t (by rw [sf_n4]; exact nI_le (by omega) (by omega)) (Exists.intro (l.length + 1) (sf_Y_d1 (g := sf_gdir g F (F + 4)) (nI c) F hL hA (fun q' h' => Exists.intro 5 ?_)))
      have hlen : (l.map (sf_f1 (nI F))).length = l.length := List.length_map _
      have k := sf_Y_d2 (ib := ib) (db := db) (nd := nd) (lim := lim) (g0 := sf_gdir g F (F + 4)) (l1 := l.map (sf_f1 (nI F))) (F := F) (C := nI c) (post := post) hZ h89 hF2 (by omega) (sf_K3_map (fun r => ⟨(sf_f1_same _ r).1, (sf_f1_same _ r).2.1⟩) hK) (sf_K1_map (fun r => ⟨(sf_f1_same _ r).1, (sf_f1_same _ r).2.1⟩) hK1) hp 4 0 (sf_gdir g F (F + 4)) (l.map (sf_f1 (nI F))) q' rfl (sf_cg_no (fun _ => rfl) _ _).symm (sf_rm_no (fun _ => rfl) _).symm h'
      rw [hlen] at k
      exact k
    | succ d ih =>
      intro i c h1 h2 hp
      have hi : vp_in (nI i) 16 := vp_in_nI (by omega) (by decide)
      have hc : (nI i).toNatClampNeg = i := nI_clamp (by omega)
      refine br_f (by rw [sf_n4]; exact nI_ge (by omega) (by omega)) (And.intro hi (And.intro hi (nm_r (e' := sf_cp (g 10) (g 8) F (i + 1)) (by rw [hc]; exact sf_cp_s h1 rfl) (And.intro hi (And.intro hi (nm_r (e' := sf_cp (g 11) (g 9) F (i + 1)) (by rw [hc]; exact sf_cp_s h1 rfl) ?_))))))
      refine sf_Y_findAdd (g := sf_gdir g F (i + 1)) (l := l) ⟨hL, q, rfl, hA⟩ _ ?_
      cases a : l.any (sf_isAdd (nI i)) with
      | true =>
        have e2 : c + sf_ct (sf_cd l) (d + 1) i = c + 1 + sf_ct (sf_cd l) d (i + 1) := by
          rw [sf_ct, sf_cd, a]; simp; omega
        rw [e2] at hp
        refine br_f (fun z => ?_) (nm_r (nI_1 c) (nm_r (nI_1 i) (ih (i + 1) (c + 1) (by omega) (by omega) hp)))
        have := (sf_fi_any hL).mp z
        rw [a] at this
        exact absurd this (by decide)
      | false =>
        refine br_t ((sf_fi_any hL).mpr a) (sf_Y_MHat (g := sf_gdir g F (i + 1)) (l := l) ⟨hL, q, rfl, hA⟩ _ ?_)
        cases b : l.any (sf_MHat (nI i)) with
        | true =>
          have e2 : c + sf_ct (sf_cd l) (d + 1) i = c + 1 + sf_ct (sf_cd l) d (i + 1) := by
            rw [sf_ct, sf_cd, a, b]; simp; omega
          rw [e2] at hp
          exact br_f (by decide) (nm_r (nI_1 c) (nm_r (nI_1 i) (ih (i + 1) (c + 1) (by omega) (by omega) hp)))
        | false =>
          have e2 : c + sf_ct (sf_cd l) (d + 1) i = c + sf_ct (sf_cd l) d (i + 1) := by
            rw [sf_ct, sf_cd, a, b]; simp
          rw [e2] at hp
          exact br_t (by decide) (nm_r (nI_1 i) (ih (i + 1) c (by omega) (by omega) hp))
  refine nm_r eF (Exists.intro 5 ?_)
  have := key 4 F 0 (by omega) (by omega) (by simpa using hp)
  rw [sf_gdir_0] at this
  exact this
end
end
section
/-! the invariant, over plain arrays and the list of records -/
def sf_wf (ni ne nd : Nat) (r : sf_R) : Prop :=
  (∃ j, 1 ≤ j ∧ j ≤ ni ∧ r.2.2.2.1 = nI j) ∧ (r.1 = 1 ∨ r.1 = 4 → ∃ e, e < ne ∧ r.2.2.1 = nI e) ∧ (r.1 = 5 → ∃ b, b ≤ nd ∧ r.2.2.2.2.1 = nI b) ∧
  (r.1 = 3 → ∃ k, k < 3 ∧ r.2.2.2.2.2 = nI k) ∧ (r.1 = 5 ∨ r.1 = 6 → r.2.1 = 0 ∨ r.2.1 = 4) ∧ (r.1 = 1 → r.2.1 = 0 ∨ r.2.1 = 4 ∨ r.2.1 = 8 ∨ r.2.1 = 12)
def sf_ro (mm mp dm mi mib : Nat → Int32) (r : sf_R) : Prop :=
  (r.1 = 1 → mi r.2.2.1.toNatClampNeg = r.2.2.2.1 ∧ (r.2.1 = 0 ∨ r.2.1 = 8 → dm r.2.2.2.1.toNatClampNeg ≠ 0)) ∧
  (r.1 = 2 → mm r.2.2.2.1.toNatClampNeg ≠ 0 ∧ dm r.2.2.2.1.toNatClampNeg = 0) ∧
  (r.1 = 3 → mm r.2.2.2.1.toNatClampNeg ≠ 0 ∧ mp (3 * r.2.2.2.1.toNatClampNeg + r.2.2.2.2.2.toNatClampNeg) ≠ 0) ∧
  (r.1 = 4 → mm r.2.2.2.1.toNatClampNeg ≠ 0) ∧
  (r.1 = 6 → mm r.2.2.2.1.toNatClampNeg = 0 ∧ mib r.2.2.2.1.toNatClampNeg ≠ 0 ∧ (r.2.1 = 0 → dm r.2.2.2.1.toNatClampNeg = 0))
def sf_key (a b : sf_R) : Prop := a.1 = b.1 ∧ ((a.1 = 1 ∧ a.2.2.1 = b.2.2.1) ∨ (a.1 = 2 ∧ a.2.2.2.1 = b.2.2.2.1) ∨ (a.1 = 3 ∧ a.2.2.2.1 = b.2.2.2.1 ∧ a.2.2.2.2.2 = b.2.2.2.2.2) ∨ (a.1 = 6 ∧ a.2.2.2.1 = b.2.2.2.1))
def sf_pw (l : List sf_R) : Prop := l.Pairwise (fun a b => ¬ sf_key a b)
def sf_cov (l : List sf_R) (e : Nat) (x : Int32) : Prop := ∃ r, r ∈ l ∧ r.1 = 4 ∧ r.2.2.1 = nI e ∧ r.2.2.2.1 = x ∧ r.2.1 ≠ 0
def sf_cov2 (l : List sf_R) (e : Nat) (x : Int32) : Prop := ∃ r, r ∈ l ∧ r.1 = 4 ∧ r.2.2.1 = nI e ∧ r.2.2.2.1 = x ∧ r.2.1 = 32
def sf_noA (l : List sf_R) (e : Nat) : Prop := ∀ r, r ∈ l → r.1 = 1 → r.2.2.1 ≠ nI e
def sf_hasI (l : List sf_R) (i : Nat) : Prop := ∃ r, r ∈ l ∧ r.1 = 2 ∧ r.2.2.2.1 = nI i
def sf_cR (l : List sf_R) (x : Int32) : Nat := l.countP (fun r => r.1 == 4 && r.2.2.2.1 == x)
def sf_cS (mi : Nat → Int32) (ne : Nat) (x : Int32) : Nat := sf_ct (fun e => mi e == x) ne 0
def sf_so (ni : Nat) (mm dm mi di si : Nat → Int32) (l : List sf_R) (e : Nat) : Prop :=
  (∃ j, j ≤ ni ∧ mi e = nI j) ∧ (∃ j, j ≤ ni ∧ si e = nI j) ∧ (∃ j, j ≤ ni ∧ di e = nI j) ∧
  (mi e ≠ 0 → mm (mi e).toNatClampNeg ≠ 0) ∧
  (si e ≠ 0 → dm (si e).toNatClampNeg ≠ 0 ∧ (sf_cov2 l e (si e) ∨ (sf_noA l e ∧ mi e = si e))) ∧
  (di e ≠ 0 → dm (di e).toNatClampNeg ≠ 0 ∧ (sf_cov l e (di e) ∨ (sf_noA l e ∧ mi e = di e)))
def sf_io (m ne : Nat) (mm ml dm mi mib dib : Nat → Int32) (l : List sf_R) (i : Nat) : Prop :=
  (mm i ≠ 0 → mib i ≠ 0 ∧ (sf_hasI l i ∨ dib i ≠ 0) ∧ (i < m → ml i = nI (sf_cS mi ne (nI i) + sf_cR l (nI i)))) ∧
  (dm i ≠ 0 → mib i ≠ 0 ∧ dib i ≠ 0)
def sf_J (m ni ne nd : Nat) (mm ml mp dm mi di si mib dib : Nat → Int32) (l : List sf_R) : Prop :=
  (ni ≤ 16 ∧ ne ≤ 16 ∧ nd ≤ 16) ∧ (∀ r, r ∈ l → sf_wf ni ne nd r ∧ sf_ro mm mp dm mi mib r) ∧ sf_pw l ∧
  (∀ e, e < ne → sf_so ni mm dm mi di si l e) ∧ (∀ i, 1 ≤ i → i ≤ ni → sf_io m ne mm ml dm mi mib dib l i)
/-! small facts -/
theorem sf_mem_del {A B : List sf_R} {r x : sf_R} (h : x ∈ A ++ B) : x ∈ A ++ r :: B := by
  rcases List.mem_append.mp h with a | a
  · exact List.mem_append.mpr (Or.inl a)
  · exact List.mem_append.mpr (Or.inr (List.mem_cons_of_mem _ a))
theorem sf_mem_or {A B : List sf_R} {r x : sf_R} (h : x ∈ A ++ r :: B) : x = r ∨ x ∈ A ++ B := by
  rcases List.mem_append.mp h with a | a
  · exact Or.inr (List.mem_append.mpr (Or.inl a))
  · rcases List.mem_cons.mp a with a | a
    · exact Or.inl a
    · exact Or.inr (List.mem_append.mpr (Or.inr a))
theorem sf_mem_1 {l : List sf_R} {r x : sf_R} (h : x ∈ l ++ [r]) : x ∈ l ∨ x = r := by
  rcases List.mem_append.mp h with a | a
  · exact Or.inl a
  · exact Or.inr (List.mem_singleton.mp a)
theorem sf_mem_l {l : List sf_R} {r x : sf_R} (h : x ∈ l) : x ∈ l ++ [r] := List.mem_append.mpr (Or.inl h)
theorem sf_mem_r {l : List sf_R} {r : sf_R} : r ∈ l ++ [r] := List.mem_append.mpr (Or.inr (List.mem_singleton.mpr rfl))
theorem sf_pw_del {A B : List sf_R} {r : sf_R} (h : sf_pw (A ++ r :: B)) : sf_pw (A ++ B) :=
  List.Pairwise.sublist ((List.sublist_cons_self r B).append_left A) h
theorem sf_key_symm {a b : sf_R} (h : sf_key a b) : sf_key b a := by
  obtain ⟨h1, h2⟩ := h
  refine ⟨h1.symm, ?_⟩
  rcases h2 with ⟨a1, a2⟩ | ⟨a1, a2⟩ | ⟨a1, a2, a3⟩ | ⟨a1, a2⟩
  · exact Or.inl ⟨h1 ▸ a1, a2.symm⟩
  · exact Or.inr (Or.inl ⟨h1 ▸ a1, a2.symm⟩)
  · exact Or.inr (Or.inr (Or.inl ⟨h1 ▸ a1, a2.symm, a3.symm⟩))
  · exact Or.inr (Or.inr (Or.inr ⟨h1 ▸ a1, a2.symm⟩))
theorem sf_pw_at {A B : List sf_R} {r x : sf_R} (h : sf_pw (A ++ r :: B)) (hx : x ∈ A ++ B) : ¬ sf_key r x := by
  obtain ⟨h1, h2, h3⟩ := List.pairwise_append.mp h
  rcases List.mem_append.mp hx with a | a
  · intro k
    exact h3 x a r (by simp) (sf_key_symm k)
  · exact (List.pairwise_cons.mp h2).1 x a
theorem sf_pw_app {l : List sf_R} {r : sf_R} (h : sf_pw l) (hr : ∀ x, x ∈ l → ¬ sf_key x r) : sf_pw (l ++ [r]) := by
  refine List.pairwise_append.mpr ⟨h, List.pairwise_singleton _ _, fun a ha b hb => ?_⟩
  rw [List.mem_singleton.mp hb]
  exact hr a ha
theorem sf_pw_app' {l : List sf_R} {r : sf_R} (h : sf_pw l) (h1 : r.1 ≠ 1) (h2 : r.1 ≠ 2) (h3 : r.1 ≠ 3) (h6 : r.1 ≠ 6) : sf_pw (l ++ [r]) := by
  refine sf_pw_app h (fun x _ k => ?_)
  obtain ⟨e, k⟩ := sf_key_symm k
  rcases k with ⟨a, _⟩ | ⟨a, _⟩ | ⟨a, _⟩ | ⟨a, _⟩
  · exact h1 a
  · exact h2 a
  · exact h3 a
  · exact h6 a
theorem sf_cR_app (l : List sf_R) (r : sf_R) (x : Int32) : sf_cR (l ++ [r]) x = sf_cR l x + (if r.1 == 4 && r.2.2.2.1 == x then 1 else 0) := by
  simp [sf_cR, List.countP_append, List.countP_cons]
theorem sf_cR_del (A B : List sf_R) (r : sf_R) (x : Int32) : sf_cR (A ++ r :: B) x = sf_cR (A ++ B) x + (if r.1 == 4 && r.2.2.2.1 == x then 1 else 0) := by
  simp [sf_cR, List.countP_append, List.countP_cons]
  omega
theorem sf_cR_0 {l : List sf_R} {x : Int32} (h : ∀ r, r ∈ l → r.1 = 4 → r.2.2.2.1 ≠ x) : sf_cR l x = 0 := by
  rw [sf_cR, List.countP_eq_zero]
  intro r hr k
  rw [Bool.and_eq_true] at k
  exact h r hr (by simpa using k.1) (by simpa using k.2)
theorem sf_cR_0' {l : List sf_R} {x : Int32} (h : sf_cR l x = 0) : ∀ r, r ∈ l → r.1 = 4 → r.2.2.2.1 ≠ x := by
  intro r hr h4 hx
  rw [sf_cR, List.countP_eq_zero] at h
  exact h r hr (by rw [h4, hx]; simp)
theorem sf_cS_0 {mi : Nat → Int32} {ne : Nat} {x : Int32} (h : ∀ e, e < ne → mi e ≠ x) : sf_cS mi ne x = 0 :=
  sf_ct_zero _ _ (fun j _ hj => by simpa using h j (by omega))
theorem sf_cS_0' {mi : Nat → Int32} {ne : Nat} {x : Int32} (h : sf_cS mi ne x = 0) : ∀ e, e < ne → mi e ≠ x := by
  intro e he
  have := sf_ct_zero' _ _ h e (by omega) (by omega)
  simpa using this
theorem sf_cS_upd {mi : Nat → Int32} {ne e : Nat} {v x : Int32} (he : e < ne) : sf_cS (upd mi e v) ne x + (if mi e == x then 1 else 0) = sf_cS mi ne x + (if v == x then 1 else 0) := by
  have := sf_ct_upd (P := fun j => upd mi e v j == x) (Q := fun j => mi j == x) (e := e) ne 0 (by omega) (by omega) (fun j _ _ k => by simp only [upd, if_neg k])
  simpa [upd, sf_cS] using this
theorem sf_cS_le (mi : Nat → Int32) (ne : Nat) (x : Int32) : sf_cS mi ne x ≤ ne := sf_ct_le _ _ _
theorem sf_nI_ne {a b : Nat} (ha : a ≤ 16) (hb : b ≤ 16) (h : a ≠ b) : nI a ≠ nI b := fun k => h ((nI_eq (by omega) (by omega)).mp k)
theorem sf_nI_0 {a : Nat} (h : 1 ≤ a) (ha : a ≤ 16) : nI a ≠ 0 := nI_ne0 (by omega) (by omega)
theorem sf_nI_c {a : Nat} (ha : a ≤ 16) : (nI a).toNatClampNeg = a := nI_clamp (by omega)
theorem sf_upd_s {a : Nat → Int32} {i : Nat} {v : Int32} : upd a i v i = v := if_pos rfl
theorem sf_upd_n {a : Nat → Int32} {i j : Nat} {v : Int32} (h : j ≠ i) : upd a i v j = a j := if_neg h
theorem sf_cov_mono {l l' : List sf_R} {e : Nat} {x : Int32} (h : sf_cov l e x) (hm : ∀ r, r ∈ l → r.1 = 4 → r ∈ l') : sf_cov l' e x := by
  obtain ⟨r, a, b, c⟩ := h
  exact ⟨r, hm r a b, b, c⟩
theorem sf_cov2_mono {l l' : List sf_R} {e : Nat} {x : Int32} (h : sf_cov2 l e x) (hm : ∀ r, r ∈ l → r.1 = 4 → r ∈ l') : sf_cov2 l' e x := by
  obtain ⟨r, a, b, c⟩ := h
  exact ⟨r, hm r a b, b, c⟩
theorem sf_cov_of2 {l : List sf_R} {e : Nat} {x : Int32} (h : sf_cov2 l e x) : sf_cov l e x := by
  obtain ⟨r, a, b, c, d, f⟩ := h
  exact ⟨r, a, b, c, d, by rw [f]; decide⟩
section
variable {m ni ne nd : Nat} {mm ml mp dm mi di si mib dib : Nat → Int32} {l A B : List sf_R} {r : sf_R}
/-- dropping a record of a kind that nothing leans on -/
theorem sf_J_del (h : sf_J m ni ne nd mm ml mp dm mi di si mib dib (A ++ r :: B)) (h2 : r.1 ≠ 2) (h4 : r.1 ≠ 4) : sf_J m ni ne nd mm ml mp dm mi di si mib dib (A ++ B) := by
  obtain ⟨hn, hr, hp, hs, hi⟩ := h
  have hm : ∀ x, x ∈ A ++ r :: B → x.1 = 4 → x ∈ A ++ B := by
    intro x hx k
    rcases sf_mem_or hx with rfl | a
    · exact absurd k h4
    · exact a
  refine ⟨hn, fun x hx => hr x (sf_mem_del hx), sf_pw_del hp, fun e he => ?_, fun i i1 i2 => ?_⟩
  · obtain ⟨a, b, c, d, f, k⟩ := hs e he
    refine ⟨a, b, c, d, fun z => ⟨(f z).1, ?_⟩, fun z => ⟨(k z).1, ?_⟩⟩
    · rcases (f z).2 with y | ⟨y, w⟩
      · exact Or.inl (sf_cov2_mono y hm)
      · exact Or.inr ⟨fun x hx => y x (sf_mem_del hx), w⟩
    · rcases (k z).2 with y | ⟨y, w⟩
      · exact Or.inl (sf_cov_mono y hm)
      · exact Or.inr ⟨fun x hx => y x (sf_mem_del hx), w⟩
  · obtain ⟨a, b⟩ := hi i i1 i2
    refine ⟨fun z => ?_, b⟩
    obtain ⟨a1, a2, a3⟩ := a z
    refine ⟨a1, ?_, fun im => ?_⟩
    · rcases a2 with ⟨x, hx, k1, k2⟩ | y
      · rcases sf_mem_or hx with rfl | w
        · exact absurd k1 h2
        · exact Or.inl ⟨x, w, k1, k2⟩
      · exact Or.inr y
    · rw [a3 im, sf_cR_del]
      have : (r.1 == 4 && r.2.2.2.1 == nI i) = false := by simp [h4]
      rw [this]
      rfl
/-- a slot loses its inode, a REMOVE is appended -/
theorem sf_J_detach {si' : Nat → Int32} {e i : Nat} {st o : Int32} (h : sf_J m ni ne nd mm ml mp dm mi di si mib dib l) (he : e < ne) (i1 : 1 ≤ i) (i2 : i ≤ ni) (hmi : mi e = nI i) (hA : sf_noA l e)
    (hS : si' e ≠ 0 → si' e = si e ∧ (st = 32 ∨ sf_cov2 l e (si e))) (hS0 : ∃ j, j ≤ ni ∧ si' e = nI j) (hSn : ∀ j, j ≠ e → si' j = si j) (hD : di e ≠ 0 → st ≠ 0 ∨ sf_cov l e (di e)) :
    sf_J m ni ne nd mm ml mp dm (upd mi e 0) di si' mib dib (l ++ [(4, st, nI e, nI i, 0, o)]) := by
  obtain ⟨hn, hr, hp, hs, hi⟩ := h
  obtain ⟨n1, n2, n3⟩ := hn
  have hmm : mm i ≠ 0 := by
    have := (hs e he).2.2.2.1 (by rw [hmi]; exact sf_nI_0 i1 (by omega))
    rwa [hmi, sf_nI_c (by omega)] at this
  refine ⟨⟨n1, n2, n3⟩, fun x hx => ?_, sf_pw_app' hp (of_decide_eq_true rfl) (of_decide_eq_true rfl) (of_decide_eq_true rfl) (of_decide_eq_true rfl), fun e' he' => ?_, fun i' j1 j2 => ?_⟩
  · rcases sf_mem_1 hx with a | rfl
    · refine ⟨(hr x a).1, fun k => ?_, (hr x a).2.2⟩
      have w := (hr x a).2.1 k
      obtain ⟨e', h1, h2⟩ := (hr x a).1.2.1 (Or.inl k)
      have hne : e' ≠ e := by
        rintro rfl
        exact hA x a k h2
      rw [h2, sf_nI_c (by omega)] at w ⊢
      rw [sf_upd_n hne]
      exact w
    · refine ⟨⟨⟨i, i1, i2, rfl⟩, fun _ => ⟨e, he, rfl⟩, fun k => absurd k (of_decide_eq_true rfl), fun k => absurd k (of_decide_eq_true rfl), fun k => absurd k (of_decide_eq_true rfl), fun k => absurd k (of_decide_eq_true rfl)⟩, fun k => absurd k (of_decide_eq_true rfl), fun k => absurd k (of_decide_eq_true rfl), fun k => absurd k (of_decide_eq_true rfl), fun _ => ?_, fun k => absurd k (of_decide_eq_true rfl)⟩
      show mm (nI i).toNatClampNeg ≠ 0
      rw [sf_nI_c (by omega)]
      exact hmm
  · have hmono : ∀ x, x ∈ l → x.1 = 4 → x ∈ l ++ [(4, st, nI e, nI i, 0, o)] := fun x hx _ => sf_mem_l hx
    obtain ⟨a, b, c, d, f, k⟩ := hs e' he'
    by_cases ee : e' = e
    · subst ee
      refine ⟨⟨0, by omega, sf_upd_s⟩, hS0, c, fun z => absurd sf_upd_s z, fun z => ?_, fun z => ?_⟩
      · obtain ⟨s1, s2⟩ := hS z
        rw [s1] at z ⊢
        refine ⟨(f z).1, Or.inl ?_⟩
        rcases s2 with rfl | s2
        · rcases (f z).2 with y | ⟨_, w⟩
          · exact sf_cov2_mono y hmono
          · exact ⟨_, sf_mem_r, rfl, rfl, by rw [← w, hmi], rfl⟩
        · exact sf_cov2_mono s2 hmono
      · refine ⟨(k z).1, Or.inl ?_⟩
        rcases hD z with s2 | s2
        · rcases (k z).2 with y | ⟨_, w⟩
          · exact sf_cov_mono y hmono
          · exact ⟨_, sf_mem_r, rfl, rfl, by rw [← w, hmi], s2⟩
        · exact sf_cov_mono s2 hmono
    · have hno : sf_noA l e' → sf_noA (l ++ [(4, st, nI e, nI i, 0, o)]) e' := by
        intro y x hx hk
        rcases sf_mem_1 hx with a | rfl
        · exact y x a hk
        · exact absurd hk (of_decide_eq_true rfl)
      refine ⟨by rw [sf_upd_n ee]; exact a, by rw [hSn _ ee]; exact b, c, by rw [sf_upd_n ee]; exact d, ?_, fun z => ⟨(k z).1, ?_⟩⟩
      · rw [hSn _ ee, sf_upd_n ee]
        refine fun z => ⟨(f z).1, ?_⟩
        rcases (f z).2 with y | ⟨y, w⟩
        · exact Or.inl (sf_cov2_mono y hmono)
        · exact Or.inr ⟨hno y, w⟩
      · rw [sf_upd_n ee]
        rcases (k z).2 with y | ⟨y, w⟩
        · exact Or.inl (sf_cov_mono y hmono)
        · exact Or.inr ⟨hno y, w⟩
  · obtain ⟨a, b⟩ := hi i' j1 j2
    refine ⟨fun z => ?_, b⟩
    obtain ⟨a1, a2, a3⟩ := a z
    refine ⟨a1, ?_, fun im => ?_⟩
    · rcases a2 with ⟨x, hx, k1, k2⟩ | y
      · exact Or.inl ⟨x, sf_mem_l hx, k1, k2⟩
      · exact Or.inr y
    · rw [a3 im, sf_cR_app]
      refine congrArg nI ?_
      have u := sf_cS_upd (mi := mi) (v := 0) (x := nI i') he
      have z0 : ((0 : Int32) == nI i') = false := by
        simpa using (sf_nI_0 j1 (by omega)).symm
      rw [z0, hmi] at u
      by_cases ii : i = i'
      · subst ii
        simp at u ⊢
        omega
      · have w : (nI i == nI i') = false := by simpa using sf_nI_ne (by omega) (by omega) ii
        rw [w] at u
        simp [w] at u ⊢
        omega
/-- SAFE(e) := empty -/
theorem sf_J_cs {e : Nat} (h : sf_J m ni ne nd mm ml mp dm mi di si mib dib l) : sf_J m ni ne nd mm ml mp dm mi di (upd si e 0) mib dib l := by
  obtain ⟨hn, hr, hp, hs, hi⟩ := h
  refine ⟨hn, hr, hp, fun e' he' => ?_, hi⟩
  obtain ⟨a, b, c, d, f, k⟩ := hs e' he'
  by_cases ee : e' = e
  · subst ee
    exact ⟨a, ⟨0, by omega, sf_upd_s⟩, c, d, fun z => absurd sf_upd_s z, k⟩
  · exact ⟨a, by rw [sf_upd_n ee]; exact b, c, d, by rw [sf_upd_n ee]; exact f, k⟩
theorem sf_J_noA {e : Nat} (h : sf_J m ni ne nd mm ml mp dm mi di si mib dib l) (he : mi e = 0) (h16 : e < ne) : sf_noA l e := by
  obtain ⟨⟨n1, n2, n3⟩, hr, hp, hs, hi⟩ := h
  intro x hx k hsl
  have w := ((hr x hx).2.1 k).1
  obtain ⟨j, j1, j2, j3⟩ := (hr x hx).1.1
  rw [hsl, sf_nI_c (by omega), he, j3] at w
  exact sf_nI_0 j1 (by omega) w.symm
/-- an empty slot gets an inode, an ADD is appended -/
theorem sf_J_enter {e i : Nat} {st : Int32} (h : sf_J m ni ne nd mm ml mp dm mi di si mib dib l) (he : e < ne) (i1 : 1 ≤ i) (i2 : i ≤ ni) (hmi : mi e = 0) (hmm : mm i ≠ 0) (hst : st = 4 ∨ st = 12) :
    sf_J m ni ne nd mm (upd ml i (ml i + 1)) mp dm (upd mi e (nI i)) di si mib dib (l ++ [(1, st, nI e, nI i, 0, -1)]) := by
  have hA := sf_J_noA h hmi he
  obtain ⟨⟨n1, n2, n3⟩, hr, hp, hs, hi⟩ := h
  have hst' : st = 0 ∨ st = 4 ∨ st = 8 ∨ st = 12 := by
    rcases hst with k | k
    · exact Or.inr (Or.inl k)
    · exact Or.inr (Or.inr (Or.inr k))
  have hst2 : ¬ (st = 0 ∨ st = 8) := by
    rcases hst with rfl | rfl <;> decide
  refine ⟨⟨n1, n2, n3⟩, fun x hx => ?_, ?_, fun e' he' => ?_, fun i' j1 j2 => ?_⟩
  · rcases sf_mem_1 hx with a | rfl
    · refine ⟨(hr x a).1, fun k => ?_, (hr x a).2.2⟩
      have w := (hr x a).2.1 k
      obtain ⟨e', h1, h2⟩ := (hr x a).1.2.1 (Or.inl k)
      have hne : e' ≠ e := by
        rintro rfl
        exact hA x a k h2
      rw [h2, sf_nI_c (by omega)] at w ⊢
      rw [sf_upd_n hne]
      exact w
    · refine ⟨⟨⟨i, i1, i2, rfl⟩, fun _ => ⟨e, he, rfl⟩, fun k => absurd k (of_decide_eq_true rfl), fun k => absurd k (of_decide_eq_true rfl), fun k => absurd k (of_decide_eq_true rfl), fun _ => hst'⟩, fun _ => ⟨?_, fun k => absurd k hst2⟩, fun k => absurd k (of_decide_eq_true rfl), fun k => absurd k (of_decide_eq_true rfl), fun k => absurd k (of_decide_eq_true rfl), fun k => absurd k (of_decide_eq_true rfl)⟩
      show upd mi e (nI i) (nI e).toNatClampNeg = nI i
      rw [sf_nI_c (by omega), sf_upd_s]
  · refine sf_pw_app hp (fun x hx k => ?_)
    obtain ⟨k1, k2⟩ := k
    have k1 : x.1 = 1 := k1
    rcases k2 with ⟨_, a⟩ | ⟨a, _⟩ | ⟨a, _⟩ | ⟨a, _⟩
    · exact hA x hx k1 a
    · rw [k1] at a; exact absurd a (of_decide_eq_true rfl)
    · rw [k1] at a; exact absurd a (of_decide_eq_true rfl)
    · rw [k1] at a; exact absurd a (of_decide_eq_true rfl)
  · have hmono : ∀ x, x ∈ l → x.1 = 4 → x ∈ l ++ [(1, st, nI e, nI i, 0, -1)] := fun x hx _ => sf_mem_l hx
    obtain ⟨a, b, c, d, f, k⟩ := hs e' he'
    by_cases ee : e' = e
    · subst ee
      refine ⟨⟨i, i2, sf_upd_s⟩, b, c, fun _ => by rw [sf_upd_s, sf_nI_c (by omega)]; exact hmm, fun z => ⟨(f z).1, Or.inl ?_⟩, fun z => ⟨(k z).1, Or.inl ?_⟩⟩
      · rcases (f z).2 with y | ⟨_, w⟩
        · exact sf_cov2_mono y hmono
        · exact absurd (w.symm.trans hmi) z
      · rcases (k z).2 with y | ⟨_, w⟩
        · exact sf_cov_mono y hmono
        · exact absurd (w.symm.trans hmi) z
    · have hno : sf_noA l e' → sf_noA (l ++ [(1, st, nI e, nI i, 0, -1)]) e' := by
        intro y x hx hk
        rcases sf_mem_1 hx with a | rfl
        · exact y x a hk
        · exact fun q => ee ((nI_eq (by omega) (by omega)).mp q).symm
      refine ⟨by rw [sf_upd_n ee]; exact a, b, c, by rw [sf_upd_n ee]; exact d, fun z => ⟨(f z).1, ?_⟩, fun z => ⟨(k z).1, ?_⟩⟩
      · rw [sf_upd_n ee]
        rcases (f z).2 with y | ⟨y, w⟩
        · exact Or.inl (sf_cov2_mono y hmono)
        · exact Or.inr ⟨hno y, w⟩
      · rw [sf_upd_n ee]
        rcases (k z).2 with y | ⟨y, w⟩
        · exact Or.inl (sf_cov_mono y hmono)
        · exact Or.inr ⟨hno y, w⟩
  · obtain ⟨a, b⟩ := hi i' j1 j2
    refine ⟨fun z => ?_, b⟩
    obtain ⟨a1, a2, a3⟩ := a z
    refine ⟨a1, ?_, fun im => ?_⟩
    · rcases a2 with ⟨x, hx, k1, k2⟩ | y
      · exact Or.inl ⟨x, sf_mem_l hx, k1, k2⟩
      · exact Or.inr y
    · rw [sf_cR_app]
      have u := sf_cS_upd (mi := mi) (v := nI i) (x := nI i') he
      have z0 : (mi e == nI i') = false := by
        rw [hmi]
        simpa using (sf_nI_0 j1 (by omega)).symm
      rw [z0] at u
      by_cases ii : i' = i
      · subst ii
        rw [sf_upd_s, a3 im, nI_1]
        refine congrArg nI ?_
        simp at u ⊢
        omega
      · have w : (nI i == nI i') = false := by simpa using sf_nI_ne (by omega) (by omega) (Ne.symm ii)
        rw [w] at u
        rw [sf_upd_n ii, a3 im]
        refine congrArg nI ?_
        simp at u ⊢
        omega
end
end
section
/-! the invariant through inodes and blocks -/
section
variable {m ni ne nd : Nat} {mm ml mp dm mi di si mib dib : Nat → Int32} {l A B : List sf_R} {r : sf_R}
theorem sf_hasI_l {l : List sf_R} {r : sf_R} {i : Nat} (h : sf_hasI l i) : sf_hasI (l ++ [r]) i := by
  obtain ⟨x, hx, k⟩ := h
  exact ⟨x, sf_mem_l hx, k⟩
/-- what is appended changes no slot's and no inode's facts if it is no ADD and no REMOVE -/
theorem sf_so_app {e : Nat} (h : sf_so ni mm dm mi di si l e) (h1 : r.1 ≠ 1) : sf_so ni mm dm mi di si (l ++ [r]) e := by
  have hmono : ∀ x, x ∈ l → x.1 = 4 → x ∈ l ++ [r] := fun x hx _ => sf_mem_l hx
  have hno : sf_noA l e → sf_noA (l ++ [r]) e := by
    intro y x hx hk
    rcases sf_mem_1 hx with a | rfl
    · exact y x a hk
    · exact absurd hk h1
  obtain ⟨a, b, c, d, f, k⟩ := h
  refine ⟨a, b, c, d, fun z => ⟨(f z).1, ?_⟩, fun z => ⟨(k z).1, ?_⟩⟩
  · rcases (f z).2 with y | ⟨y, w⟩
    · exact Or.inl (sf_cov2_mono y hmono)
    · exact Or.inr ⟨hno y, w⟩
  · rcases (k z).2 with y | ⟨y, w⟩
    · exact Or.inl (sf_cov_mono y hmono)
    · exact Or.inr ⟨hno y, w⟩
theorem sf_io_app {i : Nat} (h : sf_io m ne mm ml dm mi mib dib l i) (h4 : r.1 ≠ 4) : sf_io m ne mm ml dm mi mib dib (l ++ [r]) i := by
  obtain ⟨a, b⟩ := h
  refine ⟨fun z => ?_, b⟩
  obtain ⟨a1, a2, a3⟩ := a z
  refine ⟨a1, ?_, fun im => ?_⟩
  · rcases a2 with y | y
    · exact Or.inl (sf_hasI_l y)
    · exact Or.inr y
  · rw [sf_cR_app]
    have : (r.1 == 4 && r.2.2.2.1 == nI i) = false := by simp [h4]
    rw [this]
    exact a3 im
/-- a record's inode -/
theorem sf_wf_i (h : sf_wf ni ne nd r) (hn : ni ≤ 16) : ∃ j, 1 ≤ j ∧ j ≤ ni ∧ r.2.2.2.1 = nI j ∧ r.2.2.2.1.toNatClampNeg = j := by
  obtain ⟨j, a, b, c⟩ := h.1
  exact ⟨j, a, b, c, by rw [c]; exact sf_nI_c (by omega)⟩
/-- a free inode is taken -/
theorem sf_J_new {mp' : Nat → Int32} {i : Nat} {v : Int32} {l' : List sf_R} (h : sf_J m ni ne nd mm ml mp dm mi di si mib dib l) (i1 : 1 ≤ i) (i2 : i ≤ ni) (hb : mib i = 0) (hv : v ≠ 0)
    (hmp : ∀ x, x < 3 * i ∨ 3 * i + 3 ≤ x → mp' x = mp x) (hl : (dib i = 0 ∧ l' = l ++ [(2, 1, -1, nI i, 0, -1)]) ∨ (dib i ≠ 0 ∧ l' = l)) :
    sf_J m ni ne nd (upd mm i v) (upd ml i 0) mp' dm mi di si (upd mib i 1) dib l' := by
  obtain ⟨⟨n1, n2, n3⟩, hr, hp, hs, hi⟩ := h
  have m0 : mm i = 0 := by
    apply Classical.byContradiction
    intro k
    exact ((hi i i1 i2).1 k).1 hb
  have d0 : dm i = 0 := by
    apply Classical.byContradiction
    intro k
    exact ((hi i i1 i2).2 k).1 hb
  have hmi : ∀ e, e < ne → mi e ≠ nI i := by
    intro e he k
    have := (hs e he).2.2.2.1 (by rw [k]; exact sf_nI_0 i1 (by omega))
    rw [k, sf_nI_c (by omega)] at this
    exact this m0
  have hup : ∀ j, mm j ≠ 0 → upd mm i v j ≠ 0 := by
    intro j hj
    by_cases e : j = i
    · subst e; rw [sf_upd_s]; exact hv
    · rw [sf_upd_n e]; exact hj
  have hro : ∀ x, x ∈ l → sf_wf ni ne nd x ∧ sf_ro (upd mm i v) mp' dm mi (upd mib i 1) x := by
    intro x hx
    obtain ⟨w, o1, o2, o3, o4, o6⟩ := hr x hx
    obtain ⟨j, j1, j2, j3, j4⟩ := sf_wf_i w n1
    refine ⟨w, o1, fun k => ?_, fun k => ?_, fun k => ?_, fun k => ?_⟩
    · have := o2 k
      exact ⟨hup _ this.1, this.2⟩
    · have := o3 k
      refine ⟨hup _ this.1, ?_⟩
      obtain ⟨y, y1, y2⟩ := w.2.2.2.1 k
      have ji : j ≠ i := by
        rintro rfl
        rw [j4] at this
        exact this.1 m0
      rw [j4, y2, sf_nI_c (by omega)] at this ⊢
      rw [hmp _ (by omega)]
      exact this.2
    · exact hup _ (o4 k)
    · have := o6 k
      have ji : j ≠ i := by
        rintro rfl
        rw [j4] at this
        exact this.2.1 hb
      rw [j4] at this ⊢
      rw [sf_upd_n ji, sf_upd_n ji]
      exact this
  have hso : ∀ e, e < ne → sf_so ni (upd mm i v) dm mi di si l e := by
    intro e he
    obtain ⟨a, b, c, d, f, k⟩ := hs e he
    exact ⟨a, b, c, fun z => hup _ (d z), f, k⟩
  have hI : ∀ y, 1 ≤ y → y ≤ ni → y ≠ i → sf_io m ne (upd mm i v) (upd ml i 0) dm mi (upd mib i 1) dib l y := by
    intro y y1 y2 yi
    have := hi y y1 y2
    rw [sf_io, sf_upd_n yi, sf_upd_n yi, sf_upd_n yi]
    exact this
  have hcr : sf_cR l (nI i) = 0 := by
    refine sf_cR_0 (fun x hx k e => ?_)
    have := (hr x hx).2.2.2.2.1 k
    rw [e, sf_nI_c (by omega)] at this
    exact this m0
  have hml : upd ml i 0 i = nI (sf_cS mi ne (nI i) + sf_cR l (nI i)) := by
    rw [hcr, sf_cS_0 hmi, sf_upd_s]
    rfl
  rcases hl with ⟨hd, rfl⟩ | ⟨hd, rfl⟩
  · have hnoI : ∀ x, x ∈ l → x.1 = 2 → x.2.2.2.1 ≠ nI i := by
      intro x hx k e
      have := ((hr x hx).2.2.1 k).1
      rw [e, sf_nI_c (by omega)] at this
      exact this m0
    refine ⟨⟨n1, n2, n3⟩, fun x hx => ?_, ?_, fun e he => sf_so_app (hso e he) (of_decide_eq_true rfl), fun y y1 y2 => ?_⟩
    · rcases sf_mem_1 hx with a | rfl
      · exact hro x a
      · refine ⟨⟨⟨i, i1, i2, rfl⟩, fun k => ?_, fun k => absurd k (of_decide_eq_true rfl), fun k => absurd k (of_decide_eq_true rfl), fun k => ?_, fun k => absurd k (of_decide_eq_true rfl)⟩, fun k => absurd k (of_decide_eq_true rfl), fun _ => ?_, fun k => absurd k (of_decide_eq_true rfl), fun k => absurd k (of_decide_eq_true rfl), fun k => absurd k (of_decide_eq_true rfl)⟩
        · rcases k with k | k <;> exact absurd k (of_decide_eq_true rfl)
        · rcases k with k | k <;> exact absurd k (of_decide_eq_true rfl)
        · show upd mm i v (nI i).toNatClampNeg ≠ 0 ∧ dm (nI i).toNatClampNeg = 0
          rw [sf_nI_c (by omega), sf_upd_s]
          exact ⟨hv, d0⟩
    · refine sf_pw_app hp (fun x hx k => ?_)
      obtain ⟨k1, k2⟩ := k
      have k1 : x.1 = 2 := k1
      rcases k2 with ⟨a, _⟩ | ⟨_, a⟩ | ⟨a, _⟩ | ⟨a, _⟩
      · rw [k1] at a; exact absurd a (of_decide_eq_true rfl)
      · exact hnoI x hx k1 a
      · rw [k1] at a; exact absurd a (of_decide_eq_true rfl)
      · rw [k1] at a; exact absurd a (of_decide_eq_true rfl)
    · by_cases yi : y = i
      · subst yi
        refine ⟨fun _ => ⟨by rw [sf_upd_s]; decide, Or.inl ⟨_, sf_mem_r, rfl, rfl⟩, fun _ => ?_⟩, fun z => absurd d0 z⟩
        rw [sf_cR_app]
        exact hml
      · exact sf_io_app (hI y y1 y2 yi) (of_decide_eq_true rfl)
  · refine ⟨⟨n1, n2, n3⟩, hro, hp, hso, fun y y1 y2 => ?_⟩
    by_cases yi : y = i
    · subst yi
      exact ⟨fun _ => ⟨by rw [sf_upd_s]; decide, Or.inr hd, fun _ => hml⟩, fun z => absurd d0 z⟩
    · exact hI y y1 y2 yi
/-- a pointer gets a block, an ALLOC is appended -/
theorem sf_J_alloc {i k : Nat} {v st : Int32} (h : sf_J m ni ne nd mm ml mp dm mi di si mib dib l) (i1 : 1 ≤ i) (i2 : i ≤ ni) (hk : k < 3) (hm : mm i ≠ 0) (h0 : mp (3 * i + k) = 0) (hv : v ≠ 0) :
    sf_J m ni ne nd mm ml (upd mp (3 * i + k) v) dm mi di si mib dib (l ++ [(3, st, -1, nI i, v, nI k)]) := by
  obtain ⟨⟨n1, n2, n3⟩, hr, hp, hs, hi⟩ := h
  refine ⟨⟨n1, n2, n3⟩, fun x hx => ?_, ?_, fun e he => sf_so_app (hs e he) (of_decide_eq_true rfl), fun y y1 y2 => sf_io_app (hi y y1 y2) (of_decide_eq_true rfl)⟩
  · rcases sf_mem_1 hx with a | rfl
    · obtain ⟨w, o1, o2, o3, o4, o6⟩ := hr x a
      refine ⟨w, o1, o2, fun c => ⟨(o3 c).1, ?_⟩, o4, o6⟩
      by_cases e : 3 * x.2.2.2.1.toNatClampNeg + x.2.2.2.2.2.toNatClampNeg = 3 * i + k
      · rw [e, sf_upd_s]; exact hv
      · rw [sf_upd_n e]; exact (o3 c).2
    · refine ⟨⟨⟨i, i1, i2, rfl⟩, fun c => ?_, fun c => absurd c (of_decide_eq_true rfl), fun _ => ⟨k, hk, rfl⟩, fun c => ?_, fun c => absurd c (of_decide_eq_true rfl)⟩, fun c => absurd c (of_decide_eq_true rfl), fun c => absurd c (of_decide_eq_true rfl), fun _ => ?_, fun c => absurd c (of_decide_eq_true rfl), fun c => absurd c (of_decide_eq_true rfl)⟩
      · rcases c with c | c <;> exact absurd c (of_decide_eq_true rfl)
      · rcases c with c | c <;> exact absurd c (of_decide_eq_true rfl)
      · show mm (nI i).toNatClampNeg ≠ 0 ∧ upd mp (3 * i + k) v (3 * (nI i).toNatClampNeg + (nI k).toNatClampNeg) ≠ 0
        rw [sf_nI_c (by omega), sf_nI_c (by omega), sf_upd_s]
        exact ⟨hm, hv⟩
  · refine sf_pw_app hp (fun x hx c => ?_)
    obtain ⟨k1, k2⟩ := c
    have k1 : x.1 = 3 := k1
    rcases k2 with ⟨a, _⟩ | ⟨a, _⟩ | ⟨_, a, b⟩ | ⟨a, _⟩
    · rw [k1] at a; exact absurd a (of_decide_eq_true rfl)
    · rw [k1] at a; exact absurd a (of_decide_eq_true rfl)
    · have w := ((hr x hx).2.2.2.1 k1).2
      have a : x.2.2.2.1 = nI i := a
      have b : x.2.2.2.2.2 = nI k := b
      rw [a, b, sf_nI_c (by omega), sf_nI_c (by omega)] at w
      exact w h0
    · rw [k1] at a; exact absurd a (of_decide_eq_true rfl)
/-- a pointer is dropped, a FREE_BLOCK is appended -/
theorem sf_J_drop {i k b : Nat} {st o : Int32} (h : sf_J m ni ne nd mm ml mp dm mi di si mib dib l) (i1 : 1 ≤ i) (i2 : i ≤ ni) (hk : k < 3) (hb : b ≤ nd) (hst : st = 0 ∨ st = 4) (hno : ∀ x, x ∈ l → sf_isAl (nI i) (nI k) x = false) :
    sf_J m ni ne nd mm ml (upd mp (3 * i + k) 0) dm mi di si mib dib (l ++ [(5, st, -1, nI i, nI b, o)]) := by
  obtain ⟨⟨n1, n2, n3⟩, hr, hp, hs, hi⟩ := h
  refine ⟨⟨n1, n2, n3⟩, fun x hx => ?_, sf_pw_app' hp (of_decide_eq_true rfl) (of_decide_eq_true rfl) (of_decide_eq_true rfl) (of_decide_eq_true rfl), fun e he => sf_so_app (hs e he) (of_decide_eq_true rfl), fun y y1 y2 => sf_io_app (hi y y1 y2) (of_decide_eq_true rfl)⟩
  rcases sf_mem_1 hx with a | rfl
  · obtain ⟨w, o1, o2, o3, o4, o6⟩ := hr x a
    refine ⟨w, o1, o2, fun c => ⟨(o3 c).1, ?_⟩, o4, o6⟩
    obtain ⟨j, j1, j2, j3, j4⟩ := sf_wf_i w n1
    obtain ⟨y, y1, y2⟩ := w.2.2.2.1 c
    have q := o3 c
    rw [j4, y2, sf_nI_c (by omega)] at q ⊢
    have hne : 3 * j + y ≠ 3 * i + k := by
      intro e
      have e1 : j = i := by omega
      have e2 : y = k := by omega
      have := hno x a
      simp [sf_isAl, c, j3, y2, e1, e2] at this
    rw [sf_upd_n hne]
    exact q.2
  · refine ⟨⟨⟨i, i1, i2, rfl⟩, fun c => ?_, fun _ => ⟨b, hb, rfl⟩, fun c => absurd c (of_decide_eq_true rfl), fun _ => hst, fun c => absurd c (of_decide_eq_true rfl)⟩, fun c => absurd c (of_decide_eq_true rfl), fun c => absurd c (of_decide_eq_true rfl), fun c => absurd c (of_decide_eq_true rfl), fun c => absurd c (of_decide_eq_true rfl), fun c => absurd c (of_decide_eq_true rfl)⟩
    rcases c with c | c <;> exact absurd c (of_decide_eq_true rfl)
/-- the end of a reclaim: l0 is l without the INIT of i -/
theorem sf_J_fin {i : Nat} {l0 : List sf_R} (h : sf_J m ni ne nd mm ml mp dm mi di si mib dib l) (i1 : 1 ≤ i) (i2 : i ≤ ni) (hm : mm i ≠ 0)
    (hsub : ∀ x, x ∈ l0 → x ∈ l) (hpw : sf_pw l0) (hk : ∀ x, x ∈ l → x ∈ l0 ∨ (x.1 = 2 ∧ x.2.2.2.1 = nI i)) (hcR : ∀ x, sf_cR l0 x = sf_cR l x) (hno : ∀ x, x ∈ l0 → x.1 = 2 → x.2.2.2.1 ≠ nI i)
    (hmi : ∀ e, e < ne → mi e ≠ nI i) (hR : ∀ x, x ∈ l → x.1 = 4 → x.2.2.2.1 ≠ nI i) (hmp : ∀ k, k < 3 → mp (3 * i + k) = 0) :
    sf_J m ni ne nd (upd mm i 0) (upd ml i 0) mp dm mi di si mib dib (l0 ++ [(6, 4, -1, nI i, 0, -1)]) := by
  obtain ⟨⟨n1, n2, n3⟩, hr, hp, hs, hi⟩ := h
  have hmem : ∀ x, x ∈ l → x.1 ≠ 2 → x ∈ l0 := by
    intro x hx k
    rcases hk x hx with a | a
    · exact a
    · exact absurd a.1 k
  refine ⟨⟨n1, n2, n3⟩, fun x hx => ?_, ?_, fun e he => ?_, fun y y1 y2 => ?_⟩
  · rcases sf_mem_1 hx with a | rfl
    · obtain ⟨w, o1, o2, o3, o4, o6⟩ := hr x (hsub x a)
      obtain ⟨j, j1, j2, j3, j4⟩ := sf_wf_i w n1
      have hji : x.2.2.2.1 ≠ nI i → j ≠ i := by
        rintro c rfl
        exact c j3
      refine ⟨w, o1, fun c => ?_, fun c => ?_, fun c => ?_, fun c => ?_⟩
      · have q := o2 c
        rw [j4] at q ⊢
        rw [sf_upd_n (hji (hno x a c))]
        exact q
      · have q := o3 c
        obtain ⟨y, y1, y2⟩ := w.2.2.2.1 c
        have ji : j ≠ i := by
          rintro rfl
          rw [j4, y2, sf_nI_c (by omega)] at q
          exact q.2 (hmp y y1)
        rw [j4] at q ⊢
        rw [sf_upd_n ji]
        exact q
      · have q := o4 c
        rw [j4] at q ⊢
        rw [sf_upd_n (hji (hR x (hsub x a) c))]
        exact q
      · have q := o6 c
        rw [j4] at q ⊢
        refine ⟨?_, q.2⟩
        by_cases e : j = i
        · subst e; exact sf_upd_s
        · rw [sf_upd_n e]; exact q.1
    · refine ⟨⟨⟨i, i1, i2, rfl⟩, fun c => ?_, fun c => absurd c (of_decide_eq_true rfl), fun c => absurd c (of_decide_eq_true rfl), fun _ => Or.inr rfl, fun c => absurd c (of_decide_eq_true rfl)⟩, fun c => absurd c (of_decide_eq_true rfl), fun c => absurd c (of_decide_eq_true rfl), fun c => absurd c (of_decide_eq_true rfl), fun c => absurd c (of_decide_eq_true rfl), fun _ => ?_⟩
      · rcases c with c | c <;> exact absurd c (of_decide_eq_true rfl)
      · show upd mm i 0 (nI i).toNatClampNeg = 0 ∧ mib (nI i).toNatClampNeg ≠ 0 ∧ ((4 : Int32) = 0 → dm (nI i).toNatClampNeg = 0)
        rw [sf_nI_c (by omega), sf_upd_s]
        exact ⟨rfl, ((hi i i1 i2).1 hm).1, fun c => absurd c (of_decide_eq_true rfl)⟩
  · refine sf_pw_app hpw (fun x hx c => ?_)
    obtain ⟨k1, k2⟩ := c
    have k1 : x.1 = 6 := k1
    rcases k2 with ⟨a, _⟩ | ⟨a, _⟩ | ⟨a, _⟩ | ⟨_, a⟩
    · rw [k1] at a; exact absurd a (of_decide_eq_true rfl)
    · rw [k1] at a; exact absurd a (of_decide_eq_true rfl)
    · rw [k1] at a; exact absurd a (of_decide_eq_true rfl)
    · have w := ((hr x (hsub x hx)).2.2.2.2.2 k1).1
      have a : x.2.2.2.1 = nI i := a
      rw [a, sf_nI_c (by omega)] at w
      exact hm w
  · refine sf_so_app ?_ (of_decide_eq_true rfl)
    obtain ⟨a, b, c, d, f, k⟩ := hs e he
    have hm4 : ∀ x, x ∈ l → x.1 = 4 → x ∈ l0 := fun x hx q => hmem x hx (by rw [q]; decide)
    refine ⟨a, b, c, fun z => ?_, fun z => ⟨(f z).1, ?_⟩, fun z => ⟨(k z).1, ?_⟩⟩
    · obtain ⟨j, j1, j2⟩ := a
      have ji : j ≠ i := by
        rintro rfl
        exact hmi e he j2
      have q := d z
      rw [j2, sf_nI_c (by omega)] at q ⊢
      rw [sf_upd_n ji]
      exact q
    · rcases (f z).2 with y | ⟨y, w⟩
      · exact Or.inl (sf_cov2_mono y hm4)
      · exact Or.inr ⟨fun x hx => y x (hsub x hx), w⟩
    · rcases (k z).2 with y | ⟨y, w⟩
      · exact Or.inl (sf_cov_mono y hm4)
      · exact Or.inr ⟨fun x hx => y x (hsub x hx), w⟩
  · refine sf_io_app ?_ (of_decide_eq_true rfl)
    obtain ⟨a, b⟩ := hi y y1 y2
    by_cases yi : y = i
    · subst yi
      exact ⟨fun z => absurd sf_upd_s z, b⟩
    · rw [sf_io, sf_upd_n yi, sf_upd_n yi]
      refine ⟨fun z => ?_, b⟩
      obtain ⟨a1, a2, a3⟩ := a z
      refine ⟨a1, ?_, fun im => by rw [hcR]; exact a3 im⟩
      rcases a2 with ⟨x, hx, q1, q2⟩ | q
      · rcases hk x hx with w | ⟨_, w⟩
        · exact Or.inl ⟨x, w, q1, q2⟩
        · rw [q2] at w
          exact absurd ((nI_eq (by omega) (by omega)).mp w) yi
      · exact Or.inr q
/-- a READY REMOVE is carried out -/
theorem sf_J_rem {i : Nat} (h : sf_J m ni ne nd mm ml mp dm mi di si mib dib (A ++ r :: B)) (h4 : r.1 = 4) (h0 : r.2.1 = 0) (hi0 : r.2.2.2.1 = nI i) (i1 : 1 ≤ i) (i2 : i ≤ ni) :
    sf_J m ni ne nd mm (upd ml i (ml i - 1)) mp dm mi di si mib dib (A ++ B) := by
  obtain ⟨⟨n1, n2, n3⟩, hr, hp, hs, hi⟩ := h
  refine ⟨⟨n1, n2, n3⟩, fun x hx => hr x (sf_mem_del hx), sf_pw_del hp, fun e he => ?_, fun y y1 y2 => ?_⟩
  · obtain ⟨a, b, c, d, f, k⟩ := hs e he
    refine ⟨a, b, c, d, fun z => ⟨(f z).1, ?_⟩, fun z => ⟨(k z).1, ?_⟩⟩
    · rcases (f z).2 with ⟨x, hx, q1, q2, q3, q4⟩ | ⟨y, w⟩
      · rcases sf_mem_or hx with rfl | w
        · rw [h0] at q4; exact absurd q4 (of_decide_eq_true rfl)
        · exact Or.inl ⟨x, w, q1, q2, q3, q4⟩
      · exact Or.inr ⟨fun x hx => y x (sf_mem_del hx), w⟩
    · rcases (k z).2 with ⟨x, hx, q1, q2, q3, q4⟩ | ⟨y, w⟩
      · rcases sf_mem_or hx with rfl | w
        · exact absurd h0 q4
        · exact Or.inl ⟨x, w, q1, q2, q3, q4⟩
      · exact Or.inr ⟨fun x hx => y x (sf_mem_del hx), w⟩
  · obtain ⟨a, b⟩ := hi y y1 y2
    refine ⟨fun z => ?_, b⟩
    obtain ⟨a1, a2, a3⟩ := a z
    refine ⟨a1, ?_, fun im => ?_⟩
    · rcases a2 with ⟨x, hx, q1, q2⟩ | q
      · rcases sf_mem_or hx with rfl | w
        · rw [h4] at q1; exact absurd q1 (of_decide_eq_true rfl)
        · exact Or.inl ⟨x, w, q1, q2⟩
      · exact Or.inr q
    · have c := sf_cR_del A B r (nI y)
      have a3 := a3 im
      by_cases yi : y = i
      · subst yi
        rw [h4, hi0] at c
        simp at c
        rw [sf_upd_s, a3, c, ← Nat.add_assoc, nI_pred]
      · have w : (nI i == nI y) = false := by simpa using sf_nI_ne (by omega) (by omega) (Ne.symm yi)
        rw [h4, hi0, w] at c
        rw [sf_upd_n yi, a3, c]
        rfl
/-- a READY FREE_INODE is carried out -/
theorem sf_J_fi {i : Nat} (h : sf_J m ni ne nd mm ml mp dm mi di si mib dib (A ++ r :: B)) (h6 : r.1 = 6) (h0 : r.2.1 = 0) (hi0 : r.2.2.2.1 = nI i) (i1 : 1 ≤ i) (i2 : i ≤ ni) :
    sf_J m ni ne nd mm ml mp dm mi di si (upd mib i 0) dib (A ++ B) := by
  have hd := sf_J_del h (by rw [h6]; decide) (by rw [h6]; decide)
  obtain ⟨⟨n1, n2, n3⟩, hr, hp, hs, hi⟩ := h
  obtain ⟨_, hr', hp', hs', hi'⟩ := hd
  have q := (hr r (by simp)).2.2.2.2.2 h6
  rw [hi0, sf_nI_c (by omega)] at q
  refine ⟨⟨n1, n2, n3⟩, fun x hx => ?_, hp', hs', fun y y1 y2 => ?_⟩
  · obtain ⟨w, o1, o2, o3, o4, o6⟩ := hr' x hx
    refine ⟨w, o1, o2, o3, o4, fun c => ?_⟩
    obtain ⟨j, j1, j2, j3, j4⟩ := sf_wf_i w n1
    have ji : j ≠ i := by
      rintro rfl
      exact sf_pw_at hp hx ⟨by rw [h6, c], Or.inr (Or.inr (Or.inr ⟨h6, by rw [hi0, j3]⟩))⟩
    have w2 := o6 c
    rw [j4] at w2 ⊢
    rw [sf_upd_n ji]
    exact w2
  · obtain ⟨a, b⟩ := hi' y y1 y2
    by_cases yi : y = i
    · subst yi
      exact ⟨fun z => absurd q.1 z, fun z => absurd (q.2.2 h0) z⟩
    · rw [sf_io, sf_upd_n yi]
      exact ⟨a, b⟩
end
end
section
/-! the invariant through changes of states (maps) and block writes -/
def sf_sim (f : sf_R → sf_R) : Prop := ∀ r, (f r).1 = r.1 ∧ (f r).2.2.1 = r.2.2.1 ∧ (f r).2.2.2.1 = r.2.2.2.1 ∧ (f r).2.2.2.2.1 = r.2.2.2.2.1 ∧ (r.1 ≠ 4 → (f r).2.2.2.2.2 = r.2.2.2.2.2)
theorem sf_sim_rm {P : sf_R → Bool} (hP : ∀ r, P r = true → r.1 = 4) : sf_sim (sf_rm P) := by
  intro r
  by_cases c : P r = true
  · have e : sf_rm P r = sf_rel r := by rw [sf_rm, if_pos c]
    rw [e]
    exact ⟨rfl, rfl, rfl, rfl, fun k => absurd (hP r c) k⟩
  · have e : sf_rm P r = r := by rw [sf_rm, if_neg c]
    rw [e]
    exact ⟨rfl, rfl, rfl, rfl, fun _ => rfl⟩
theorem sf_own_rm (e : Int32) : sf_own e = sf_rm (sf_isOH e) := rfl
theorem sf_sim_own (e : Int32) : sf_sim (sf_own e) := by
  rw [sf_own_rm]
  refine sf_sim_rm (fun r h => ?_)
  simp [sf_isOH] at h
  exact h.1
theorem sf_sim_sst (v : sf_R → Int32) : sf_sim (fun r => sf_sst r (v r)) := fun r => ⟨rfl, rfl, rfl, rfl, fun _ => rfl⟩
theorem sf_sim_pw {f : sf_R → sf_R} {l : List sf_R} (hf : sf_sim f) (h : sf_pw l) : sf_pw (l.map f) := by
  refine List.pairwise_map.mpr (List.Pairwise.imp (fun {a b} k c => k ?_) h)
  obtain ⟨a1, a2, a3, a4, a5⟩ := hf a
  obtain ⟨b1, b2, b3, b4, b5⟩ := hf b
  obtain ⟨c1, c2⟩ := c
  rw [a1, b1] at c1
  rw [a1, a2, b2, a3, b3] at c2
  refine ⟨c1, ?_⟩
  rcases c2 with ⟨k1, k2⟩ | ⟨k1, k2⟩ | ⟨k1, k2, k3⟩ | ⟨k1, k2⟩
  · exact Or.inl ⟨k1, k2⟩
  · exact Or.inr (Or.inl ⟨k1, k2⟩)
  · rw [a5 (by rw [k1]; decide), b5 (by rw [← c1, k1]; decide)] at k3
    exact Or.inr (Or.inr (Or.inl ⟨k1, k2, k3⟩))
  · exact Or.inr (Or.inr (Or.inr ⟨k1, k2⟩))
theorem sf_sim_noA {f : sf_R → sf_R} {l : List sf_R} {e : Nat} (hf : sf_sim f) (h : sf_noA l e) : sf_noA (l.map f) e := by
  intro x hx k
  obtain ⟨r, hr, rfl⟩ := List.mem_map.mp hx
  rw [(hf r).1] at k
  rw [(hf r).2.1]
  exact h r hr k
theorem sf_sim_hasI {f : sf_R → sf_R} {l : List sf_R} {i : Nat} (hf : sf_sim f) (h : sf_hasI l i) : sf_hasI (l.map f) i := by
  obtain ⟨r, hr, a, b⟩ := h
  exact ⟨f r, List.mem_map.mpr ⟨r, hr, rfl⟩, by rw [(hf r).1, a], by rw [(hf r).2.2.1, b]⟩
theorem sf_sim_cR {f : sf_R → sf_R} {l : List sf_R} (hf : sf_sim f) (x : Int32) : sf_cR (l.map f) x = sf_cR l x := by
  rw [sf_cR, sf_cR, List.countP_map]
  refine congrArg (fun p => l.countP p) (funext fun r => ?_)
  show ((f r).1 == 4 && (f r).2.2.2.1 == x) = _
  rw [(hf r).1, (hf r).2.2.1]
section
variable {m ni ne nd : Nat} {mm ml mp dm mi di si mib dib : Nat → Int32} {l A B : List sf_R} {r : sf_R}
theorem sf_J_map {dm' di' si' : Nat → Int32} {f : sf_R → sf_R} (hf : sf_sim f) (h : sf_J m ni ne nd mm ml mp dm mi di si mib dib l)
    (hr : ∀ r, r ∈ l → sf_wf ni ne nd r → sf_ro mm mp dm mi mib r → sf_wf ni ne nd (f r) ∧ sf_ro mm mp dm' mi mib (f r))
    (hs : ∀ e, e < ne → sf_so ni mm dm mi di si l e → sf_so ni mm dm' mi di' si' (l.map f) e)
    (hd : ∀ i, 1 ≤ i → i ≤ ni → sf_io m ne mm ml dm mi mib dib l i → dm' i ≠ 0 → mib i ≠ 0 ∧ dib i ≠ 0) :
    sf_J m ni ne nd mm ml mp dm' mi di' si' mib dib (l.map f) := by
  obtain ⟨hn, hr0, hp, hs0, hi⟩ := h
  refine ⟨hn, fun x hx => ?_, sf_sim_pw hf hp, fun e he => hs e he (hs0 e he), fun i i1 i2 => ⟨fun z => ?_, hd i i1 i2 (hi i i1 i2)⟩⟩
  · obtain ⟨r, hr1, rfl⟩ := List.mem_map.mp hx
    exact hr r hr1 (hr0 r hr1).1 (hr0 r hr1).2
  · obtain ⟨a1, a2, a3⟩ := (hi i i1 i2).1 z
    refine ⟨a1, ?_, fun im => by rw [sf_sim_cR hf]; exact a3 im⟩
    rcases a2 with y | y
    · exact Or.inl (sf_sim_hasI hf y)
    · exact Or.inr y
/-- a change of kind 4 alone keeps the record's facts -/
theorem sf_ro_4 {x y : sf_R} (h4 : x.1 = 4) (hk : y.1 = x.1) (hi : y.2.2.2.1 = x.2.2.2.1) (he : y.2.2.1 = x.2.2.1) (hw : sf_wf ni ne nd x) (ho : sf_ro mm mp dm mi mib x) {dm' : Nat → Int32} : sf_wf ni ne nd y ∧ sf_ro mm mp dm' mi mib y := by
  have hy : y.1 = 4 := by rw [hk, h4]
  refine ⟨⟨by rw [hi]; exact hw.1, fun _ => by rw [he]; exact hw.2.1 (Or.inr h4), fun c => ?_, fun c => ?_, fun c => ?_, fun c => ?_⟩, fun c => ?_, fun c => ?_, fun c => ?_, fun _ => by rw [hi]; exact ho.2.2.2.1 h4, fun c => ?_⟩
  · rw [hy] at c; exact absurd c (by decide)
  · rw [hy] at c; exact absurd c (by decide)
  · rw [hy] at c; rcases c with c | c <;> exact absurd c (by decide)
  · rw [hy] at c; exact absurd c (by decide)
  · rw [hy] at c; exact absurd c (by decide)
  · rw [hy] at c; exact absurd c (by decide)
  · rw [hy] at c; exact absurd c (by decide)
  · rw [hy] at c; exact absurd c (by decide)
/-- REMOVEs with P are released, SAFE of their slots cleared -/
theorem sf_J_release {P : sf_R → Bool} {si' : Nat → Int32} (hP : ∀ r, P r = true → r.1 = 4) (h : sf_J m ni ne nd mm ml mp dm mi di si mib dib l)
    (hs1 : ∀ e, e < ne → si' e = si e ∨ si' e = 0) (hs2 : ∀ e, e < ne → ∀ r, r ∈ l → P r = true → r.2.2.1 = nI e → si' e = 0) :
    sf_J m ni ne nd mm ml mp dm mi di si' mib dib (l.map (sf_rm P)) := by
  have hf := sf_sim_rm hP
  refine sf_J_map hf h (fun r _ hw ho => ?_) (fun e he hso => ?_) (fun i _ _ hio => hio.2)
  · by_cases c : P r = true
    · exact sf_ro_4 (hP r c) (hf r).1 (hf r).2.2.1 (hf r).2.1 hw ho
    · have e : sf_rm P r = r := by rw [sf_rm, if_neg c]
      rw [e]
      exact ⟨hw, ho⟩
  · obtain ⟨a, b, c, d, f, k⟩ := hso
    refine ⟨a, ?_, c, d, fun z => ?_, fun z => ⟨(k z).1, ?_⟩⟩
    · rcases hs1 e he with q | q
      · rw [q]; exact b
      · exact ⟨0, by omega, q⟩
    · have q : si' e = si e := by
        rcases hs1 e he with q | q
        · exact q
        · exact absurd q z
      rw [q] at z ⊢
      refine ⟨(f z).1, ?_⟩
      rcases (f z).2 with ⟨x, hx, q1, q2, q3, q4⟩ | ⟨y, w⟩
      · by_cases c : P x = true
        · exact absurd (q.symm.trans (hs2 e he x hx c q2)) z
        · have e : sf_rm P x = x := by rw [sf_rm, if_neg c]
          exact Or.inl ⟨x, List.mem_map.mpr ⟨x, hx, e⟩, q1, q2, q3, q4⟩
      · exact Or.inr ⟨sf_sim_noA hf y, w⟩
    · rcases (k z).2 with ⟨x, hx, q1, q2, q3, q4⟩ | ⟨y, w⟩
      · refine Or.inl ⟨sf_rm P x, List.mem_map.mpr ⟨x, hx, rfl⟩, by rw [(hf x).1, q1], by rw [(hf x).2.1, q2], by rw [(hf x).2.2.1, q3], ?_⟩
        by_cases c : P x = true
        · have e : sf_rm P x = sf_rel x := by rw [sf_rm, if_pos c]
          rw [e]
          show (16 : Int32) ≠ 0
          decide
        · have e : sf_rm P x = x := by rw [sf_rm, if_neg c]
          rw [e]
          exact q4
      · exact Or.inr ⟨sf_sim_noA hf y, w⟩
/-- REMOVEs change OTHER alone -/
theorem sf_J_redir {f : sf_R → sf_R} (hf : sf_sim f) (hst : ∀ r, (f r).2.1 = r.2.1) (hn4 : ∀ r, r.1 ≠ 4 → f r = r) (h : sf_J m ni ne nd mm ml mp dm mi di si mib dib l) : sf_J m ni ne nd mm ml mp dm mi di si mib dib (l.map f) := by
  refine sf_J_map hf h (fun r _ hw ho => ?_) (fun e he hso => ?_) (fun i _ _ hio => hio.2)
  · by_cases c : r.1 = 4
    · exact sf_ro_4 c (hf r).1 (hf r).2.2.1 (hf r).2.1 hw ho
    · rw [hn4 r c]
      exact ⟨hw, ho⟩
  · obtain ⟨a, b, c, d, f1, k⟩ := hso
    refine ⟨a, b, c, d, fun z => ⟨(f1 z).1, ?_⟩, fun z => ⟨(k z).1, ?_⟩⟩
    · rcases (f1 z).2 with ⟨x, hx, q1, q2, q3, q4⟩ | ⟨y, w⟩
      · exact Or.inl ⟨f x, List.mem_map.mpr ⟨x, hx, rfl⟩, by rw [(hf x).1, q1], by rw [(hf x).2.1, q2], by rw [(hf x).2.2.1, q3], by rw [hst, q4]⟩
      · exact Or.inr ⟨sf_sim_noA hf y, w⟩
    · rcases (k z).2 with ⟨x, hx, q1, q2, q3, q4⟩ | ⟨y, w⟩
      · exact Or.inl ⟨f x, List.mem_map.mpr ⟨x, hx, rfl⟩, by rw [(hf x).1, q1], by rw [(hf x).2.1, q2], by rw [(hf x).2.2.1, q3], by rw [hst]; exact q4⟩
      · exact Or.inr ⟨sf_sim_noA hf y, w⟩
/-- own-held REMOVEs of e go on to NEEDS_DIR, SAFE(e) is cleared -/
theorem sf_J_own {e : Nat} (h : sf_J m ni ne nd mm ml mp dm mi di si mib dib l) (he : e < ne) : sf_J m ni ne nd mm ml mp dm mi di (upd si e 0) mib dib (l.map (sf_own (nI e))) := by
  rw [sf_own_rm]
  have hn := h.1
  refine sf_J_release (fun r hr => ?_) h (fun e' _ => ?_) (fun e' he' r _ hr hs => ?_)
  · simp [sf_isOH] at hr
    exact hr.1
  · by_cases c : e' = e
    · subst c; exact Or.inr sf_upd_s
    · exact Or.inl (sf_upd_n c)
  · simp [sf_isOH] at hr
    have : e' = e := (nI_eq (by omega) (by omega)).mp (hs.symm.trans hr.2.2.1)
    subst this
    exact sf_upd_s
/-- a finished ADD is closed -/
theorem sf_J_close {e : Nat} (h : sf_J m ni ne nd mm ml mp dm mi di si mib dib (A ++ r :: B)) (h1 : r.1 = 1) (h0 : r.2.1 = 0) (hs0 : r.2.2.1 = nI e) (he : e < ne) :
    sf_J m ni ne nd mm ml mp dm mi di (upd si e (mi e)) mib dib ((A ++ B).map (sf_own (nI e))) := by
  have hd := sf_J_del h (by rw [h1]; decide) (by rw [h1]; decide)
  obtain ⟨⟨n1, n2, n3⟩, hr, hp, hs, hi⟩ := h
  have q := (hr r (by simp)).2.1 h1
  rw [hs0, sf_nI_c (by omega)] at q
  have hq := q.2 (Or.inl h0)
  have hno : sf_noA (A ++ B) e := by
    intro x hx k w
    exact sf_pw_at hp hx ⟨by rw [h1, k], Or.inl ⟨h1, by rw [hs0, w]⟩⟩
  have hf := sf_sim_own (nI e)
  refine sf_J_map hf hd (fun x _ hw ho => ?_) (fun e' he' hso => ?_) (fun i _ _ hio => hio.2)
  · by_cases c : sf_isOH (nI e) x = true
    · have c4 : x.1 = 4 := by
        simp [sf_isOH] at c
        exact c.1
      exact sf_ro_4 c4 (hf x).1 (hf x).2.2.1 (hf x).2.1 hw ho
    · have e : sf_own (nI e) x = x := by rw [sf_own, if_neg c]
      rw [e]
      exact ⟨hw, ho⟩
  · obtain ⟨a, b, c, d, f, k⟩ := hso
    have hk : di e' ≠ 0 → dm (di e').toNatClampNeg ≠ 0 ∧ (sf_cov ((A ++ B).map (sf_own (nI e))) e' (di e') ∨ (sf_noA ((A ++ B).map (sf_own (nI e))) e' ∧ mi e' = di e')) := by
      refine fun z => ⟨(k z).1, ?_⟩
      rcases (k z).2 with ⟨x, hx, q1, q2, q3, q4⟩ | ⟨y, w⟩
      · refine Or.inl ⟨sf_own (nI e) x, List.mem_map.mpr ⟨x, hx, rfl⟩, by rw [(hf x).1, q1], by rw [(hf x).2.1, q2], by rw [(hf x).2.2.1, q3], ?_⟩
        by_cases c : sf_isOH (nI e) x = true
        · rw [sf_own, if_pos c]
          show (16 : Int32) ≠ 0
          decide
        · rw [sf_own, if_neg c]
          exact q4
      · exact Or.inr ⟨sf_sim_noA hf y, w⟩
    by_cases ee : e' = e
    · subst ee
      refine ⟨a, by rw [sf_upd_s]; exact a, c, d, fun z => ?_, hk⟩
      rw [sf_upd_s]
      refine ⟨?_, Or.inr ⟨sf_sim_noA hf hno, rfl⟩⟩
      rw [q.1]
      exact hq
    · rw [sf_so, sf_upd_n ee]
      refine ⟨a, b, c, d, fun z => ⟨(f z).1, ?_⟩, hk⟩
      rcases (f z).2 with ⟨x, hx, q1, q2, q3, q4⟩ | ⟨y, w⟩
      · have c : ¬ sf_isOH (nI e) x = true := by
          intro c
          simp [sf_isOH] at c
          exact ee ((nI_eq (by omega) (by omega)).mp (q2.symm.trans c.2.2.1))
        have e : sf_own (nI e) x = x := by rw [sf_own, if_neg c]
        exact Or.inl ⟨x, List.mem_map.mpr ⟨x, hx, e⟩, q1, q2, q3, q4⟩
      · exact Or.inr ⟨sf_sim_noA hf y, w⟩
/-- records of kind 2 or 3 are dropped, or get another state -/
theorem sf_J_flt {dib' : Nat → Int32} {f : sf_R → Option sf_R} (h : sf_J m ni ne nd mm ml mp dm mi di si mib dib l)
    (hf : ∀ r x, f r = some x → x = r ∨ (r.1 = 3 ∧ ∃ v, x = sf_sst r v)) (hf2 : ∀ r, r.1 ≠ 2 → r.1 ≠ 3 → f r = some r)
    (hI : ∀ i, 1 ≤ i → i ≤ ni → mib i ≠ 0 → (sf_hasI l i ∨ dib i ≠ 0) → (sf_hasI (l.filterMap f) i ∨ dib' i ≠ 0)) (hD : ∀ i, 1 ≤ i → i ≤ ni → mib i ≠ 0 → dib i ≠ 0 → dib' i ≠ 0) :
    sf_J m ni ne nd mm ml mp dm mi di si mib dib' (l.filterMap f) := by
  obtain ⟨hn, hr, hp, hs, hi⟩ := h
  have hmem : ∀ x, x ∈ l.filterMap f → ∃ r, r ∈ l ∧ f r = some x := fun x hx => by
    obtain ⟨r, a, b⟩ := List.mem_filterMap.mp hx
    exact ⟨r, a, b⟩
  have hm4 : ∀ x, x ∈ l → x.1 = 4 → x ∈ l.filterMap f := fun x hx k =>
    List.mem_filterMap.mpr ⟨x, hx, hf2 x (by rw [k]; decide) (by rw [k]; decide)⟩
  have hno : ∀ e, sf_noA l e → sf_noA (l.filterMap f) e := by
    intro e y x hx k
    obtain ⟨r, h1, h2⟩ := hmem x hx
    rcases hf r x h2 with rfl | ⟨h3, v, rfl⟩
    · exact y x h1 k
    · exact absurd (h3.symm.trans k) (by decide)
  have hcR : ∀ x, sf_cR (l.filterMap f) x = sf_cR l x := by
    intro x
    clear hI hr hp hs hi hmem hm4 hno
    induction l with
    | nil => rfl
    | cons a l ih =>
      have e1 : sf_cR (a :: l) x = sf_cR l x + (if a.1 == 4 && a.2.2.2.1 == x then 1 else 0) := by
        simp [sf_cR, List.countP_cons]
      rw [e1, ← ih]
      by_cases c : a.1 = 4
      · rw [List.filterMap_cons_some (hf2 a (by rw [c]; decide) (by rw [c]; decide))]
        simp [sf_cR, List.countP_cons]
      · have z : (a.1 == 4 && a.2.2.2.1 == x) = false := by simp [c]
        rw [z]
        cases k : f a with
        | none => rw [List.filterMap_cons_none k]; rfl
        | some y =>
          rw [List.filterMap_cons_some k]
          have y4 : (y.1 == 4 && y.2.2.2.1 == x) = false := by
            rcases hf a y k with rfl | ⟨h3, v, rfl⟩
            · exact z
            · simp [sf_sst, h3]
          simp [sf_cR, List.countP_cons, y4]
  refine ⟨hn, fun x hx => ?_, ?_, fun e he => ?_, fun i i1 i2 => ?_⟩
  · obtain ⟨r, h1, h2⟩ := hmem x hx
    rcases hf r x h2 with rfl | ⟨h3, v, rfl⟩
    · exact hr x h1
    · obtain ⟨w, o1, o2, o3, o4, o6⟩ := hr r h1
      have k1 : r.1 ≠ 1 := by rw [h3]; decide
      have k4 : r.1 ≠ 4 := by rw [h3]; decide
      have k5 : r.1 ≠ 5 := by rw [h3]; decide
      have k6 : r.1 ≠ 6 := by rw [h3]; decide
      have k2 : r.1 ≠ 2 := by rw [h3]; decide
      exact ⟨⟨w.1, w.2.1, w.2.2.1, w.2.2.2.1, fun c => by rcases c with c | c; exact absurd c k5; exact absurd c k6, fun c => absurd c k1⟩, fun c => absurd c k1, fun c => absurd c k2, o3, fun c => absurd c k4, fun c => absurd c k6⟩
  · refine List.pairwise_filterMap.mpr (List.Pairwise.imp (fun {a b} k x hx y hy c => k ?_) hp)
    have key : ∀ r x, f r = some x → x.1 = r.1 ∧ x.2.2.1 = r.2.2.1 ∧ x.2.2.2.1 = r.2.2.2.1 ∧ x.2.2.2.2.2 = r.2.2.2.2.2 := by
      intro r x e
      rcases hf r x e with rfl | ⟨_, v, rfl⟩
      · exact ⟨rfl, rfl, rfl, rfl⟩
      · exact ⟨rfl, rfl, rfl, rfl⟩
    obtain ⟨a1, a2, a3, a4⟩ := key a x hx
    obtain ⟨b1, b2, b3, b4⟩ := key b y hy
    rw [sf_key, a1, b1, a2, b2, a3, b3, a4, b4] at c
    exact c
  · obtain ⟨a, b, c, d, f1, k⟩ := hs e he
    refine ⟨a, b, c, d, fun z => ⟨(f1 z).1, ?_⟩, fun z => ⟨(k z).1, ?_⟩⟩
    · rcases (f1 z).2 with y | ⟨y, w⟩
      · exact Or.inl (sf_cov2_mono y hm4)
      · exact Or.inr ⟨hno e y, w⟩
    · rcases (k z).2 with y | ⟨y, w⟩
      · exact Or.inl (sf_cov_mono y hm4)
      · exact Or.inr ⟨hno e y, w⟩
  · obtain ⟨a, b⟩ := hi i i1 i2
    refine ⟨fun z => ?_, fun z => ⟨(b z).1, hD i i1 i2 (b z).1 (b z).2⟩⟩
    obtain ⟨a1, a2, a3⟩ := a z
    exact ⟨a1, hI i i1 i2 a1 a2, fun im => by rw [hcR]; exact a3 im⟩
/-- an inode block is written -/
theorem sf_J_ino {dm' : Nat → Int32} {f : sf_R → sf_R} {S : Nat → Prop} (h : sf_J m ni ne nd mm ml mp dm mi di si mib dib l)
    (hf : sf_sim f) (ho' : ∀ r, (f r).2.2.2.2.2 = r.2.2.2.2.2)
    (hd1 : ∀ i, S i → sf_hasI l i → dm' i = 0) (hd2 : ∀ i, S i → ¬ sf_hasI l i → dm' i = mm i) (hd3 : ∀ i, ¬ S i → dm' i = dm i)
    (hf1 : ∀ r i, r ∈ l → r.1 = 1 → r.2.2.2.1 = nI i → i ≤ ni → (f r).2.1 = r.2.1 ∨ (S i ∧ ¬ sf_hasI l i ∧ (f r).2.1 = r.2.1 &&& (-5)))
    (hf5 : ∀ r, r ∈ l → r.1 = 5 → (f r).2.1 = r.2.1 ∨ (f r).2.1 = 0)
    (hf6 : ∀ r i, r ∈ l → r.1 = 6 → r.2.2.2.1 = nI i → i ≤ ni → (f r).2.1 = r.2.1 ∨ (S i ∧ (f r).2.1 = 0))
    (hf4 : ∀ r, r ∈ l → r.1 = 4 → (f r).2.1 = r.2.1) :
    sf_J m ni ne nd mm ml mp dm' mi di si mib dib (l.map f) := by
  obtain ⟨⟨n1, n2, n3⟩, hr, hp, hs, hi⟩ := id h
  have hdI : ∀ i, i ≤ ni → dm i ≠ 0 → ¬ sf_hasI l i := by
    rintro i i2 k ⟨x, hx, q1, q2⟩
    have := ((hr x hx).2.2.1 q1).2
    rw [q2, sf_nI_c (by omega)] at this
    exact k this
  have hkeep : ∀ i, i ≤ ni → dm i ≠ 0 → mm i ≠ 0 → dm' i ≠ 0 := by
    intro i i2 k1 k2
    by_cases c : S i
    · rw [hd2 i c (hdI i i2 k1)]
      exact k2
    · rw [hd3 i c]
      exact k1
  have hzero : ∀ i, (S i → sf_hasI l i ∨ mm i = 0) → dm i = 0 → dm' i = 0 := by
    intro i c k
    by_cases s : S i
    · by_cases w : sf_hasI l i
      · exact hd1 i s w
      · rcases c s with q | q
        · exact absurd q w
        · rw [hd2 i s w]; exact q
    · rw [hd3 i s]; exact k
  refine sf_J_map hf h (fun x hx hw ho => ?_) (fun e he hso => ?_) (fun i i1 i2 hio z => ?_)
  · obtain ⟨f1, f2, f3, f4, _⟩ := hf x
    have f5 := ho' x
    obtain ⟨j, j1, j2, j3, j4⟩ := sf_wf_i hw n1
    obtain ⟨w1, w2, w3, w4, w5, w6⟩ := hw
    obtain ⟨o1, o2, o3, o4, o6⟩ := ho
    have hst1 : x.1 = 1 → ((f x).2.1 = 0 ∨ (f x).2.1 = 4 ∨ (f x).2.1 = 8 ∨ (f x).2.1 = 12) := by
      intro c
      rcases hf1 x j hx c j3 j2 with q | ⟨_, _, q⟩
      · rw [q]; exact w6 c
      · rw [q]
        rcases w6 c with k | k | k | k <;> rw [k] <;> decide
    have hst56 : x.1 = 5 ∨ x.1 = 6 → ((f x).2.1 = 0 ∨ (f x).2.1 = 4) := by
      intro c
      have w := w5 c
      rcases c with c | c
      · rcases hf5 x hx c with q | q
        · rw [q]; exact w
        · exact Or.inl q
      · rcases hf6 x j hx c j3 j2 with q | ⟨_, q⟩
        · rw [q]; exact w
        · exact Or.inl q
    refine ⟨?_, ?_⟩
    · rw [sf_wf, f1, f2, f3, f4, f5]
      exact ⟨w1, w2, w3, w4, hst56, hst1⟩
    · rw [sf_ro, f1, f2, f3, f5, j4]
      rw [j4] at o1 o2 o3 o4 o6
      refine ⟨fun c => ⟨(o1 c).1, fun k => ?_⟩, fun c => ⟨(o2 c).1, hzero j (fun _ => Or.inl ⟨x, hx, c, j3⟩) (o2 c).2⟩, o3, o4, fun c => ⟨(o6 c).1, (o6 c).2.1, fun k => ?_⟩⟩
      · have hmm : mm j ≠ 0 := by
          obtain ⟨e, e1, e2⟩ := w2 (Or.inl c)
          have q := (o1 c).1
          rw [e2, sf_nI_c (by omega)] at q
          have q2 := (hs e e1).2.2.2.1
          rw [q, j3, sf_nI_c (by omega)] at q2
          exact q2 (sf_nI_0 j1 (by omega))
        rcases hf1 x j hx c j3 j2 with q | ⟨s, w, q⟩
        · rw [q] at k
          exact hkeep j j2 ((o1 c).2 k) hmm
        · rw [hd2 j s w]
          exact hmm
      · rcases hf6 x j hx c j3 j2 with q | ⟨s, q⟩
        · rw [q] at k
          exact hzero j (fun _ => Or.inr (o6 c).1) ((o6 c).2.2 k)
        · by_cases w : sf_hasI l j
          · exact hd1 j s w
          · rw [hd2 j s w]
            exact (o6 c).1
  · obtain ⟨a, b, c, d, f1, k⟩ := hso
    have hcov : ∀ x, x ∈ l → x.1 = 4 → mm x.2.2.2.1.toNatClampNeg ≠ 0 := fun x hx c => (hr x hx).2.2.2.2.1 c
    have hm4 : ∀ x, x ∈ l → x.1 = 4 → (f x).1 = 4 ∧ (f x).2.2.1 = x.2.2.1 ∧ (f x).2.2.2.1 = x.2.2.2.1 ∧ (f x).2.1 = x.2.1 := fun x hx c => ⟨by rw [(hf x).1, c], (hf x).2.1, (hf x).2.2.1, hf4 x hx c⟩
    refine ⟨a, b, c, d, fun z => ?_, fun z => ?_⟩
    · obtain ⟨j, k1, k2⟩ := b
      have q := (f1 z).1
      rcases (f1 z).2 with ⟨x, hx, q1, q2, q3, q4⟩ | ⟨y, w⟩
      · have mmj := hcov x hx q1
        rw [q3] at mmj
        obtain ⟨y1, y2, y3, y4⟩ := hm4 x hx q1
        refine ⟨?_, Or.inl ⟨f x, List.mem_map.mpr ⟨x, hx, rfl⟩, y1, by rw [y2, q2], by rw [y3, q3], by rw [y4, q4]⟩⟩
        rw [k2, sf_nI_c (by omega)] at q mmj ⊢
        exact hkeep j k1 q mmj
      · have mmj := d (by rw [w]; exact z)
        rw [w] at mmj
        refine ⟨?_, Or.inr ⟨sf_sim_noA hf y, w⟩⟩
        rw [k2, sf_nI_c (by omega)] at q mmj ⊢
        exact hkeep j k1 q mmj
    · obtain ⟨j, k1, k2⟩ := c
      have q := (k z).1
      rcases (k z).2 with ⟨x, hx, q1, q2, q3, q4⟩ | ⟨y, w⟩
      · have mmj := hcov x hx q1
        rw [q3] at mmj
        obtain ⟨y1, y2, y3, y4⟩ := hm4 x hx q1
        refine ⟨?_, Or.inl ⟨f x, List.mem_map.mpr ⟨x, hx, rfl⟩, y1, by rw [y2, q2], by rw [y3, q3], by rw [y4]; exact q4⟩⟩
        rw [k2, sf_nI_c (by omega)] at q mmj ⊢
        exact hkeep j k1 q mmj
      · have mmj := d (by rw [w]; exact z)
        rw [w] at mmj
        refine ⟨?_, Or.inr ⟨sf_sim_noA hf y, w⟩⟩
        rw [k2, sf_nI_c (by omega)] at q mmj ⊢
        exact hkeep j k1 q mmj
  · by_cases s : S i
    · by_cases w : sf_hasI l i
      · exact absurd (hd1 i s w) z
      · rw [hd2 i s w] at z
        obtain ⟨a1, a2, _⟩ := hio.1 z
        refine ⟨a1, ?_⟩
        rcases a2 with q | q
        · exact absurd q w
        · exact q
    · rw [hd3 i s] at z
      exact hio.2 z
/-- a directory block is written: DISK := SAFE there, its NEEDS_DIR REMOVEs become READY -/
theorem sf_J_dir {di' : Nat → Int32} {f : sf_R → sf_R} {S : Nat → Prop} (h : sf_J m ni ne nd mm ml mp dm mi di si mib dib l)
    (hf : sf_sim f) (hf4 : ∀ r, r.1 ≠ 4 → f r = r) (hd1 : ∀ e, S e → di' e = si e) (hd2 : ∀ e, ¬ S e → di' e = di e)
    (hst : ∀ r, r.1 = 4 → (f r).2.1 = r.2.1 ∨ (r.2.1 = 16 ∧ ∀ e, e < ne → r.2.2.1 = nI e → S e)) :
    sf_J m ni ne nd mm ml mp dm mi di' si mib dib (l.map f) := by
  refine sf_J_map hf h (fun r _ hw ho => ?_) (fun e he hso => ?_) (fun i _ _ hio => hio.2)
  · by_cases c : r.1 = 4
    · exact sf_ro_4 c (hf r).1 (hf r).2.2.1 (hf r).2.1 hw ho
    · rw [hf4 r c]
      exact ⟨hw, ho⟩
  · obtain ⟨a, b, c, d, f1, k⟩ := hso
    have hc2 : ∀ x, sf_cov2 l e x → sf_cov2 (l.map f) e x := by
      rintro x ⟨y, hy, q1, q2, q3, q4⟩
      refine ⟨f y, List.mem_map.mpr ⟨y, hy, rfl⟩, by rw [(hf y).1, q1], by rw [(hf y).2.1, q2], by rw [(hf y).2.2.1, q3], ?_⟩
      rcases hst y q1 with w | ⟨w, _⟩
      · rw [w, q4]
      · rw [q4] at w
        exact absurd w (by decide)
    have hsi : si e ≠ 0 → dm (si e).toNatClampNeg ≠ 0 ∧ (sf_cov2 (l.map f) e (si e) ∨ (sf_noA (l.map f) e ∧ mi e = si e)) := by
      refine fun z => ⟨(f1 z).1, ?_⟩
      rcases (f1 z).2 with y | ⟨y, w⟩
      · exact Or.inl (hc2 _ y)
      · exact Or.inr ⟨sf_sim_noA hf y, w⟩
    by_cases s : S e
    · rw [sf_so, hd1 e s]
      refine ⟨a, b, b, d, hsi, fun z => ⟨(hsi z).1, ?_⟩⟩
      rcases (hsi z).2 with y | y
      · exact Or.inl (sf_cov_of2 y)
      · exact Or.inr y
    · rw [sf_so, hd2 e s]
      refine ⟨a, b, c, d, hsi, fun z => ⟨(k z).1, ?_⟩⟩
      rcases (k z).2 with ⟨y, hy, q1, q2, q3, q4⟩ | ⟨y, w⟩
      · refine Or.inl ⟨f y, List.mem_map.mpr ⟨y, hy, rfl⟩, by rw [(hf y).1, q1], by rw [(hf y).2.1, q2], by rw [(hf y).2.2.1, q3], ?_⟩
        rcases hst y q1 with w | ⟨_, w⟩
        · rw [w]; exact q4
        · exact absurd (w e he q2) s
      · exact Or.inr ⟨sf_sim_noA hf y, w⟩
/-- ADDs lose NEEDS_NAME -/
theorem sf_J_name {f : sf_R → sf_R} (h : sf_J m ni ne nd mm ml mp dm mi di si mib dib l) (hf1 : ∀ r, f r = r ∨ (r.1 = 1 ∧ f r = sf_sst r (r.2.1 &&& (-9)))) : sf_J m ni ne nd mm ml mp dm mi di si mib dib (l.map f) := by
  have hf : sf_sim f := by
    intro r
    rcases hf1 r with e | ⟨_, e⟩
    · rw [e]; exact ⟨rfl, rfl, rfl, rfl, fun _ => rfl⟩
    · rw [e]; exact ⟨rfl, rfl, rfl, rfl, fun _ => rfl⟩
  have h4 : ∀ r, r.1 = 4 → f r = r := by
    intro r k
    rcases hf1 r with e | ⟨k1, e⟩
    · exact e
    · rw [k] at k1; exact absurd k1 (by decide)
  refine sf_J_map hf h (fun r _ hw ho => ?_) (fun e he hso => ?_) (fun i _ _ hio => hio.2)
  · rcases hf1 r with e | ⟨k1, e⟩
    · rw [e]; exact ⟨hw, ho⟩
    · rw [e]
      obtain ⟨w1, w2, w3, w4, w5, w6⟩ := hw
      obtain ⟨o1, o2, o3, o4, o6⟩ := ho
      have k2 : r.1 ≠ 2 := by rw [k1]; decide
      have k3 : r.1 ≠ 3 := by rw [k1]; decide
      have k4 : r.1 ≠ 4 := by rw [k1]; decide
      have k5 : r.1 ≠ 5 := by rw [k1]; decide
      have k6 : r.1 ≠ 6 := by rw [k1]; decide
      refine ⟨⟨w1, w2, w3, w4, fun c => by rcases c with c | c; exact absurd c k5; exact absurd c k6, fun _ => ?_⟩, fun c => ⟨(o1 c).1, fun k => (o1 c).2 ?_⟩, fun c => absurd c k2, fun c => absurd c k3, fun c => absurd c k4, fun c => absurd c k6⟩
      · show r.2.1 &&& (-9) = 0 ∨ r.2.1 &&& (-9) = 4 ∨ r.2.1 &&& (-9) = 8 ∨ r.2.1 &&& (-9) = 12
        rcases w6 k1 with q | q | q | q <;> rw [q] <;> decide
      · have k : r.2.1 &&& (-9) = 0 ∨ r.2.1 &&& (-9) = 8 := k
        rcases w6 k1 with q | q | q | q <;> rw [q] at k ⊢ <;> revert k <;> decide
  · obtain ⟨a, b, c, d, f1, k⟩ := hso
    refine ⟨a, b, c, d, fun z => ⟨(f1 z).1, ?_⟩, fun z => ⟨(k z).1, ?_⟩⟩
    · rcases (f1 z).2 with ⟨y, hy, q1, q⟩ | ⟨y, w⟩
      · exact Or.inl ⟨y, List.mem_map.mpr ⟨y, hy, h4 y q1⟩, q1, q⟩
      · exact Or.inr ⟨sf_sim_noA hf y, w⟩
    · rcases (k z).2 with ⟨y, hy, q1, q⟩ | ⟨y, w⟩
      · exact Or.inl ⟨y, List.mem_map.mpr ⟨y, hy, h4 y q1⟩, q1, q⟩
      · exact Or.inr ⟨sf_sim_noA hf y, w⟩
end
end
section
/-! the structural facts, and what follows from them -/
def sf_nz (a : Nat → Int32) : Nat := sf_ct (fun x => !decide (a x = 0)) 51 0
def sf_T (db nd : Nat) (g : sf_G) (l : List sf_R) : Prop :=
  (sf_pr (4 * db) (g 6) (g 7) ∧ sf_pr (4 * db) (g 8) (g 9) ∧ sf_pr (4 * db) (g 10) (g 11)) ∧
  (∀ x, x < 51 → (∃ b, b ≤ nd ∧ g 2 x = nI b) ∧ (∃ b, b ≤ nd ∧ g 5 x = nI b)) ∧
  (∀ x, x < 25 → g 20 x = 0 ∨ g 20 x = 1) ∧ l.length + sf_nz (g 2) ≤ 99
def sf_JJ (ib db nd m : Nat) (g : sf_G) (l : List sf_R) : Prop := sf_J m (4 * ib) (4 * db) nd (g 0) (g 1) (g 2) (g 3) (g 7) (g 9) (g 11) (g 16) (g 17) l
/-- mounted -/
def sf_M (ib db nd : Nat) (g : sf_G) (l : List sf_R) : Prop := g 21 0 = 1 ∧ sf_T db nd g l ∧ sf_JJ ib db nd 17 g l
section
variable {ib db nd lim : Nat} {g : sf_G} {l A B : List sf_R} {r : sf_R}
theorem sf_T_K1 (hZ : sf_Z ib db nd lim) (h : ∀ r, r ∈ l → sf_wf (4 * ib) (4 * db) nd r) : sf_K1 l := by
  obtain ⟨z1, z2, z3, z4, -⟩ := hZ
  intro r hr k
  obtain ⟨e, a, b⟩ := (h r hr).2.1 (Or.inr k)
  exact ⟨e, by omega, b⟩
theorem sf_T_K2 (h : ∀ r, r ∈ l → sf_wf (4 * ib) (4 * db) nd r) : sf_K2 (4 * db) l := by
  intro r hr k
  exact (h r hr).2.1 (Or.inr k)
theorem sf_T_K3 (hZ : sf_Z ib db nd lim) (h : ∀ r, r ∈ l → sf_wf (4 * ib) (4 * db) nd r) : sf_K3 l := by
  obtain ⟨z1, z2, z3, z4, -⟩ := hZ
  intro r hr k
  obtain ⟨e, a, b⟩ := (h r hr).2.1 (Or.inl k)
  exact ⟨e, by omega, b⟩
theorem sf_T_ino (hZ : sf_Z ib db nd lim) (h : ∀ r, r ∈ l → sf_wf (4 * ib) (4 * db) nd r) : ∀ r, r ∈ l → (∃ j, j ≤ 16 ∧ r.2.2.2.1 = nI j) ∧ (r.1 = 5 ∨ r.1 = 6 → r.2.1 = 0 ∨ r.2.1 = 4) := by
  obtain ⟨z1, z2, -⟩ := hZ
  intro r hr
  obtain ⟨j, a, b, c⟩ := (h r hr).1
  exact ⟨⟨j, by omega, c⟩, (h r hr).2.2.2.2.1⟩
theorem sf_ca_eq (i : Nat) : ∀ l : List sf_R, sf_pw l → (∀ r, r ∈ l → r.1 = 3 → ∃ k, k < 3 ∧ r.2.2.2.2.2 = nI k) → l.countP (fun r => r.1 == 3 && r.2.2.2.1 == nI i) = sf_ca l i := by
  intro l
  induction l with
  | nil => intro _ _; rfl
  | cons a l ih =>
    intro hp hk
    obtain ⟨p1, p2⟩ := List.pairwise_cons.mp hp
    have ih := ih p2 (fun r hr => hk r (List.mem_cons_of_mem _ hr))
    rw [List.countP_cons, ih]
    by_cases c : a.1 = 3 ∧ a.2.2.2.1 = nI i
    · obtain ⟨c1, c2⟩ := c
      obtain ⟨k, k1, k2⟩ := hk a (by simp) c1
      have e1 : (a.1 == 3 && a.2.2.2.1 == nI i) = true := by rw [c1, c2]; simp
      rw [e1, if_pos rfl]
      have u := sf_ct_upd (P := fun k => (a :: l).any (sf_isAl (nI i) (nI k))) (Q := fun k => l.any (sf_isAl (nI i) (nI k))) (e := k) 3 0 (by omega) (by omega) (fun j _ hj hne => by
        have : sf_isAl (nI i) (nI j) a = false := by
          have w : ¬ nI k = nI j := fun q => hne ((nI_eq (by omega) (by omega)).mp q).symm
          simp [sf_isAl, k2, w]
        simp only [List.any_cons, this, Bool.false_or])
      have e2 : (a :: l).any (sf_isAl (nI i) (nI k)) = true := by
        rw [List.any_cons]
        have : sf_isAl (nI i) (nI k) a = true := by simp [sf_isAl, c1, c2, k2]
        rw [this]; rfl
      have e3 : l.any (sf_isAl (nI i) (nI k)) = false := by
        refine sf_any_none (fun x hx => ?_)
        cases w : sf_isAl (nI i) (nI k) x with
        | false => rfl
        | true =>
          simp [sf_isAl] at w
          exact absurd ⟨by rw [c1, w.1], Or.inr (Or.inr (Or.inl ⟨c1, by rw [c2, w.2.1], by rw [k2, w.2.2]⟩))⟩ (p1 x hx)
      rw [e2, e3, if_pos rfl, if_neg Bool.false_ne_true] at u
      rw [sf_ca, sf_ca]
      omega
    · have e1 : (a.1 == 3 && a.2.2.2.1 == nI i) = false := by
        cases w : (a.1 == 3 && a.2.2.2.1 == nI i) with
        | false => rfl
        | true =>
          simp at w
          exact absurd w c
      rw [e1]
      have e2 : sf_ca (a :: l) i = sf_ca l i := by
        rw [sf_ca, sf_ca]
        refine sf_ct_congr 3 0 (fun j _ _ => ?_)
        have : sf_isAl (nI i) (nI j) a = false := by
          cases w : sf_isAl (nI i) (nI j) a with
          | false => rfl
          | true =>
            simp [sf_isAl] at w
            exact absurd ⟨w.1, w.2.1⟩ c
        simp only [List.any_cons, this, Bool.false_or]
      rw [e2]
      rfl
theorem sf_ca_le (l : List sf_R) (i : Nat) : sf_ca l i ≤ 3 := sf_ct_le _ _ _
theorem sf_ci_le (l : List sf_R) (i : Nat) : sf_ci l i ≤ 3 := by
  rw [sf_ci]
  have := sf_ca_le l i
  split <;> omega
theorem sf_sm_le (l : List sf_R) : ∀ d p, sf_sm (sf_ci l) d p ≤ 3 * d := by
  intro d
  induction d with
  | zero => intro p; exact Nat.le_refl 0
  | succ d ih =>
    intro p
    have := ih (p + 1)
    have := sf_ci_le l p
    rw [sf_sm]
    omega
theorem sf_cl1_fr {f : Nat} (k : Nat) (h1 : f ≠ 10) (h2 : f ≠ 11) : (sf_cl1 g l k).1 f = g f := by
  rw [sf_cl1]
  split
  · simp only [sf_up, sf_st, if_neg h1, if_neg h2]
  · rfl
theorem sf_cl_fr {f : Nat} (h1 : f ≠ 10) (h2 : f ≠ 11) : ∀ k (g : sf_G) (l : List sf_R), (sf_cl k g l).1 f = g f := by
  intro k
  induction k with
  | zero => intro g l; rfl
  | succ k ih =>
    intro g l
    rw [sf_cl, ih, sf_cl1_fr k h1 h2]
theorem sf_upd_id {a : Nat → Int32} {i : Nat} {v : Int32} (h : a i = v) : upd a i v = a := by
  funext j
  rw [upd]
  split
  · rename_i e
    rw [e, h]
  · rfl
end
end
section
/-! writing a block, on both sides -/
def sf_wn (ib db b : Nat) (l : List sf_R) : Nat := if b = 0 then 0 else if b ≤ ib then sf_sm (sf_ci l) 4 (4 * (b - 1) + 1) else if b ≤ ib + db then sf_ct (sf_cd l) 4 (4 * (b - 1 - ib)) else 0
def sf_ws (ib db nd b : Nat) (g : sf_G) (l : List sf_R) : sf_G × List sf_R :=
  if b = 0 then (sf_gmap ib nd g, l.filterMap sf_fmap)
  else if b ≤ ib then sf_cl (l.map (sf_fin (nI (4 * (b - 1) + 1)) l)).length (sf_gin g l (4 * (b - 1) + 1) (4 * (b - 1) + 1 + 4)) (l.map (sf_fin (nI (4 * (b - 1) + 1)) l))
  else if b ≤ ib + db then sf_dr db (4 * (b - 1 - ib)) (sf_gdir g (4 * (b - 1 - ib)) (4 * (b - 1 - ib) + 4)) l
  else (sf_gdat g (b - ib - db), l.filterMap (sf_fdat (nI (b - ib - db))))
/-- the end of a write: flag and counters -/
def sf_we (g : sf_G) (b c : Nat) : sf_G := sf_up (sf_up (sf_up g 20 b (if c = 0 then 0 else 1)) 22 0 (g 22 0 + 1)) 23 0 (g 23 0 + nI c)
def sf_wg (ib db nd b : Nat) (g : sf_G) (l : List sf_R) : sf_G := sf_we (sf_ws ib db nd b g l).1 b (sf_wn ib db b l)
def sf_wl (ib db nd b : Nat) (g : sf_G) (l : List sf_R) : List sf_R := (sf_ws ib db nd b g l).2
theorem sf_wn_le {ib db b : Nat} {l : List sf_R} : sf_wn ib db b l ≤ 12 := by
  rw [sf_wn]
  have h1 := sf_sm_le l 4 (4 * (b - 1) + 1)
  have h2 := sf_ct_le (sf_cd l) 4 (4 * (b - 1 - ib))
  split
  · omega
  · split
    · omega
    · split <;> omega
theorem sf_ws_20 {ib db nd b : Nat} {g : sf_G} {l : List sf_R} : (sf_ws ib db nd b g l).1 20 = g 20 := by
  rw [sf_ws]
  split
  · rfl
  · split
    · rw [sf_cl_fr (by decide) (by decide)]
      rfl
    · split
      · rw [sf_dr, sf_cl_fr (by decide) (by decide)]
        rfl
      · rfl
section
variable {ib db nd lim : Nat} {g : sf_G} {l A B : List sf_R} {r : sf_R}
theorem sf_gdir_pr {F : Nat} (h1 : sf_pr (4 * db) (g 8) (g 9)) (h2 : sf_pr (4 * db) (g 10) (g 11)) : sf_pr (4 * db) (sf_gdir g F (F + 4) 8) (sf_gdir g F (F + 4) 9) := by
  intro e he
  show sf_cp (g 10) (g 8) F (F + 4) e = 0 ↔ sf_cp (g 11) (g 9) F (F + 4) e = 0
  rw [sf_cp, sf_cp]
  split
  · exact h2 e he
  · exact h1 e he
theorem sf_X_we {post : Int32 → SX → Prop} {q : sf_G} (hL : l.length ≤ 128) (hA : sf_A l q) {b c : Nat} (hb : b < 25) (hc : c ≤ 12) (hp : ∀ u', sf_X ib db nd lim (sf_we g b c) l u' → post (nI c) u') : wX_writeBlock_126 post (nI b) (nI c) (nI ib) (nI db) (nI (4 * ib)) (nI (4 * db)) (nI nd) (nI (1 + ib + db + nd)) (nI lim) (nI (l.length)) (g 21 0) (g 22 0) (g 23 0) (g 0) (g 1) (g 2) (g 3) (g 4) (g 5) (g 6) (g 7) (g 8) (g 9) (g 10) (g 11) (g 12) (g 13) (g 14) (g 15) (g 16) (g 17) (g 18) (g 19) (g 20) (q 0) (q 1) (q 2) (q 3) (q 4) (q 5) := by
  have hi : vp_in (nI b) 25 := vp_in_nI hb (by decide)
  have hcb : (nI b).toNatClampNeg = b := nI_clamp (by omega)
  by_cases z : c = 0
  · subst z
    exact br_t (by decide) (And.intro hi (nm_r (e' := upd (g 20) b 0) (by rw [hcb, sf_t0]) (nm_e (nm_e (hp _ ⟨hL, q, rfl, hA⟩)))))
  · have e1 : sf_we g b c = sf_up (sf_up (sf_up g 20 b 1) 22 0 (g 22 0 + 1)) 23 0 (g 23 0 + nI c) := by rw [sf_we, if_neg z]
    rw [e1] at hp
    exact br_f (nI_ne0 (by omega) (by omega)) (And.intro hi (nm_r (e' := upd (g 20) b 1) (by rw [hcb, sf_t1]) (nm_e (nm_e (hp _ ⟨hL, q, rfl, hA⟩)))))
theorem sf_Y_we {post : Int32 → SY → Prop} {q : sf_G} (hL : l.length ≤ 128) (hA : sf_A l q) {b c : Nat} (hb : b < 25) (hc : c ≤ 12) (hd : g 20 b = 1) (hp : ∀ u', sf_Y ib db nd lim (sf_we g b c) l u' → post (nI c) u') : wY_writeBlock_67 post (nI b) (nI c) (nI ib) (nI db) (nI nd) (nI lim) (nI (4 * ib)) (nI (4 * db)) (nI (1 + ib + db + nd)) (nI (l.length)) (g 21 0) (g 22 0) (g 23 0) (g 0) (g 1) (g 2) (g 16) (g 18) (g 12) (g 13) (g 6) (g 7) (g 3) (g 4) (g 5) (g 17) (g 19) (g 14) (g 15) (g 8) (g 9) (g 10) (g 11) (g 20) (q 0) (q 1) (q 2) (q 3) (q 4) (q 5) := by
  have hi : vp_in (nI b) 25 := vp_in_nI hb (by decide)
  have hcb : (nI b).toNatClampNeg = b := nI_clamp (by omega)
  by_cases z : c = 0
  · subst z
    exact br_t (by decide) (And.intro hi (nm_r (e' := upd (g 20) b 0) (by rw [hcb, sf_t0]) (nm_e (nm_e (hp _ ⟨hL, q, rfl, hA⟩)))))
  · have e1 : sf_we g b c = sf_up (sf_up g 22 0 (g 22 0 + 1)) 23 0 (g 23 0 + nI c) := by
      have e2 : sf_up g 20 b 1 = g := by
        funext f
        rw [sf_up, sf_upd_id hd, sf_st]
        split
        · rename_i e; rw [e]
        · rfl
      rw [sf_we, if_neg z, e2]
    rw [e1] at hp
    exact br_f (nI_ne0 (by omega) (by omega)) (nm_e (nm_e (hp _ ⟨hL, q, rfl, hA⟩)))
/-- what the walks of a block's writing lean on -/
def sf_H (ib db nd : Nat) (g : sf_G) (l : List sf_R) : Prop := (∀ r, r ∈ l → sf_wf (4 * ib) (4 * db) nd r) ∧ sf_pr (4 * db) (g 8) (g 9) ∧ sf_pr (4 * db) (g 10) (g 11) ∧ sf_pw l
theorem sf_X_wb {post : Int32 → SX → Prop} {u : SX} (hZ : sf_Z ib db nd lim) (h : sf_X ib db nd lim g l u) (H : sf_H ib db nd g l) {b : Nat} (hb : b < 1 + ib + db + nd) (hp : ∀ u', sf_X ib db nd lim (sf_wg ib db nd b g l) (sf_wl ib db nd b g l) u' → post (nI (sf_wn ib db b l)) u') : wpX_writeBlock post u (nI b) := by
  obtain ⟨H1, H2, H3, H4⟩ := H
  have K1 := sf_T_K1 hZ H1
  have K3 := sf_T_K3 hZ H1
  have hZ' := hZ
  obtain ⟨z1, z2, z3, z4, z5, z6, -⟩ := hZ'
  have hn := sf_wn_le (ib := ib) (db := db) (b := b) (l := l)
  rw [sf_wg, sf_wl] at hp
  by_cases c0 : b = 0
  · subst c0
    rw [sf_ws, if_pos rfl, sf_wn, if_pos rfl] at hp
    obtain ⟨hL, q, rfl, hA⟩ := h
    refine br_t (by decide) (sf_X_copyMap hZ ⟨hL, q, rfl, hA⟩ (fun u1 h1 => ?_))
    obtain ⟨hL1, q1, rfl, hA1⟩ := h1
    refine sf_X_settleMap (g := sf_gmap ib nd g) ⟨hL1, q1, rfl, hA1⟩ (fun u2 h2 => ?_)
    obtain ⟨hL2, q2, rfl, hA2⟩ := h2
    exact sf_X_we (c := 0) hL2 hA2 (by omega) (by omega) hp
  · rw [sf_wn, if_neg c0] at hn
    rw [sf_ws, if_neg c0, sf_wn, if_neg c0] at hp
    have n0 : ¬ nI b = 0 := nI_ne0 (by omega) (by omega)
    obtain ⟨hL, q, rfl, hA⟩ := h
    by_cases c1 : b ≤ ib
    · rw [if_pos c1] at hn
      rw [if_pos c1, if_pos c1] at hp
      have eF : ((4 : Int32) * (nI b - 1)) + 1 = nI (4 * (b - 1) + 1) := by
        show (nI 4 * (nI b - nI 1)) + nI 1 = _
        rw [pk_sub (by omega), pk_mul, nI_add]
      refine br_f n0 (br_f (nI_nlt (by omega) (by omega)) (nm_r eF (sf_X_copyIno ⟨hL, q, rfl, hA⟩ (by omega) (fun u1 h1 => ?_))))
      obtain ⟨hL1, q1, rfl, hA1⟩ := h1
      refine sf_X_settleIno (g := sf_gin g l (4 * (b - 1) + 1) (4 * (b - 1) + 1 + 4)) ⟨hL1, q1, rfl, hA1⟩ K3 _ (fun u2 h2 => ?_)
      obtain ⟨hL2, q2, rfl, hA2⟩ := h2
      exact sf_X_we hL2 hA2 (by omega) hn hp
    · rw [if_neg c1] at hn
      rw [if_neg c1, if_neg c1] at hp
      by_cases c2 : b ≤ ib + db
      · rw [if_pos c2] at hn
        rw [if_pos c2, if_pos c2] at hp
        have eF : (4 : Int32) * ((nI b - 1) - nI ib) = nI (4 * (b - 1 - ib)) := by
          show nI 4 * ((nI b - nI 1) - nI ib) = _
          rw [pk_sub (by omega), pk_sub (by omega), pk_mul]
        refine br_f n0 (br_t (nI_lt (by omega) (by omega)) (br_f (by rw [nI_add]; exact nI_nlt (by omega) (by omega)) (nm_r eF (sf_X_copySlots ⟨hL, q, rfl, hA⟩ (by omega) (fun u1 h1 => ?_)))))
        obtain ⟨hL1, q1, rfl, hA1⟩ := h1
        refine sf_X_settleSlots (g := sf_gdir g (4 * (b - 1 - ib)) (4 * (b - 1 - ib) + 4)) hZ ⟨hL1, q1, rfl, hA1⟩ (sf_gdir_pr H2 H3) _ K3 K1 (fun u2 h2 => ?_)
        obtain ⟨hL2, q2, rfl, hA2⟩ := h2
        exact sf_X_we hL2 hA2 (by omega) hn hp
      · rw [if_neg c2] at hn
        rw [if_neg c2, if_neg c2] at hp
        have eB : (nI b - nI ib) - nI db = nI (b - ib - db) := by
          rw [pk_sub (by omega), pk_sub (by omega)]
        have hi : vp_in (nI (b - ib - db)) 17 := vp_in_nI (by omega) (by decide)
        have hc : (nI (b - ib - db)).toNatClampNeg = b - ib - db := nI_clamp (by omega)
        refine br_f n0 (br_t (nI_lt (by omega) (by omega)) (br_t (by rw [nI_add]; exact nI_lt (by omega) (by omega)) (nm_r eB (And.intro hi (And.intro hi (nm_r (e' := upd (g 14) (b - ib - db) (g 12 (b - ib - db))) (by rw [hc]) (And.intro hi (And.intro hi (nm_r (e' := upd (g 15) (b - ib - db) (g 13 (b - ib - db))) (by rw [hc]) ?_)))))))))
        refine sf_X_settleData (g := sf_gdat g (b - ib - db)) (l := l) ⟨hL, q, rfl, hA⟩ _ (fun u2 h2 => ?_)
        obtain ⟨hL2, q2, rfl, hA2⟩ := h2
        exact sf_X_we hL2 hA2 (by omega) hn hp
theorem sf_Y_wb {post : Int32 → SY → Prop} {u : SY} (hZ : sf_Z ib db nd lim) (h : sf_Y ib db nd lim g l u) (H : sf_H ib db nd g l) {b : Nat} (hb : b < 1 + ib + db + nd) (hd : g 20 b = 1) (hp : ∀ u', sf_Y ib db nd lim (sf_wg ib db nd b g l) (sf_wl ib db nd b g l) u' → post (nI (sf_wn ib db b l)) u') : wpY_writeBlock post u (nI b) := by
  obtain ⟨H1, H2, H3, H4⟩ := H
  have K1 := sf_T_K1 hZ H1
  have K3 := sf_T_K3 hZ H1
  have hU : ∀ i, l.countP (fun r => r.1 == 3 && r.2.2.2.1 == nI i) = sf_ca l i := fun i => sf_ca_eq i l H4 (fun r hr => (H1 r hr).2.2.2.1)
  have hZ' := hZ
  obtain ⟨z1, z2, z3, z4, z5, z6, -⟩ := hZ'
  have hn := sf_wn_le (ib := ib) (db := db) (b := b) (l := l)
  have h20 := sf_ws_20 (ib := ib) (db := db) (nd := nd) (b := b) (g := g) (l := l)
  have hd' : (sf_ws ib db nd b g l).1 20 b = 1 := by rw [h20]; exact hd
  clear h20
  rw [sf_wg, sf_wl] at hp
  by_cases c0 : b = 0
  · subst c0
    rw [sf_ws, if_pos rfl] at hd'
    rw [sf_ws, if_pos rfl, sf_wn, if_pos rfl] at hp
    obtain ⟨hL, q, rfl, hA⟩ := h
    refine br_t (by decide) (sf_Y_writeMap hZ ⟨hL, q, rfl, hA⟩ (fun u2 h2 => ?_))
    obtain ⟨hL2, q2, rfl, hA2⟩ := h2
    exact sf_Y_we (c := 0) hL2 hA2 (by omega) (by omega) hd' hp
  · rw [sf_wn, if_neg c0] at hn
    rw [sf_ws, if_neg c0] at hd'
    rw [sf_ws, if_neg c0, sf_wn, if_neg c0] at hp
    have n0 : ¬ nI b = 0 := nI_ne0 (by omega) (by omega)
    obtain ⟨hL, q, rfl, hA⟩ := h
    by_cases c1 : b ≤ ib
    · rw [if_pos c1] at hn hd'
      rw [if_pos c1, if_pos c1] at hp
      refine br_f n0 (br_f (nI_nlt (by omega) (by omega)) (sf_Y_writeIno ⟨hL, q, rfl, hA⟩ K3 (by omega) (by omega) rfl (sf_T_ino hZ H1) (fun i _ _ => hU i) (fun u2 h2 => ?_)))
      obtain ⟨hL2, q2, rfl, hA2⟩ := h2
      exact sf_Y_we hL2 hA2 (by omega) hn hd' hp
    · rw [if_neg c1] at hn hd'
      rw [if_neg c1, if_neg c1] at hp
      by_cases c2 : b ≤ ib + db
      · rw [if_pos c2] at hn hd'
        rw [if_pos c2, if_pos c2] at hp
        refine br_f n0 (br_t (nI_lt (by omega) (by omega)) (br_f (by rw [nI_add]; exact nI_nlt (by omega) (by omega)) (sf_Y_writeDir hZ ⟨hL, q, rfl, hA⟩ (sf_gdir_pr H2 H3) (by omega) rfl (by omega) K3 K1 (fun u2 h2 => ?_))))
        obtain ⟨hL2, q2, rfl, hA2⟩ := h2
        exact sf_Y_we hL2 hA2 (by omega) hn hd' hp
      · rw [if_neg c2] at hn hd'
        rw [if_neg c2, if_neg c2] at hp
        have eB : (nI b - nI ib) - nI db = nI (b - ib - db) := by
          rw [pk_sub (by omega), pk_sub (by omega)]
        refine br_f n0 (br_t (nI_lt (by omega) (by omega)) (br_t (by rw [nI_add]; exact nI_lt (by omega) (by omega)) ?_))
        rw [eB]
        refine sf_Y_writeData ⟨hL, q, rfl, hA⟩ (by omega) (fun u2 h2 => ?_)
        obtain ⟨hL2, q2, rfl, hA2⟩ := h2
        exact sf_Y_we hL2 hA2 (by omega) hn hd' hp
/-- writing a block if it is dirty: what is left -/
def sf_xg (ib db nd b : Nat) (g : sf_G) (l : List sf_R) : sf_G := if g 20 b = 0 then g else sf_wg ib db nd b g l
def sf_xl (ib db nd b : Nat) (g : sf_G) (l : List sf_R) : List sf_R := if g 20 b = 0 then l else sf_wl ib db nd b g l
def sf_xn (g : sf_G) (b : Nat) : Nat := if g 20 b = 0 then 0 else 1
theorem sf_X_wd {post : Int32 → SX → Prop} {u : SX} (hZ : sf_Z ib db nd lim) (h : sf_X ib db nd lim g l u) (H : sf_H ib db nd g l) {b : Nat} (hb : b < 1 + ib + db + nd) (hp : ∀ u', sf_X ib db nd lim (sf_xg ib db nd b g l) (sf_xl ib db nd b g l) u' → post (nI (sf_xn g b)) u') : wpX_writeIfDirty post u (nI b) := by
  have hZ' := hZ
  obtain ⟨z1, z2, z3, z4, z5, z6, -⟩ := hZ'
  obtain ⟨hL, q, rfl, hA⟩ := h
  have hi : vp_in (nI b) 25 := vp_in_nI (by omega) (by decide)
  have hc : (nI b).toNatClampNeg = b := nI_clamp (by omega)
  refine br_f (nI_pos (by omega)) (br_t (nI_lt hb (by omega)) (And.intro hi ?_))
  rw [hc]
  rw [sf_xg, sf_xl, sf_xn] at hp
  by_cases c : g 20 b = 0
  · rw [if_pos c, if_pos c, if_pos c] at hp
    exact br_t c (hp _ ⟨hL, q, rfl, hA⟩)
  · rw [if_neg c, if_neg c, if_neg c] at hp
    exact br_f c (sf_X_wb hZ ⟨hL, q, rfl, hA⟩ H hb hp)
theorem sf_Y_wd {post : Int32 → SY → Prop} {u : SY} (hZ : sf_Z ib db nd lim) (h : sf_Y ib db nd lim g l u) (H : sf_H ib db nd g l) {b : Nat} (hb : b < 1 + ib + db + nd) (hd : g 20 b = 0 ∨ g 20 b = 1) (hp : ∀ u', sf_Y ib db nd lim (sf_xg ib db nd b g l) (sf_xl ib db nd b g l) u' → post (nI (sf_xn g b)) u') : wpY_writeIfDirty post u (nI b) := by
  have hZ' := hZ
  obtain ⟨z1, z2, z3, z4, z5, z6, -⟩ := hZ'
  obtain ⟨hL, q, rfl, hA⟩ := h
  have hi : vp_in (nI b) 25 := vp_in_nI (by omega) (by decide)
  have hc : (nI b).toNatClampNeg = b := nI_clamp (by omega)
  refine And.intro hi ?_
  rw [hc]
  rw [sf_xg, sf_xl, sf_xn] at hp
  by_cases c : g 20 b = 0
  · rw [if_pos c, if_pos c, if_pos c] at hp
    exact br_t c (hp _ ⟨hL, q, rfl, hA⟩)
  · rw [if_neg c, if_neg c, if_neg c] at hp
    exact br_f c (sf_Y_wb hZ ⟨hL, q, rfl, hA⟩ H hb (hd.resolve_left c) hp)
end
end
section
/-! a block's writing keeps the invariant -/
theorem sf_hasI_any {l : List sf_R} {i : Nat} : l.any (sf_isInit (nI i)) = true ↔ sf_hasI l i := by
  rw [List.any_eq_true]
  constructor
  · rintro ⟨r, h, k⟩
    simp [sf_isInit] at k
    exact ⟨r, h, k.1, k.2⟩
  · rintro ⟨r, h, a, b⟩
    exact ⟨r, h, by simp [sf_isInit, a, b]⟩
theorem sf_cp_in {a b : Nat → Int32} {lo hi j : Nat} (h : lo ≤ j ∧ j < hi) : sf_cp a b lo hi j = a j := if_pos h
theorem sf_cp_out {a b : Nat → Int32} {lo hi j : Nat} (h : ¬ (lo ≤ j ∧ j < hi)) : sf_cp a b lo hi j = b j := if_neg h
section
variable {ib db nd lim m : Nat} {g : sf_G} {l A B : List sf_R} {r : sf_R}
theorem sf_M_H (h : sf_M ib db nd g l) : sf_H ib db nd g l :=
  ⟨fun r hr => (h.2.2.2.1 r hr).1, h.2.1.1.2.1, h.2.1.1.2.2, h.2.2.2.2.1⟩
theorem sf_cl1_J (hz : 4 * db ≤ 16) (hp67 : sf_pr (4 * db) (g 6) (g 7)) (hp : sf_pr (4 * db) (g 10) (g 11)) (hJ : sf_JJ ib db nd m g l) (k : Nat) :
    sf_pr (4 * db) ((sf_cl1 g l k).1 10) ((sf_cl1 g l k).1 11) ∧ sf_JJ ib db nd m (sf_cl1 g l k).1 (sf_cl1 g l k).2 ∧ (sf_cl1 g l k).2.length ≤ l.length := by
  by_cases c : (sf_n l k).1 = 1 ∧ (sf_n l k).2.1 = 0
  · by_cases hk : k < l.length
    · obtain ⟨A, B, hl, hAk⟩ := sf_split hk
      generalize sf_n l k = r at hl c
      subst hl hAk
      obtain ⟨e, he, hs⟩ := (hJ.2.1 r (by simp)).1.2.1 (Or.inl c.1)
      rw [sf_cl1_at (by omega) hs c.1 c.2]
      refine ⟨fun x hx => ?_, sf_J_close hJ c.1 c.2 hs he, by simp⟩
      show upd (g 10) e (g 6 e) x = 0 ↔ upd (g 11) e (g 7 e) x = 0
      by_cases xe : x = e
      · subst xe
        rw [sf_upd_s, sf_upd_s]
        exact hp67 x hx
      · rw [sf_upd_n xe, sf_upd_n xe]
        exact hp x hx
    · have e : sf_n l k = (0, 0, 0, 0, 0, 0) := by
        simp [sf_n, List.getD, List.getElem?_eq_none (by omega : l.length ≤ k)]
      rw [e] at c
      exact absurd c.1 (by decide)
  · rw [sf_cl1, if_neg c]
    exact ⟨hp, hJ, Nat.le_refl _⟩
theorem sf_cl_J (hz : 4 * db ≤ 16) : ∀ k (g : sf_G) (l : List sf_R), sf_pr (4 * db) (g 6) (g 7) → sf_pr (4 * db) (g 10) (g 11) → sf_JJ ib db nd m g l →
    sf_pr (4 * db) ((sf_cl k g l).1 10) ((sf_cl k g l).1 11) ∧ sf_JJ ib db nd m (sf_cl k g l).1 (sf_cl k g l).2 ∧ (sf_cl k g l).2.length ≤ l.length := by
  intro k
  induction k with
  | zero => intro g l _ h2 h3; exact ⟨h2, h3, Nat.le_refl _⟩
  | succ k ih =>
    intro g l h1 h2 h3
    obtain ⟨a, b, c⟩ := sf_cl1_J hz h1 h2 h3 k
    have f6 : (sf_cl1 g l k).1 6 = g 6 := sf_cl1_fr k (by decide) (by decide)
    have f7 : (sf_cl1 g l k).1 7 = g 7 := sf_cl1_fr k (by decide) (by decide)
    obtain ⟨a', b', c'⟩ := ih (sf_cl1 g l k).1 (sf_cl1 g l k).2 (by rw [f6, f7]; exact h1) a b
    rw [sf_cl]
    exact ⟨a', b', Nat.le_trans c' c⟩
theorem sf_J_wmap (hJ : sf_JJ ib db nd m g l) : sf_JJ ib db nd m (sf_gmap ib nd g) (l.filterMap sf_fmap) := by
  refine sf_J_flt (dib' := sf_cp (g 16) (g 17) 1 (4 * ib + 1)) hJ (fun r x h => ?_) (fun r h2 h3 => ?_) (fun i i1 i2 hb _ => Or.inr ?_) (fun i i1 i2 hb _ => ?_)
  · rw [sf_fmap] at h
    by_cases c2 : r.1 = 2
    · rw [if_pos c2] at h
      exact absurd h (by simp)
    · rw [if_neg c2] at h
      by_cases c3 : r.1 = 3
      · rw [if_pos c3, sf_sat] at h
        by_cases c4 : r.2.1 &&& (-2) = 0
        · rw [if_pos c4] at h
          exact absurd h (by simp)
        · rw [if_neg c4] at h
          exact Or.inr ⟨c3, _, (Option.some.inj h).symm⟩
      · rw [if_neg c3] at h
        exact Or.inl (Option.some.inj h).symm
  · rw [sf_fmap, if_neg h2, if_neg h3]
  · rw [sf_cp_in (by omega)]
    exact hb
  · rw [sf_cp_in (by omega)]
    exact hb
theorem sf_J_wdat (hJ : sf_JJ ib db nd m g l) (b : Nat) (x : Int32) : sf_JJ ib db nd m (sf_gdat g b) (l.filterMap (sf_fdat x)) := by
  have hf2 : ∀ r : sf_R, r.1 ≠ 3 → sf_fdat x r = some r := fun r h3 => by rw [sf_fdat, if_neg (fun k => h3 k.1)]
  refine sf_J_flt (dib' := g 17) hJ (fun r y h => ?_) (fun r _ h3 => hf2 r h3) (fun i i1 i2 hb h => ?_) (fun i i1 i2 _ h => h)
  · rw [sf_fdat] at h
    by_cases c3 : r.1 = 3 ∧ r.2.2.2.2.1 = x
    · rw [if_pos c3, sf_sat] at h
      by_cases c4 : r.2.1 &&& (-3) = 0
      · rw [if_pos c4] at h
        exact absurd h (by simp)
      · rw [if_neg c4] at h
        exact Or.inr ⟨c3.1, _, (Option.some.inj h).symm⟩
    · rw [if_neg c3] at h
      exact Or.inl (Option.some.inj h).symm
  · rcases h with ⟨r, hr, a, b⟩ | h
    · exact Or.inl ⟨r, List.mem_filterMap.mpr ⟨r, hr, hf2 r (by rw [a]; decide)⟩, a, b⟩
    · exact Or.inr h
theorem sf_J_wino (hz : 4 * ib ≤ 16) (hJ : sf_JJ ib db nd m g l) (F : Nat) (hF : F + 4 ≤ 17) : sf_JJ ib db nd m (sf_gin g l F (F + 4)) (l.map (sf_fin (nI F) l)) := by
  have hs := sf_fin_same (nI F) l
  refine sf_J_ino (S := fun i => F ≤ i ∧ i < F + 4) (dm' := sf_cp (sf_vm l (g 0)) (g 3) F (F + 4)) hJ (fun r => ⟨(hs r).1, (hs r).2.1, (hs r).2.2.1, (hs r).2.2.2.1, fun _ => (hs r).2.2.2.2⟩) (fun r => (hs r).2.2.2.2) (fun i si hi => ?_) (fun i si hi => ?_) (fun i si => sf_cp_out si) (fun r i _ h1 hi i2 => ?_) (fun r _ h5 => ?_) (fun r i _ h6 hi i2 => ?_) (fun r _ h4 => ?_)
  · rw [sf_cp_in si, sf_vm, sf_hasI_any.mpr hi]
    rfl
  · rw [sf_cp_in si, sf_vm, if_neg (fun k => hi (sf_hasI_any.mp k))]
    rfl
  · rw [sf_fin]
    by_cases c1 : r.2.2.2.1 < nI F
    · rw [if_pos c1]; exact Or.inl rfl
    · rw [if_neg c1]
      by_cases c2 : nI F + 4 ≤ r.2.2.2.1
      · rw [if_pos c2]; exact Or.inl rfl
      · rw [if_neg c2, if_pos h1]
        by_cases c3 : l.any (sf_isInit r.2.2.2.1) = true
        · rw [if_pos c3]; exact Or.inl rfl
        · rw [if_neg c3]
          rw [hi] at c1 c2 c3
          rw [nI_ltI (by omega) (by omega)] at c1
          rw [sf_n4, nI_leI (by omega) (by omega)] at c2
          exact Or.inr ⟨⟨by omega, by omega⟩, fun k => c3 (sf_hasI_any.mpr k), rfl⟩
  · rw [sf_fin]
    by_cases c1 : r.2.2.2.1 < nI F
    · rw [if_pos c1]; exact Or.inl rfl
    · rw [if_neg c1]
      by_cases c2 : nI F + 4 ≤ r.2.2.2.1
      · rw [if_pos c2]; exact Or.inl rfl
      · rw [if_neg c2, if_neg (by rw [h5]; decide), if_pos h5]
        exact Or.inr rfl
  · rw [sf_fin]
    by_cases c1 : r.2.2.2.1 < nI F
    · rw [if_pos c1]; exact Or.inl rfl
    · rw [if_neg c1]
      by_cases c2 : nI F + 4 ≤ r.2.2.2.1
      · rw [if_pos c2]; exact Or.inl rfl
      · rw [if_neg c2, if_neg (by rw [h6]; decide), if_neg (by rw [h6]; decide), if_pos h6]
        rw [hi] at c1 c2
        rw [nI_ltI (by omega) (by omega)] at c1
        rw [sf_n4, nI_leI (by omega) (by omega)] at c2
        exact Or.inr ⟨⟨by omega, by omega⟩, rfl⟩
  · rw [sf_fin]
    by_cases c1 : r.2.2.2.1 < nI F
    · rw [if_pos c1]
    · rw [if_neg c1]
      by_cases c2 : nI F + 4 ≤ r.2.2.2.1
      · rw [if_pos c2]
      · rw [if_neg c2, if_neg (by rw [h4]; decide), if_neg (by rw [h4]; decide), if_neg (by rw [h4]; decide)]
/-- releasing by a test: SAFE and the pairs -/
theorem sf_cg_pr {P : sf_R → Bool} (hp : sf_pr (4 * db) (g 10) (g 11)) : sf_pr (4 * db) (sf_cg P l g 10) (sf_cg P l g 11) := by
  intro e he
  show (if l.any (fun r => P r && r.2.2.1.toNatClampNeg == e) then 0 else g 10 e) = 0 ↔ (if l.any (fun r => P r && r.2.2.1.toNatClampNeg == e) then 0 else g 11 e) = 0
  split
  · exact ⟨fun _ => rfl, fun _ => rfl⟩
  · exact hp e he
theorem sf_J_rel {P : sf_R → Bool} (hz : 4 * db ≤ 16) (hP : ∀ r, P r = true → r.1 = 4) (hJ : sf_JJ ib db nd m g l) : sf_JJ ib db nd m (sf_cg P l g) (l.map (sf_rm P)) := by
  refine sf_J_release (si' := sf_cg P l g 11) hP hJ (fun e _ => ?_) (fun e he r hr h1 h2 => ?_)
  · show (if l.any (fun r => P r && r.2.2.1.toNatClampNeg == e) then 0 else g 11 e) = g 11 e ∨ (if l.any (fun r => P r && r.2.2.1.toNatClampNeg == e) then 0 else g 11 e) = 0
    split
    · exact Or.inr rfl
    · exact Or.inl rfl
  · show (if l.any (fun r => P r && r.2.2.1.toNatClampNeg == e) then 0 else g 11 e) = 0
    rw [if_pos (List.any_eq_true.mpr ⟨r, hr, by rw [h1, h2, nI_clamp (by omega)]; simp⟩)]
theorem sf_PX_4 {F : Int32} {l0 : List sf_R} {r : sf_R} (h : sf_PX F l0 r = true) : r.1 = 4 := by
  rw [sf_PX, Bool.and_eq_true] at h
  have := h.1
  simp [sf_MH] at this
  exact this.1
theorem sf_J_wdir (hz : 4 * db ≤ 16) (h67 : sf_pr (4 * db) (g 6) (g 7)) (hp : sf_pr (4 * db) (g 10) (g 11)) (hJ : sf_JJ ib db nd m g l) (F : Nat) (hF : F + 4 ≤ 16) :
    sf_pr (4 * db) ((sf_dr db F (sf_gdir g F (F + 4)) l).1 10) ((sf_dr db F (sf_gdir g F (F + 4)) l).1 11) ∧ sf_JJ ib db nd m (sf_dr db F (sf_gdir g F (F + 4)) l).1 (sf_dr db F (sf_gdir g F (F + 4)) l).2 ∧ (sf_dr db F (sf_gdir g F (F + 4)) l).2.length ≤ l.length := by
  have hs := sf_f1_same (nI F)
  have j1 : sf_JJ ib db nd m (sf_gdir g F (F + 4)) (l.map (sf_f1 (nI F))) := by
    refine sf_J_dir (S := fun e => F ≤ e ∧ e < F + 4) (di' := sf_cp (g 11) (g 9) F (F + 4)) hJ (fun r => ?_) (fun r h4 => ?_) (fun e se => sf_cp_in se) (fun e se => sf_cp_out se) (fun r h4 => ?_)
    · rw [sf_f1]
      split
      · exact ⟨rfl, rfl, rfl, rfl, fun _ => rfl⟩
      · exact ⟨rfl, rfl, rfl, rfl, fun _ => rfl⟩
    · rw [sf_f1, if_neg (fun k => h4 k.1)]
    · rw [sf_f1]
      by_cases c : r.1 = 4 ∧ r.2.1 = 16 ∧ ¬ r.2.2.1 < nI F ∧ ¬ nI F + 4 ≤ r.2.2.1
      · rw [if_pos c]
        refine Or.inr ⟨c.2.1, fun e he hse => ?_⟩
        obtain ⟨_, _, c3, c4⟩ := c
        rw [hse] at c3 c4
        rw [nI_ltI (by omega) (by omega)] at c3
        rw [sf_n4, nI_leI (by omega) (by omega)] at c4
        exact ⟨by omega, by omega⟩
      · rw [if_neg c]
        exact Or.inl rfl
  have j2 : sf_JJ ib db nd m (sf_dg F (sf_gdir g F (F + 4)) l) (sf_dl F l) := sf_J_rel hz (fun r h => sf_PX_4 h) j1
  have j3 : sf_JJ ib db nd m (sf_dg F (sf_gdir g F (F + 4)) l) ((sf_dl F l).map (sf_f3 db (sf_dg F (sf_gdir g F (F + 4)) l))) := by
    refine sf_J_name j2 (fun r => ?_)
    rw [sf_f3]
    split
    · rename_i c
      exact Or.inr ⟨c.1, rfl⟩
    · exact Or.inl rfl
  have hlen : ((sf_dl F l).map (sf_f3 db (sf_dg F (sf_gdir g F (F + 4)) l))).length = l.length := by simp [sf_dl]
  rw [sf_dr]
  obtain ⟨a, b, c⟩ := sf_cl_J hz ((sf_dl F l).map (sf_f3 db (sf_dg F (sf_gdir g F (F + 4)) l))).length (sf_dg F (sf_gdir g F (F + 4)) l) ((sf_dl F l).map (sf_f3 db (sf_dg F (sf_gdir g F (F + 4)) l))) h67 (sf_cg_pr (g := sf_gdir g F (F + 4)) hp) j3
  exact ⟨a, b, by omega⟩
/-- the arrays that a block's writing leaves alone -/
theorem sf_ws_fr {b f : Nat} (h : f = 2 ∨ f = 6 ∨ f = 7 ∨ f = 20 ∨ f = 21) : (sf_ws ib db nd b g l).1 f = g f := by
  have h10 : f ≠ 10 := by omega
  have h11 : f ≠ 11 := by omega
  rw [sf_ws]
  split
  · rcases h with rfl | rfl | rfl | rfl | rfl <;> rfl
  · split
    · rw [sf_cl_fr h10 h11]
      rcases h with rfl | rfl | rfl | rfl | rfl <;> rfl
    · split
      · rw [sf_dr, sf_cl_fr h10 h11]
        rcases h with rfl | rfl | rfl | rfl | rfl <;> rfl
      · rcases h with rfl | rfl | rfl | rfl | rfl <;> rfl
theorem sf_M_wb (hZ : sf_Z ib db nd lim) (h : sf_M ib db nd g l) {b : Nat} (hb : b < 1 + ib + db + nd) : sf_M ib db nd (sf_wg ib db nd b g l) (sf_wl ib db nd b g l) ∧ (sf_wl ib db nd b g l).length ≤ l.length := by
  obtain ⟨z1, z2, z3, z4, z5, z6, -⟩ := hZ
  obtain ⟨h21, ⟨⟨p1, p2, p3⟩, pt, pd, pc⟩, hJ⟩ := h
  have main : sf_pr (4 * db) ((sf_ws ib db nd b g l).1 8) ((sf_ws ib db nd b g l).1 9) ∧ sf_pr (4 * db) ((sf_ws ib db nd b g l).1 10) ((sf_ws ib db nd b g l).1 11) ∧ sf_JJ ib db nd 17 (sf_ws ib db nd b g l).1 (sf_ws ib db nd b g l).2 ∧ (sf_ws ib db nd b g l).2.length ≤ l.length ∧ ∀ x, x < 51 → ∃ y, y ≤ nd ∧ (sf_ws ib db nd b g l).1 5 x = nI y := by
    rw [sf_ws]
    by_cases c0 : b = 0
    · rw [if_pos c0]
      exact ⟨p2, p3, sf_J_wmap hJ, List.length_filterMap_le _ _, fun x hx => (pt x hx).2⟩
    · rw [if_neg c0]
      by_cases c1 : b ≤ ib
      · rw [if_pos c1]
        have j := sf_J_wino (by omega) hJ (4 * (b - 1) + 1) (by omega)
        obtain ⟨a1, a2, a3⟩ := sf_cl_J (by omega) (l.map (sf_fin (nI (4 * (b - 1) + 1)) l)).length (sf_gin g l (4 * (b - 1) + 1) (4 * (b - 1) + 1 + 4)) (l.map (sf_fin (nI (4 * (b - 1) + 1)) l)) p1 p3 j
        refine ⟨?_, a1, a2, by simpa using a3, fun x hx => ?_⟩
        · rw [sf_cl_fr (by decide) (by decide), sf_cl_fr (by decide) (by decide)]
          exact p2
        · rw [sf_cl_fr (by decide) (by decide)]
          show ∃ y, y ≤ nd ∧ sf_cp (sf_vp l (g 2)) (g 5) (3 * (4 * (b - 1) + 1)) (3 * (4 * (b - 1) + 1 + 4)) x = nI y
          rw [sf_cp, sf_vp]
          split
          · split
            · exact ⟨0, by omega, rfl⟩
            · split
              · exact ⟨0, by omega, rfl⟩
              · exact (pt x hx).1
          · exact (pt x hx).2
      · rw [if_neg c1]
        by_cases c2 : b ≤ ib + db
        · rw [if_pos c2]
          obtain ⟨a1, a2, a3⟩ := sf_J_wdir (by omega) p1 p3 hJ (4 * (b - 1 - ib)) (by omega)
          refine ⟨?_, a1, a2, a3, fun x hx => ?_⟩
          · rw [sf_dr, sf_cl_fr (by decide) (by decide), sf_cl_fr (by decide) (by decide)]
            exact sf_gdir_pr p2 p3
          · rw [sf_dr, sf_cl_fr (by decide) (by decide)]
            exact (pt x hx).2
        · rw [if_neg c2]
          exact ⟨p2, p3, sf_J_wdat hJ _ _, List.length_filterMap_le _ _, fun x hx => (pt x hx).2⟩
  obtain ⟨m1, m2, m3, m4, m5⟩ := main
  have f2 := sf_ws_fr (ib := ib) (db := db) (nd := nd) (g := g) (l := l) (b := b) (f := 2) (by omega)
  have f6 := sf_ws_fr (ib := ib) (db := db) (nd := nd) (g := g) (l := l) (b := b) (f := 6) (by omega)
  have f7 := sf_ws_fr (ib := ib) (db := db) (nd := nd) (g := g) (l := l) (b := b) (f := 7) (by omega)
  have f20 := sf_ws_fr (ib := ib) (db := db) (nd := nd) (g := g) (l := l) (b := b) (f := 20) (by omega)
  have f21 := sf_ws_fr (ib := ib) (db := db) (nd := nd) (g := g) (l := l) (b := b) (f := 21) (by omega)
  refine ⟨⟨?_, ⟨⟨?_, m1, m2⟩, fun x hx => ⟨?_, m5 x hx⟩, fun x hx => ?_, ?_⟩, m3⟩, m4⟩
  · show (sf_ws ib db nd b g l).1 21 0 = 1
    rw [f21]; exact h21
  · show sf_pr (4 * db) ((sf_ws ib db nd b g l).1 6) ((sf_ws ib db nd b g l).1 7)
    rw [f6, f7]; exact p1
  · show ∃ y, y ≤ nd ∧ (sf_ws ib db nd b g l).1 2 x = nI y
    rw [f2]; exact (pt x hx).1
  · show upd ((sf_ws ib db nd b g l).1 20) b (if sf_wn ib db b l = 0 then 0 else 1) x = 0 ∨ upd ((sf_ws ib db nd b g l).1 20) b (if sf_wn ib db b l = 0 then 0 else 1) x = 1
    by_cases e : x = b
    · subst e
      rw [sf_upd_s]
      split
      · exact Or.inl rfl
      · exact Or.inr rfl
    · rw [sf_upd_n e, f20]
      exact pd x hx
  · show (sf_ws ib db nd b g l).2.length + sf_nz ((sf_ws ib db nd b g l).1 2) ≤ 99
    rw [f2]
    omega
theorem sf_M_wd (hZ : sf_Z ib db nd lim) (h : sf_M ib db nd g l) {b : Nat} (hb : b < 1 + ib + db + nd) : sf_M ib db nd (sf_xg ib db nd b g l) (sf_xl ib db nd b g l) := by
  rw [sf_xg, sf_xl]
  split
  · exact h
  · exact (sf_M_wb hZ h hb).1
end
end
section
/-! counting readers -/
def sf_na (ib : Nat) (g : sf_G) (x : Int32) : Int32 := sf_fs 0 (fun _ => 1) (fun p => g 5 p == x) (12 * ib) 3
def sf_lk1 (db : Nat) (g : sf_G) (i : Nat) : Bool := if g 3 i = 0 then decide (g 17 i = 1) else (decide (nI (sf_us0 g (4 * db) (nI i)) = 0) || !decide (g 4 i ≤ nI (sf_us0 g (4 * db) (nI i))))
def sf_lk2 (ib : Nat) (g : sf_G) (b : Nat) : Bool := decide (g 19 b = 1) && decide (sf_na ib g (nI b) = 0)
def sf_lks (ib db nd : Nat) (g : sf_G) : Int32 := nI (sf_ct (sf_lk1 db g) (4 * ib) 1 + sf_ct (sf_lk2 ib g) nd 1)
theorem sf_na_01 (ib : Nat) (g : sf_G) (x : Int32) : sf_na ib g x = 0 ∨ sf_na ib g x = 1 := by
  rcases sf_fs_cases (fun p => g 5 p == x) (12 * ib) 3 with n | ⟨j, j1, j2, j3, j4⟩
  · exact Or.inl (sf_fs_none _ _ n)
  · exact Or.inr (sf_fs_some _ _ j j1 j2 j3 j4)
section
variable {ib db nd lim : Nat} {g : sf_G} {l A B : List sf_R} {r : sf_R}
theorem sf_X_dirtyCount {post : Int32 → Prop} {u : SX} (hZ : sf_Z ib db nd lim) (h : sf_X ib db nd lim g l u) (hp : post (nI (sf_ct (fun b => !decide (g 20 b = 0)) (1 + ib + db + nd) 0))) : wpX_dirtyCount post u := by
  obtain ⟨hL, q, rfl, hA⟩ := h
  obtain ⟨z1, z2, z3, z4, z5, z6, -⟩ := hZ
  refine Exists.intro (1 + ib + db + nd + 1) (sf_ct_law (fun m c p => wX_dirtyCount_4 post (nI ib) (nI db) (nI (4 * ib)) (nI (4 * db)) (nI nd) (nI (1 + ib + db + nd)) (nI lim) (nI (l.length)) (g 21 0) (g 22 0) (g 23 0) (g 0) (g 1) (g 2) (g 3) (g 4) (g 5) (g 6) (g 7) (g 8) (g 9) (g 10) (g 11) (g 12) (g 13) (g 14) (g 15) (g 16) (g 17) (g 18) (g 19) (g 20) (q 0) (q 1) (q 2) (q 3) (q 4) (q 5) m (nI c) (nI p)) (post := fun c => post (nI c)) (P := fun b => !decide (g 20 b = 0)) (hi := 1 + ib + db + nd) ?_ ?_ ?_ (1 + ib + db + nd) 0 0 (by omega) (by rw [Nat.zero_add]; exact hp))
  · intro m c hz
    exact br_t (nI_le (Nat.le_refl _) (by omega)) hz
  · intro m c p hlt k hW
    have hi : vp_in (nI p) 25 := vp_in_nI (by omega) (by decide)
    have hc : (nI p).toNatClampNeg = p := nI_clamp (by omega)
    refine br_f (nI_ge hlt (by omega)) (And.intro hi ?_)
    rw [hc]
    exact br_f (by simpa using k) (nm_r (nI_1 c) (nm_r (nI_1 p) hW))
  · intro m c p hlt k hW
    have hi : vp_in (nI p) 25 := vp_in_nI (by omega) (by decide)
    have hc : (nI p).toNatClampNeg = p := nI_clamp (by omega)
    refine br_f (nI_ge hlt (by omega)) (And.intro hi ?_)
    rw [hc]
    exact br_t (by simpa using k) (nm_r (nI_1 p) hW)
theorem sf_X_diskUses {post : Int32 → Prop} {u : SX} (hZ : sf_Z ib db nd lim) (h : sf_X ib db nd lim g l u) (x : Int32) (hp : post (nI (sf_us0 g (4 * db) x))) : wpX_diskUses post u x := by
  obtain ⟨hL, q, rfl, hA⟩ := h
  obtain ⟨z1, z2, z3, z4, z5, z6, -⟩ := hZ
  refine Exists.intro (4 * db + 1) (sf_ct_law (fun m c p => wX_diskUses_4 post x (nI ib) (nI db) (nI (4 * ib)) (nI (4 * db)) (nI nd) (nI (1 + ib + db + nd)) (nI lim) (nI (l.length)) (g 21 0) (g 22 0) (g 23 0) (g 0) (g 1) (g 2) (g 3) (g 4) (g 5) (g 6) (g 7) (g 8) (g 9) (g 10) (g 11) (g 12) (g 13) (g 14) (g 15) (g 16) (g 17) (g 18) (g 19) (g 20) (q 0) (q 1) (q 2) (q 3) (q 4) (q 5) m (nI c) (nI p)) (post := fun c => post (nI c)) (P := fun e => g 9 e == x) (hi := 4 * db) ?_ ?_ ?_ (4 * db) 0 0 (by omega) (by rw [Nat.zero_add]; exact hp))
  · intro m c hz
    exact br_t (nI_le (Nat.le_refl _) (by omega)) hz
  · intro m c p hlt k hW
    have hi : vp_in (nI p) 16 := vp_in_nI (by omega) (by decide)
    have hc : (nI p).toNatClampNeg = p := nI_clamp (by omega)
    refine br_f (nI_ge hlt (by omega)) (And.intro hi ?_)
    rw [hc]
    exact br_t (by simpa using k) (nm_r (nI_1 c) (nm_r (nI_1 p) hW))
  · intro m c p hlt k hW
    have hi : vp_in (nI p) 16 := vp_in_nI (by omega) (by decide)
    have hc : (nI p).toNatClampNeg = p := nI_clamp (by omega)
    refine br_f (nI_ge hlt (by omega)) (And.intro hi ?_)
    rw [hc]
    exact br_f (by simpa using k) (nm_r (nI_1 p) hW)
theorem sf_X_freeInodes {post : Int32 → Prop} {u : SX} (hZ : sf_Z ib db nd lim) (h : sf_X ib db nd lim g l u) (hp : post (nI (sf_ct (fun e => g 16 e == 0) (4 * ib) 1))) : wpX_freeInodes post u := by
  obtain ⟨hL, q, rfl, hA⟩ := h
  obtain ⟨z1, z2, z3, z4, z5, z6, -⟩ := hZ
  refine Exists.intro (4 * ib + 1) (sf_ct_law (fun m c p => wX_freeInodes_4 post (nI ib) (nI db) (nI (4 * ib)) (nI (4 * db)) (nI nd) (nI (1 + ib + db + nd)) (nI lim) (nI (l.length)) (g 21 0) (g 22 0) (g 23 0) (g 0) (g 1) (g 2) (g 3) (g 4) (g 5) (g 6) (g 7) (g 8) (g 9) (g 10) (g 11) (g 12) (g 13) (g 14) (g 15) (g 16) (g 17) (g 18) (g 19) (g 20) (q 0) (q 1) (q 2) (q 3) (q 4) (q 5) m (nI c) (nI p)) (post := fun c => post (nI c)) (P := fun e => g 16 e == 0) (hi := 4 * ib + 1) ?_ ?_ ?_ (4 * ib) 1 0 (by omega) (by rw [Nat.zero_add]; exact hp))
  · intro m c hz
    exact br_t (nI_lt (by omega) (by omega)) hz
  · intro m c p hlt k hW
    have hi : vp_in (nI p) 17 := vp_in_nI (by omega) (by decide)
    have hc : (nI p).toNatClampNeg = p := nI_clamp (by omega)
    refine br_f (nI_nlt (by omega) (by omega)) (And.intro hi ?_)
    rw [hc]
    exact br_t (by simpa using k) (nm_r (nI_1 c) (nm_r (nI_1 p) hW))
  · intro m c p hlt k hW
    have hi : vp_in (nI p) 17 := vp_in_nI (by omega) (by decide)
    have hc : (nI p).toNatClampNeg = p := nI_clamp (by omega)
    refine br_f (nI_nlt (by omega) (by omega)) (And.intro hi ?_)
    rw [hc]
    exact br_f (by simpa using k) (nm_r (nI_1 p) hW)
theorem sf_X_freeBlocks {post : Int32 → Prop} {u : SX} (hZ : sf_Z ib db nd lim) (h : sf_X ib db nd lim g l u) (hp : post (nI (sf_ct (fun e => g 18 e == 0) nd 1))) : wpX_freeBlocks post u := by
  obtain ⟨hL, q, rfl, hA⟩ := h
  obtain ⟨z1, z2, z3, z4, z5, z6, -⟩ := hZ
  refine Exists.intro (nd + 1) (sf_ct_law (fun m c p => wX_freeBlocks_4 post (nI ib) (nI db) (nI (4 * ib)) (nI (4 * db)) (nI nd) (nI (1 + ib + db + nd)) (nI lim) (nI (l.length)) (g 21 0) (g 22 0) (g 23 0) (g 0) (g 1) (g 2) (g 3) (g 4) (g 5) (g 6) (g 7) (g 8) (g 9) (g 10) (g 11) (g 12) (g 13) (g 14) (g 15) (g 16) (g 17) (g 18) (g 19) (g 20) (q 0) (q 1) (q 2) (q 3) (q 4) (q 5) m (nI c) (nI p)) (post := fun c => post (nI c)) (P := fun e => g 18 e == 0) (hi := nd + 1) ?_ ?_ ?_ nd 1 0 (by omega) (by rw [Nat.zero_add]; exact hp))
  · intro m c hz
    exact br_t (nI_lt (by omega) (by omega)) hz
  · intro m c p hlt k hW
    have hi : vp_in (nI p) 17 := vp_in_nI (by omega) (by decide)
    have hc : (nI p).toNatClampNeg = p := nI_clamp (by omega)
    refine br_f (nI_nlt (by omega) (by omega)) (And.intro hi ?_)
    rw [hc]
    exact br_t (by simpa using k) (nm_r (nI_1 c) (nm_r (nI_1 p) hW))
  · intro m c p hlt k hW
    have hi : vp_in (nI p) 17 := vp_in_nI (by omega) (by decide)
    have hc : (nI p).toNatClampNeg = p := nI_clamp (by omega)
    refine br_f (nI_nlt (by omega) (by omega)) (And.intro hi ?_)
    rw [hc]
    exact br_f (by simpa using k) (nm_r (nI_1 p) hW)
theorem sf_Y_dirtyCount {post : Int32 → Prop} {u : SY} (hZ : sf_Z ib db nd lim) (h : sf_Y ib db nd lim g l u) (hp : post (nI (sf_ct (fun b => !decide (g 20 b = 0)) (1 + ib + db + nd) 0))) : wpY_dirtyCount post u := by
  obtain ⟨hL, q, rfl, hA⟩ := h
  obtain ⟨z1, z2, z3, z4, z5, z6, -⟩ := hZ
  refine Exists.intro (1 + ib + db + nd + 1) (sf_ct_law (fun m c p => wY_dirtyCount_4 post (nI ib) (nI db) (nI nd) (nI lim) (nI (4 * ib)) (nI (4 * db)) (nI (1 + ib + db + nd)) (nI (l.length)) (g 21 0) (g 22 0) (g 23 0) (g 0) (g 1) (g 2) (g 16) (g 18) (g 12) (g 13) (g 6) (g 7) (g 3) (g 4) (g 5) (g 17) (g 19) (g 14) (g 15) (g 8) (g 9) (g 10) (g 11) (g 20) (q 0) (q 1) (q 2) (q 3) (q 4) (q 5) m (nI c) (nI p)) (post := fun c => post (nI c)) (P := fun b => !decide (g 20 b = 0)) (hi := 1 + ib + db + nd) ?_ ?_ ?_ (1 + ib + db + nd) 0 0 (by omega) (by rw [Nat.zero_add]; exact hp))
  · intro m c hz
    exact br_t (nI_le (Nat.le_refl _) (by omega)) hz
  · intro m c p hlt k hW
    have hi : vp_in (nI p) 25 := vp_in_nI (by omega) (by decide)
    have hc : (nI p).toNatClampNeg = p := nI_clamp (by omega)
    refine br_f (nI_ge hlt (by omega)) (And.intro hi ?_)
    rw [hc]
    exact br_f (by simpa using k) (nm_r (nI_1 c) (nm_r (nI_1 p) hW))
  · intro m c p hlt k hW
    have hi : vp_in (nI p) 25 := vp_in_nI (by omega) (by decide)
    have hc : (nI p).toNatClampNeg = p := nI_clamp (by omega)
    refine br_f (nI_ge hlt (by omega)) (And.intro hi ?_)
    rw [hc]
    exact br_t (by simpa using k) (nm_r (nI_1 p) hW)
theorem sf_Y_diskUses {post : Int32 → Prop} {u : SY} (hZ : sf_Z ib db nd lim) (h : sf_Y ib db nd lim g l u) (x : Int32) (hp : post (nI (sf_us0 g (4 * db) x))) : wpY_diskUses post u x := by
  obtain ⟨hL, q, rfl, hA⟩ := h
  obtain ⟨z1, z2, z3, z4, z5, z6, -⟩ := hZ
  refine Exists.intro (4 * db + 1) (sf_ct_law (fun m c p => wY_diskUses_4 post x (nI ib) (nI db) (nI nd) (nI lim) (nI (4 * ib)) (nI (4 * db)) (nI (1 + ib + db + nd)) (nI (l.length)) (g 21 0) (g 22 0) (g 23 0) (g 0) (g 1) (g 2) (g 16) (g 18) (g 12) (g 13) (g 6) (g 7) (g 3) (g 4) (g 5) (g 17) (g 19) (g 14) (g 15) (g 8) (g 9) (g 10) (g 11) (g 20) (q 0) (q 1) (q 2) (q 3) (q 4) (q 5) m (nI c) (nI p)) (post := fun c => post (nI c)) (P := fun e => g 9 e == x) (hi := 4 * db) ?_ ?_ ?_ (4 * db) 0 0 (by omega) (by rw [Nat.zero_add]; exact hp))
  · intro m c hz
    exact br_t (nI_le (Nat.le_refl _) (by omega)) hz
  · intro m c p hlt k hW
    have hi : vp_in (nI p) 16 := vp_in_nI (by omega) (by decide)
    have hc : (nI p).toNatClampNeg = p := nI_clamp (by omega)
    refine br_f (nI_ge hlt (by omega)) (And.intro hi ?_)
    rw [hc]
    exact br_t (by simpa using k) (nm_r (nI_1 c) (nm_r (nI_1 p) hW))
  · intro m c p hlt k hW
    have hi : vp_in (nI p) 16 := vp_in_nI (by omega) (by decide)
    have hc : (nI p).toNatClampNeg = p := nI_clamp (by omega)
    refine br_f (nI_ge hlt (by omega)) (And.intro hi ?_)
    rw [hc]
    exact br_f (by simpa using k) (nm_r (nI_1 p) hW)
theorem sf_Y_freeInodes {post : Int32 → Prop} {u : SY} (hZ : sf_Z ib db nd lim) (h : sf_Y ib db nd lim g l u) (hp : post (nI (sf_ct (fun e => g 16 e == 0) (4 * ib) 1))) : wpY_freeInodes post u := by
  obtain ⟨hL, q, rfl, hA⟩ := h
  obtain ⟨z1, z2, z3, z4, z5, z6, -⟩ := hZ
  refine Exists.intro (4 * ib + 1) (sf_ct_law (fun m c p => wY_freeInodes_4 post (nI ib) (nI db) (nI nd) (nI lim) (nI (4 * ib)) (nI (4 * db)) (nI (1 + ib + db + nd)) (nI (l.length)) (g 21 0) (g 22 0) (g 23 0) (g 0) (g 1) (g 2) (g 16) (g 18) (g 12) (g 13) (g 6) (g 7) (g 3) (g 4) (g 5) (g 17) (g 19) (g 14) (g 15) (g 8) (g 9) (g 10) (g 11) (g 20) (q 0) (q 1) (q 2) (q 3) (q 4) (q 5) m (nI c) (nI p)) (post := fun c => post (nI c)) (P := fun e => g 16 e == 0) (hi := 4 * ib + 1) ?_ ?_ ?_ (4 * ib) 1 0 (by omega) (by rw [Nat.zero_add]; exact hp))
  · intro m c hz
    exact br_t (nI_lt (by omega) (by omega)) hz
  · intro m c p hlt k hW
    have hi : vp_in (nI p) 17 := vp_in_nI (by omega) (by decide)
    have hc : (nI p).toNatClampNeg = p := nI_clamp (by omega)
    refine br_f (nI_nlt (by omega) (by omega)) (And.intro hi ?_)
    rw [hc]
    exact br_t (by simpa using k) (nm_r (nI_1 c) (nm_r (nI_1 p) hW))
  · intro m c p hlt k hW
    have hi : vp_in (nI p) 17 := vp_in_nI (by omega) (by decide)
    have hc : (nI p).toNatClampNeg = p := nI_clamp (by omega)
    refine br_f (nI_nlt (by omega) (by omega)) (And.intro hi ?_)
    rw [hc]
    exact br_f (by simpa using k) (nm_r (nI_1 p) hW)
theorem sf_Y_freeBlocks {post : Int32 → Prop} {u : SY} (hZ : sf_Z ib db nd lim) (h : sf_Y ib db nd lim g l u) (hp : post (nI (sf_ct (fun e => g 18 e == 0) nd 1))) : wpY_freeBlocks post u := by
  obtain ⟨hL, q, rfl, hA⟩ := h
  obtain ⟨z1, z2, z3, z4, z5, z6, -⟩ := hZ
  refine Exists.intro (nd + 1) (sf_ct_law (fun m c p => wY_freeBlocks_4 post (nI ib) (nI db) (nI nd) (nI lim) (nI (4 * ib)) (nI (4 * db)) (nI (1 + ib + db + nd)) (nI (l.length)) (g 21 0) (g 22 0) (g 23 0) (g 0) (g 1) (g 2) (g 16) (g 18) (g 12) (g 13) (g 6) (g 7) (g 3) (g 4) (g 5) (g 17) (g 19) (g 14) (g 15) (g 8) (g 9) (g 10) (g 11) (g 20) (q 0) (q 1) (q 2) (q 3) (q 4) (q 5) m (nI c) (nI p)) (post := fun c => post (nI c)) (P := fun e => g 18 e == 0) (hi := nd + 1) ?_ ?_ ?_ nd 1 0 (by omega) (by rw [Nat.zero_add]; exact hp))
  · intro m c hz
    exact br_t (nI_lt (by omega) (by omega)) hz
  · intro m c p hlt k hW
    have hi : vp_in (nI p) 17 := vp_in_nI (by omega) (by decide)
    have hc : (nI p).toNatClampNeg = p := nI_clamp (by omega)
    refine br_f (nI_nlt (by omega) (by omega)) (And.intro hi ?_)
    rw [hc]
    exact br_t (by simpa using k) (nm_r (nI_1 c) (nm_r (nI_1 p) hW))
  · intro m c p hlt k hW
    have hi : vp_in (nI p) 17 := vp_in_nI (by omega) (by decide)
    have hc : (nI p).toNatClampNeg = p := nI_clamp (by omega)
    refine br_f (nI_nlt (by omega) (by omega)) (And.intro hi ?_)
    rw [hc]
    exact br_f (by simpa using k) (nm_r (nI_1 p) hW)
theorem sf_X_named {post : Int32 → Prop} {u : SX} (hZ : sf_Z ib db nd lim) (h : sf_X ib db nd lim g l u) (x : Int32) (hp : post (sf_na ib g x)) : wpX_namedOnDisk post u x := by
  obtain ⟨hL, q, rfl, hA⟩ := h
  obtain ⟨z1, z2, z3, z4, z5, z6, -⟩ := hZ
  have e3 : ((3 : Int32) * nI (4 * ib)) + 3 = nI (12 * ib + 3) := by
    show (nI 3 * nI (4 * ib)) + nI 3 = _
    rw [pk_mul, nI_add]
    exact congrArg nI (by omega)
  refine Exists.intro (12 * ib + 1) (sf_fs_law (fun m p => wX_namedOnDisk_2 post x (nI ib) (nI db) (nI (4 * ib)) (nI (4 * db)) (nI nd) (nI (1 + ib + db + nd)) (nI lim) (nI (l.length)) (g 21 0) (g 22 0) (g 23 0) (g 0) (g 1) (g 2) (g 3) (g 4) (g 5) (g 6) (g 7) (g 8) (g 9) (g 10) (g 11) (g 12) (g 13) (g 14) (g 15) (g 16) (g 17) (g 18) (g 19) (g 20) (q 0) (q 1) (q 2) (q 3) (q 4) (q 5) m (nI p)) (P := fun p => g 5 p == x) (hi := 12 * ib + 3) ?_ ?_ ?_ (12 * ib) 3 (by omega) hp)
  · intro hz m
    exact br_t (by rw [e3]; exact nI_le (Nat.le_refl _) (by omega)) hz
  · intro m p hlt c hz
    have hi : vp_in (nI p) 51 := vp_in_nI (by omega) (by decide)
    have hc : (nI p).toNatClampNeg = p := nI_clamp (by omega)
    refine br_f (by rw [e3]; exact nI_ge hlt (by omega)) (And.intro hi ?_)
    rw [hc]
    exact br_t (by simpa using c) hz
  · intro m p hlt c hW
    have hi : vp_in (nI p) 51 := vp_in_nI (by omega) (by decide)
    have hc : (nI p).toNatClampNeg = p := nI_clamp (by omega)
    refine br_f (by rw [e3]; exact nI_ge hlt (by omega)) (And.intro hi ?_)
    rw [hc]
    exact br_f (by simpa using c) (nm_r (nI_1 p) hW)
theorem sf_Y_named {post : Int32 → Prop} {u : SY} (hZ : sf_Z ib db nd lim) (h : sf_Y ib db nd lim g l u) (x : Int32) (hp : post (sf_na ib g x)) : wpY_diskNamed post u x := by
  obtain ⟨hL, q, rfl, hA⟩ := h
  obtain ⟨z1, z2, z3, z4, z5, z6, -⟩ := hZ
  have key : ∀ d i, i + d = 4 * ib + 1 → post (sf_fs 0 (fun _ => 1) (fun p => g 5 p == x) (3 * d) (3 * i)) → wY_diskNamed_2 post x (nI ib) (nI db) (nI nd) (nI lim) (nI (4 * ib)) (nI (4 * db)) (nI (1 + ib + db + nd)) (nI (l.length)) (g 21 0) (g 22 0) (g 23 0) (g 0) (g 1) (g 2) (g 16) (g 18) (g 12) (g 13) (g 6) (g 7) (g 3) (g 4) (g 5) (g 17) (g 19) (g 14) (g 15) (g 8) (g 9) (g 10) (g 11) (g 20) (q 0) (q 1) (q 2) (q 3) (q 4) (q 5) (d + 1) (nI i) := by
    intro d
    induction d with
    | zero =>
      intro i e hp
      exact br_t (nI_lt (by omega) (by omega)) hp
    | succ d ih =>
      intro i e hp
      have k2 : ∀ d2 k, k + d2 = 3 → post (sf_fs 0 (fun _ => 1) (fun p => g 5 p == x) (3 * d + d2) (3 * i + k)) → wY_diskNamed_12 post (wY_diskNamed_2 post x (nI ib) (nI db) (nI nd) (nI lim) (nI (4 * ib)) (nI (4 * db)) (nI (1 + ib + db + nd)) (nI (l.length)) (g 21 0) (g 22 0) (g 23 0) (g 0) (g 1) (g 2) (g 16) (g 18) (g 12) (g 13) (g 6) (g 7) (g 3) (g 4) (g 5) (g 17) (g 19) (g 14) (g 15) (g 8) (g 9) (g 10) (g 11) (g 20) (q 0) (q 1) (q 2) (q 3) (q 4) (q 5) (d + 1)) x (nI i) (nI ib) (nI db) (nI nd) (nI lim) (nI (4 * ib)) (nI (4 * db)) (nI (1 + ib + db + nd)) (nI (l.length)) (g 21 0) (g 22 0) (g 23 0) (g 0) (g 1) (g 2) (g 16) (g 18) (g 12) (g 13) (g 6) (g 7) (g 3) (g 4) (g 5) (g 17) (g 19) (g 14) (g 15) (g 8) (g 9) (g 10) (g 11) (g 20) (q 0) (q 1) (q 2) (q 3) (q 4) (q 5) (d2 + 1) (nI k) := by
        intro d2
        induction d2 with
        | zero =>
          intro k e2 hp
          have e3 : k = 3 := by omega
          subst e3
          exact br_t (by decide) (nm_r (nI_1 i) (ih (i + 1) (by omega) hp))
        | succ d2 ih2 =>
          intro k e2 hp
          have hx : (nI i * 3) + nI k = nI (3 * i + k) := by
            show (nI i * nI 3) + nI k = _
            rw [pk_mul, nI_add]
            exact congrArg nI (by omega)
          have hi : vp_in (nI (3 * i + k)) 51 := vp_in_nI (by omega) (by decide)
          have hc : (nI (3 * i + k)).toNatClampNeg = 3 * i + k := nI_clamp (by omega)
          refine br_f (nI_ge (b := 3) (by omega) (by decide)) ?_
          rw [hx, hc]
          refine And.intro hi ?_
          rw [show 3 * d + (d2 + 1) = (3 * d + d2) + 1 by omega, sf_fs] at hp
          by_cases c : g 5 (3 * i + k) = x
          · rw [if_pos (by simpa using c)] at hp
            exact br_t c hp
          · rw [if_neg (by simpa using c)] at hp
            exact br_f c (nm_r (nI_1 k) (ih2 (k + 1) (by omega) hp))
      exact br_f (nI_nlt (by omega) (by omega)) (Exists.intro 4 (k2 3 0 rfl hp))
  refine Exists.intro (4 * ib + 1) (key (4 * ib) 1 (by omega) ?_)
  rw [sf_na, show 12 * ib = 3 * (4 * ib) by omega] at hp
  exact hp
theorem sf_X_lk2 {post : Int32 → Prop} {q : sf_G} (hZ : sf_Z ib db nd lim) (hL : l.length ≤ 128) (hA : sf_A l q) (c : Nat) (hp : post (nI (c + sf_ct (sf_lk2 ib g) nd 1))) : wX_leaks_68 post (nI ib) (nI db) (nI (4 * ib)) (nI (4 * db)) (nI nd) (nI (1 + ib + db + nd)) (nI lim) (nI (l.length)) (g 21 0) (g 22 0) (g 23 0) (g 0) (g 1) (g 2) (g 3) (g 4) (g 5) (g 6) (g 7) (g 8) (g 9) (g 10) (g 11) (g 12) (g 13) (g 14) (g 15) (g 16) (g 17) (g 18) (g 19) (g 20) (q 0) (q 1) (q 2) (q 3) (q 4) (q 5) (nd + 1) (nI c) 1 := by
  have hZ' := hZ
  obtain ⟨z1, z2, z3, z4, z5, z6, -⟩ := hZ'
  refine sf_ct_law (fun m c p => wX_leaks_68 post (nI ib) (nI db) (nI (4 * ib)) (nI (4 * db)) (nI nd) (nI (1 + ib + db + nd)) (nI lim) (nI (l.length)) (g 21 0) (g 22 0) (g 23 0) (g 0) (g 1) (g 2) (g 3) (g 4) (g 5) (g 6) (g 7) (g 8) (g 9) (g 10) (g 11) (g 12) (g 13) (g 14) (g 15) (g 16) (g 17) (g 18) (g 19) (g 20) (q 0) (q 1) (q 2) (q 3) (q 4) (q 5) m (nI c) (nI p)) (post := fun c => post (nI c)) (P := sf_lk2 ib g) (hi := nd + 1) ?_ ?_ ?_ nd 1 c (by omega) hp
  · intro m c hz
    exact br_t (nI_lt (by omega) (by omega)) hz
  · intro m c p hlt k hW
    have hi : vp_in (nI p) 17 := vp_in_nI (by omega) (by decide)
    have hc : (nI p).toNatClampNeg = p := nI_clamp (by omega)
    rw [sf_lk2, Bool.and_eq_true, decide_eq_true_eq, decide_eq_true_eq] at k
    refine br_f (nI_nlt (by omega) (by omega)) (And.intro hi ?_)
    rw [hc]
    exact br_t k.1 (sf_X_named hZ ⟨hL, q, rfl, hA⟩ _ (br_t k.2 (nm_r (nI_1 c) (nm_r (nI_1 p) hW))))
  · intro m c p hlt k hW
    have hi : vp_in (nI p) 17 := vp_in_nI (by omega) (by decide)
    have hc : (nI p).toNatClampNeg = p := nI_clamp (by omega)
    refine br_f (nI_nlt (by omega) (by omega)) (And.intro hi ?_)
    rw [hc]
    by_cases c1 : g 19 p = 1
    · refine br_t c1 (sf_X_named hZ ⟨hL, q, rfl, hA⟩ _ (br_f (fun z => ?_) (nm_r (nI_1 p) hW)))
      rw [sf_lk2, decide_eq_true c1, decide_eq_true z] at k
      exact absurd k (by decide)
    · exact br_f c1 (nm_r (nI_1 p) hW)
theorem sf_Y_lk2 {post : Int32 → Prop} {q : sf_G} (hZ : sf_Z ib db nd lim) (hL : l.length ≤ 128) (hA : sf_A l q) (c : Nat) (hp : post (nI (c + sf_ct (sf_lk2 ib g) nd 1))) : wY_leaks_99 post (nI ib) (nI db) (nI nd) (nI lim) (nI (4 * ib)) (nI (4 * db)) (nI (1 + ib + db + nd)) (nI (l.length)) (g 21 0) (g 22 0) (g 23 0) (g 0) (g 1) (g 2) (g 16) (g 18) (g 12) (g 13) (g 6) (g 7) (g 3) (g 4) (g 5) (g 17) (g 19) (g 14) (g 15) (g 8) (g 9) (g 10) (g 11) (g 20) (q 0) (q 1) (q 2) (q 3) (q 4) (q 5) (nd + 1) (nI c) 1 := by
  have hZ' := hZ
  obtain ⟨z1, z2, z3, z4, z5, z6, -⟩ := hZ'
  refine sf_ct_law (fun m c p => wY_leaks_99 post (nI ib) (nI db) (nI nd) (nI lim) (nI (4 * ib)) (nI (4 * db)) (nI (1 + ib + db + nd)) (nI (l.length)) (g 21 0) (g 22 0) (g 23 0) (g 0) (g 1) (g 2) (g 16) (g 18) (g 12) (g 13) (g 6) (g 7) (g 3) (g 4) (g 5) (g 17) (g 19) (g 14) (g 15) (g 8) (g 9) (g 10) (g 11) (g 20) (q 0) (q 1) (q 2) (q 3) (q 4) (q 5) m (nI c) (nI p)) (post := fun c => post (nI c)) (P := sf_lk2 ib g) (hi := nd + 1) ?_ ?_ ?_ nd 1 c (by omega) hp
  · intro m c hz
    exact br_t (nI_lt (by omega) (by omega)) hz
  · intro m c p hlt k hW
    have hi : vp_in (nI p) 17 := vp_in_nI (by omega) (by decide)
    have hc : (nI p).toNatClampNeg = p := nI_clamp (by omega)
    rw [sf_lk2, Bool.and_eq_true, decide_eq_true_eq, decide_eq_true_eq] at k
    refine br_f (nI_nlt (by omega) (by omega)) (And.intro hi ?_)
    rw [hc]
    exact br_t k.1 (sf_Y_named hZ ⟨hL, q, rfl, hA⟩ _ (br_t k.2 (nm_r (nI_1 c) (nm_r (nI_1 p) hW))))
  · intro m c p hlt k hW
    have hi : vp_in (nI p) 17 := vp_in_nI (by omega) (by decide)
    have hc : (nI p).toNatClampNeg = p := nI_clamp (by omega)
    refine br_f (nI_nlt (by omega) (by omega)) (And.intro hi ?_)
    rw [hc]
    by_cases c1 : g 19 p = 1
    · refine br_t c1 (sf_Y_named hZ ⟨hL, q, rfl, hA⟩ _ (br_f (fun z => ?_) (nm_r (nI_1 p) hW)))
      rw [sf_lk2, decide_eq_true c1, decide_eq_true z] at k
      exact absurd k (by decide)
    · exact br_f c1 (nm_r (nI_1 p) hW)
theorem sf_X_leaks {post : Int32 → Prop} {u : SX} (hZ : sf_Z ib db nd lim) (h : sf_X ib db nd lim g l u) (hp : post (sf_lks ib db nd g)) : wpX_leaks post u := by
  obtain ⟨hL, q, rfl, hA⟩ := h
  have hZ' := hZ
  obtain ⟨z1, z2, z3, z4, z5, z6, -⟩ := hZ'
  rw [sf_lks] at hp
  refine Exists.intro (4 * ib + 1) (sf_ct_law (fun m c p => wX_leaks_4 post (nI ib) (nI db) (nI (4 * ib)) (nI (4 * db)) (nI nd) (nI (1 + ib + db + nd)) (nI lim) (nI (l.length)) (g 21 0) (g 22 0) (g 23 0) (g 0) (g 1) (g 2) (g 3) (g 4) (g 5) (g 6) (g 7) (g 8) (g 9) (g 10) (g 11) (g 12) (g 13) (g 14) (g 15) (g 16) (g 17) (g 18) (g 19) (g 20) (q 0) (q 1) (q 2) (q 3) (q 4) (q 5) m (nI c) (nI p)) (post := fun c => post (nI (c + sf_ct (sf_lk2 ib g) nd 1))) (P := sf_lk1 db g) (hi := 4 * ib + 1) ?_ ?_ ?_ (4 * ib) 1 0 (by omega) (by rw [Nat.zero_add]; exact hp))
  · intro m c hz
    exact br_t (nI_lt (by omega) (by omega)) (Exists.intro (nd + 1) (sf_X_lk2 hZ hL hA c hz))
  · intro m c p hlt k hW
    have hi : vp_in (nI p) 17 := vp_in_nI (by omega) (by decide)
    have hc : (nI p).toNatClampNeg = p := nI_clamp (by omega)
    rw [sf_lk1] at k
    refine br_f (nI_nlt (by omega) (by omega)) (And.intro hi ?_)
    rw [hc]
    by_cases c0 : g 3 p = 0
    · rw [if_pos c0, decide_eq_true_eq] at k
      exact br_t c0 (And.intro hi (br_t k (nm_r (nI_1 c) (nm_r (nI_1 p) hW))))
    · rw [if_neg c0, Bool.or_eq_true, decide_eq_true_eq] at k
      refine br_f c0 (sf_X_diskUses hZ ⟨hL, q, rfl, hA⟩ _ ?_)
      by_cases c1 : nI (sf_us0 g (4 * db) (nI p)) = 0
      · exact br_t c1 (nm_r (nI_1 c) (nm_r (nI_1 p) hW))
      · refine br_f c1 (And.intro hi (br_f ?_ (nm_r (nI_1 c) (nm_r (nI_1 p) hW))))
        have := k.resolve_left c1
        simpa using this
  · intro m c p hlt k hW
    have hi : vp_in (nI p) 17 := vp_in_nI (by omega) (by decide)
    have hc : (nI p).toNatClampNeg = p := nI_clamp (by omega)
    rw [sf_lk1] at k
    refine br_f (nI_nlt (by omega) (by omega)) (And.intro hi ?_)
    rw [hc]
    by_cases c0 : g 3 p = 0
    · rw [if_pos c0, decide_eq_false_iff_not] at k
      exact br_t c0 (And.intro hi (br_f k (nm_r (nI_1 p) hW)))
    · rw [if_neg c0, Bool.or_eq_false_iff, decide_eq_false_iff_not] at k
      refine br_f c0 (sf_X_diskUses hZ ⟨hL, q, rfl, hA⟩ _ (br_f k.1 (And.intro hi (br_t ?_ (nm_r (nI_1 p) hW)))))
      simpa using k.2
theorem sf_Y_leaks {post : Int32 → Prop} {u : SY} (hZ : sf_Z ib db nd lim) (h : sf_Y ib db nd lim g l u) (hp : post (sf_lks ib db nd g)) : wpY_leaks post u := by
  obtain ⟨hL, q, rfl, hA⟩ := h
  have hZ' := hZ
  obtain ⟨z1, z2, z3, z4, z5, z6, -⟩ := hZ'
  rw [sf_lks] at hp
  refine Exists.intro (4 * ib + 1) (sf_ct_law (fun m c p => wY_leaks_4 post (nI ib) (nI db) (nI nd) (nI lim) (nI (4 * ib)) (nI (4 * db)) (nI (1 + ib + db + nd)) (nI (l.length)) (g 21 0) (g 22 0) (g 23 0) (g 0) (g 1) (g 2) (g 16) (g 18) (g 12) (g 13) (g 6) (g 7) (g 3) (g 4) (g 5) (g 17) (g 19) (g 14) (g 15) (g 8) (g 9) (g 10) (g 11) (g 20) (q 0) (q 1) (q 2) (q 3) (q 4) (q 5) m (nI c) (nI p)) (post := fun c => post (nI (c + sf_ct (sf_lk2 ib g) nd 1))) (P := sf_lk1 db g) (hi := 4 * ib + 1) ?_ ?_ ?_ (4 * ib) 1 0 (by omega) (by rw [Nat.zero_add]; exact hp))
  · intro m c hz
    exact br_t (nI_lt (by omega) (by omega)) (Exists.intro (nd + 1) (sf_Y_lk2 hZ hL hA c hz))
  · intro m c p hlt k hW
    have hi : vp_in (nI p) 17 := vp_in_nI (by omega) (by decide)
    have hc : (nI p).toNatClampNeg = p := nI_clamp (by omega)
    have hu16 : sf_us0 g (4 * db) (nI p) ≤ 4 * db := sf_ct_le _ _ _
    rw [sf_lk1] at k
    refine br_f (nI_nlt (by omega) (by omega)) (sf_Y_diskUses hZ ⟨hL, q, rfl, hA⟩ _ (And.intro hi ?_))
    rw [hc]
    by_cases c0 : g 3 p = 0
    · rw [if_pos c0, decide_eq_true_eq] at k
      refine br_t c0 (And.intro hi ?_)
      rw [hc]
      refine br_t c0 (And.intro hi ?_)
      rw [hc]
      exact br_t c0 (And.intro hi (br_t k (nm_r (nI_1 c) (nm_r (nI_1 p) hW))))
    · rw [if_neg c0, Bool.or_eq_true, decide_eq_true_eq] at k
      refine br_f c0 ?_
      by_cases c1 : nI (sf_us0 g (4 * db) (nI p)) = 0
      · exact br_t c1 (nm_r (nI_1 c) (nm_r (nI_1 p) hW))
      · have c2 : ¬ nI (sf_us0 g (4 * db) (nI p)) ≤ 0 := nI_nle (Nat.pos_of_ne_zero (fun z => c1 (by rw [z]; rfl))) (by omega)
        refine br_f c1 (And.intro hi ?_)
        rw [hc]
        refine br_f c0 (br_f c2 (And.intro hi (br_f ?_ (nm_r (nI_1 c) (nm_r (nI_1 p) hW)))))
        have := k.resolve_left c1
        simpa using this
  · intro m c p hlt k hW
    have hi : vp_in (nI p) 17 := vp_in_nI (by omega) (by decide)
    have hc : (nI p).toNatClampNeg = p := nI_clamp (by omega)
    have hu16 : sf_us0 g (4 * db) (nI p) ≤ 4 * db := sf_ct_le _ _ _
    rw [sf_lk1] at k
    refine br_f (nI_nlt (by omega) (by omega)) (sf_Y_diskUses hZ ⟨hL, q, rfl, hA⟩ _ (And.intro hi ?_))
    rw [hc]
    by_cases c0 : g 3 p = 0
    · rw [if_pos c0, decide_eq_false_iff_not] at k
      refine br_t c0 (And.intro hi ?_)
      rw [hc]
      refine br_t c0 (And.intro hi ?_)
      rw [hc]
      exact br_t c0 (And.intro hi (br_f k (nm_r (nI_1 p) hW)))
    · rw [if_neg c0, Bool.or_eq_false_iff, decide_eq_false_iff_not] at k
      have c2 : ¬ nI (sf_us0 g (4 * db) (nI p)) ≤ 0 := nI_nle (Nat.pos_of_ne_zero (fun z => k.1 (by rw [z]; rfl))) (by omega)
      refine br_f c0 (br_f k.1 (And.intro hi ?_))
      rw [hc]
      refine br_f c0 (br_f c2 (And.intro hi (br_t (by simpa using k.2) (And.intro hi ?_))))
      rw [hc]
      exact br_f c0 (nm_r (nI_1 p) hW)
end
end
section
/-! the relation; the calls that only read -/
/-- not mounted -/
def sf_U (ib db nd : Nat) (g : sf_G) (l : List sf_R) : Prop := g 21 0 = 0 ∧ sf_T db nd g l ∧ l = [] ∧
  (∀ i, 1 ≤ i → i ≤ 4 * ib → g 0 i = g 3 i ∧ g 16 i = g 17 i) ∧
  (∀ e, e < 4 * db → g 7 e = g 9 e ∧ g 11 e = g 9 e ∧ (∃ j, j ≤ 4 * ib ∧ g 9 e = nI j) ∧ (g 9 e ≠ 0 → g 3 (g 9 e).toNatClampNeg ≠ 0)) ∧
  (∀ i, 1 ≤ i → i ≤ 4 * ib → g 3 i ≠ 0 → g 17 i ≠ 0)
/-- the relation at the head of a turn: one g, one list of records -/
def i_Rel (k : Nat) (u : SX) (v : SY) : Prop := ∃ ib db nd lim g l, sf_Z ib db nd lim ∧ sf_X ib db nd lim g l u ∧ sf_Y ib db nd lim g l v ∧ (sf_M ib db nd g l ∨ sf_U ib db nd g l)
theorem i_up {k : Nat} {u : SX} {v : SY} (h : i_Rel k u v) : i_Rel (k + 4) u v := h
theorem sf_fn_cases (db : Nat) (g : sf_G) (x : Int32) : sf_fn db g x = -1 ∨ ∃ e, e < 4 * db ∧ sf_fn db g x = nI e ∧ g 6 e = x := by
  rcases sf_fs_cases (fun e => g 6 e == x) (4 * db) 0 with n | ⟨j, j1, j2, j3, j4⟩
  · exact Or.inl (sf_fs_none _ _ n)
  · exact Or.inr ⟨j, by omega, sf_fs_some _ _ j j1 j2 j3 j4, by simpa using j3⟩
theorem sf_narr {x : Int32} (h : x = 0 ∨ x = 1) : narrow .boolean (.int x) = .int x := by
  rcases h with rfl | rfl <;> rfl
def sf_lkv (db : Nat) (g : sf_G) (x : Int32) : Int32 := if g 21 0 = 0 then -2 else if sf_bad x = true then -3 else if sf_fn db g x = -1 then -4 else g 7 (sf_fn db g x).toNatClampNeg
def sf_rdv (db : Nat) (g : sf_G) (x k : Int32) : Int32 := if g 21 0 = 0 then -2 else if sf_bad x = true then -3 else if k < 0 then -3 else if k ≤ 2 then (if sf_fn db g x = -1 then -4 else if g 2 (3 * (g 7 (sf_fn db g x).toNatClampNeg).toNatClampNeg + k.toNatClampNeg) = 0 then -12 else g 13 (g 2 (3 * (g 7 (sf_fn db g x).toNatClampNeg).toNatClampNeg + k.toNatClampNeg)).toNatClampNeg) else -3
def sf_dfv (g : sf_G) (i f : Nat) : Int32 := if f = 0 then g 3 i else if f = 1 then g 4 i else if f = 5 then g 17 i else g 5 (3 * i + f - 2)
def sf_mfv (g : sf_G) (i f : Nat) : Int32 := if f = 0 then g 0 i else if f = 1 then g 1 i else if f = 5 then g 16 i else g 2 (3 * i + f - 2)
def sf_ivv (g : sf_G) (l : List sf_R) (p0 : Int32) (i f : Nat) : Int32 := if p0 = 1 then sf_dfv g i f else if p0 = 2 ∧ f < 5 ∧ (l.any (sf_isInit (nI i)) = true ∨ (2 ≤ f ∧ l.any (sf_isAl (nI i) (nI (f - 2))) = true)) then 0 else sf_mfv g i f
def sf_ifv (ib : Nat) (g : sf_G) (l : List sf_R) (p0 p1 p2 : Int32) : Int32 := if p0 < 0 then -3 else if 2 < p0 then -3 else if p1 < 1 then -3 else if nI (4 * ib) < p1 then -3 else if p2 < 0 then -3 else if p2 ≤ 5 then sf_ivv g l p0 p1.toNatClampNeg p2.toNatClampNeg else -3
section
variable {ib db nd lim : Nat} {g : sf_G} {l A B : List sf_R} {r : sf_R}
theorem sf_X_lookup {post : Int32 → Prop} {u : SX} (hZ : sf_Z ib db nd lim) (h : sf_X ib db nd lim g l u) (x : Int32) (hp : post (sf_lkv db g x)) : wpX_lookup post u x := by
  obtain ⟨hL, q, rfl, hA⟩ := h
  have hZ' := hZ
  obtain ⟨z1, z2, z3, z4, z5, z6, -⟩ := hZ'
  rw [sf_lkv] at hp
  by_cases hm : g 21 0 = 0
  · rw [if_pos hm] at hp
    exact br_t hm hp
  · rw [if_neg hm] at hp
    refine br_f hm (sf_X_bad _ ?_)
    cases hb : sf_bad x with
    | true =>
      rw [hb, if_pos rfl] at hp
      exact br_f (by decide) hp
    | false =>
      rw [hb, if_neg Bool.false_ne_true] at hp
      refine br_t (by decide) (sf_X_findName hZ ⟨hL, q, rfl, hA⟩ _ ?_)
      rcases sf_fn_cases db g x with hf | ⟨e, he, hf, _⟩
      · rw [hf, if_pos rfl] at hp
        rw [hf]
        exact br_t rfl hp
      · rw [hf, if_neg (sf_nI_m1 (by omega))] at hp
        rw [hf]
        exact br_f (sf_nI_m1 (by omega)) (And.intro (vp_in_nI (by omega) (by decide)) hp)
theorem sf_X_isDirty {post : Int32 → Prop} {u : SX} (hZ : sf_Z ib db nd lim) (h : sf_X ib db nd lim g l u) (hd : ∀ x, x < 25 → g 20 x = 0 ∨ g 20 x = 1) (x : Int32) (hp : post (if x < 0 then 0 else if x < nI (1 + ib + db + nd) then g 20 x.toNatClampNeg else 0)) : wpX_isDirty post u x := by
  obtain ⟨hL, q, rfl, hA⟩ := h
  obtain ⟨z1, z2, z3, z4, z5, z6, -⟩ := hZ
  by_cases c1 : x < 0
  · rw [if_pos c1] at hp
    exact br_t c1 hp
  · rw [if_neg c1] at hp
    refine br_f c1 ?_
    by_cases c2 : x < nI (1 + ib + db + nd)
    · rw [if_pos c2] at hp
      obtain ⟨j, j1, rfl⟩ := nI_of c1
      rw [nI_ltI j1 (by omega)] at c2
      refine br_t (nI_lt c2 (by omega)) (And.intro (vp_in_nI (by omega) (by decide)) (And.intro (sf_narr ?_) hp))
      rw [nI_clamp j1]
      exact hd j (by omega)
    · rw [if_neg c2] at hp
      exact br_f c2 hp
theorem sf_X_recField {post : Int32 → Prop} {u : SX} (h : sf_X ib db nd lim g l u) (x f : Int32) (hp : post (if x < 0 then -3 else if nI l.length ≤ x then -3 else if f < 0 then -3 else if f ≤ 5 then (if f = 0 then (sf_n l x.toNatClampNeg).1 else if f = 1 then (sf_n l x.toNatClampNeg).2.1 else if f = 2 then (sf_n l x.toNatClampNeg).2.2.1 else if f = 3 then (sf_n l x.toNatClampNeg).2.2.2.1 else if f = 4 then (sf_n l x.toNatClampNeg).2.2.2.2.1 else (sf_n l x.toNatClampNeg).2.2.2.2.2) else -3)) : wpX_recordField post u x f := by
  obtain ⟨hL, q, rfl, hA⟩ := h
  by_cases c1 : x < 0
  · rw [if_pos c1] at hp
    exact br_t c1 hp
  · rw [if_neg c1] at hp
    refine br_f c1 ?_
    by_cases c2 : nI l.length ≤ x
    · rw [if_pos c2] at hp
      exact br_t c2 hp
    · rw [if_neg c2] at hp
      obtain ⟨j, j1, rfl⟩ := nI_of c1
      have c3 : j < l.length := by
        rw [nI_leI (by omega) j1] at c2
        omega
      have hi : vp_in (nI j) 128 := vp_in_nI (by omega) (by decide)
      refine br_f c2 ?_
      rw [nI_clamp j1, hA j c3] at hp
      by_cases d1 : f < 0
      · rw [if_pos d1] at hp
        exact br_t d1 hp
      · rw [if_neg d1] at hp
        refine br_f d1 ?_
        by_cases d2 : f ≤ 5
        · rw [if_pos d2] at hp
          refine br_t d2 ?_
          rw [nI_clamp j1]
          by_cases f0 : f = 0
          · rw [if_pos f0] at hp
            exact br_t f0 (And.intro hi hp)
          · rw [if_neg f0] at hp
            refine br_f f0 ?_
            by_cases f1 : f = 1
            · rw [if_pos f1] at hp
              exact br_t f1 (And.intro hi hp)
            · rw [if_neg f1] at hp
              refine br_f f1 ?_
              by_cases f2 : f = 2
              · rw [if_pos f2] at hp
                exact br_t f2 (And.intro hi hp)
              · rw [if_neg f2] at hp
                refine br_f f2 ?_
                by_cases f3 : f = 3
                · rw [if_pos f3] at hp
                  exact br_t f3 (And.intro hi hp)
                · rw [if_neg f3] at hp
                  refine br_f f3 ?_
                  by_cases f4 : f = 4
                  · rw [if_pos f4] at hp
                    exact br_t f4 (And.intro hi hp)
                  · rw [if_neg f4] at hp
                    exact br_f f4 (And.intro hi hp)
        · rw [if_neg d2] at hp
          exact br_f d2 hp
theorem sf_X_entry {post : Int32 → Prop} {u : SX} (hZ : sf_Z ib db nd lim) (h : sf_X ib db nd lim g l u) (p0 p1 p2 : Int32) (hp : post (if p0 < 0 then -3 else if 2 < p0 then -3 else if p1 < 0 then -3 else if nI (4 * db) ≤ p1 then -3 else if p2 < 0 then -3 else if p2 ≤ 1 then (if p0 = 0 then (if p2 = 0 then g 6 p1.toNatClampNeg else g 7 p1.toNatClampNeg) else if p0 = 1 then (if p2 = 0 then g 8 p1.toNatClampNeg else g 9 p1.toNatClampNeg) else (if p2 = 0 then g 10 p1.toNatClampNeg else g 11 p1.toNatClampNeg)) else -3)) : wpX_entryField post u p0 p1 p2 := by
  obtain ⟨hL, q, rfl, hA⟩ := h
  obtain ⟨z1, z2, z3, z4, z5, z6, -⟩ := hZ
  by_cases c1 : p0 < 0
  · rw [if_pos c1] at hp
    exact br_t c1 hp
  · rw [if_neg c1] at hp
    refine br_f c1 ?_
    by_cases c2 : 2 < p0
    · rw [if_pos c2] at hp
      exact br_t c2 hp
    · rw [if_neg c2] at hp
      refine br_f c2 ?_
      by_cases c3 : p1 < 0
      · rw [if_pos c3] at hp
        exact br_t c3 hp
      · rw [if_neg c3] at hp
        refine br_f c3 ?_
        by_cases c4 : nI (4 * db) ≤ p1
        · rw [if_pos c4] at hp
          exact br_t c4 hp
        · rw [if_neg c4] at hp
          have hi : vp_in p1 16 := by
            obtain ⟨j, j1, rfl⟩ := nI_of c3
            rw [nI_leI (by omega) j1] at c4
            exact vp_in_nI (by omega) (by decide)
          refine br_f c4 ?_
          by_cases c5 : p2 < 0
          · rw [if_pos c5] at hp
            exact br_t c5 hp
          · rw [if_neg c5] at hp
            refine br_f c5 ?_
            by_cases c6 : p2 ≤ 1
            · rw [if_pos c6] at hp
              refine br_t c6 ?_
              by_cases i0 : p0 = 0
              · rw [if_pos i0] at hp
                refine br_t i0 ?_
                by_cases f0 : p2 = 0
                · rw [if_pos f0] at hp
                  exact br_t f0 (And.intro hi hp)
                · rw [if_neg f0] at hp
                  exact br_f f0 (And.intro hi hp)
              · rw [if_neg i0] at hp
                refine br_f i0 ?_
                by_cases i1 : p0 = 1
                · rw [if_pos i1] at hp
                  refine br_t i1 ?_
                  by_cases f0 : p2 = 0
                  · rw [if_pos f0] at hp
                    exact br_t f0 (And.intro hi hp)
                  · rw [if_neg f0] at hp
                    exact br_f f0 (And.intro hi hp)
                · rw [if_neg i1] at hp
                  refine br_f i1 ?_
                  by_cases f0 : p2 = 0
                  · rw [if_pos f0] at hp
                    exact br_t f0 (And.intro hi hp)
                  · rw [if_neg f0] at hp
                    exact br_f f0 (And.intro hi hp)
            · rw [if_neg c6] at hp
              exact br_f c6 hp
theorem sf_Y_lookup {post : Int32 → Prop} {u : SY} (hZ : sf_Z ib db nd lim) (h : sf_Y ib db nd lim g l u) (x : Int32) (hp : post (sf_lkv db g x)) : wpY_lookup post u x := by
  obtain ⟨hL, q, rfl, hA⟩ := h
  have hZ' := hZ
  obtain ⟨z1, z2, z3, z4, z5, z6, -⟩ := hZ'
  rw [sf_lkv] at hp
  by_cases hm : g 21 0 = 0
  · rw [if_pos hm] at hp
    exact br_t hm hp
  · rw [if_neg hm] at hp
    refine br_f hm (sf_Y_bad _ ?_)
    cases hb : sf_bad x with
    | true =>
      rw [hb, if_pos rfl] at hp
      exact br_f (by decide) hp
    | false =>
      rw [hb, if_neg Bool.false_ne_true] at hp
      refine br_t (by decide) (sf_Y_findName hZ ⟨hL, q, rfl, hA⟩ _ ?_)
      rcases sf_fn_cases db g x with hf | ⟨e, he, hf, _⟩
      · rw [hf, if_pos rfl] at hp
        rw [hf]
        exact br_t rfl hp
      · rw [hf, if_neg (sf_nI_m1 (by omega))] at hp
        rw [hf]
        exact br_f (sf_nI_m1 (by omega)) (And.intro (vp_in_nI (by omega) (by decide)) hp)
theorem sf_Y_isDirty {post : Int32 → Prop} {u : SY} (hZ : sf_Z ib db nd lim) (h : sf_Y ib db nd lim g l u) (hd : ∀ x, x < 25 → g 20 x = 0 ∨ g 20 x = 1) (x : Int32) (hp : post (if x < 0 then 0 else if x < nI (1 + ib + db + nd) then g 20 x.toNatClampNeg else 0)) : wpY_isDirty post u x := by
  obtain ⟨hL, q, rfl, hA⟩ := h
  obtain ⟨z1, z2, z3, z4, z5, z6, -⟩ := hZ
  by_cases c1 : x < 0
  · rw [if_pos c1] at hp
    exact br_t c1 hp
  · rw [if_neg c1] at hp
    refine br_f c1 ?_
    by_cases c2 : x < nI (1 + ib + db + nd)
    · rw [if_pos c2] at hp
      obtain ⟨j, j1, rfl⟩ := nI_of c1
      rw [nI_ltI j1 (by omega)] at c2
      refine br_t (nI_lt c2 (by omega)) (And.intro (vp_in_nI (by omega) (by decide)) (And.intro (sf_narr ?_) hp))
      rw [nI_clamp j1]
      exact hd j (by omega)
    · rw [if_neg c2] at hp
      exact br_f c2 hp
theorem sf_Y_recField {post : Int32 → Prop} {u : SY} (h : sf_Y ib db nd lim g l u) (x f : Int32) (hp : post (if x < 0 then -3 else if nI l.length ≤ x then -3 else if f < 0 then -3 else if f ≤ 5 then (if f = 0 then (sf_n l x.toNatClampNeg).1 else if f = 1 then (sf_n l x.toNatClampNeg).2.1 else if f = 2 then (sf_n l x.toNatClampNeg).2.2.1 else if f = 3 then (sf_n l x.toNatClampNeg).2.2.2.1 else if f = 4 then (sf_n l x.toNatClampNeg).2.2.2.2.1 else (sf_n l x.toNatClampNeg).2.2.2.2.2) else -3)) : wpY_recordField post u x f := by
  obtain ⟨hL, q, rfl, hA⟩ := h
  by_cases c1 : x < 0
  · rw [if_pos c1] at hp
    exact br_t c1 hp
  · rw [if_neg c1] at hp
    refine br_f c1 ?_
    by_cases c2 : nI l.length ≤ x
    · rw [if_pos c2] at hp
      exact br_t c2 hp
    · rw [if_neg c2] at hp
      obtain ⟨j, j1, rfl⟩ := nI_of c1
      have c3 : j < l.length := by
        rw [nI_leI (by omega) j1] at c2
        omega
      have hi : vp_in (nI j) 256 := vp_in_nI (by omega) (by decide)
      refine br_f c2 ?_
      rw [nI_clamp j1, hA j c3] at hp
      by_cases d1 : f < 0
      · rw [if_pos d1] at hp
        exact br_t d1 hp
      · rw [if_neg d1] at hp
        refine br_f d1 ?_
        by_cases d2 : f ≤ 5
        · rw [if_pos d2] at hp
          refine br_t d2 ?_
          rw [nI_clamp j1]
          by_cases f0 : f = 0
          · rw [if_pos f0] at hp
            exact br_t f0 (And.intro hi hp)
          · rw [if_neg f0] at hp
            refine br_f f0 ?_
            by_cases f1 : f = 1
            · rw [if_pos f1] at hp
              exact br_t f1 (And.intro hi hp)
            · rw [if_neg f1] at hp
              refine br_f f1 ?_
              by_cases f2 : f = 2
              · rw [if_pos f2] at hp
                exact br_t f2 (And.intro hi hp)
              · rw [if_neg f2] at hp
                refine br_f f2 ?_
                by_cases f3 : f = 3
                · rw [if_pos f3] at hp
                  exact br_t f3 (And.intro hi hp)
                · rw [if_neg f3] at hp
                  refine br_f f3 ?_
                  by_cases f4 : f = 4
                  · rw [if_pos f4] at hp
                    exact br_t f4 (And.intro hi hp)
                  · rw [if_neg f4] at hp
                    exact br_f f4 (And.intro hi hp)
        · rw [if_neg d2] at hp
          exact br_f d2 hp
theorem sf_Y_entry {post : Int32 → Prop} {u : SY} (hZ : sf_Z ib db nd lim) (h : sf_Y ib db nd lim g l u) (p0 p1 p2 : Int32) (hp : post (if p0 < 0 then -3 else if 2 < p0 then -3 else if p1 < 0 then -3 else if nI (4 * db) ≤ p1 then -3 else if p2 < 0 then -3 else if p2 ≤ 1 then (if p0 = 0 then (if p2 = 0 then g 6 p1.toNatClampNeg else g 7 p1.toNatClampNeg) else if p0 = 1 then (if p2 = 0 then g 8 p1.toNatClampNeg else g 9 p1.toNatClampNeg) else (if p2 = 0 then g 10 p1.toNatClampNeg else g 11 p1.toNatClampNeg)) else -3)) : wpY_entryField post u p0 p1 p2 := by
  obtain ⟨hL, q, rfl, hA⟩ := h
  obtain ⟨z1, z2, z3, z4, z5, z6, -⟩ := hZ
  by_cases c1 : p0 < 0
  · rw [if_pos c1] at hp
    exact br_t c1 hp
  · rw [if_neg c1] at hp
    refine br_f c1 ?_
    by_cases c2 : 2 < p0
    · rw [if_pos c2] at hp
      exact br_t c2 hp
    · rw [if_neg c2] at hp
      refine br_f c2 ?_
      by_cases c3 : p1 < 0
      · rw [if_pos c3] at hp
        exact br_t c3 hp
      · rw [if_neg c3] at hp
        refine br_f c3 ?_
        by_cases c4 : nI (4 * db) ≤ p1
        · rw [if_pos c4] at hp
          exact br_t c4 hp
        · rw [if_neg c4] at hp
          have hi : vp_in p1 16 := by
            obtain ⟨j, j1, rfl⟩ := nI_of c3
            rw [nI_leI (by omega) j1] at c4
            exact vp_in_nI (by omega) (by decide)
          refine br_f c4 ?_
          by_cases c5 : p2 < 0
          · rw [if_pos c5] at hp
            exact br_t c5 hp
          · rw [if_neg c5] at hp
            refine br_f c5 ?_
            by_cases c6 : p2 ≤ 1
            · rw [if_pos c6] at hp
              refine br_t c6 ?_
              by_cases i0 : p0 = 0
              · rw [if_pos i0] at hp
                refine br_t i0 ?_
                by_cases f0 : p2 = 0
                · rw [if_pos f0] at hp
                  exact br_t f0 (And.intro hi hp)
                · rw [if_neg f0] at hp
                  exact br_f f0 (And.intro hi hp)
              · rw [if_neg i0] at hp
                refine br_f i0 ?_
                by_cases i1 : p0 = 1
                · rw [if_pos i1] at hp
                  refine br_t i1 ?_
                  by_cases f0 : p2 = 0
                  · rw [if_pos f0] at hp
                    exact br_t f0 (And.intro hi hp)
                  · rw [if_neg f0] at hp
                    exact br_f f0 (And.intro hi hp)
                · rw [if_neg i1] at hp
                  refine br_f i1 ?_
                  by_cases f0 : p2 = 0
                  · rw [if_pos f0] at hp
                    exact br_t f0 (And.intro hi hp)
                  · rw [if_neg f0] at hp
                    exact br_f f0 (And.intro hi hp)
            · rw [if_neg c6] at hp
              exact br_f c6 hp
end
end
section
/-! read, inodeField, dataField -/
def sf_dv (g : sf_G) (p0 : Int32) (b : Nat) (p2 : Int32) : Int32 := if p2 = 0 then (if p0 = 1 then g 19 b else g 18 b) else if p2 = 1 then (if p0 = 1 then g 14 b else g 12 b) else (if p0 = 1 then g 15 b else g 13 b)
def sf_dvv (nd : Nat) (g : sf_G) (p0 p1 p2 : Int32) : Int32 := if p0 < 0 then -3 else if 2 < p0 then -3 else if p1 < 1 then -3 else if nI nd < p1 then -3 else if p2 < 0 then -3 else if p2 ≤ 2 then sf_dv g p0 p1.toNatClampNeg p2 else -3
theorem sf_ge1 {p : Int32} {n : Nat} (hn : n < 2 ^ 31) (h1 : ¬ p < 1) (h2 : ¬ nI n < p) : ∃ j, 1 ≤ j ∧ j ≤ n ∧ p = nI j := by
  have h0 : ¬ p < 0 := by
    intro k
    apply h1
    rw [Int32.lt_iff_toInt_lt] at k ⊢
    rw [show (0 : Int32).toInt = 0 from by decide] at k
    rw [show (1 : Int32).toInt = 1 from by decide]
    omega
  obtain ⟨j, j1, rfl⟩ := nI_of h0
  rw [nI_ltI hn j1] at h2
  refine ⟨j, ?_, by omega, rfl⟩
  apply Classical.byContradiction
  intro k
  have : j = 0 := by omega
  subst this
  exact h1 (by decide)
theorem sf_le {p : Int32} (n : Nat) {M : Int32} (hM : M = nI n) (hn : n < 2 ^ 31) (h0 : ¬ p < 0) (h : p ≤ M) : ∃ j, j ≤ n ∧ p = nI j := by
  subst hM
  obtain ⟨j, j1, rfl⟩ := nI_of h0
  rw [nI_leI j1 hn] at h
  exact ⟨j, h, rfl⟩
section
variable {ib db nd lim : Nat} {g : sf_G} {l A B : List sf_R} {r : sf_R}
theorem sf_X_read {post : Int32 → Prop} {u : SX} (hZ : sf_Z ib db nd lim) (h : sf_X ib db nd lim g l u) (h7 : ∀ e, e < 4 * db → ¬ g 21 0 = 0 → ∃ j, j ≤ 4 * ib ∧ g 7 e = nI j) (h2 : ∀ x, x < 51 → ∃ b, b ≤ nd ∧ g 2 x = nI b) (x y : Int32) (hp : post (sf_rdv db g x y)) : wpX_read post u x y := by
  obtain ⟨hL, q, rfl, hA⟩ := h
  have hZ' := hZ
  obtain ⟨z1, z2, z3, z4, z5, z6, -⟩ := hZ'
  rw [sf_rdv] at hp
  by_cases hm : g 21 0 = 0
  · rw [if_pos hm] at hp
    exact br_t hm hp
  · rw [if_neg hm] at hp
    refine br_f hm (sf_X_bad _ ?_)
    cases hb : sf_bad x with
    | true =>
      rw [hb, if_pos rfl] at hp
      exact br_f (by decide) hp
    | false =>
      rw [hb, if_neg Bool.false_ne_true] at hp
      refine br_t (by decide) ?_
      by_cases c1 : y < 0
      · rw [if_pos c1] at hp
        exact br_t c1 hp
      · rw [if_neg c1] at hp
        refine br_f c1 ?_
        by_cases c2 : y ≤ 2
        · rw [if_pos c2] at hp
          refine br_t c2 (sf_X_findName hZ ⟨hL, q, rfl, hA⟩ _ ?_)
          obtain ⟨k, k1, rfl⟩ := sf_le 2 rfl (by decide) c1 c2
          rcases sf_fn_cases db g x with hf | ⟨e, he, hf, _⟩
          · rw [hf, if_pos rfl] at hp
            rw [hf]
            exact br_t rfl hp
          · rw [hf, if_neg (sf_nI_m1 (by omega)), nI_clamp (show e < 2 ^ 31 by omega)] at hp
            rw [hf]
            obtain ⟨j, j1, hj⟩ := h7 e he hm
            obtain ⟨b, b1, hb⟩ := h2 (3 * j + k) (by omega)
            rw [hj, nI_clamp (show j < 2 ^ 31 by omega), nI_clamp (show k < 2 ^ 31 by omega), hb] at hp
            have ex : ((3 : Int32) * nI j) + nI k = nI (3 * j + k) := by
              show (nI 3 * nI j) + nI k = _
              rw [pk_mul, nI_add]
              all_goals exact congrArg nI (by omega)
            have hi : vp_in (nI (3 * j + k)) 51 := vp_in_nI (by omega) (by decide)
            have K : (nI b = 0 → post (-12)) ∧ (¬ nI b = 0 → vp_in (nI b) 17 ∧ post (g 13 (nI b).toNatClampNeg)) := by
              by_cases b0 : nI b = 0
              · rw [if_pos b0] at hp
                exact br_t b0 hp
              · rw [if_neg b0] at hp
                exact br_f b0 (And.intro (vp_in_nI (by omega) (by decide)) hp)
            refine br_f (sf_nI_m1 (by omega)) ?_
            rw [nI_clamp (show e < 2 ^ 31 by omega)]
            exact by rw [hj]; exact And.intro (vp_in_nI (by omega) (by decide)) (by rw [ex]; exact And.intro hi (nm_r (e' := nI b) (by rw [nI_clamp (by omega)]; exact hb) K))
        · rw [if_neg c2] at hp
          exact br_f c2 hp
theorem sf_Y_read {post : Int32 → Prop} {u : SY} (hZ : sf_Z ib db nd lim) (h : sf_Y ib db nd lim g l u) (h7 : ∀ e, e < 4 * db → ¬ g 21 0 = 0 → ∃ j, j ≤ 4 * ib ∧ g 7 e = nI j) (h2 : ∀ x, x < 51 → ∃ b, b ≤ nd ∧ g 2 x = nI b) (x y : Int32) (hp : post (sf_rdv db g x y)) : wpY_read post u x y := by
  obtain ⟨hL, q, rfl, hA⟩ := h
  have hZ' := hZ
  obtain ⟨z1, z2, z3, z4, z5, z6, -⟩ := hZ'
  rw [sf_rdv] at hp
  by_cases hm : g 21 0 = 0
  · rw [if_pos hm] at hp
    exact br_t hm hp
  · rw [if_neg hm] at hp
    refine br_f hm (sf_Y_bad _ ?_)
    cases hb : sf_bad x with
    | true =>
      rw [hb, if_pos rfl] at hp
      exact br_f (by decide) hp
    | false =>
      rw [hb, if_neg Bool.false_ne_true] at hp
      refine br_t (by decide) ?_
      by_cases c1 : y < 0
      · rw [if_pos c1] at hp
        exact br_t c1 hp
      · rw [if_neg c1] at hp
        refine br_f c1 ?_
        by_cases c2 : y ≤ 2
        · rw [if_pos c2] at hp
          refine br_t c2 (sf_Y_findName hZ ⟨hL, q, rfl, hA⟩ _ ?_)
          obtain ⟨k, k1, rfl⟩ := sf_le 2 rfl (by decide) c1 c2
          rcases sf_fn_cases db g x with hf | ⟨e, he, hf, _⟩
          · rw [hf, if_pos rfl] at hp
            rw [hf]
            exact br_t rfl hp
          · rw [hf, if_neg (sf_nI_m1 (by omega)), nI_clamp (show e < 2 ^ 31 by omega)] at hp
            rw [hf]
            obtain ⟨j, j1, hj⟩ := h7 e he hm
            obtain ⟨b, b1, hb⟩ := h2 (3 * j + k) (by omega)
            rw [hj, nI_clamp (show j < 2 ^ 31 by omega), nI_clamp (show k < 2 ^ 31 by omega), hb] at hp
            have ex : (nI j * 3) + nI k = nI (3 * j + k) := by
              show (nI j * nI 3) + nI k = _
              rw [pk_mul, nI_add]
              all_goals exact congrArg nI (by omega)
            have hi : vp_in (nI (3 * j + k)) 51 := vp_in_nI (by omega) (by decide)
            have K : (nI b = 0 → post (-12)) ∧ (¬ nI b = 0 → vp_in (nI b) 17 ∧ post (g 13 (nI b).toNatClampNeg)) := by
              by_cases b0 : nI b = 0
              · rw [if_pos b0] at hp
                exact br_t b0 hp
              · rw [if_neg b0] at hp
                exact br_f b0 (And.intro (vp_in_nI (by omega) (by decide)) hp)
            refine br_f (sf_nI_m1 (by omega)) ?_
            rw [nI_clamp (show e < 2 ^ 31 by omega)]
            exact And.intro (vp_in_nI (by omega) (by decide)) (nm_r hj (by rw [ex]; exact And.intro hi (nm_r (e' := nI b) (by rw [nI_clamp (by omega)]; exact hb) K)))
        · rw [if_neg c2] at hp
          exact br_f c2 hp
theorem sf_X_mf {post : Int32 → Prop} {u : SX} (h : sf_X ib db nd lim g l u) {i f : Nat} (hi : i ≤ 16) (hf : f ≤ 5) (hp : post (sf_mfv g i f)) : wpX_memInodeField post u (nI i) (nI f) := by
  obtain ⟨hL, q, rfl, hA⟩ := h
  have hv : vp_in (nI i) 17 := vp_in_nI (by omega) (by decide)
  have hc : (nI i).toNatClampNeg = i := nI_clamp (by omega)
  have e : ∀ a, a ≤ 5 → (nI f = nI a ↔ f = a) := fun a _ => nI_eq (by omega) (by omega)
  rw [sf_mfv] at hp
  by_cases c0 : f = 0
  · rw [if_pos c0] at hp
    refine br_t ((e 0 (by omega)).mpr c0) (And.intro hv ?_)
    rw [hc]
    exact hp
  · rw [if_neg c0] at hp
    refine br_f (fun z => c0 ((e 0 (by omega)).mp z)) ?_
    by_cases c1 : f = 1
    · rw [if_pos c1] at hp
      refine br_t ((e 1 (by omega)).mpr c1) (And.intro hv ?_)
      rw [hc]
      exact hp
    · rw [if_neg c1] at hp
      refine br_f (fun z => c1 ((e 1 (by omega)).mp z)) ?_
      by_cases c5 : f = 5
      · rw [if_pos c5] at hp
        refine br_t ((e 5 (by omega)).mpr c5) (And.intro hv ?_)
        rw [hc]
        exact hp
      · rw [if_neg c5] at hp
        refine br_f (fun z => c5 ((e 5 (by omega)).mp z)) ?_
        have ex : (((3 : Int32) * nI i) + nI f) - 2 = nI (3 * i + f - 2) := by
          show ((nI 3 * nI i) + nI f) - nI 2 = _
          rw [pk_mul, nI_add, pk_sub (by omega)]
        rw [ex]
        refine And.intro (vp_in_nI (by omega) (by decide)) ?_
        rw [nI_clamp (by omega)]
        exact hp
theorem sf_X_df {post : Int32 → Prop} {u : SX} (h : sf_X ib db nd lim g l u) {i f : Nat} (hi : i ≤ 16) (hf : f ≤ 5) (hp : post (sf_dfv g i f)) : wpX_diskInodeField post u (nI i) (nI f) := by
  obtain ⟨hL, q, rfl, hA⟩ := h
  have hv : vp_in (nI i) 17 := vp_in_nI (by omega) (by decide)
  have hc : (nI i).toNatClampNeg = i := nI_clamp (by omega)
  have e : ∀ a, a ≤ 5 → (nI f = nI a ↔ f = a) := fun a _ => nI_eq (by omega) (by omega)
  rw [sf_dfv] at hp
  by_cases c0 : f = 0
  · rw [if_pos c0] at hp
    refine br_t ((e 0 (by omega)).mpr c0) (And.intro hv ?_)
    rw [hc]
    exact hp
  · rw [if_neg c0] at hp
    refine br_f (fun z => c0 ((e 0 (by omega)).mp z)) ?_
    by_cases c1 : f = 1
    · rw [if_pos c1] at hp
      refine br_t ((e 1 (by omega)).mpr c1) (And.intro hv ?_)
      rw [hc]
      exact hp
    · rw [if_neg c1] at hp
      refine br_f (fun z => c1 ((e 1 (by omega)).mp z)) ?_
      by_cases c5 : f = 5
      · rw [if_pos c5] at hp
        refine br_t ((e 5 (by omega)).mpr c5) (And.intro hv ?_)
        rw [hc]
        exact hp
      · rw [if_neg c5] at hp
        refine br_f (fun z => c5 ((e 5 (by omega)).mp z)) ?_
        have ex : (((3 : Int32) * nI i) + nI f) - 2 = nI (3 * i + f - 2) := by
          show ((nI 3 * nI i) + nI f) - nI 2 = _
          rw [pk_mul, nI_add, pk_sub (by omega)]
        rw [ex]
        refine And.intro (vp_in_nI (by omega) (by decide)) ?_
        rw [nI_clamp (by omega)]
        exact hp
theorem sf_X_iv {post : Int32 → Prop} {q : sf_G} (hL : l.length ≤ 128) (hA : sf_A l q) {p0 : Int32} {i f : Nat} (hi : i ≤ 16) (hf : f ≤ 5) (hp : post (sf_ivv g l p0 i f)) :
    (p0 = 1 → wpX_diskInodeField (fun r => post r) (nI ib, nI db, nI (4 * ib), nI (4 * db), nI nd, nI (1 + ib + db + nd), nI lim, nI (l.length), g 21 0, g 22 0, g 23 0, g 0, g 1, g 2, g 3, g 4, g 5, g 6, g 7, g 8, g 9, g 10, g 11, g 12, g 13, g 14, g 15, g 16, g 17, g 18, g 19, g 20, q 0, q 1, q 2, q 3, q 4, q 5) (nI i) (nI f)) ∧ (¬ p0 = 1 → ((p0 = 2 → (((5 : Int32) ≤ nI f → wX_inodeField_86 post (nI i) (nI f) (nI ib) (nI db) (nI (4 * ib)) (nI (4 * db)) (nI nd) (nI (1 + ib + db + nd)) (nI lim) (nI (l.length)) (g 21 0) (g 22 0) (g 23 0) (g 0) (g 1) (g 2) (g 3) (g 4) (g 5) (g 6) (g 7) (g 8) (g 9) (g 10) (g 11) (g 12) (g 13) (g 14) (g 15) (g 16) (g 17) (g 18) (g 19) (g 20) (q 0) (q 1) (q 2) (q 3) (q 4) (q 5)) ∧ (¬ (5 : Int32) ≤ nI f → wpX_findInit (fun r => (r = (-1) → ((nI f < 2 → wX_inodeField_86 post (nI i) (nI f) (nI ib) (nI db) (nI (4 * ib)) (nI (4 * db)) (nI nd) (nI (1 + ib + db + nd)) (nI lim) (nI (l.length)) (g 21 0) (g 22 0) (g 23 0) (g 0) (g 1) (g 2) (g 3) (g 4) (g 5) (g 6) (g 7) (g 8) (g 9) (g 10) (g 11) (g 12) (g 13) (g 14) (g 15) (g 16) (g 17) (g 18) (g 19) (g 20) (q 0) (q 1) (q 2) (q 3) (q 4) (q 5)) ∧ (¬ nI f < 2 → wpX_findAlloc (fun r => (r = (-1) → wX_inodeField_86 post (nI i) (nI f) (nI ib) (nI db) (nI (4 * ib)) (nI (4 * db)) (nI nd) (nI (1 + ib + db + nd)) (nI lim) (nI (l.length)) (g 21 0) (g 22 0) (g 23 0) (g 0) (g 1) (g 2) (g 3) (g 4) (g 5) (g 6) (g 7) (g 8) (g 9) (g 10) (g 11) (g 12) (g 13) (g 14) (g 15) (g 16) (g 17) (g 18) (g 19) (g 20) (q 0) (q 1) (q 2) (q 3) (q 4) (q 5)) ∧ (¬ r = (-1) → post 0)) (nI ib, nI db, nI (4 * ib), nI (4 * db), nI nd, nI (1 + ib + db + nd), nI lim, nI (l.length), g 21 0, g 22 0, g 23 0, g 0, g 1, g 2, g 3, g 4, g 5, g 6, g 7, g 8, g 9, g 10, g 11, g 12, g 13, g 14, g 15, g 16, g 17, g 18, g 19, g 20, q 0, q 1, q 2, q 3, q 4, q 5) (nI i) (nI f - 2)))) ∧ (¬ r = (-1) → post 0)) (nI ib, nI db, nI (4 * ib), nI (4 * db), nI nd, nI (1 + ib + db + nd), nI lim, nI (l.length), g 21 0, g 22 0, g 23 0, g 0, g 1, g 2, g 3, g 4, g 5, g 6, g 7, g 8, g 9, g 10, g 11, g 12, g 13, g 14, g 15, g 16, g 17, g 18, g 19, g 20, q 0, q 1, q 2, q 3, q 4, q 5) (nI i)))) ∧ (¬ p0 = 2 → wX_inodeField_86 post (nI i) (nI f) (nI ib) (nI db) (nI (4 * ib)) (nI (4 * db)) (nI nd) (nI (1 + ib + db + nd)) (nI lim) (nI (l.length)) (g 21 0) (g 22 0) (g 23 0) (g 0) (g 1) (g 2) (g 3) (g 4) (g 5) (g 6) (g 7) (g 8) (g 9) (g 10) (g 11) (g 12) (g 13) (g 14) (g 15) (g 16) (g 17) (g 18) (g 19) (g 20) (q 0) (q 1) (q 2) (q 3) (q 4) (q 5)))) := by
  have hu : sf_X ib db nd lim g l (sf_mX ib db nd lim l.length g q) := ⟨hL, q, rfl, hA⟩
  rw [sf_ivv] at hp
  by_cases c1 : p0 = 1
  · rw [if_pos c1] at hp
    exact br_t c1 (sf_X_df hu hi hf hp)
  · rw [if_neg c1] at hp
    refine br_f c1 ?_
    have M : post (sf_mfv g i f) → wX_inodeField_86 post (nI i) (nI f) (nI ib) (nI db) (nI (4 * ib)) (nI (4 * db)) (nI nd) (nI (1 + ib + db + nd)) (nI lim) (nI (l.length)) (g 21 0) (g 22 0) (g 23 0) (g 0) (g 1) (g 2) (g 3) (g 4) (g 5) (g 6) (g 7) (g 8) (g 9) (g 10) (g 11) (g 12) (g 13) (g 14) (g 15) (g 16) (g 17) (g 18) (g 19) (g 20) (q 0) (q 1) (q 2) (q 3) (q 4) (q 5) := fun k => sf_X_mf hu hi hf k
    by_cases c2 : p0 = 2
    · refine br_t c2 ?_
      by_cases c5 : 5 ≤ f
      · rw [if_neg (fun k => by have := k.2.1; omega)] at hp
        exact br_t (nI_le (a := 5) c5 (by omega)) (M hp)
      · refine br_f (nI_ge (b := 5) (by omega) (by decide)) (sf_X_findInit hu _ ?_)
        cases a : l.any (sf_isInit (nI i)) with
        | true =>
          rw [if_pos ⟨c2, by omega, Or.inl a⟩] at hp
          refine br_f (fun z => ?_) hp
          have := (sf_fi_any hL).mp z
          rw [a] at this
          exact absurd this (by decide)
        | false =>
          refine br_t ((sf_fi_any hL).mpr a) ?_
          by_cases c3 : f < 2
          · rw [if_neg (fun k => by
              rcases k.2.2 with w | ⟨w, _⟩
              · rw [a] at w; exact absurd w (by decide)
              · omega)] at hp
            exact br_t (nI_lt (b := 2) c3 (by decide)) (M hp)
          · refine br_f (nI_nlt (b := 2) (by omega) (by omega)) ?_
            have e2 : nI f - 2 = nI (f - 2) := by
              show nI f - nI 2 = _
              rw [pk_sub (by omega)]
            rw [e2]
            refine sf_X_findAlloc hu _ _ ?_
            cases b : l.any (sf_isAl (nI i) (nI (f - 2))) with
            | true =>
              rw [if_pos ⟨c2, by omega, Or.inr ⟨by omega, b⟩⟩] at hp
              refine br_f (fun z => ?_) hp
              have := (sf_fi_any hL).mp z
              rw [b] at this
              exact absurd this (by decide)
            | false =>
              rw [if_neg (fun k => by
                rcases k.2.2 with w | ⟨_, w⟩
                · rw [a] at w; exact absurd w (by decide)
                · rw [b] at w; exact absurd w (by decide))] at hp
              exact br_t ((sf_fi_any hL).mpr b) (M hp)
    · rw [if_neg (fun k => c2 k.1)] at hp
      exact br_f c2 (M hp)
theorem sf_Y_iv {post : Int32 → Prop} {u : SY} (h : sf_Y ib db nd lim g l u) {p0 : Int32} {i f : Nat} (hi : i ≤ 16) (hf : f ≤ 5) (hp : post (sf_ivv g l p0 i f)) : wpY_inodeValue post u p0 (nI i) (nI f) := by
  obtain ⟨hL, q, rfl, hA⟩ := h
  have hv : vp_in (nI i) 17 := vp_in_nI (by omega) (by decide)
  have hc : (nI i).toNatClampNeg = i := nI_clamp (by omega)
  have e : ∀ a, a ≤ 5 → (nI f = nI a ↔ f = a) := fun a _ => nI_eq (by omega) (by omega)
  have ex : 2 ≤ f → ((nI i * 3) + nI f) - 2 = nI (3 * i + f - 2) := by
    intro _
    show ((nI i * nI 3) + nI f) - nI 2 = _
    rw [pk_mul, nI_add, pk_sub (by omega)]
    exact congrArg nI (by omega)
  have hu : sf_Y ib db nd lim g l (sf_mY ib db nd lim l.length g q) := ⟨hL, q, rfl, hA⟩
  have M : f ≠ 5 → post (sf_mfv g i f) → wY_inodeValue_108 post (nI i) (nI f) (nI ib) (nI db) (nI nd) (nI lim) (nI (4 * ib)) (nI (4 * db)) (nI (1 + ib + db + nd)) (nI (l.length)) (g 21 0) (g 22 0) (g 23 0) (g 0) (g 1) (g 2) (g 16) (g 18) (g 12) (g 13) (g 6) (g 7) (g 3) (g 4) (g 5) (g 17) (g 19) (g 14) (g 15) (g 8) (g 9) (g 10) (g 11) (g 20) (q 0) (q 1) (q 2) (q 3) (q 4) (q 5) := by
    intro n5 hp
    rw [sf_mfv] at hp
    by_cases c0 : f = 0
    · rw [if_pos c0] at hp
      refine br_t ((e 0 (by omega)).mpr c0) (And.intro hv ?_)
      rw [hc]
      exact hp
    · rw [if_neg c0] at hp
      refine br_f (fun z => c0 ((e 0 (by omega)).mp z)) ?_
      by_cases c1 : f = 1
      · rw [if_pos c1] at hp
        refine br_t ((e 1 (by omega)).mpr c1) (And.intro hv ?_)
        rw [hc]
        exact hp
      · rw [if_neg c1, if_neg n5] at hp
        refine br_f (fun z => c1 ((e 1 (by omega)).mp z)) ?_
        rw [ex (by omega)]
        refine And.intro (vp_in_nI (by omega) (by decide)) ?_
        rw [nI_clamp (by omega)]
        exact hp
  rw [sf_ivv] at hp
  by_cases c1 : p0 = 1
  · rw [if_pos c1, sf_dfv] at hp
    refine br_t c1 ?_
    by_cases c0 : f = 0
    · rw [if_pos c0] at hp
      refine br_t ((e 0 (by omega)).mpr c0) (And.intro hv ?_)
      rw [hc]
      exact hp
    · rw [if_neg c0] at hp
      refine br_f (fun z => c0 ((e 0 (by omega)).mp z)) ?_
      by_cases c1 : f = 1
      · rw [if_pos c1] at hp
        refine br_t ((e 1 (by omega)).mpr c1) (And.intro hv ?_)
        rw [hc]
        exact hp
      · rw [if_neg c1] at hp
        refine br_f (fun z => c1 ((e 1 (by omega)).mp z)) ?_
        by_cases c5 : f = 5
        · rw [if_pos c5] at hp
          refine br_t ((e 5 (by omega)).mpr c5) (And.intro hv ?_)
          rw [hc]
          exact hp
        · rw [if_neg c5] at hp
          refine br_f (fun z => c5 ((e 5 (by omega)).mp z)) ?_
          rw [ex (by omega)]
          refine And.intro (vp_in_nI (by omega) (by decide)) ?_
          rw [nI_clamp (by omega)]
          exact hp
  · rw [if_neg c1] at hp
    refine br_f c1 ?_
    by_cases c5 : f = 5
    · rw [if_neg (fun k => by have := k.2.1; omega), sf_mfv, if_neg (by omega), if_neg (by omega), if_pos c5] at hp
      refine br_t ((e 5 (by omega)).mpr c5) (And.intro hv ?_)
      rw [hc]
      exact hp
    · refine br_f (fun z => c5 ((e 5 (by omega)).mp z)) ?_
      by_cases c2 : p0 = 2
      · refine br_t c2 (sf_Y_findInit hu _ ?_)
        cases a : l.any (sf_isInit (nI i)) with
        | true =>
          rw [if_pos ⟨c2, by omega, Or.inl a⟩] at hp
          refine br_f (fun z => ?_) hp
          have := (sf_fi_any hL).mp z
          rw [a] at this
          exact absurd this (by decide)
        | false =>
          refine br_t ((sf_fi_any hL).mpr a) ?_
          by_cases c3 : f < 2
          · rw [if_neg (fun k => by
              rcases k.2.2 with w | ⟨w, _⟩
              · rw [a] at w; exact absurd w (by decide)
              · omega)] at hp
            exact br_t (nI_lt (b := 2) c3 (by decide)) (M c5 hp)
          · refine br_f (nI_nlt (b := 2) (by omega) (by omega)) ?_
            have e2 : nI f - 2 = nI (f - 2) := by
              show nI f - nI 2 = _
              rw [pk_sub (by omega)]
            rw [e2]
            refine sf_Y_findAlloc hu _ _ ?_
            cases b : l.any (sf_isAl (nI i) (nI (f - 2))) with
            | true =>
              rw [if_pos ⟨c2, by omega, Or.inr ⟨by omega, b⟩⟩] at hp
              refine br_f (fun z => ?_) hp
              have := (sf_fi_any hL).mp z
              rw [b] at this
              exact absurd this (by decide)
            | false =>
              rw [if_neg (fun k => by
                rcases k.2.2 with w | ⟨_, w⟩
                · rw [a] at w; exact absurd w (by decide)
                · rw [b] at w; exact absurd w (by decide))] at hp
              exact br_t ((sf_fi_any hL).mpr b) (M c5 hp)
      · rw [if_neg (fun k => c2 k.1)] at hp
        exact br_f c2 (M c5 hp)
theorem sf_X_inodeField {post : Int32 → Prop} {u : SX} (hZ : sf_Z ib db nd lim) (h : sf_X ib db nd lim g l u) (p0 p1 p2 : Int32) (hp : post (sf_ifv ib g l p0 p1 p2)) : wpX_inodeField post u p0 p1 p2 := by
  obtain ⟨hL, q, rfl, hA⟩ := h
  obtain ⟨z1, z2, z3, z4, z5, z6, -⟩ := hZ
  rw [sf_ifv] at hp
  by_cases c1 : p0 < 0
  · rw [if_pos c1] at hp
    exact br_t c1 hp
  · rw [if_neg c1] at hp
    refine br_f c1 ?_
    by_cases c2 : 2 < p0
    · rw [if_pos c2] at hp
      exact br_t c2 hp
    · rw [if_neg c2] at hp
      refine br_f c2 ?_
      by_cases c3 : p1 < 1
      · rw [if_pos c3] at hp
        exact br_t c3 hp
      · rw [if_neg c3] at hp
        refine br_f c3 ?_
        by_cases c4 : nI (4 * ib) < p1
        · rw [if_pos c4] at hp
          exact br_t c4 hp
        · rw [if_neg c4] at hp
          refine br_f c4 ?_
          by_cases c5 : p2 < 0
          · rw [if_pos c5] at hp
            exact br_t c5 hp
          · rw [if_neg c5] at hp
            refine br_f c5 ?_
            by_cases c6 : p2 ≤ 5
            · rw [if_pos c6] at hp
              obtain ⟨i, i1, i2, rfl⟩ := sf_ge1 (by omega) c3 c4
              obtain ⟨f, f1, rfl⟩ := sf_le 5 rfl (by decide) c5 c6
              rw [nI_clamp (show i < 2 ^ 31 by omega), nI_clamp (show f < 2 ^ 31 by omega)] at hp
              exact br_t c6 (sf_X_iv hL hA (by omega) f1 hp)
            · rw [if_neg c6] at hp
              exact br_f c6 hp
theorem sf_Y_inodeField {post : Int32 → Prop} {u : SY} (hZ : sf_Z ib db nd lim) (h : sf_Y ib db nd lim g l u) (p0 p1 p2 : Int32) (hp : post (sf_ifv ib g l p0 p1 p2)) : wpY_inodeField post u p0 p1 p2 := by
  obtain ⟨hL, q, rfl, hA⟩ := h
  obtain ⟨z1, z2, z3, z4, z5, z6, -⟩ := hZ
  rw [sf_ifv] at hp
  by_cases c1 : p0 < 0
  · rw [if_pos c1] at hp
    exact br_t c1 hp
  · rw [if_neg c1] at hp
    refine br_f c1 ?_
    by_cases c2 : 2 < p0
    · rw [if_pos c2] at hp
      exact br_t c2 hp
    · rw [if_neg c2] at hp
      refine br_f c2 ?_
      by_cases c3 : p1 < 1
      · rw [if_pos c3] at hp
        exact br_t c3 hp
      · rw [if_neg c3] at hp
        refine br_f c3 ?_
        by_cases c4 : nI (4 * ib) < p1
        · rw [if_pos c4] at hp
          exact br_t c4 hp
        · rw [if_neg c4] at hp
          refine br_f c4 ?_
          by_cases c5 : p2 < 0
          · rw [if_pos c5] at hp
            exact br_t c5 hp
          · rw [if_neg c5] at hp
            refine br_f c5 ?_
            by_cases c6 : p2 ≤ 5
            · rw [if_pos c6] at hp
              obtain ⟨i, i1, i2, rfl⟩ := sf_ge1 (by omega) c3 c4
              obtain ⟨f, f1, rfl⟩ := sf_le 5 rfl (by decide) c5 c6
              rw [nI_clamp (show i < 2 ^ 31 by omega), nI_clamp (show f < 2 ^ 31 by omega)] at hp
              exact br_t c6 (sf_Y_iv ⟨hL, q, rfl, hA⟩ (by omega) f1 hp)
            · rw [if_neg c6] at hp
              exact br_f c6 hp
theorem sf_X_dataField {post : Int32 → Prop} {u : SX} (hZ : sf_Z ib db nd lim) (h : sf_X ib db nd lim g l u) (p0 p1 p2 : Int32) (hp : post (sf_dvv nd g p0 p1 p2)) : wpX_dataField post u p0 p1 p2 := by
  obtain ⟨hL, q, rfl, hA⟩ := h
  obtain ⟨z1, z2, z3, z4, z5, z6, -⟩ := hZ
  rw [sf_dvv] at hp
  by_cases c1 : p0 < 0
  · rw [if_pos c1] at hp
    exact br_t c1 hp
  · rw [if_neg c1] at hp
    refine br_f c1 ?_
    by_cases c2 : 2 < p0
    · rw [if_pos c2] at hp
      exact br_t c2 hp
    · rw [if_neg c2] at hp
      refine br_f c2 ?_
      by_cases c3 : p1 < 1
      · rw [if_pos c3] at hp
        exact br_t c3 hp
      · rw [if_neg c3] at hp
        refine br_f c3 ?_
        by_cases c4 : nI nd < p1
        · rw [if_pos c4] at hp
          exact br_t c4 hp
        · rw [if_neg c4] at hp
          refine br_f c4 ?_
          by_cases c5 : p2 < 0
          · rw [if_pos c5] at hp
            exact br_t c5 hp
          · rw [if_neg c5] at hp
            refine br_f c5 ?_
            by_cases c6 : p2 ≤ 2
            · rw [if_pos c6] at hp
              have hi : vp_in p1 17 := by
                obtain ⟨i, i1, i2, rfl⟩ := sf_ge1 (by omega) c3 c4
                exact vp_in_nI (by omega) (by decide)
              refine br_t c6 ?_
              rw [sf_dv] at hp
              by_cases d1 : p0 = 1
              · refine br_t d1 ?_
                by_cases f0 : p2 = 0
                · rw [if_pos f0, if_pos d1] at hp
                  refine br_t f0 ?_
                  first | exact And.intro hi hp | exact br_f (by decide) (And.intro hi hp)
                · rw [if_neg f0] at hp
                  refine br_f f0 ?_
                  by_cases f1 : p2 = 1
                  · rw [if_pos f1, if_pos d1] at hp
                    refine br_t f1 ?_
                    first | exact And.intro hi hp | exact br_f (by decide) (And.intro hi hp)
                  · rw [if_neg f1, if_pos d1] at hp
                    refine br_f f1 ?_
                    first | exact And.intro hi hp | exact br_f (by decide) (And.intro hi hp)
              · refine br_f d1 ?_
                by_cases f0 : p2 = 0
                · rw [if_pos f0, if_neg d1] at hp
                  refine br_t f0 ?_
                  first | exact And.intro hi hp | exact br_t (by decide) (And.intro hi hp)
                · rw [if_neg f0] at hp
                  refine br_f f0 ?_
                  by_cases f1 : p2 = 1
                  · rw [if_pos f1, if_neg d1] at hp
                    refine br_t f1 ?_
                    first | exact And.intro hi hp | exact br_t (by decide) (And.intro hi hp)
                  · rw [if_neg f1, if_neg d1] at hp
                    refine br_f f1 ?_
                    first | exact And.intro hi hp | exact br_t (by decide) (And.intro hi hp)
            · rw [if_neg c6] at hp
              exact br_f c6 hp
theorem sf_Y_dataField {post : Int32 → Prop} {u : SY} (hZ : sf_Z ib db nd lim) (h : sf_Y ib db nd lim g l u) (p0 p1 p2 : Int32) (hp : post (sf_dvv nd g p0 p1 p2)) : wpY_dataField post u p0 p1 p2 := by
  obtain ⟨hL, q, rfl, hA⟩ := h
  obtain ⟨z1, z2, z3, z4, z5, z6, -⟩ := hZ
  rw [sf_dvv] at hp
  by_cases c1 : p0 < 0
  · rw [if_pos c1] at hp
    exact br_t c1 hp
  · rw [if_neg c1] at hp
    refine br_f c1 ?_
    by_cases c2 : 2 < p0
    · rw [if_pos c2] at hp
      exact br_t c2 hp
    · rw [if_neg c2] at hp
      refine br_f c2 ?_
      by_cases c3 : p1 < 1
      · rw [if_pos c3] at hp
        exact br_t c3 hp
      · rw [if_neg c3] at hp
        refine br_f c3 ?_
        by_cases c4 : nI nd < p1
        · rw [if_pos c4] at hp
          exact br_t c4 hp
        · rw [if_neg c4] at hp
          refine br_f c4 ?_
          by_cases c5 : p2 < 0
          · rw [if_pos c5] at hp
            exact br_t c5 hp
          · rw [if_neg c5] at hp
            refine br_f c5 ?_
            by_cases c6 : p2 ≤ 2
            · rw [if_pos c6] at hp
              have hi : vp_in p1 17 := by
                obtain ⟨i, i1, i2, rfl⟩ := sf_ge1 (by omega) c3 c4
                exact vp_in_nI (by omega) (by decide)
              refine br_t c6 ?_
              rw [sf_dv] at hp
              by_cases d1 : p0 = 1
              · refine br_t d1 ?_
                by_cases f0 : p2 = 0
                · rw [if_pos f0, if_pos d1] at hp
                  refine br_t f0 ?_
                  first | exact And.intro hi hp | exact br_f (by decide) (And.intro hi hp)
                · rw [if_neg f0] at hp
                  refine br_f f0 ?_
                  by_cases f1 : p2 = 1
                  · rw [if_pos f1, if_pos d1] at hp
                    refine br_t f1 ?_
                    first | exact And.intro hi hp | exact br_f (by decide) (And.intro hi hp)
                  · rw [if_neg f1, if_pos d1] at hp
                    refine br_f f1 ?_
                    first | exact And.intro hi hp | exact br_f (by decide) (And.intro hi hp)
              · refine br_f d1 ?_
                by_cases f0 : p2 = 0
                · rw [if_pos f0, if_neg d1] at hp
                  refine br_t f0 ?_
                  first | exact And.intro hi hp | exact br_t (by decide) (And.intro hi hp)
                · rw [if_neg f0] at hp
                  refine br_f f0 ?_
                  by_cases f1 : p2 = 1
                  · rw [if_pos f1, if_neg d1] at hp
                    refine br_t f1 ?_
                    first | exact And.intro hi hp | exact br_t (by decide) (And.intro hi hp)
                  · rw [if_neg f1, if_neg d1] at hp
                    refine br_f f1 ?_
                    first | exact And.intro hi hp | exact br_t (by decide) (And.intro hi hp)
            · rw [if_neg c6] at hp
              exact br_f c6 hp
end
end
section
/-! the owed statements of the calls that only read -/
theorem sf_R7 {ib db nd : Nat} {g : sf_G} {l : List sf_R} (h : sf_M ib db nd g l ∨ sf_U ib db nd g l) : ∀ e, e < 4 * db → ¬ g 21 0 = 0 → ∃ j, j ≤ 4 * ib ∧ g 7 e = nI j := by
  intro e he hm
  rcases h with h | h
  · exact (h.2.2.2.2.2.1 e he).1
  · exact absurd h.1 hm
theorem sf_RT {ib db nd : Nat} {g : sf_G} {l : List sf_R} (h : sf_M ib db nd g l ∨ sf_U ib db nd g l) : sf_T db nd g l := by
  rcases h with h | h
  · exact h.2.1
  · exact h.2.1
theorem sf_RM {ib db nd : Nat} {g : sf_G} {l : List sf_R} (h : sf_M ib db nd g l ∨ sf_U ib db nd g l) : g 21 0 = 0 ∨ g 21 0 = 1 := by
  rcases h with h | h
  · exact Or.inr h.1
  · exact Or.inl h.1
theorem i_vc_lookup {k : Nat} {u : SX} {v : SY} (I : i_Rel k u v) (hk : k + 4 ≤ 2052) (v1 : Int32) : wpX_lookup (fun r => wpY_lookup (fun r' => r' = r ∧ i_Rel (k + 4) u v) v v1) u v1 := by
  have J := i_up I
  obtain ⟨ib, db, nd, lim, g, l, hZ, hX, hY, hI⟩ := I
  exact sf_X_lookup hZ hX _ (sf_Y_lookup hZ hY _ ⟨rfl, J⟩)
theorem i_vc_read {k : Nat} {u : SX} {v : SY} (I : i_Rel k u v) (hk : k + 4 ≤ 2052) (v1 : Int32) (v2 : Int32) : wpX_read (fun r => wpY_read (fun r' => r' = r ∧ i_Rel (k + 4) u v) v v1 v2) u v1 v2 := by
  have J := i_up I
  obtain ⟨ib, db, nd, lim, g, l, hZ, hX, hY, hI⟩ := I
  exact sf_X_read hZ hX (sf_R7 hI) (fun x hx => ((sf_RT hI).2.1 x hx).1) _ _ (sf_Y_read hZ hY (sf_R7 hI) (fun x hx => ((sf_RT hI).2.1 x hx).1) _ _ ⟨rfl, J⟩)
theorem i_vc_inodeField {k : Nat} {u : SX} {v : SY} (I : i_Rel k u v) (hk : k + 4 ≤ 2052) (v1 : Int32) (v2 : Int32) (v3 : Int32) : wpX_inodeField (fun r => wpY_inodeField (fun r' => r' = r ∧ i_Rel (k + 4) u v) v v1 v2 v3) u v1 v2 v3 := by
  have J := i_up I
  obtain ⟨ib, db, nd, lim, g, l, hZ, hX, hY, hI⟩ := I
  exact sf_X_inodeField hZ hX _ _ _ (sf_Y_inodeField hZ hY _ _ _ ⟨rfl, J⟩)
theorem i_vc_entryField {k : Nat} {u : SX} {v : SY} (I : i_Rel k u v) (hk : k + 4 ≤ 2052) (v1 : Int32) (v2 : Int32) (v3 : Int32) : wpX_entryField (fun r => wpY_entryField (fun r' => r' = r ∧ i_Rel (k + 4) u v) v v1 v2 v3) u v1 v2 v3 := by
  have J := i_up I
  obtain ⟨ib, db, nd, lim, g, l, hZ, hX, hY, hI⟩ := I
  exact sf_X_entry hZ hX _ _ _ (sf_Y_entry hZ hY _ _ _ ⟨rfl, J⟩)
theorem i_vc_dataField {k : Nat} {u : SX} {v : SY} (I : i_Rel k u v) (hk : k + 4 ≤ 2052) (v1 : Int32) (v2 : Int32) (v3 : Int32) : wpX_dataField (fun r => wpY_dataField (fun r' => r' = r ∧ i_Rel (k + 4) u v) v v1 v2 v3) u v1 v2 v3 := by
  have J := i_up I
  obtain ⟨ib, db, nd, lim, g, l, hZ, hX, hY, hI⟩ := I
  exact sf_X_dataField hZ hX _ _ _ (sf_Y_dataField hZ hY _ _ _ ⟨rfl, J⟩)
theorem i_vc_isDirty {k : Nat} {u : SX} {v : SY} (I : i_Rel k u v) (hk : k + 4 ≤ 2052) (v1 : Int32) : wpX_isDirty (fun r => wpY_isDirty (fun r' => r' = r ∧ i_Rel (k + 4) u v) v v1) u v1 := by
  have J := i_up I
  obtain ⟨ib, db, nd, lim, g, l, hZ, hX, hY, hI⟩ := I
  exact sf_X_isDirty hZ hX (sf_RT hI).2.2.1 _ (sf_Y_isDirty hZ hY (sf_RT hI).2.2.1 _ ⟨rfl, J⟩)
theorem i_vc_dirtyCount {k : Nat} {u : SX} {v : SY} (I : i_Rel k u v) (hk : k + 4 ≤ 2052) : wpX_dirtyCount (fun r => wpY_dirtyCount (fun r' => r' = r ∧ i_Rel (k + 4) u v) v) u := by
  have J := i_up I
  obtain ⟨ib, db, nd, lim, g, l, hZ, hX, hY, hI⟩ := I
  exact sf_X_dirtyCount hZ hX (sf_Y_dirtyCount hZ hY ⟨rfl, J⟩)
theorem i_vc_blockCount {k : Nat} {u : SX} {v : SY} (I : i_Rel k u v) (hk : k + 4 ≤ 2052) : wpX_blockCount (fun r => wpY_blockCount (fun r' => r' = r ∧ i_Rel (k + 4) u v) v) u := by
  have J := i_up I
  obtain ⟨ib, db, nd, lim, g, l, hZ, ⟨hL, q, rfl, hA⟩, ⟨hL', q', rfl, hA'⟩, hI⟩ := I
  exact ⟨rfl, J⟩
theorem i_vc_recordCount {k : Nat} {u : SX} {v : SY} (I : i_Rel k u v) (hk : k + 4 ≤ 2052) : wpX_recordCount (fun r => wpY_recordCount (fun r' => r' = r ∧ i_Rel (k + 4) u v) v) u := by
  have J := i_up I
  obtain ⟨ib, db, nd, lim, g, l, hZ, ⟨hL, q, rfl, hA⟩, ⟨hL', q', rfl, hA'⟩, hI⟩ := I
  exact ⟨rfl, J⟩
theorem i_vc_recordField {k : Nat} {u : SX} {v : SY} (I : i_Rel k u v) (hk : k + 4 ≤ 2052) (v1 : Int32) (v2 : Int32) : wpX_recordField (fun r => wpY_recordField (fun r' => r' = r ∧ i_Rel (k + 4) u v) v v1 v2) u v1 v2 := by
  have J := i_up I
  obtain ⟨ib, db, nd, lim, g, l, hZ, hX, hY, hI⟩ := I
  exact sf_X_recField hX _ _ (sf_Y_recField hY _ _ ⟨rfl, J⟩)
theorem i_vc_leaks {k : Nat} {u : SX} {v : SY} (I : i_Rel k u v) (hk : k + 4 ≤ 2052) : wpX_leaks (fun r => wpY_leaks (fun r' => r' = r ∧ i_Rel (k + 4) u v) v) u := by
  have J := i_up I
  obtain ⟨ib, db, nd, lim, g, l, hZ, hX, hY, hI⟩ := I
  exact sf_X_leaks hZ hX (sf_Y_leaks hZ hY ⟨rfl, J⟩)
theorem i_vc_freeInodes {k : Nat} {u : SX} {v : SY} (I : i_Rel k u v) (hk : k + 4 ≤ 2052) : wpX_freeInodes (fun r => wpY_freeInodes (fun r' => r' = r ∧ i_Rel (k + 4) u v) v) u := by
  have J := i_up I
  obtain ⟨ib, db, nd, lim, g, l, hZ, hX, hY, hI⟩ := I
  exact sf_X_freeInodes hZ hX (sf_Y_freeInodes hZ hY ⟨rfl, J⟩)
theorem i_vc_freeBlocks {k : Nat} {u : SX} {v : SY} (I : i_Rel k u v) (hk : k + 4 ≤ 2052) : wpX_freeBlocks (fun r => wpY_freeBlocks (fun r' => r' = r ∧ i_Rel (k + 4) u v) v) u := by
  have J := i_up I
  obtain ⟨ib, db, nd, lim, g, l, hZ, hX, hY, hI⟩ := I
  exact sf_X_freeBlocks hZ hX (sf_Y_freeBlocks hZ hY ⟨rfl, J⟩)
theorem i_vc_writes {k : Nat} {u : SX} {v : SY} (I : i_Rel k u v) (hk : k + 4 ≤ 2052) : wpX_writes (fun r => wpY_writes (fun r' => r' = r ∧ i_Rel (k + 4) u v) v) u := by
  have J := i_up I
  obtain ⟨ib, db, nd, lim, g, l, hZ, ⟨hL, q, rfl, hA⟩, ⟨hL', q', rfl, hA'⟩, hI⟩ := I
  exact ⟨rfl, J⟩
theorem i_vc_rollbacks {k : Nat} {u : SX} {v : SY} (I : i_Rel k u v) (hk : k + 4 ≤ 2052) : wpX_rollbacks (fun r => wpY_rollbacks (fun r' => r' = r ∧ i_Rel (k + 4) u v) v) u := by
  have J := i_up I
  obtain ⟨ib, db, nd, lim, g, l, hZ, ⟨hL, q, rfl, hA⟩, ⟨hL', q', rfl, hA'⟩, hI⟩ := I
  exact ⟨rfl, J⟩
theorem i_vc_mounted {k : Nat} {u : SX} {v : SY} (I : i_Rel k u v) (hk : k + 4 ≤ 2052) : wpX_mounted (fun r => wpY_mounted (fun r' => r' = r ∧ i_Rel (k + 4) u v) v) u := by
  have J := i_up I
  obtain ⟨ib, db, nd, lim, g, l, hZ, ⟨hL, q, rfl, hA⟩, ⟨hL', q', rfl, hA'⟩, hI⟩ := I
  exact And.intro (sf_narr (sf_RM hI)) (And.intro (sf_narr (sf_RM hI)) ⟨rfl, J⟩)
end
section
/-! flush, sweep, fsync -/
def sf_w1 (ib db nd b : Nat) (s : Nat × sf_G × List sf_R) : Nat × sf_G × List sf_R := (s.1 + sf_xn s.2.1 b, sf_xg ib db nd b s.2.1 s.2.2, sf_xl ib db nd b s.2.1 s.2.2)
def sf_sw (ib db nd : Nat) (x : Int32) : Nat → Nat → Nat × sf_G × List sf_R → Nat × sf_G × List sf_R
  | 0, _, s => s
  | d + 1, t, s => sf_sw ib db nd x d (t + 1) (sf_w1 ib db nd (if x = 0 then t else 1 + ib + db + nd - 1 - t) s)
def sf_y1 (ib db nd i k : Nat) (s : Nat × sf_G × List sf_R) : Nat × sf_G × List sf_R := if s.2.1 2 (3 * i + k) = 0 then s else sf_w1 ib db nd (ib + db + (s.2.1 2 (3 * i + k)).toNatClampNeg) s
def sf_yl (ib db nd i : Nat) : Nat → Nat → Nat × sf_G × List sf_R → Nat × sf_G × List sf_R
  | 0, _, s => s
  | d + 1, k, s => sf_yl ib db nd i d (k + 1) (sf_y1 ib db nd i k s)
def sf_y2 (ib db nd e : Nat) (x : Int32) (s : Nat × sf_G × List sf_R) : Nat × sf_G × List sf_R :=
  if s.2.2.any (sf_isAdd (nI e)) = true then (if sf_el db s.2.1 (nI e) x = -1 then s else sf_w1 ib db nd (1 + ib + (sf_el db s.2.1 (nI e) x).toNatClampNeg / 4) s) else s
def sf_y3 (ib db nd e i : Nat) (x : Int32) (s : Nat × sf_G × List sf_R) : Nat × sf_G × List sf_R := sf_w1 ib db nd (1 + ib + e / 4) (sf_y2 ib db nd e x (sf_w1 ib db nd (1 + (i - 1) / 4) s))
def sf_flv (ib db nd : Nat) (g : sf_G) (l : List sf_R) (x : Int32) : Int32 × sf_G × List sf_R :=
  if g 21 0 = 0 then (-2, g, l) else if x < 0 then (-3, g, l) else if x < nI (1 + ib + db + nd) then (if g 20 x.toNatClampNeg = 0 then (-13, g, l) else (nI (sf_wn ib db x.toNatClampNeg l), sf_wg ib db nd x.toNatClampNeg g l, sf_wl ib db nd x.toNatClampNeg g l)) else (-3, g, l)
def sf_swv (ib db nd : Nat) (g : sf_G) (l : List sf_R) (x : Int32) : Int32 × sf_G × List sf_R :=
  if g 21 0 = 0 then (-2, g, l) else (nI (sf_sw ib db nd x (1 + ib + db + nd) 0 (0, g, l)).1, (sf_sw ib db nd x (1 + ib + db + nd) 0 (0, g, l)).2.1, (sf_sw ib db nd x (1 + ib + db + nd) 0 (0, g, l)).2.2)
def sf_fsy (ib db nd : Nat) (g : sf_G) (l : List sf_R) (x : Int32) (e i : Nat) : Nat × sf_G × List sf_R := sf_y3 ib db nd e i x (sf_yl ib db nd i 3 0 (sf_w1 ib db nd 0 (0, g, l)))
def sf_fsv (ib db nd : Nat) (g : sf_G) (l : List sf_R) (x : Int32) : Int32 × sf_G × List sf_R :=
  if g 21 0 = 0 then (-2, g, l) else if sf_bad x = true then (-3, g, l) else if sf_fn db g x = -1 then (-4, g, l) else (nI (sf_fsy ib db nd g l x (sf_fn db g x).toNatClampNeg (g 7 (sf_fn db g x).toNatClampNeg).toNatClampNeg).1, (sf_fsy ib db nd g l x (sf_fn db g x).toNatClampNeg (g 7 (sf_fn db g x).toNatClampNeg).toNatClampNeg).2)
theorem sf_el_cases (db : Nat) (g : sf_G) (e x : Int32) : sf_el db g e x = -1 ∨ ∃ t, t < 4 * db ∧ sf_el db g e x = nI t := by
  rcases sf_fs_cases (fun t => !decide (nI t = e) && (!decide (g 8 t = 0) && decide (g 8 t = x))) (4 * db) 0 with n | ⟨j, j1, j2, j3, j4⟩
  · exact Or.inl (sf_fs_none _ _ n)
  · exact Or.inr ⟨j, by omega, sf_fs_some _ _ j j1 j2 j3 j4⟩
section
variable {ib db nd lim : Nat} {g : sf_G} {l A B : List sf_R} {r : sf_R}
theorem sf_M_w1 (hZ : sf_Z ib db nd lim) {s : Nat × sf_G × List sf_R} (h : sf_M ib db nd s.2.1 s.2.2) {b : Nat} (hb : b < 1 + ib + db + nd) : sf_M ib db nd (sf_w1 ib db nd b s).2.1 (sf_w1 ib db nd b s).2.2 := sf_M_wd hZ h hb
theorem sf_M_y1 (hZ : sf_Z ib db nd lim) {s : Nat × sf_G × List sf_R} (h : sf_M ib db nd s.2.1 s.2.2) {i k : Nat} (hi : 3 * i + k < 51) : sf_M ib db nd (sf_y1 ib db nd i k s).2.1 (sf_y1 ib db nd i k s).2.2 := by
  rw [sf_y1]
  split
  · exact h
  · obtain ⟨b, b1, b2⟩ := (h.2.1.2.1 _ hi).1
    refine sf_M_w1 hZ h ?_
    have z := hZ
    obtain ⟨z1, z2, z3, z4, z5, z6, -⟩ := z
    rw [b2, nI_clamp (by omega)]
    omega
theorem sf_M_yl (hZ : sf_Z ib db nd lim) {i : Nat} (hi : i ≤ 16) : ∀ d k (s : Nat × sf_G × List sf_R), k + d ≤ 3 → sf_M ib db nd s.2.1 s.2.2 → sf_M ib db nd (sf_yl ib db nd i d k s).2.1 (sf_yl ib db nd i d k s).2.2 := by
  intro d
  induction d with
  | zero => intro k s _ h; exact h
  | succ d ih => intro k s e h; exact ih (k + 1) _ (by omega) (sf_M_y1 hZ h (by omega))
theorem sf_M_y2 (hZ : sf_Z ib db nd lim) {s : Nat × sf_G × List sf_R} (h : sf_M ib db nd s.2.1 s.2.2) (e : Nat) (x : Int32) : sf_M ib db nd (sf_y2 ib db nd e x s).2.1 (sf_y2 ib db nd e x s).2.2 := by
  rw [sf_y2]
  split
  · split
    · exact h
    · rename_i c
      rcases sf_el_cases db s.2.1 (nI e) x with w | ⟨t, t1, t2⟩
      · exact absurd w c
      · have z := hZ
        obtain ⟨z1, z2, z3, z4, z5, z6, -⟩ := z
        refine sf_M_w1 hZ h ?_
        rw [t2, nI_clamp (by omega)]
        omega
  · exact h
theorem sf_M_y3 (hZ : sf_Z ib db nd lim) {s : Nat × sf_G × List sf_R} (h : sf_M ib db nd s.2.1 s.2.2) {e i : Nat} (he : e < 4 * db) (i1 : 1 ≤ i) (i2 : i ≤ 4 * ib) (x : Int32) : sf_M ib db nd (sf_y3 ib db nd e i x s).2.1 (sf_y3 ib db nd e i x s).2.2 := by
  have z := hZ
  obtain ⟨z1, z2, z3, z4, z5, z6, -⟩ := z
  exact sf_M_w1 hZ (sf_M_y2 hZ (sf_M_w1 hZ h (by omega)) e x) (by omega)
theorem sf_M_sw (hZ : sf_Z ib db nd lim) (x : Int32) : ∀ d t (s : Nat × sf_G × List sf_R), t + d = 1 + ib + db + nd → sf_M ib db nd s.2.1 s.2.2 → sf_M ib db nd (sf_sw ib db nd x d t s).2.1 (sf_sw ib db nd x d t s).2.2 := by
  intro d
  induction d with
  | zero => intro t s _ h; exact h
  | succ d ih =>
    intro t s e h
    refine ih (t + 1) _ (by omega) (sf_M_w1 hZ h ?_)
    split <;> omega
theorem sf_X_wdM {post : Int32 → SX → Prop} {u : SX} (hZ : sf_Z ib db nd lim) (h : sf_X ib db nd lim g l u) (hM : sf_M ib db nd g l) {b : Nat} (hb : b < 1 + ib + db + nd) (hp : ∀ u', sf_X ib db nd lim (sf_xg ib db nd b g l) (sf_xl ib db nd b g l) u' → post (nI (sf_xn g b)) u') : wpX_writeIfDirty post u (nI b) := sf_X_wd hZ h (sf_M_H hM) hb hp
theorem sf_Y_wdM {post : Int32 → SY → Prop} {u : SY} (hZ : sf_Z ib db nd lim) (h : sf_Y ib db nd lim g l u) (hM : sf_M ib db nd g l) {b : Nat} (hb : b < 1 + ib + db + nd) (hp : ∀ u', sf_Y ib db nd lim (sf_xg ib db nd b g l) (sf_xl ib db nd b g l) u' → post (nI (sf_xn g b)) u') : wpY_writeIfDirty post u (nI b) := by
  have z := hZ
  obtain ⟨z1, z2, z3, z4, z5, z6, -⟩ := z
  exact sf_Y_wd hZ h (sf_M_H hM) hb (hM.2.1.2.2.1 b (by omega)) hp
theorem sf_X_flush {post : Int32 → SX → Prop} {u : SX} (hZ : sf_Z ib db nd lim) (h : sf_X ib db nd lim g l u) (hM : ¬ g 21 0 = 0 → sf_M ib db nd g l) (x : Int32) (hp : ∀ u', sf_X ib db nd lim (sf_flv ib db nd g l x).2.1 (sf_flv ib db nd g l x).2.2 u' → post (sf_flv ib db nd g l x).1 u') : wpX_flush post u x := by
  have z := hZ
  obtain ⟨z1, z2, z3, z4, z5, z6, -⟩ := z
  rw [sf_flv] at hp
  by_cases hm : g 21 0 = 0
  · rw [if_pos hm] at hp
    obtain ⟨hL, q, rfl, hA⟩ := h
    exact br_t hm (hp _ ⟨hL, q, rfl, hA⟩)
  · rw [if_neg hm] at hp
    have hM := hM hm
    obtain ⟨hL, q, rfl, hA⟩ := h
    refine br_f hm ?_
    by_cases c1 : x < 0
    · rw [if_pos c1] at hp
      exact br_t c1 (hp _ ⟨hL, q, rfl, hA⟩)
    · rw [if_neg c1] at hp
      refine br_f c1 ?_
      by_cases c2 : x < nI (1 + ib + db + nd)
      · rw [if_pos c2] at hp
        refine br_t c2 ?_
        obtain ⟨j, j1, rfl⟩ := nI_of c1
        rw [nI_ltI j1 (by omega)] at c2
        rw [nI_clamp j1] at hp ⊢
        refine And.intro (vp_in_nI (by omega) (by decide)) ?_
        by_cases c3 : g 20 j = 0
        · rw [if_pos c3] at hp
          exact br_t c3 (hp _ ⟨hL, q, rfl, hA⟩)
        · rw [if_neg c3] at hp
          exact br_f c3 (sf_X_wb hZ ⟨hL, q, rfl, hA⟩ (sf_M_H hM) (by omega) hp)
      · rw [if_neg c2] at hp
        exact br_f c2 (hp _ ⟨hL, q, rfl, hA⟩)
theorem sf_X_sw {post : Int32 → SX → Prop} (hZ : sf_Z ib db nd lim) (x : Int32) : ∀ d t (s : Nat × sf_G × List sf_R) (q : sf_G), t + d = 1 + ib + db + nd → sf_M ib db nd s.2.1 s.2.2 → s.2.2.length ≤ 128 → sf_A s.2.2 q →
    (∀ u', sf_X ib db nd lim (sf_sw ib db nd x d t s).2.1 (sf_sw ib db nd x d t s).2.2 u' → post (nI (sf_sw ib db nd x d t s).1) u') → wX_sweep_14 post x (d + 1) (nI s.1) (nI t) (nI ib) (nI db) (nI (4 * ib)) (nI (4 * db)) (nI nd) (nI (1 + ib + db + nd)) (nI lim) (nI (s.2.2.length)) ((s.2.1) 21 0) ((s.2.1) 22 0) ((s.2.1) 23 0) ((s.2.1) 0) ((s.2.1) 1) ((s.2.1) 2) ((s.2.1) 3) ((s.2.1) 4) ((s.2.1) 5) ((s.2.1) 6) ((s.2.1) 7) ((s.2.1) 8) ((s.2.1) 9) ((s.2.1) 10) ((s.2.1) 11) ((s.2.1) 12) ((s.2.1) 13) ((s.2.1) 14) ((s.2.1) 15) ((s.2.1) 16) ((s.2.1) 17) ((s.2.1) 18) ((s.2.1) 19) ((s.2.1) 20) (q 0) (q 1) (q 2) (q 3) (q 4) (q 5) := by
  have z := hZ
  obtain ⟨z1, z2, z3, z4, z5, z6, -⟩ := z
  intro d
  induction d with
  | zero =>
    intro t s q e hM hL hA hp
    exact br_t (nI_le (by omega) (by omega)) (hp _ ⟨hL, q, rfl, hA⟩)
  | succ d ih =>
    intro t s q e hM hL hA hp
    rw [sf_sw] at hp
    refine br_f (nI_ge (by omega) (by omega)) ?_
    by_cases c : x = 0
    · rw [if_pos c] at hp
      refine br_t c (sf_X_wdM (g := s.2.1) (l := s.2.2) hZ ⟨hL, q, rfl, hA⟩ hM (by omega) (fun u1 h1 => ?_))
      obtain ⟨hL1, q1, rfl, hA1⟩ := h1
      exact nm_r (nI_add _ _) (nm_r (nI_1 _) (ih (t + 1) (sf_w1 ib db nd t s) q1 (by omega) (sf_M_w1 hZ hM (by omega)) hL1 hA1 hp))
    · rw [if_neg c] at hp
      have eb : (nI (1 + ib + db + nd) - 1) - nI t = nI (1 + ib + db + nd - 1 - t) := by
        show (nI (1 + ib + db + nd) - nI 1) - nI t = _
        rw [pk_sub (by omega), pk_sub (by omega)]
      refine br_f c (nm_r eb (sf_X_wdM (g := s.2.1) (l := s.2.2) hZ ⟨hL, q, rfl, hA⟩ hM (by omega) (fun u1 h1 => ?_)))
      obtain ⟨hL1, q1, rfl, hA1⟩ := h1
      exact nm_r (nI_add _ _) (nm_r (nI_1 _) (ih (t + 1) (sf_w1 ib db nd (1 + ib + db + nd - 1 - t) s) q1 (by omega) (sf_M_w1 hZ hM (by omega)) hL1 hA1 hp))
theorem sf_X_sweep {post : Int32 → SX → Prop} {u : SX} (hZ : sf_Z ib db nd lim) (h : sf_X ib db nd lim g l u) (hM : ¬ g 21 0 = 0 → sf_M ib db nd g l) (x : Int32) (hp : ∀ u', sf_X ib db nd lim (sf_swv ib db nd g l x).2.1 (sf_swv ib db nd g l x).2.2 u' → post (sf_swv ib db nd g l x).1 u') : wpX_sweep post u x := by
  obtain ⟨hL, q, rfl, hA⟩ := h
  rw [sf_swv] at hp
  by_cases hm : g 21 0 = 0
  · rw [if_pos hm] at hp
    exact br_t hm (hp _ ⟨hL, q, rfl, hA⟩)
  · rw [if_neg hm] at hp
    exact br_f hm (Exists.intro (1 + ib + db + nd + 1) (sf_X_sw hZ x (1 + ib + db + nd) 0 (0, g, l) q (by omega) (hM hm) hL hA hp))
theorem sf_X_fs3 {post : Int32 → SX → Prop} (hZ : sf_Z ib db nd lim) {s : Nat × sf_G × List sf_R} {q : sf_G} (hM : sf_M ib db nd s.2.1 s.2.2) (hL : s.2.2.length ≤ 128) (hA : sf_A s.2.2 q) {e : Nat} (he : e < 4 * db)
    (hp : ∀ u', sf_X ib db nd lim (sf_w1 ib db nd (1 + ib + e / 4) s).2.1 (sf_w1 ib db nd (1 + ib + e / 4) s).2.2 u' → post (nI (sf_w1 ib db nd (1 + ib + e / 4) s).1) u') : wX_fsync_162 post (nI e) (nI s.1) (nI ib) (nI db) (nI (4 * ib)) (nI (4 * db)) (nI nd) (nI (1 + ib + db + nd)) (nI lim) (nI (s.2.2.length)) ((s.2.1) 21 0) ((s.2.1) 22 0) ((s.2.1) 23 0) ((s.2.1) 0) ((s.2.1) 1) ((s.2.1) 2) ((s.2.1) 3) ((s.2.1) 4) ((s.2.1) 5) ((s.2.1) 6) ((s.2.1) 7) ((s.2.1) 8) ((s.2.1) 9) ((s.2.1) 10) ((s.2.1) 11) ((s.2.1) 12) ((s.2.1) 13) ((s.2.1) 14) ((s.2.1) 15) ((s.2.1) 16) ((s.2.1) 17) ((s.2.1) 18) ((s.2.1) 19) ((s.2.1) 20) (q 0) (q 1) (q 2) (q 3) (q 4) (q 5) := by
  have z := hZ
  obtain ⟨z1, z2, z3, z4, z5, z6, -⟩ := z
  refine And.intro sf_4ne ?_
  rw [sf_ixS (by omega)]
  exact sf_X_wdM (g := s.2.1) (l := s.2.2) hZ ⟨hL, q, rfl, hA⟩ hM (by omega) (fun u1 h1 => nm_r (nI_add _ _) (by
    obtain ⟨hL1, q1, rfl, hA1⟩ := h1
    exact hp _ ⟨hL1, q1, rfl, hA1⟩))
theorem sf_X_fsl {post : Int32 → SX → Prop} (hZ : sf_Z ib db nd lim) (x : Int32) {e i : Nat} (he : e < 4 * db) (i1 : 1 ≤ i) (i2 : i ≤ 4 * ib) : ∀ d k (s : Nat × sf_G × List sf_R) (q : sf_G), k + d = 3 → sf_M ib db nd s.2.1 s.2.2 → s.2.2.length ≤ 128 → sf_A s.2.2 q →
    (∀ u', sf_X ib db nd lim (sf_y3 ib db nd e i x (sf_yl ib db nd i d k s)).2.1 (sf_y3 ib db nd e i x (sf_yl ib db nd i d k s)).2.2 u' → post (nI (sf_y3 ib db nd e i x (sf_yl ib db nd i d k s)).1) u') → wX_fsync_52 post x (nI e) (nI i) (d + 1) (nI s.1) (nI k) (nI ib) (nI db) (nI (4 * ib)) (nI (4 * db)) (nI nd) (nI (1 + ib + db + nd)) (nI lim) (nI (s.2.2.length)) ((s.2.1) 21 0) ((s.2.1) 22 0) ((s.2.1) 23 0) ((s.2.1) 0) ((s.2.1) 1) ((s.2.1) 2) ((s.2.1) 3) ((s.2.1) 4) ((s.2.1) 5) ((s.2.1) 6) ((s.2.1) 7) ((s.2.1) 8) ((s.2.1) 9) ((s.2.1) 10) ((s.2.1) 11) ((s.2.1) 12) ((s.2.1) 13) ((s.2.1) 14) ((s.2.1) 15) ((s.2.1) 16) ((s.2.1) 17) ((s.2.1) 18) ((s.2.1) 19) ((s.2.1) 20) (q 0) (q 1) (q 2) (q 3) (q 4) (q 5) := by
  have z := hZ
  obtain ⟨z1, z2, z3, z4, z5, z6, -⟩ := z
  intro d
  induction d with
  | zero =>
    intro k s q e3 hM hL hA hp
    have e4 : k = 3 := by omega
    subst e4
    refine br_t (by decide) (And.intro sf_4ne ?_)
    rw [sf_ixI i1 (by omega)]
    refine sf_X_wdM (g := s.2.1) (l := s.2.2) hZ ⟨hL, q, rfl, hA⟩ hM (by omega) (fun u1 h1 => ?_)
    have hM5 := sf_M_w1 hZ hM (show 1 + (i - 1) / 4 < 1 + ib + db + nd by omega)
    rw [sf_yl, sf_y3, sf_y2] at hp
    generalize hs5 : sf_w1 ib db nd (1 + (i - 1) / 4) s = s5 at hp hM5
    have h1' : sf_X ib db nd lim s5.2.1 s5.2.2 u1 := by rw [← hs5]; exact h1
    have hc5 : nI s.1 + nI (sf_xn s.2.1 (1 + (i - 1) / 4)) = nI s5.1 := by rw [nI_add, ← hs5]; rfl
    obtain ⟨hL1, q1, rfl, hA1⟩ := h1'
    have hu2 : sf_X ib db nd lim s5.2.1 s5.2.2 (sf_mX ib db nd lim s5.2.2.length s5.2.1 q1) := ⟨hL1, q1, rfl, hA1⟩
    refine nm_r hc5 (sf_X_findAdd hu2 _ ?_)
    cases a : s5.2.2.any (sf_isAdd (nI e)) with
    | false =>
      rw [a, if_neg Bool.false_ne_true] at hp
      exact br_t ((sf_fi_any hL1).mpr a) (sf_X_fs3 hZ hM5 hL1 hA1 he hp)
    | true =>
      rw [a, if_pos rfl] at hp
      refine br_f (fun w => ?_) (sf_X_else hZ hu2 (nI e) x ?_)
      · have := (sf_fi_any hL1).mp w
        rw [a] at this
        exact absurd this (by decide)
      · rcases sf_el_cases db s5.2.1 (nI e) x with w | ⟨t, t1, t2⟩
        · rw [if_pos w] at hp
          exact br_t w (sf_X_fs3 hZ hM5 hL1 hA1 he hp)
        · have nt : ¬ sf_el db s5.2.1 (nI e) x = -1 := by rw [t2]; exact sf_nI_m1 (by omega)
          rw [if_neg nt, t2, nI_clamp (show t < 2 ^ 31 by omega)] at hp
          refine br_f nt (And.intro sf_4ne ?_)
          rw [t2, sf_ixS (by omega)]
          refine sf_X_wdM (g := s5.2.1) (l := s5.2.2) hZ hu2 hM5 (by omega) (fun u6 h6 => ?_)
          have hM6 := sf_M_w1 hZ hM5 (show 1 + ib + t / 4 < 1 + ib + db + nd by omega)
          generalize hs6 : sf_w1 ib db nd (1 + ib + t / 4) s5 = s6 at hp hM6
          have h6' : sf_X ib db nd lim s6.2.1 s6.2.2 u6 := by rw [← hs6]; exact h6
          have hc6 : nI s5.1 + nI (sf_xn s5.2.1 (1 + ib + t / 4)) = nI s6.1 := by rw [nI_add, ← hs6]; rfl
          obtain ⟨hL6, q6, rfl, hA6⟩ := h6'
          exact nm_r hc6 (sf_X_fs3 hZ hM6 hL6 hA6 he hp)
  | succ d ih =>
    intro k s q e3 hM hL hA hp
    rw [sf_yl, sf_y1] at hp
    have hx : ((3 : Int32) * nI i) + nI k = nI (3 * i + k) := by
      show (nI 3 * nI i) + nI k = _
      rw [pk_mul, nI_add]
      all_goals exact congrArg nI (by omega)
    have hi : vp_in (nI (3 * i + k)) 51 := vp_in_nI (by omega) (by decide)
    have hc : (nI (3 * i + k)).toNatClampNeg = 3 * i + k := nI_clamp (by omega)
    obtain ⟨b, b1, b2⟩ := (hM.2.1.2.1 (3 * i + k) (by omega)).1
    refine br_f (nI_ge (b := 3) (by omega) (by decide)) ?_
    rw [hx, hc]
    refine And.intro hi (nm_r b2 ?_)
    rw [b2] at hp
    by_cases c : nI b = 0
    · rw [if_pos c] at hp
      exact br_t c (nm_r (nI_1 k) (ih (k + 1) s q (by omega) hM hL hA hp))
    · rw [if_neg c, nI_clamp (show b < 2 ^ 31 by omega)] at hp
      refine br_f c ?_
      rw [nI_add, nI_add]
      refine sf_X_wdM (g := s.2.1) (l := s.2.2) hZ ⟨hL, q, rfl, hA⟩ hM (by omega) (fun u1 h1 => ?_)
      obtain ⟨hL1, q1, rfl, hA1⟩ := h1
      exact nm_r (nI_add _ _) (nm_r (nI_1 k) (ih (k + 1) (sf_w1 ib db nd (ib + db + b) s) q1 (by omega) (sf_M_w1 hZ hM (by omega)) hL1 hA1 hp))
theorem sf_X_fsync {post : Int32 → SX → Prop} {u : SX} (hZ : sf_Z ib db nd lim) (h : sf_X ib db nd lim g l u) (hM : ¬ g 21 0 = 0 → sf_M ib db nd g l) (x : Int32) (hp : ∀ u', sf_X ib db nd lim (sf_fsv ib db nd g l x).2.1 (sf_fsv ib db nd g l x).2.2 u' → post (sf_fsv ib db nd g l x).1 u') : wpX_fsync post u x := by
  obtain ⟨hL, q, rfl, hA⟩ := h
  have z := hZ
  obtain ⟨z1, z2, z3, z4, z5, z6, -⟩ := z
  rw [sf_fsv] at hp
  by_cases hm : g 21 0 = 0
  · rw [if_pos hm] at hp
    exact br_t hm (hp _ ⟨hL, q, rfl, hA⟩)
  · rw [if_neg hm] at hp
    have hM := hM hm
    refine br_f hm (sf_X_bad _ ?_)
    cases hb : sf_bad x with
    | true =>
      rw [hb, if_pos rfl] at hp
      exact br_f (by decide) (hp _ ⟨hL, q, rfl, hA⟩)
    | false =>
      rw [hb, if_neg Bool.false_ne_true] at hp
      refine br_t (by decide) (sf_X_findName hZ ⟨hL, q, rfl, hA⟩ _ ?_)
      rcases sf_fn_cases db g x with hf | ⟨e, he, hf, hx⟩
      · rw [hf, if_pos rfl] at hp
        rw [hf]
        exact br_t rfl (hp _ ⟨hL, q, rfl, hA⟩)
      · obtain ⟨j, j1, hj⟩ := (hM.2.2.2.2.2.1 e he).1
        have j0 : 1 ≤ j := by
          apply Classical.byContradiction
          intro k
          have j0 : j = 0 := by omega
          subst j0
          have := (hM.2.1.1.1 e he).mpr hj
          rw [this] at hx
          rw [← hx] at hb
          exact absurd hb (by decide)
        rw [hf, if_neg (sf_nI_m1 (by omega)), nI_clamp (show e < 2 ^ 31 by omega), hj, nI_clamp (show j < 2 ^ 31 by omega)] at hp
        rw [hf]
        refine br_f (sf_nI_m1 (by omega)) (And.intro (vp_in_nI (by omega) (by decide)) (nm_r (e' := nI j) (by rw [nI_clamp (show e < 2 ^ 31 by omega)]; exact hj) ?_))
        refine sf_X_wdM (b := 0) hZ ⟨hL, q, rfl, hA⟩ hM (by omega) (fun u1 h1 => ?_)
        obtain ⟨hL1, q1, rfl, hA1⟩ := h1
        have k := sf_X_fsl (post := post) hZ x he j0 j1 3 0 (sf_w1 ib db nd 0 (0, g, l)) q1 rfl (sf_M_w1 hZ (s := (0, g, l)) hM (by omega)) hL1 hA1 hp
        refine Exists.intro 4 ?_
        have e0 : nI (sf_w1 ib db nd 0 (0, g, l)).1 = nI (sf_xn g 0) := congrArg nI (Nat.zero_add _)
        rw [e0] at k
        exact k
theorem sf_Y_flush {post : Int32 → SY → Prop} {u : SY} (hZ : sf_Z ib db nd lim) (h : sf_Y ib db nd lim g l u) (hM : ¬ g 21 0 = 0 → sf_M ib db nd g l) (x : Int32) (hp : ∀ u', sf_Y ib db nd lim (sf_flv ib db nd g l x).2.1 (sf_flv ib db nd g l x).2.2 u' → post (sf_flv ib db nd g l x).1 u') : wpY_flush post u x := by
  have z := hZ
  obtain ⟨z1, z2, z3, z4, z5, z6, -⟩ := z
  rw [sf_flv] at hp
  by_cases hm : g 21 0 = 0
  · rw [if_pos hm] at hp
    obtain ⟨hL, q, rfl, hA⟩ := h
    exact br_t hm (hp _ ⟨hL, q, rfl, hA⟩)
  · rw [if_neg hm] at hp
    have hM := hM hm
    obtain ⟨hL, q, rfl, hA⟩ := h
    refine br_f hm ?_
    by_cases c1 : x < 0
    · rw [if_pos c1] at hp
      exact br_t c1 (hp _ ⟨hL, q, rfl, hA⟩)
    · rw [if_neg c1] at hp
      refine br_f c1 ?_
      by_cases c2 : x < nI (1 + ib + db + nd)
      · rw [if_pos c2] at hp
        refine br_t c2 ?_
        obtain ⟨j, j1, rfl⟩ := nI_of c1
        rw [nI_ltI j1 (by omega)] at c2
        rw [nI_clamp j1] at hp ⊢
        refine And.intro (vp_in_nI (by omega) (by decide)) ?_
        by_cases c3 : g 20 j = 0
        · rw [if_pos c3] at hp
          exact br_t c3 (hp _ ⟨hL, q, rfl, hA⟩)
        · rw [if_neg c3] at hp
          exact br_f c3 (sf_Y_wb hZ ⟨hL, q, rfl, hA⟩ (sf_M_H hM) (by omega) ((hM.2.1.2.2.1 j (by omega)).resolve_left c3) hp)
      · rw [if_neg c2] at hp
        exact br_f c2 (hp _ ⟨hL, q, rfl, hA⟩)
theorem sf_Y_sw {post : Int32 → SY → Prop} (hZ : sf_Z ib db nd lim) (x : Int32) : ∀ d t (s : Nat × sf_G × List sf_R) (q : sf_G), t + d = 1 + ib + db + nd → sf_M ib db nd s.2.1 s.2.2 → s.2.2.length ≤ 128 → sf_A s.2.2 q →
    (∀ u', sf_Y ib db nd lim (sf_sw ib db nd x d t s).2.1 (sf_sw ib db nd x d t s).2.2 u' → post (nI (sf_sw ib db nd x d t s).1) u') → wY_sweep_14 post x (d + 1) (nI s.1) (nI t) (nI ib) (nI db) (nI nd) (nI lim) (nI (4 * ib)) (nI (4 * db)) (nI (1 + ib + db + nd)) (nI (s.2.2.length)) ((s.2.1) 21 0) ((s.2.1) 22 0) ((s.2.1) 23 0) ((s.2.1) 0) ((s.2.1) 1) ((s.2.1) 2) ((s.2.1) 16) ((s.2.1) 18) ((s.2.1) 12) ((s.2.1) 13) ((s.2.1) 6) ((s.2.1) 7) ((s.2.1) 3) ((s.2.1) 4) ((s.2.1) 5) ((s.2.1) 17) ((s.2.1) 19) ((s.2.1) 14) ((s.2.1) 15) ((s.2.1) 8) ((s.2.1) 9) ((s.2.1) 10) ((s.2.1) 11) ((s.2.1) 20) (q 0) (q 1) (q 2) (q 3) (q 4) (q 5) := by
  have z := hZ
  obtain ⟨z1, z2, z3, z4, z5, z6, -⟩ := z
  intro d
  induction d with
  | zero =>
    intro t s q e hM hL hA hp
    exact br_t (nI_le (by omega) (by omega)) (hp _ ⟨hL, q, rfl, hA⟩)
  | succ d ih =>
    intro t s q e hM hL hA hp
    rw [sf_sw] at hp
    refine br_f (nI_ge (by omega) (by omega)) ?_
    by_cases c : x = 0
    · rw [if_pos c] at hp
      refine br_t c (sf_Y_wdM (g := s.2.1) (l := s.2.2) hZ ⟨hL, q, rfl, hA⟩ hM (by omega) (fun u1 h1 => ?_))
      obtain ⟨hL1, q1, rfl, hA1⟩ := h1
      exact nm_r (nI_add _ _) (nm_r (nI_1 _) (ih (t + 1) (sf_w1 ib db nd t s) q1 (by omega) (sf_M_w1 hZ hM (by omega)) hL1 hA1 hp))
    · rw [if_neg c] at hp
      have eb : (nI (1 + ib + db + nd) - 1) - nI t = nI (1 + ib + db + nd - 1 - t) := by
        show (nI (1 + ib + db + nd) - nI 1) - nI t = _
        rw [pk_sub (by omega), pk_sub (by omega)]
      refine br_f c (nm_r eb (sf_Y_wdM (g := s.2.1) (l := s.2.2) hZ ⟨hL, q, rfl, hA⟩ hM (by omega) (fun u1 h1 => ?_)))
      obtain ⟨hL1, q1, rfl, hA1⟩ := h1
      exact nm_r (nI_add _ _) (nm_r (nI_1 _) (ih (t + 1) (sf_w1 ib db nd (1 + ib + db + nd - 1 - t) s) q1 (by omega) (sf_M_w1 hZ hM (by omega)) hL1 hA1 hp))
theorem sf_Y_sweep {post : Int32 → SY → Prop} {u : SY} (hZ : sf_Z ib db nd lim) (h : sf_Y ib db nd lim g l u) (hM : ¬ g 21 0 = 0 → sf_M ib db nd g l) (x : Int32) (hp : ∀ u', sf_Y ib db nd lim (sf_swv ib db nd g l x).2.1 (sf_swv ib db nd g l x).2.2 u' → post (sf_swv ib db nd g l x).1 u') : wpY_sweep post u x := by
  obtain ⟨hL, q, rfl, hA⟩ := h
  rw [sf_swv] at hp
  by_cases hm : g 21 0 = 0
  · rw [if_pos hm] at hp
    exact br_t hm (hp _ ⟨hL, q, rfl, hA⟩)
  · rw [if_neg hm] at hp
    exact br_f hm (Exists.intro (1 + ib + db + nd + 1) (sf_Y_sw hZ x (1 + ib + db + nd) 0 (0, g, l) q (by omega) (hM hm) hL hA hp))
theorem sf_Y_fs3 {post : Int32 → SY → Prop} (hZ : sf_Z ib db nd lim) {s : Nat × sf_G × List sf_R} {q : sf_G} (hM : sf_M ib db nd s.2.1 s.2.2) (hL : s.2.2.length ≤ 128) (hA : sf_A s.2.2 q) {e : Nat} (he : e < 4 * db)
    (hp : ∀ u', sf_Y ib db nd lim (sf_w1 ib db nd (1 + ib + e / 4) s).2.1 (sf_w1 ib db nd (1 + ib + e / 4) s).2.2 u' → post (nI (sf_w1 ib db nd (1 + ib + e / 4) s).1) u') : wY_fsync_178 post (nI e) (nI s.1) (nI ib) (nI db) (nI nd) (nI lim) (nI (4 * ib)) (nI (4 * db)) (nI (1 + ib + db + nd)) (nI (s.2.2.length)) ((s.2.1) 21 0) ((s.2.1) 22 0) ((s.2.1) 23 0) ((s.2.1) 0) ((s.2.1) 1) ((s.2.1) 2) ((s.2.1) 16) ((s.2.1) 18) ((s.2.1) 12) ((s.2.1) 13) ((s.2.1) 6) ((s.2.1) 7) ((s.2.1) 3) ((s.2.1) 4) ((s.2.1) 5) ((s.2.1) 17) ((s.2.1) 19) ((s.2.1) 14) ((s.2.1) 15) ((s.2.1) 8) ((s.2.1) 9) ((s.2.1) 10) ((s.2.1) 11) ((s.2.1) 20) (q 0) (q 1) (q 2) (q 3) (q 4) (q 5) := by
  have z := hZ
  obtain ⟨z1, z2, z3, z4, z5, z6, -⟩ := z
  refine And.intro sf_4ne ?_
  rw [sf_ixS (by omega)]
  exact sf_Y_wdM (g := s.2.1) (l := s.2.2) hZ ⟨hL, q, rfl, hA⟩ hM (by omega) (fun u1 h1 => nm_r (nI_add _ _) (by
    obtain ⟨hL1, q1, rfl, hA1⟩ := h1
    exact hp _ ⟨hL1, q1, rfl, hA1⟩))
theorem sf_Y_fsl {post : Int32 → SY → Prop} (hZ : sf_Z ib db nd lim) (x : Int32) {e i : Nat} (he : e < 4 * db) (i1 : 1 ≤ i) (i2 : i ≤ 4 * ib) : ∀ d k (s : Nat × sf_G × List sf_R) (q : sf_G), k + d = 3 → sf_M ib db nd s.2.1 s.2.2 → s.2.2.length ≤ 128 → sf_A s.2.2 q →
    (∀ u', sf_Y ib db nd lim (sf_y3 ib db nd e i x (sf_yl ib db nd i d k s)).2.1 (sf_y3 ib db nd e i x (sf_yl ib db nd i d k s)).2.2 u' → post (nI (sf_y3 ib db nd e i x (sf_yl ib db nd i d k s)).1) u') → wY_fsync_52 post x (nI e) (nI i) (d + 1) (nI s.1) (nI k) (nI ib) (nI db) (nI nd) (nI lim) (nI (4 * ib)) (nI (4 * db)) (nI (1 + ib + db + nd)) (nI (s.2.2.length)) ((s.2.1) 21 0) ((s.2.1) 22 0) ((s.2.1) 23 0) ((s.2.1) 0) ((s.2.1) 1) ((s.2.1) 2) ((s.2.1) 16) ((s.2.1) 18) ((s.2.1) 12) ((s.2.1) 13) ((s.2.1) 6) ((s.2.1) 7) ((s.2.1) 3) ((s.2.1) 4) ((s.2.1) 5) ((s.2.1) 17) ((s.2.1) 19) ((s.2.1) 14) ((s.2.1) 15) ((s.2.1) 8) ((s.2.1) 9) ((s.2.1) 10) ((s.2.1) 11) ((s.2.1) 20) (q 0) (q 1) (q 2) (q 3) (q 4) (q 5) := by
  have z := hZ
  obtain ⟨z1, z2, z3, z4, z5, z6, -⟩ := z
  intro d
  induction d with
  | zero =>
    intro k s q e3 hM hL hA hp
    have e4 : k = 3 := by omega
    subst e4
    refine br_t (by decide) (And.intro sf_4ne ?_)
    rw [sf_ixI i1 (by omega)]
    refine sf_Y_wdM (g := s.2.1) (l := s.2.2) hZ ⟨hL, q, rfl, hA⟩ hM (by omega) (fun u1 h1 => ?_)
    have hM5 := sf_M_w1 hZ hM (show 1 + (i - 1) / 4 < 1 + ib + db + nd by omega)
    rw [sf_yl, sf_y3, sf_y2] at hp
    generalize hs5 : sf_w1 ib db nd (1 + (i - 1) / 4) s = s5 at hp hM5
    have h1' : sf_Y ib db nd lim s5.2.1 s5.2.2 u1 := by rw [← hs5]; exact h1
    have hc5 : nI s.1 + nI (sf_xn s.2.1 (1 + (i - 1) / 4)) = nI s5.1 := by rw [nI_add, ← hs5]; rfl
    obtain ⟨hL1, q1, rfl, hA1⟩ := h1'
    have hu2 : sf_Y ib db nd lim s5.2.1 s5.2.2 (sf_mY ib db nd lim s5.2.2.length s5.2.1 q1) := ⟨hL1, q1, rfl, hA1⟩
    refine nm_r hc5 (sf_Y_findAdd hu2 _ ?_)
    cases a : s5.2.2.any (sf_isAdd (nI e)) with
    | false =>
      rw [a, if_neg Bool.false_ne_true] at hp
      exact br_t ((sf_fi_any hL1).mpr a) (sf_Y_fs3 hZ hM5 hL1 hA1 he hp)
    | true =>
      rw [a, if_pos rfl] at hp
      refine br_f (fun w => ?_) (sf_Y_else hZ hu2 hM5.2.1.1.2.1 (nI e) x ?_)
      · have := (sf_fi_any hL1).mp w
        rw [a] at this
        exact absurd this (by decide)
      · rcases sf_el_cases db s5.2.1 (nI e) x with w | ⟨t, t1, t2⟩
        · rw [if_pos w] at hp
          exact br_t w (sf_Y_fs3 hZ hM5 hL1 hA1 he hp)
        · have nt : ¬ sf_el db s5.2.1 (nI e) x = -1 := by rw [t2]; exact sf_nI_m1 (by omega)
          rw [if_neg nt, t2, nI_clamp (show t < 2 ^ 31 by omega)] at hp
          refine br_f nt (And.intro sf_4ne ?_)
          rw [t2, sf_ixS (by omega)]
          refine sf_Y_wdM (g := s5.2.1) (l := s5.2.2) hZ hu2 hM5 (by omega) (fun u6 h6 => ?_)
          have hM6 := sf_M_w1 hZ hM5 (show 1 + ib + t / 4 < 1 + ib + db + nd by omega)
          generalize hs6 : sf_w1 ib db nd (1 + ib + t / 4) s5 = s6 at hp hM6
          have h6' : sf_Y ib db nd lim s6.2.1 s6.2.2 u6 := by rw [← hs6]; exact h6
          have hc6 : nI s5.1 + nI (sf_xn s5.2.1 (1 + ib + t / 4)) = nI s6.1 := by rw [nI_add, ← hs6]; rfl
          obtain ⟨hL6, q6, rfl, hA6⟩ := h6'
          exact nm_r hc6 (sf_Y_fs3 hZ hM6 hL6 hA6 he hp)
  | succ d ih =>
    intro k s q e3 hM hL hA hp
    rw [sf_yl, sf_y1] at hp
    have hx : (nI i * 3) + nI k = nI (3 * i + k) := by
      show (nI i * nI 3) + nI k = _
      rw [pk_mul, nI_add]
      all_goals exact congrArg nI (by omega)
    have hi : vp_in (nI (3 * i + k)) 51 := vp_in_nI (by omega) (by decide)
    have hc : (nI (3 * i + k)).toNatClampNeg = 3 * i + k := nI_clamp (by omega)
    obtain ⟨b, b1, b2⟩ := (hM.2.1.2.1 (3 * i + k) (by omega)).1
    refine br_f (nI_ge (b := 3) (by omega) (by decide)) ?_
    rw [hx, hc]
    refine And.intro hi (nm_r b2 ?_)
    rw [b2] at hp
    by_cases c : nI b = 0
    · rw [if_pos c] at hp
      exact br_t c (nm_r (nI_1 k) (ih (k + 1) s q (by omega) hM hL hA hp))
    · rw [if_neg c, nI_clamp (show b < 2 ^ 31 by omega)] at hp
      refine br_f c ?_
      rw [nI_add, nI_add]
      refine sf_Y_wdM (g := s.2.1) (l := s.2.2) hZ ⟨hL, q, rfl, hA⟩ hM (by omega) (fun u1 h1 => ?_)
      obtain ⟨hL1, q1, rfl, hA1⟩ := h1
      exact nm_r (nI_add _ _) (nm_r (nI_1 k) (ih (k + 1) (sf_w1 ib db nd (ib + db + b) s) q1 (by omega) (sf_M_w1 hZ hM (by omega)) hL1 hA1 hp))
theorem sf_Y_fsync {post : Int32 → SY → Prop} {u : SY} (hZ : sf_Z ib db nd lim) (h : sf_Y ib db nd lim g l u) (hM : ¬ g 21 0 = 0 → sf_M ib db nd g l) (x : Int32) (hp : ∀ u', sf_Y ib db nd lim (sf_fsv ib db nd g l x).2.1 (sf_fsv ib db nd g l x).2.2 u' → post (sf_fsv ib db nd g l x).1 u') : wpY_fsync post u x := by
  obtain ⟨hL, q, rfl, hA⟩ := h
  have z := hZ
  obtain ⟨z1, z2, z3, z4, z5, z6, -⟩ := z
  rw [sf_fsv] at hp
  by_cases hm : g 21 0 = 0
  · rw [if_pos hm] at hp
    exact br_t hm (hp _ ⟨hL, q, rfl, hA⟩)
  · rw [if_neg hm] at hp
    have hM := hM hm
    refine br_f hm (sf_Y_bad _ ?_)
    cases hb : sf_bad x with
    | true =>
      rw [hb, if_pos rfl] at hp
      exact br_f (by decide) (hp _ ⟨hL, q, rfl, hA⟩)
    | false =>
      rw [hb, if_neg Bool.false_ne_true] at hp
      refine br_t (by decide) (sf_Y_findName hZ ⟨hL, q, rfl, hA⟩ _ ?_)
      rcases sf_fn_cases db g x with hf | ⟨e, he, hf, hx⟩
      · rw [hf, if_pos rfl] at hp
        rw [hf]
        exact br_t rfl (hp _ ⟨hL, q, rfl, hA⟩)
      · obtain ⟨j, j1, hj⟩ := (hM.2.2.2.2.2.1 e he).1
        have j0 : 1 ≤ j := by
          apply Classical.byContradiction
          intro k
          have j0 : j = 0 := by omega
          subst j0
          have := (hM.2.1.1.1 e he).mpr hj
          rw [this] at hx
          rw [← hx] at hb
          exact absurd hb (by decide)
        rw [hf, if_neg (sf_nI_m1 (by omega)), nI_clamp (show e < 2 ^ 31 by omega), hj, nI_clamp (show j < 2 ^ 31 by omega)] at hp
        rw [hf]
        refine br_f (sf_nI_m1 (by omega)) (And.intro (vp_in_nI (by omega) (by decide)) (nm_r (e' := nI j) (by rw [nI_clamp (show e < 2 ^ 31 by omega)]; exact hj) ?_))
        refine sf_Y_wdM (b := 0) hZ ⟨hL, q, rfl, hA⟩ hM (by omega) (fun u1 h1 => ?_)
        obtain ⟨hL1, q1, rfl, hA1⟩ := h1
        have k := sf_Y_fsl (post := post) hZ x he j0 j1 3 0 (sf_w1 ib db nd 0 (0, g, l)) q1 rfl (sf_M_w1 hZ (s := (0, g, l)) hM (by omega)) hL1 hA1 hp
        refine Exists.intro 4 ?_
        have e0 : nI (sf_w1 ib db nd 0 (0, g, l)).1 = nI (sf_xn g 0) := congrArg nI (Nat.zero_add _)
        rw [e0] at k
        exact k
end
end
section
/-! flush, sweep, fsync: the owed statements -/
theorem sf_MU {ib db nd : Nat} {g : sf_G} {l : List sf_R} (h : sf_M ib db nd g l ∨ sf_U ib db nd g l) (hm : ¬ g 21 0 = 0) : sf_M ib db nd g l := by
  rcases h with h | h
  · exact h
  · exact absurd h.1 hm
theorem i_vc_flush {k : Nat} {u : SX} {v : SY} (I : i_Rel k u v) (hk : k + 4 ≤ 2052) (v1 : Int32) : wpX_flush (fun r u' => wpY_flush (fun r' v' => r' = r ∧ i_Rel (k + 4) u' v') v v1) u v1 := by
  obtain ⟨ib, db, nd, lim, g, l, hZ, hX, hY, hI⟩ := I
  have hI' : sf_M ib db nd (sf_flv ib db nd g l v1).2.1 (sf_flv ib db nd g l v1).2.2 ∨ sf_U ib db nd (sf_flv ib db nd g l v1).2.1 (sf_flv ib db nd g l v1).2.2 := by
    rw [sf_flv]
    by_cases hm : g 21 0 = 0
    · rw [if_pos hm]; exact hI
    · rw [if_neg hm]
      by_cases c1 : v1 < 0
      · rw [if_pos c1]; exact hI
      · rw [if_neg c1]
        by_cases c2 : v1 < nI (1 + ib + db + nd)
        · rw [if_pos c2]
          by_cases c3 : g 20 v1.toNatClampNeg = 0
          · rw [if_pos c3]; exact hI
          · rw [if_neg c3]
            have z := hZ
            obtain ⟨z1, z2, z3, z4, z5, z6, -⟩ := z
            obtain ⟨j, j1, rfl⟩ := nI_of c1
            rw [nI_ltI j1 (by omega)] at c2
            rw [nI_clamp j1]
            exact Or.inl (sf_M_wb hZ (sf_MU hI hm) c2).1
        · rw [if_neg c2]; exact hI
  exact sf_X_flush hZ hX (sf_MU hI) _ (fun u' hu' => sf_Y_flush hZ hY (sf_MU hI) _ (fun v' hv' => ⟨rfl, ib, db, nd, lim, _, _, hZ, hu', hv', hI'⟩))
theorem i_vc_sweep {k : Nat} {u : SX} {v : SY} (I : i_Rel k u v) (hk : k + 4 ≤ 2052) (v1 : Int32) : wpX_sweep (fun r u' => wpY_sweep (fun r' v' => r' = r ∧ i_Rel (k + 4) u' v') v (lw_bz v1)) u (lw_bz v1) := by
  obtain ⟨ib, db, nd, lim, g, l, hZ, hX, hY, hI⟩ := I
  have hI' : sf_M ib db nd (sf_swv ib db nd g l (lw_bz v1)).2.1 (sf_swv ib db nd g l (lw_bz v1)).2.2 ∨ sf_U ib db nd (sf_swv ib db nd g l (lw_bz v1)).2.1 (sf_swv ib db nd g l (lw_bz v1)).2.2 := by
    rw [sf_swv]
    by_cases hm : g 21 0 = 0
    · rw [if_pos hm]; exact hI
    · rw [if_neg hm]
      exact Or.inl (sf_M_sw hZ _ _ 0 (0, g, l) (by omega) (sf_MU hI hm))
  exact sf_X_sweep hZ hX (sf_MU hI) _ (fun u' hu' => sf_Y_sweep hZ hY (sf_MU hI) _ (fun v' hv' => ⟨rfl, ib, db, nd, lim, _, _, hZ, hu', hv', hI'⟩))
/-- a found name has an inode -/
theorem sf_found {ib db nd lim : Nat} {g : sf_G} {l : List sf_R} {x : Int32} {e : Nat} (hZ : sf_Z ib db nd lim) (hM : sf_M ib db nd g l) (hb : sf_bad x = false) (he : e < 4 * db) (hx : g 6 e = x) : ∃ j, 1 ≤ j ∧ j ≤ 4 * ib ∧ g 7 e = nI j := by
  obtain ⟨j, j1, hj⟩ := (hM.2.2.2.2.2.1 e he).1
  refine ⟨j, ?_, j1, hj⟩
  apply Classical.byContradiction
  intro k
  have j0 : j = 0 := by omega
  subst j0
  have := (hM.2.1.1.1 e he).mpr hj
  rw [this] at hx
  rw [← hx] at hb
  exact absurd hb (by decide)
theorem sf_M_fsy {ib db nd lim : Nat} {g : sf_G} {l : List sf_R} (hZ : sf_Z ib db nd lim) (hM : sf_M ib db nd g l) {e i : Nat} (he : e < 4 * db) (i1 : 1 ≤ i) (i2 : i ≤ 4 * ib) (x : Int32) : sf_M ib db nd (sf_fsy ib db nd g l x e i).2.1 (sf_fsy ib db nd g l x e i).2.2 := by
  have z := hZ
  obtain ⟨z1, z2, z3, z4, z5, z6, -⟩ := z
  have h1 : sf_M ib db nd (sf_w1 ib db nd 0 (0, g, l)).2.1 (sf_w1 ib db nd 0 (0, g, l)).2.2 := sf_M_w1 hZ (s := (0, g, l)) hM (by omega)
  have h2 := sf_M_yl hZ (i := i) (by omega) 3 0 (sf_w1 ib db nd 0 (0, g, l)) (by omega) h1
  rw [sf_fsy]
  exact sf_M_y3 hZ h2 he i1 i2 x
theorem i_vc_fsync {k : Nat} {u : SX} {v : SY} (I : i_Rel k u v) (hk : k + 4 ≤ 2052) (v1 : Int32) : wpX_fsync (fun r u' => wpY_fsync (fun r' v' => r' = r ∧ i_Rel (k + 4) u' v') v v1) u v1 := by
  obtain ⟨ib, db, nd, lim, g, l, hZ, hX, hY, hI⟩ := I
  have hI' : sf_M ib db nd (sf_fsv ib db nd g l v1).2.1 (sf_fsv ib db nd g l v1).2.2 ∨ sf_U ib db nd (sf_fsv ib db nd g l v1).2.1 (sf_fsv ib db nd g l v1).2.2 := by
    rw [sf_fsv]
    by_cases hm : g 21 0 = 0
    · rw [if_pos hm]; exact hI
    · rw [if_neg hm]
      have hM := sf_MU hI hm
      cases hb : sf_bad v1 with
      | true => rw [if_pos rfl]; exact hI
      | false =>
        rw [if_neg Bool.false_ne_true]
        rcases sf_fn_cases db g v1 with hf | ⟨e, he, hf, hx⟩
        · rw [if_pos hf]; exact hI
        · obtain ⟨j, j1, j2, hj⟩ := sf_found hZ hM hb he hx
          have z := hZ
          obtain ⟨z1, z2, z3, z4, z5, z6, -⟩ := z
          rw [hf, if_neg (sf_nI_m1 (by omega)), nI_clamp (show e < 2 ^ 31 by omega), hj, nI_clamp (show j < 2 ^ 31 by omega)]
          exact Or.inl (sf_M_fsy hZ hM he j1 j2 v1)
  exact sf_X_fsync hZ hX (sf_MU hI) _ (fun u' hu' => sf_Y_fsync hZ hY (sf_MU hI) _ (fun v' hv' => ⟨rfl, ib, db, nd, lim, _, _, hZ, hu', hv', hI'⟩))
end
section
/-! dropping pointers, reclaiming an inode -/
theorem sf_ep_at {P : sf_R → Bool} {A B : List sf_R} {r : sf_R} (hr : P r = true) (hA : ∀ a, a ∈ A → P a = false) : (A ++ r :: B).eraseP P = A ++ B := by
  induction A with
  | nil => exact List.eraseP_cons_of_pos hr
  | cons a A ih =>
    rw [List.cons_append, List.eraseP_cons_of_neg (by rw [hA a (by simp)]; exact Bool.false_ne_true), ih (fun x hx => hA x (List.mem_cons_of_mem _ hx))]
    rfl
theorem sf_ep_no {P : sf_R → Bool} {l : List sf_R} (h : ∀ r, r ∈ l → P r = false) : l.eraseP P = l := by
  induction l with
  | nil => rfl
  | cons a l ih => rw [List.eraseP_cons_of_neg (by rw [h a (by simp)]; exact Bool.false_ne_true), ih (fun x hx => h x (List.mem_cons_of_mem _ hx))]
def sf_d1 (i k : Nat) (s : sf_G × List sf_R) : sf_G × List sf_R := if s.1 2 (3 * i + k) = 0 then s else (sf_up s.1 2 (3 * i + k) 0, s.2.eraseP (sf_isAl (nI i) (nI k)) ++ [(5, if s.2.any (sf_isAl (nI i) (nI k)) then 0 else 4, -1, nI i, s.1 2 (3 * i + k), nI k)])
def sf_dk (i : Nat) : Nat → Nat → sf_G × List sf_R → sf_G × List sf_R
  | 0, _, s => s
  | d + 1, k, s => sf_dk i d (k + 1) (sf_d1 i k s)
def sf_rc (i : Nat) (s : sf_G × List sf_R) : sf_G × List sf_R := (sf_dI (sf_up (sf_up (sf_dk i 3 0 s).1 0 i 0) 1 i 0) i, (sf_dk i 3 0 s).2.eraseP (sf_isInit (nI i)) ++ [(6, 4, -1, nI i, 0, -1)])
theorem sf_nz_0 {a : Nat → Int32} {x : Nat} (hx : x < 51) (h : ¬ a x = 0) : sf_nz (upd a x 0) + 1 = sf_nz a := by
  have u := sf_ct_upd (P := fun j => !decide (upd a x 0 j = 0)) (Q := fun j => !decide (a j = 0)) (e := x) 51 0 (by omega) (by omega) (fun j _ _ k => by simp only [upd, if_neg k])
  have e1 : (!decide (upd a x 0 x = 0)) = false := by simp [upd]
  have e2 : (!decide (a x = 0)) = true := by simp [h]
  rw [e1, e2] at u
  rw [if_pos rfl, if_neg Bool.false_ne_true] at u
  rw [sf_nz, sf_nz]
  omega
theorem sf_nz_le {a : Nat → Int32} {x : Nat} {v : Int32} (hx : x < 51) : sf_nz (upd a x v) ≤ sf_nz a + 1 := by
  have u := sf_ct_upd (P := fun j => !decide (upd a x v j = 0)) (Q := fun j => !decide (a j = 0)) (e := x) 51 0 (by omega) (by omega) (fun j _ _ k => by simp only [upd, if_neg k])
  rw [sf_nz, sf_nz]
  have e1 : (if (!decide (upd a x v x = 0)) = true then 1 else 0) ≤ 1 := by split <;> omega
  omega
theorem sf_nz_51 (a : Nat → Int32) : sf_nz a ≤ 51 := sf_ct_le _ _ _
theorem sf_ep_len {P : sf_R → Bool} {l : List sf_R} : (l.eraseP P).length ≤ l.length := by
  rcases sf_fi_cases P l with h | ⟨A, r, B, rfl, hr, hA⟩
  · rw [sf_ep_no h]; exact Nat.le_refl _
  · rw [sf_ep_at hr hA]; simp
theorem sf_d1_len {i k : Nat} {s : sf_G × List sf_R} (h : 3 * i + k < 51) : (sf_d1 i k s).2.length + sf_nz ((sf_d1 i k s).1 2) ≤ s.2.length + sf_nz (s.1 2) := by
  by_cases c : s.1 2 (3 * i + k) = 0
  · rw [sf_d1, if_pos c]
    exact Nat.le_refl _
  · have e := sf_nz_0 h c
    have e2 := sf_ep_len (P := sf_isAl (nI i) (nI k)) (l := s.2)
    have e3 : sf_up s.1 2 (3 * i + k) 0 2 = upd (s.1 2) (3 * i + k) 0 := rfl
    rw [sf_d1, if_neg c]
    dsimp only
    rw [e3, List.length_append, List.length_singleton]
    omega
theorem sf_dk_len {i : Nat} (hi : i ≤ 16) : ∀ d k (s : sf_G × List sf_R), k + d ≤ 3 → (sf_dk i d k s).2.length + sf_nz ((sf_dk i d k s).1 2) ≤ s.2.length + sf_nz (s.1 2) := by
  intro d
  induction d with
  | zero => intro k s _; exact Nat.le_refl _
  | succ d ih =>
    intro k s e
    exact Nat.le_trans (ih (k + 1) (sf_d1 i k s) (by omega)) (sf_d1_len (by omega))
section
variable {ib db nd lim : Nat} {g : sf_G} {l A B : List sf_R} {r : sf_R}
theorem sf_X_dk {post : SX → Prop} {i : Nat} (hi : i ≤ 16) : ∀ d k (s : sf_G × List sf_R) (q : sf_G), k + d = 3 → s.2.length ≤ 128 → s.2.length + sf_nz (s.1 2) ≤ 120 → sf_A s.2 q → (∀ u', sf_X ib db nd lim (sf_dk i d k s).1 (sf_dk i d k s).2 u' → post u') → wX_dropPointers_2 post (nI i) (d + 1) (nI k) (nI ib) (nI db) (nI (4 * ib)) (nI (4 * db)) (nI nd) (nI (1 + ib + db + nd)) (nI lim) (nI (s.2.length)) ((s.1) 21 0) ((s.1) 22 0) ((s.1) 23 0) ((s.1) 0) ((s.1) 1) ((s.1) 2) ((s.1) 3) ((s.1) 4) ((s.1) 5) ((s.1) 6) ((s.1) 7) ((s.1) 8) ((s.1) 9) ((s.1) 10) ((s.1) 11) ((s.1) 12) ((s.1) 13) ((s.1) 14) ((s.1) 15) ((s.1) 16) ((s.1) 17) ((s.1) 18) ((s.1) 19) ((s.1) 20) (q 0) (q 1) (q 2) (q 3) (q 4) (q 5) := by
  intro d
  induction d with
  | zero =>
    intro k s q e hL hN hA hp
    have e3 : k = 3 := by omega
    subst e3
    exact br_t (by decide) (hp _ ⟨hL, q, rfl, hA⟩)
  | succ d ih =>
    intro k s q e hL hN hA hp
    have hx : ((3 : Int32) * nI i) + nI k = nI (3 * i + k) := by
      show (nI 3 * nI i) + nI k = _
      rw [pk_mul, nI_add]
    have hv : vp_in (nI (3 * i + k)) 51 := vp_in_nI (by omega) (by decide)
    have hc : (nI (3 * i + k)).toNatClampNeg = 3 * i + k := nI_clamp (by omega)
    have hN' := sf_d1_len (i := i) (k := k) (s := s) (by omega)
    rw [sf_dk] at hp
    refine br_f (nI_ge (b := 3) (by omega) (by decide)) ?_
    rw [hx, hc]
    refine And.intro hv (nm_e ?_)
    by_cases c : s.1 2 (3 * i + k) = 0
    · have e1 : sf_d1 i k s = s := by rw [sf_d1, if_pos c]
      rw [e1] at hp
      exact br_t c (nm_r (nI_1 k) (ih (k + 1) s q (by omega) hL hN hA hp))
    · have hnz := sf_nz_0 (a := s.1 2) (x := 3 * i + k) (by omega) c
      have e1 : sf_d1 i k s = (sf_up s.1 2 (3 * i + k) 0, s.2.eraseP (sf_isAl (nI i) (nI k)) ++ [(5, if s.2.any (sf_isAl (nI i) (nI k)) then 0 else 4, -1, nI i, s.1 2 (3 * i + k), nI k)]) := by rw [sf_d1, if_neg c]
      rw [e1] at hp hN'
      refine br_f c (sf_X_findAlloc (g := s.1) (l := s.2) ⟨hL, q, rfl, hA⟩ _ _ ?_)
      rcases sf_fi_cases (sf_isAl (nI i) (nI k)) s.2 with hno | ⟨A, r, B, hl, hr, hA'⟩
      · rw [sf_fi_none hno]
        rw [sf_ep_no hno, sf_any_none hno] at hp hN'
        refine br_t rfl (sf_X_append (g := s.1) (l := s.2) ⟨hL, q, rfl, hA⟩ (by omega) _ _ _ _ _ _ (fun u1 h1 => ?_))
        obtain ⟨hL1, q1, rfl, hA1⟩ := h1
        refine And.intro (by rw [hx]; exact hv) (nm_r (e' := upd (s.1 2) (3 * i + k) 0) (by rw [hx, hc]) (nm_r (nI_1 k) ?_))
        exact ih (k + 1) (sf_up s.1 2 (3 * i + k) 0, s.2 ++ [(5, 4, -1, nI i, s.1 2 (3 * i + k), nI k)]) q1 (by omega) hL1 (Nat.le_trans hN' hN) hA1 hp
      · have hlen : s.2.length = A.length + B.length + 1 := by rw [hl]; simp; omega
        rw [hl, sf_fi_at hr hA']
        rw [hl, sf_ep_at hr hA', sf_any_at hr] at hp hN'
        have hA2 : sf_A (A ++ r :: B) q := by rw [← hl]; exact hA
        refine br_f (sf_nI_m1 (by omega)) (sf_X_del (g := s.1) (A := A) (r := r) (B := B) ⟨by rw [← hl]; exact hL, q, by rw [← hl]; rfl, hA2⟩ (fun u1 h1 => ?_))
        obtain ⟨hL1, q1, rfl, hA1⟩ := h1
        refine sf_X_append (g := s.1) (l := A ++ B) ⟨hL1, q1, rfl, hA1⟩ (by simp; omega) _ _ _ _ _ _ (fun u2 h2 => ?_)
        obtain ⟨hL2, q2, rfl, hA2⟩ := h2
        refine And.intro (by rw [hx]; exact hv) (nm_r (e' := upd (s.1 2) (3 * i + k) 0) (by rw [hx, hc]) (nm_r (nI_1 k) ?_))
        exact ih (k + 1) (sf_up s.1 2 (3 * i + k) 0, A ++ B ++ [(5, 0, -1, nI i, s.1 2 (3 * i + k), nI k)]) q2 (by omega) hL2 (by rw [← hl] at hN'; exact Nat.le_trans hN' hN) hA2 hp
theorem sf_X_drops {post : SX → Prop} {u : SX} (h : sf_X ib db nd lim g l u) {i k : Nat} (hi : i ≤ 16) (hk : k ≤ 3) (hN : l.length + sf_nz (g 2) ≤ 120) (hp : ∀ u', sf_X ib db nd lim (sf_dk i (3 - k) k (g, l)).1 (sf_dk i (3 - k) k (g, l)).2 u' → post u') : wpX_dropPointers post u (nI i) (nI k) := by
  obtain ⟨hL, q, rfl, hA⟩ := h
  exact Exists.intro (3 - k + 1) (sf_X_dk hi (3 - k) k (g, l) q (by omega) hL hN hA hp)
theorem sf_Y_drop1 {post : SY → Prop} {u : SY} (h : sf_Y ib db nd lim g l u) {i k : Nat} (hi : i ≤ 16) (hk : k < 3) (hN : l.length + sf_nz (g 2) ≤ 120) (c : ¬ g 2 (3 * i + k) = 0) (hp : ∀ u', sf_Y ib db nd lim (sf_d1 i k (g, l)).1 (sf_d1 i k (g, l)).2 u' → post u') : wpY_dropPointer post u (nI i) (nI k) := by
  obtain ⟨hL, q, rfl, hA⟩ := h
  have hx : (nI i * 3) + nI k = nI (3 * i + k) := by
    show (nI i * nI 3) + nI k = _
    rw [pk_mul, nI_add]
    exact congrArg nI (by omega)
  have hv : vp_in (nI (3 * i + k)) 51 := vp_in_nI (by omega) (by decide)
  have hc : (nI (3 * i + k)).toNatClampNeg = 3 * i + k := nI_clamp (by omega)
  have hnz := sf_nz_0 (a := g 2) (x := 3 * i + k) (by omega) c
  rw [sf_d1, if_neg c] at hp
  refine And.intro (by rw [hx]; exact hv) (nm_r (e' := g 2 (3 * i + k)) (by rw [hx, hc]) (sf_Y_findAlloc ⟨hL, q, rfl, hA⟩ _ _ ?_))
  have tail : ∀ (l2 : List sf_R) (u : SY), sf_Y ib db nd lim g l2 u → (∀ u', sf_Y ib db nd lim (sf_up g 2 (3 * i + k) 0) l2 u' → post u') → (match u with | (f1, f2, f3, f4, f5, f6, f7, f8, f9, f10, f11, b1, b2, b3, b4, b5, b6, b7, b8, b9, b10, b11, b12, b13, b14, b15, b16, b17, b18, b19, b20, b21, b22, b23, b24, b25, b26, b27) => wY_dropPointer_54 post (nI i) (nI k) f1 f2 f3 f4 f5 f6 f7 f8 f9 f10 f11 b1 b2 b3 b4 b5 b6 b7 b8 b9 b10 b11 b12 b13 b14 b15 b16 b17 b18 b19 b20 b21 b22 b23 b24 b25 b26 b27) := by
    intro l2 u h2 hp2
    obtain ⟨hL2, q2, rfl, hA2⟩ := h2
    exact And.intro (by rw [hx]; exact hv) (nm_r (e' := upd (g 2) (3 * i + k) 0) (by rw [hx, hc]) (hp2 _ ⟨hL2, q2, rfl, hA2⟩))
  rcases sf_fi_cases (sf_isAl (nI i) (nI k)) l with hno | ⟨A, r, B, hl, hr, hA'⟩
  · rw [sf_fi_none hno]
    dsimp only at hp
    rw [sf_ep_no hno, sf_any_none hno] at hp
    exact br_t rfl (sf_Y_append ⟨hL, q, rfl, hA⟩ (by omega) _ _ _ _ _ _ (fun u1 h1 => tail _ u1 h1 hp))
  · subst hl
    rw [sf_fi_at hr hA']
    dsimp only at hp
    rw [sf_ep_at hr hA', sf_any_at hr] at hp
    have hlen : A.length < (A ++ r :: B).length := by simp
    refine br_f (sf_nI_m1 (by omega)) (sf_Y_del ⟨hL, q, rfl, hA⟩ (fun u1 h1 => ?_))
    obtain ⟨hL1, q1, rfl, hA1⟩ := h1
    exact sf_Y_append ⟨hL1, q1, rfl, hA1⟩ (by simp at hL ⊢; omega) _ _ _ _ _ _ (fun u2 h2 => tail _ u2 h2 hp)
theorem sf_X_rc2 {post : SX → Prop} {q : sf_G} {i : Nat} (i1 : 1 ≤ i) (i2 : i ≤ 16) (hL : l.length < 128) (hA : sf_A l q) (hp : ∀ u', sf_X ib db nd lim (sf_dI (sf_up (sf_up g 0 i 0) 1 i 0) i) (l ++ [(6, 4, -1, nI i, 0, -1)]) u' → post u') : wX_reclaim_22 post (nI i) (nI ib) (nI db) (nI (4 * ib)) (nI (4 * db)) (nI nd) (nI (1 + ib + db + nd)) (nI lim) (nI (l.length)) (g 21 0) (g 22 0) (g 23 0) (g 0) (g 1) (g 2) (g 3) (g 4) (g 5) (g 6) (g 7) (g 8) (g 9) (g 10) (g 11) (g 12) (g 13) (g 14) (g 15) (g 16) (g 17) (g 18) (g 19) (g 20) (q 0) (q 1) (q 2) (q 3) (q 4) (q 5) := by
  have hv : vp_in (nI i) 17 := vp_in_nI (by omega) (by decide)
  have hc : (nI i).toNatClampNeg = i := nI_clamp (by omega)
  refine And.intro hv (nm_r (e' := upd (g 0) i 0) (by rw [hc]) (And.intro hv (nm_r (e' := upd (g 1) i 0) (by rw [hc]) ?_)))
  exact sf_X_append (g := sf_up (sf_up g 0 i 0) 1 i 0) (l := l) ⟨by omega, q, rfl, hA⟩ hL _ _ _ _ _ _ (fun u1 h1 => sf_X_dirtyInode h1 i1 i2 hp)
theorem sf_Y_rc2 {post : SY → Prop} {q : sf_G} {i : Nat} (i1 : 1 ≤ i) (i2 : i ≤ 16) (hL : l.length < 128) (hA : sf_A l q) (hp : ∀ u', sf_Y ib db nd lim (sf_dI (sf_up (sf_up g 0 i 0) 1 i 0) i) (l ++ [(6, 4, -1, nI i, 0, -1)]) u' → post u') : wY_reclaim_48 post (nI i) (nI ib) (nI db) (nI nd) (nI lim) (nI (4 * ib)) (nI (4 * db)) (nI (1 + ib + db + nd)) (nI (l.length)) (g 21 0) (g 22 0) (g 23 0) (g 0) (g 1) (g 2) (g 16) (g 18) (g 12) (g 13) (g 6) (g 7) (g 3) (g 4) (g 5) (g 17) (g 19) (g 14) (g 15) (g 8) (g 9) (g 10) (g 11) (g 20) (q 0) (q 1) (q 2) (q 3) (q 4) (q 5) := by
  have hv : vp_in (nI i) 17 := vp_in_nI (by omega) (by decide)
  have hc : (nI i).toNatClampNeg = i := nI_clamp (by omega)
  refine And.intro hv (nm_r (e' := upd (g 0) i 0) (by rw [hc]) (And.intro hv (nm_r (e' := upd (g 1) i 0) (by rw [hc]) ?_)))
  exact sf_Y_append (g := sf_up (sf_up g 0 i 0) 1 i 0) (l := l) ⟨by omega, q, rfl, hA⟩ hL _ _ _ _ _ _ (fun u1 h1 => sf_Y_dirtyInode h1 i1 i2 hp)
theorem sf_X_reclaim {post : SX → Prop} {u : SX} (h : sf_X ib db nd lim g l u) {i : Nat} (i1 : 1 ≤ i) (i2 : i ≤ 16) (hN : l.length + sf_nz (g 2) ≤ 120) (hp : ∀ u', sf_X ib db nd lim (sf_rc i (g, l)).1 (sf_rc i (g, l)).2 u' → post u') : wpX_reclaim post u (nI i) := by
  have hlen : (sf_dk i 3 0 (g, l)).2.length + sf_nz ((sf_dk i 3 0 (g, l)).1 2) ≤ l.length + sf_nz (g 2) := sf_dk_len i2 3 0 (g, l) (by omega)
  rw [sf_rc] at hp
  obtain ⟨hL, q, rfl, hA⟩ := h
  refine sf_X_drops (k := 0) ⟨hL, q, rfl, hA⟩ i2 (by omega) hN (fun u1 h1 => ?_)
  have h1' : sf_X ib db nd lim (sf_dk i 3 0 (g, l)).1 (sf_dk i 3 0 (g, l)).2 u1 := h1
  clear h1
  generalize sf_dk i 3 0 (g, l) = s at hp h1' hlen
  have hl2 : s.2.length ≤ 120 := by omega
  obtain ⟨hL1, q1, rfl, hA1⟩ := h1'
  refine sf_X_findInit (g := s.1) (l := s.2) ⟨hL1, q1, rfl, hA1⟩ _ ?_
  rcases sf_fi_cases (sf_isInit (nI i)) s.2 with hno | ⟨A, r, B, hl, hr, hA'⟩
  · rw [sf_fi_none hno]
    rw [sf_ep_no hno] at hp
    exact br_t rfl (sf_X_rc2 i1 i2 (by omega) hA1 hp)
  · rw [hl, sf_fi_at hr hA']
    rw [hl, sf_ep_at hr hA'] at hp
    have hlen2 : s.2.length = A.length + B.length + 1 := by rw [hl]; simp; omega
    refine br_f (sf_nI_m1 (by omega)) (sf_X_del (g := s.1) (A := A) (r := r) (B := B) ⟨by rw [← hl]; exact hL1, q1, by rw [← hl]; rfl, by rw [← hl]; exact hA1⟩ (fun u2 h2 => ?_))
    obtain ⟨hL2, q2, rfl, hA2⟩ := h2
    exact sf_X_rc2 i1 i2 (by simp; omega) hA2 hp
theorem sf_Y_reclaim {post : SY → Prop} {u : SY} (h : sf_Y ib db nd lim g l u) {i : Nat} (i1 : 1 ≤ i) (i2 : i ≤ 16) (hN : l.length + sf_nz (g 2) ≤ 120) (hp : ∀ u', sf_Y ib db nd lim (sf_rc i (g, l)).1 (sf_rc i (g, l)).2 u' → post u') : wpY_reclaim post u (nI i) := by
  obtain ⟨hL, q, rfl, hA⟩ := h
  rw [sf_rc] at hp
  have key : ∀ d k (s : sf_G × List sf_R) (q : sf_G), k + d = 3 → s.2.length ≤ 128 → s.2.length + sf_nz (s.1 2) ≤ 120 → sf_A s.2 q → (∀ u', sf_Y ib db nd lim (sf_dI (sf_up (sf_up (sf_dk i d k s).1 0 i 0) 1 i 0) i) ((sf_dk i d k s).2.eraseP (sf_isInit (nI i)) ++ [(6, 4, -1, nI i, 0, -1)]) u' → post u') → wY_reclaim_2 post (nI i) (d + 1) (nI k) (nI ib) (nI db) (nI nd) (nI lim) (nI (4 * ib)) (nI (4 * db)) (nI (1 + ib + db + nd)) (nI (s.2.length)) ((s.1) 21 0) ((s.1) 22 0) ((s.1) 23 0) ((s.1) 0) ((s.1) 1) ((s.1) 2) ((s.1) 16) ((s.1) 18) ((s.1) 12) ((s.1) 13) ((s.1) 6) ((s.1) 7) ((s.1) 3) ((s.1) 4) ((s.1) 5) ((s.1) 17) ((s.1) 19) ((s.1) 14) ((s.1) 15) ((s.1) 8) ((s.1) 9) ((s.1) 10) ((s.1) 11) ((s.1) 20) (q 0) (q 1) (q 2) (q 3) (q 4) (q 5) := by
    intro d
    induction d with
    | zero =>
      intro k s q e hL hN hA hp
      have e3 : k = 3 := by omega
      subst e3
      rw [sf_dk] at hp
      refine br_t (by decide) (sf_Y_findInit (g := s.1) (l := s.2) ⟨hL, q, rfl, hA⟩ _ ?_)
      rcases sf_fi_cases (sf_isInit (nI i)) s.2 with hno | ⟨A, r, B, hl, hr, hA'⟩
      · rw [sf_fi_none hno]
        rw [sf_ep_no hno] at hp
        exact br_t rfl (sf_Y_rc2 i1 i2 (by omega) hA hp)
      · rw [hl, sf_fi_at hr hA']
        rw [hl, sf_ep_at hr hA'] at hp
        have hlen2 : s.2.length = A.length + B.length + 1 := by rw [hl]; simp; omega
        refine br_f (sf_nI_m1 (by omega)) (sf_Y_del (g := s.1) (A := A) (r := r) (B := B) ⟨by rw [← hl]; exact hL, q, by rw [← hl]; rfl, by rw [← hl]; exact hA⟩ (fun u2 h2 => ?_))
        obtain ⟨hL2, q2, rfl, hA2⟩ := h2
        exact sf_Y_rc2 i1 i2 (by simp; omega) hA2 hp
    | succ d ih =>
      intro k s q e hL hN hA hp
      have hx : (nI i * 3) + nI k = nI (3 * i + k) := by
        show (nI i * nI 3) + nI k = _
        rw [pk_mul, nI_add]
        exact congrArg nI (by omega)
      have hv : vp_in (nI (3 * i + k)) 51 := vp_in_nI (by omega) (by decide)
      have hc : (nI (3 * i + k)).toNatClampNeg = 3 * i + k := nI_clamp (by omega)
      have hN' := sf_d1_len (i := i) (k := k) (s := s) (by omega)
      rw [sf_dk] at hp
      refine br_f (nI_ge (b := 3) (by omega) (by decide)) ?_
      rw [hx, hc]
      refine And.intro hv ?_
      by_cases c : s.1 2 (3 * i + k) = 0
      · have e1 : sf_d1 i k s = s := by rw [sf_d1, if_pos c]
        rw [e1] at hp
        exact br_t c (nm_r (nI_1 k) (ih (k + 1) s q (by omega) hL hN hA hp))
      · refine br_f c (sf_Y_drop1 (g := s.1) (l := s.2) ⟨hL, q, rfl, hA⟩ i2 (by omega) hN c (fun u1 h1 => ?_))
        obtain ⟨hL1, q1, rfl, hA1⟩ := h1
        exact nm_r (nI_1 k) (ih (k + 1) (sf_d1 i k s) q1 (by omega) hL1 (Nat.le_trans hN' hN) hA1 hp)
  exact Exists.intro 4 (key 3 0 (g, l) q rfl hL hN hA hp)
end
end
section
/-! reclaiming keeps the invariant -/
theorem sf_d1_fr {i k f : Nat} {s : sf_G × List sf_R} (h : f ≠ 2) : (sf_d1 i k s).1 f = s.1 f := by
  rw [sf_d1]
  split
  · rfl
  · simp only [sf_up, sf_st, if_neg h]
theorem sf_dk_fr {i f : Nat} (h : f ≠ 2) : ∀ d k (s : sf_G × List sf_R), (sf_dk i d k s).1 f = s.1 f := by
  intro d
  induction d with
  | zero => intro k s; rfl
  | succ d ih => intro k s; rw [sf_dk, ih, sf_d1_fr h]
theorem sf_d1_2 {i k x : Nat} {s : sf_G × List sf_R} : (sf_d1 i k s).1 2 x = if x = 3 * i + k then 0 else s.1 2 x := by
  rw [sf_d1]
  by_cases c : s.1 2 (3 * i + k) = 0
  · rw [if_pos c]
    split
    · rename_i e; rw [e, c]
    · rfl
  · rw [if_neg c]
    rfl
theorem sf_dk_2 {i x : Nat} : ∀ d k (s : sf_G × List sf_R), (sf_dk i d k s).1 2 x = if 3 * i + k ≤ x ∧ x < 3 * i + k + d then 0 else s.1 2 x := by
  intro d
  induction d with
  | zero => intro k s; rw [sf_dk, if_neg (by omega)]
  | succ d ih =>
    intro k s
    rw [sf_dk, ih, sf_d1_2]
    by_cases c1 : 3 * i + (k + 1) ≤ x ∧ x < 3 * i + (k + 1) + d
    · rw [if_pos c1, if_pos (by omega)]
    · rw [if_neg c1]
      by_cases c2 : x = 3 * i + k
      · rw [if_pos c2, if_pos (by omega)]
      · rw [if_neg c2, if_neg (by omega)]
theorem sf_ep_mem {P : sf_R → Bool} {l : List sf_R} {x : sf_R} (h : x ∈ l.eraseP P) : x ∈ l := by
  rcases sf_fi_cases P l with hn | ⟨A, r, B, rfl, hr, hA⟩
  · rw [sf_ep_no hn] at h; exact h
  · rw [sf_ep_at hr hA] at h; exact sf_mem_del h
theorem sf_d1_mem {i k : Nat} {s : sf_G × List sf_R} {x : sf_R} (h : x ∈ (sf_d1 i k s).2) : x ∈ s.2 ∨ (x.1 = 5 ∧ x.2.2.2.1 = nI i) := by
  rw [sf_d1] at h
  by_cases c : s.1 2 (3 * i + k) = 0
  · rw [if_pos c] at h; exact Or.inl h
  · rw [if_neg c] at h
    rcases sf_mem_1 h with a | rfl
    · exact Or.inl (sf_ep_mem a)
    · exact Or.inr ⟨rfl, rfl⟩
theorem sf_dk_mem {i : Nat} {x : sf_R} : ∀ d k (s : sf_G × List sf_R), x ∈ (sf_dk i d k s).2 → x ∈ s.2 ∨ (x.1 = 5 ∧ x.2.2.2.1 = nI i) := by
  intro d
  induction d with
  | zero => intro k s h; exact Or.inl h
  | succ d ih =>
    intro k s h
    rcases ih (k + 1) (sf_d1 i k s) h with a | a
    · exact sf_d1_mem a
    · exact Or.inr a
section
variable {ib db nd lim m : Nat} {g : sf_G} {l A B : List sf_R} {r : sf_R}
theorem sf_J_d1 {s : sf_G × List sf_R} (hJ : sf_JJ ib db nd m s.1 s.2) {i k : Nat} (i1 : 1 ≤ i) (i2 : i ≤ 4 * ib) (hk : k < 3) (hptr : ∃ b, b ≤ nd ∧ s.1 2 (3 * i + k) = nI b) : sf_JJ ib db nd m (sf_d1 i k s).1 (sf_d1 i k s).2 := by
  by_cases c : s.1 2 (3 * i + k) = 0
  · rw [sf_d1, if_pos c]; exact hJ
  · obtain ⟨b, b1, b2⟩ := hptr
    rw [sf_d1, if_neg c, b2]
    have hn := hJ.1
    rcases sf_fi_cases (sf_isAl (nI i) (nI k)) s.2 with hno | ⟨A, r, B, hl, hr, hA⟩
    · rw [sf_ep_no hno, sf_any_none hno]
      exact sf_J_drop hJ i1 i2 hk b1 (Or.inr rfl) hno
    · rw [hl, sf_ep_at hr hA, sf_any_at hr]
      have hr3 : r.1 = 3 ∧ r.2.2.2.1 = nI i ∧ r.2.2.2.2.2 = nI k := by
        simp [sf_isAl] at hr
        exact hr
      have hJ' : sf_JJ ib db nd m s.1 (A ++ r :: B) := by rw [← hl]; exact hJ
      refine sf_J_drop (sf_J_del hJ' (by rw [hr3.1]; decide) (by rw [hr3.1]; decide)) i1 i2 hk b1 (Or.inl rfl) (fun x hx => ?_)
      cases w : sf_isAl (nI i) (nI k) x with
      | false => rfl
      | true =>
        simp [sf_isAl] at w
        exact absurd ⟨by rw [hr3.1, w.1], Or.inr (Or.inr (Or.inl ⟨hr3.1, by rw [hr3.2.1, w.2.1], by rw [hr3.2.2, w.2.2]⟩))⟩ (sf_pw_at hJ'.2.2.1 hx)
theorem sf_J_dk {i : Nat} (i1 : 1 ≤ i) (i2 : i ≤ 4 * ib) (h16 : i ≤ 16) : ∀ d k (s : sf_G × List sf_R), k + d ≤ 3 → sf_JJ ib db nd m s.1 s.2 → (∀ x, x < 51 → ∃ b, b ≤ nd ∧ s.1 2 x = nI b) → sf_JJ ib db nd m (sf_dk i d k s).1 (sf_dk i d k s).2 := by
  intro d
  induction d with
  | zero => intro k s _ h _; exact h
  | succ d ih =>
    intro k s e h hp
    refine ih (k + 1) (sf_d1 i k s) (by omega) (sf_J_d1 h i1 i2 (by omega) (hp _ (by omega))) (fun x hx => ?_)
    rw [sf_d1_2]
    split
    · exact ⟨0, by omega, rfl⟩
    · exact hp x hx
theorem sf_J_rc {i : Nat} (i1 : 1 ≤ i) (i2 : i ≤ 4 * ib) (h16 : i ≤ 16) (hJ : sf_JJ ib db nd m g l) (hp : ∀ x, x < 51 → ∃ b, b ≤ nd ∧ g 2 x = nI b) (hm : g 0 i ≠ 0) (hmi : ∀ e, e < 4 * db → g 7 e ≠ nI i) (hR : ∀ x, x ∈ l → x.1 = 4 → x.2.2.2.1 ≠ nI i) :
    sf_JJ ib db nd m (sf_rc i (g, l)).1 (sf_rc i (g, l)).2 := by
  have hk := sf_J_dk (ib := ib) (db := db) (nd := nd) (m := m) i1 i2 h16 3 0 (g, l) (by omega) hJ hp
  have hmem : ∀ x, x ∈ (sf_dk i 3 0 (g, l)).2 → x.1 = 4 → x.2.2.2.1 ≠ nI i := by
    intro x hx h4
    rcases sf_dk_mem 3 0 (g, l) hx with a | a
    · exact hR x a h4
    · rw [h4] at a
      exact absurd a.1 (by decide)
  have hz : ∀ k, k < 3 → (sf_dk i 3 0 (g, l)).1 2 (3 * i + k) = 0 := by
    intro k hk
    rw [sf_dk_2, if_pos (by omega)]
  have f0 : (sf_dk i 3 0 (g, l)).1 0 = g 0 := sf_dk_fr (by decide) 3 0 (g, l)
  have f7 : (sf_dk i 3 0 (g, l)).1 7 = g 7 := sf_dk_fr (by decide) 3 0 (g, l)
  rw [sf_rc]
  generalize sf_dk i 3 0 (g, l) = s at hk hmem hz f0 f7
  have hm' : s.1 0 i ≠ 0 := by rw [f0]; exact hm
  have hmi' : ∀ e, e < 4 * db → s.1 7 e ≠ nI i := by rw [f7]; exact hmi
  rcases sf_fi_cases (sf_isInit (nI i)) s.2 with hno | ⟨A, r, B, hl, hr, hA⟩
  · rw [sf_ep_no hno]
    refine sf_J_fin (l0 := s.2) hk i1 i2 hm' (fun x hx => hx) hk.2.2.1 (fun x hx => Or.inl hx) (fun _ => rfl) (fun x hx h2 hi => ?_) hmi' hmem hz
    have := hno x hx
    simp [sf_isInit, h2, hi] at this
  · have hr2 : r.1 = 2 ∧ r.2.2.2.1 = nI i := by
      simp [sf_isInit] at hr
      exact hr
    have hpw := hk.2.2.1
    rw [hl] at hpw
    rw [hl, sf_ep_at hr hA]
    refine sf_J_fin (l0 := A ++ B) hk i1 i2 hm' (fun x hx => by rw [hl]; exact sf_mem_del hx) (sf_pw_del hpw) (fun x hx => ?_) (fun x => ?_) (fun x hx h2 hi => ?_) hmi' hmem hz
    · rw [hl] at hx
      rcases sf_mem_or hx with rfl | a
      · exact Or.inr hr2
      · exact Or.inl a
    · rw [hl, sf_cR_del, hr2.1]
      rfl
    · exact sf_pw_at hpw hx ⟨by rw [hr2.1, h2], Or.inr (Or.inl ⟨hr2.1, by rw [hr2.2, hi]⟩)⟩
theorem sf_rc_fr {i f : Nat} (h0 : f ≠ 0) (h1 : f ≠ 1) (h2 : f ≠ 2) (h20 : f ≠ 20) : (sf_rc i (g, l)).1 f = g f := by
  rw [sf_rc]
  simp only [sf_dI, sf_up, sf_st, if_neg h0, if_neg h1, if_neg h20]
  exact sf_dk_fr h2 3 0 (g, l)
theorem sf_rc_2 {i x : Nat} : (sf_rc i (g, l)).1 2 x = if 3 * i ≤ x ∧ x < 3 * i + 3 then 0 else g 2 x := sf_dk_2 3 0 (g, l)
theorem sf_rc_20 {i : Nat} : (sf_rc i (g, l)).1 20 = upd (g 20) (1 + (i - 1) / 4) 1 := by
  have e : (sf_dk i 3 0 (g, l)).1 20 = g 20 := sf_dk_fr (by decide) 3 0 (g, l)
  show upd ((sf_dk i 3 0 (g, l)).1 20) (1 + (i - 1) / 4) 1 = _
  rw [e]
theorem sf_rc_len {i : Nat} (hi : i ≤ 16) : (sf_rc i (g, l)).2.length + sf_nz ((sf_rc i (g, l)).1 2) ≤ l.length + sf_nz (g 2) + 1 := by
  have h : (sf_dk i 3 0 (g, l)).2.length + sf_nz ((sf_dk i 3 0 (g, l)).1 2) ≤ l.length + sf_nz (g 2) := sf_dk_len hi 3 0 (g, l) (by omega)
  have h2 := sf_ep_len (P := sf_isInit (nI i)) (l := (sf_dk i 3 0 (g, l)).2)
  have e2 : (sf_rc i (g, l)).1 2 = (sf_dk i 3 0 (g, l)).1 2 := rfl
  have e3 : (sf_rc i (g, l)).2.length = ((sf_dk i 3 0 (g, l)).2.eraseP (sf_isInit (nI i))).length + 1 := by
    rw [sf_rc]
    exact List.length_append
  rw [e2, e3]
  omega
theorem sf_upd_01 {a : Nat → Int32} {i x : Nat} {v : Int32} (hv : v = 0 ∨ v = 1) (h : a x = 0 ∨ a x = 1) : upd a i v x = 0 ∨ upd a i v x = 1 := by
  by_cases e : x = i
  · subst e; rw [sf_upd_s]; exact hv
  · rw [sf_upd_n e]; exact h
theorem sf_T_rc {i : Nat} (hi : i ≤ 16) (hT : sf_T db nd g l) (hlen : l.length + sf_nz (g 2) + 1 ≤ 99) : sf_T db nd (sf_rc i (g, l)).1 (sf_rc i (g, l)).2 := by
  obtain ⟨⟨p1, p2, p3⟩, pt, pd, pc⟩ := hT
  have fr : ∀ f, f ≠ 0 → f ≠ 1 → f ≠ 2 → f ≠ 20 → (sf_rc i (g, l)).1 f = g f := fun f h0 h1 h2 h20 => sf_rc_fr h0 h1 h2 h20
  refine ⟨⟨?_, ?_, ?_⟩, fun x hx => ⟨?_, ?_⟩, fun x hx => ?_, Nat.le_trans (sf_rc_len hi) hlen⟩
  · rw [fr 6 (by decide) (by decide) (by decide) (by decide), fr 7 (by decide) (by decide) (by decide) (by decide)]; exact p1
  · rw [fr 8 (by decide) (by decide) (by decide) (by decide), fr 9 (by decide) (by decide) (by decide) (by decide)]; exact p2
  · rw [fr 10 (by decide) (by decide) (by decide) (by decide), fr 11 (by decide) (by decide) (by decide) (by decide)]; exact p3
  · rw [sf_rc_2]
    split
    · exact ⟨0, by omega, rfl⟩
    · exact (pt x hx).1
  · rw [fr 5 (by decide) (by decide) (by decide) (by decide)]; exact (pt x hx).2
  · rw [sf_rc_20]
    exact sf_upd_01 (Or.inr rfl) (pd x hx)
end
end
section
/-! work -/
def sf_c4 (g : sf_G) (i : Nat) : sf_G := sf_dI (sf_up g 1 i (g 1 i - 1)) i
def sf_c5 (ib db : Nat) (g : sf_G) (b : Nat) : sf_G := sf_up (sf_up (sf_up (sf_up (sf_up g 18 b 0) 20 0 1) 12 b (g 14 b)) 13 b (g 15 b)) 20 (ib + db + b) 0
def sf_c6 (g : sf_G) (i : Nat) : sf_G := sf_up (sf_up g 16 i 0) 20 0 1
/-- what carrying out the record r leaves, l0 being the others -/
def sf_cr (ib db : Nat) (g : sf_G) (l0 : List sf_R) (r : sf_R) : sf_G × List sf_R :=
  if r.1 = 4 then (if g 1 r.2.2.2.1.toNatClampNeg - 1 = 0 then sf_rc r.2.2.2.1.toNatClampNeg (sf_c4 g r.2.2.2.1.toNatClampNeg, l0) else (sf_c4 g r.2.2.2.1.toNatClampNeg, l0))
  else if r.1 = 5 then (sf_c5 ib db g r.2.2.2.2.1.toNatClampNeg, l0) else (sf_c6 g r.2.2.2.1.toNatClampNeg, l0)
def sf_ff (P : sf_R → Bool) (l : List sf_R) : sf_R := (l.find? P).getD (0, 0, 0, 0, 0, 0)
theorem sf_ff_at {P : sf_R → Bool} {A B : List sf_R} {r : sf_R} (hr : P r = true) (hA : ∀ a, a ∈ A → P a = false) : sf_ff P (A ++ r :: B) = r := by
  rw [sf_ff]
  induction A with
  | nil => rw [List.nil_append, List.find?_cons_of_pos hr]; rfl
  | cons a A ih =>
    rw [List.cons_append, List.find?_cons_of_neg (by rw [hA a (by simp)]; exact Bool.false_ne_true)]
    exact ih (fun x hx => hA x (List.mem_cons_of_mem _ hx))
def sf_wk (ib db : Nat) : Nat → Nat × sf_G × List sf_R → Nat × sf_G × List sf_R
  | 0, s => s
  | d + 1, s => if s.2.2.any sf_isRdy then sf_wk ib db d (s.1 + 1, sf_cr ib db s.2.1 (s.2.2.eraseP sf_isRdy) (sf_ff sf_isRdy s.2.2)) else s
def sf_wkv (ib db : Nat) (g : sf_G) (l : List sf_R) (t : Nat) : Int32 × sf_G × List sf_R := if g 21 0 = 0 then (-2, g, l) else (nI (sf_wk ib db t (0, g, l)).1, (sf_wk ib db t (0, g, l)).2)
theorem sf_isRdy_k {r : sf_R} (h : sf_isRdy r = true) : (r.1 = 4 ∨ r.1 = 5 ∨ r.1 = 6) ∧ r.2.1 = 0 := by
  simp [sf_isRdy] at h
  exact h
theorem sf_clamp (lo hi : Nat) (h : lo ≤ hi) (hh : hi < 2 ^ 31) (x : Int32) : ∃ t, lo ≤ t ∧ t ≤ hi ∧ (∀ (post : Int32 → Prop) (u : SX), post (nI t) → wpX_clamp post u x (nI lo) (nI hi)) ∧ (∀ (post : Int32 → Prop) (u : SY), post (nI t) → wpY_clamp post u x (nI lo) (nI hi)) := by
  by_cases c1 : nI lo ≤ x
  · by_cases c2 : x ≤ nI hi
    · have h0 : ¬ x < 0 := by
        intro k
        have a := Int32.le_iff_toInt_le.mp c1
        have b := Int32.lt_iff_toInt_lt.mp k
        rw [nI_toInt (by omega)] at a
        rw [show (0 : Int32).toInt = 0 from by decide] at b
        omega
      obtain ⟨t, t1, rfl⟩ := nI_of h0
      rw [nI_leI (by omega) t1] at c1
      rw [nI_leI t1 hh] at c2
      exact ⟨t, c1, c2, fun post u hp => br_t (nI_le c1 t1) (br_t (nI_le c2 hh) hp), fun post u hp => br_t (nI_le c1 t1) (br_t (nI_le c2 hh) hp)⟩
    · exact ⟨hi, h, Nat.le_refl _, fun post u hp => br_t c1 (br_f c2 hp), fun post u hp => br_t c1 (br_f c2 hp)⟩
  · exact ⟨lo, Nat.le_refl _, h, fun post u hp => br_f c1 hp, fun post u hp => br_f c1 hp⟩
section
variable {ib db nd lim : Nat} {g : sf_G} {l A B : List sf_R} {r : sf_R}
theorem sf_X_ready {post : Int32 → Prop} {u : SX} (h : sf_X ib db nd lim g l u) (hp : post (sf_fi sf_isRdy l)) : wpX_oldestReady post u := by
  obtain ⟨hL, q, rfl, hA⟩ := h
  refine Exists.intro (l.length + 1) (sf_fs_law (fun m p => wX_oldestReady_2 post (nI ib) (nI db) (nI (4 * ib)) (nI (4 * db)) (nI nd) (nI (1 + ib + db + nd)) (nI lim) (nI (l.length)) (g 21 0) (g 22 0) (g 23 0) (g 0) (g 1) (g 2) (g 3) (g 4) (g 5) (g 6) (g 7) (g 8) (g 9) (g 10) (g 11) (g 12) (g 13) (g 14) (g 15) (g 16) (g 17) (g 18) (g 19) (g 20) (q 0) (q 1) (q 2) (q 3) (q 4) (q 5) m (nI p)) (P := fun p => sf_isRdy (sf_n l p)) (hi := l.length) ?_ ?_ ?_ l.length 0 (by omega) hp)
  · intro hz m
    exact br_t (nI_le (Nat.le_refl _) (by omega)) hz
  · intro m p hlt c hz
    have hi : vp_in (nI p) 128 := vp_in_nI (by omega) (by decide)
    have hc : (nI p).toNatClampNeg = p := nI_clamp (by omega)
    have c : sf_isRdy (sf_q q p) = true := by rw [← hA p hlt]; exact c
    obtain ⟨c1, c2⟩ := sf_isRdy_k c
    have c1 : q 0 p = 4 ∨ q 0 p = 5 ∨ q 0 p = 6 := c1
    have c2 : q 1 p = 0 := c2
    have inner : wX_oldestReady_33 post (wX_oldestReady_2 post (nI ib) (nI db) (nI (4 * ib)) (nI (4 * db)) (nI nd) (nI (1 + ib + db + nd)) (nI lim) (nI (l.length)) (g 21 0) (g 22 0) (g 23 0) (g 0) (g 1) (g 2) (g 3) (g 4) (g 5) (g 6) (g 7) (g 8) (g 9) (g 10) (g 11) (g 12) (g 13) (g 14) (g 15) (g 16) (g 17) (g 18) (g 19) (g 20) (q 0) (q 1) (q 2) (q 3) (q 4) (q 5) m) (nI p) (nI ib) (nI db) (nI (4 * ib)) (nI (4 * db)) (nI nd) (nI (1 + ib + db + nd)) (nI lim) (nI (l.length)) (g 21 0) (g 22 0) (g 23 0) (g 0) (g 1) (g 2) (g 3) (g 4) (g 5) (g 6) (g 7) (g 8) (g 9) (g 10) (g 11) (g 12) (g 13) (g 14) (g 15) (g 16) (g 17) (g 18) (g 19) (g 20) (q 0) (q 1) (q 2) (q 3) (q 4) (q 5) :=
      br_f (by decide) (And.intro hi (by rw [hc]; exact br_t c2 hz))
    refine br_f (nI_ge hlt (by omega)) (And.intro hi (nm_r (e' := q 0 p) (by rw [hc]) ?_))
    by_cases k4 : q 0 p = 4
    · exact br_t k4 inner
    · refine br_f k4 ?_
      by_cases k5 : q 0 p = 5
      · exact br_t k5 inner
      · have k6 : q 0 p = 6 := (c1.resolve_left k4).resolve_left k5
        exact br_f k5 (br_t k6 inner)
  · intro m p hlt c hW
    have hi : vp_in (nI p) 128 := vp_in_nI (by omega) (by decide)
    have hc : (nI p).toNatClampNeg = p := nI_clamp (by omega)
    have c : sf_isRdy (sf_q q p) = false := by rw [← hA p hlt]; exact c
    have inner : (q 0 p = 4 ∨ q 0 p = 5 ∨ q 0 p = 6) → wX_oldestReady_33 post (wX_oldestReady_2 post (nI ib) (nI db) (nI (4 * ib)) (nI (4 * db)) (nI nd) (nI (1 + ib + db + nd)) (nI lim) (nI (l.length)) (g 21 0) (g 22 0) (g 23 0) (g 0) (g 1) (g 2) (g 3) (g 4) (g 5) (g 6) (g 7) (g 8) (g 9) (g 10) (g 11) (g 12) (g 13) (g 14) (g 15) (g 16) (g 17) (g 18) (g 19) (g 20) (q 0) (q 1) (q 2) (q 3) (q 4) (q 5) m) (nI p) (nI ib) (nI db) (nI (4 * ib)) (nI (4 * db)) (nI nd) (nI (1 + ib + db + nd)) (nI lim) (nI (l.length)) (g 21 0) (g 22 0) (g 23 0) (g 0) (g 1) (g 2) (g 3) (g 4) (g 5) (g 6) (g 7) (g 8) (g 9) (g 10) (g 11) (g 12) (g 13) (g 14) (g 15) (g 16) (g 17) (g 18) (g 19) (g 20) (q 0) (q 1) (q 2) (q 3) (q 4) (q 5) := by
      intro k
      have c2 : ¬ q 1 p = 0 := by
        intro z
        simp [sf_isRdy, sf_q, z] at c
        rcases k with k | k | k
        · exact c.1 k
        · exact c.2.1 k
        · exact c.2.2 k
      exact br_f (by decide) (And.intro hi (by rw [hc]; exact br_f c2 (nm_r (nI_1 p) hW)))
    refine br_f (nI_ge hlt (by omega)) (And.intro hi (nm_r (e' := q 0 p) (by rw [hc]) ?_))
    by_cases k4 : q 0 p = 4
    · exact br_t k4 (inner (Or.inl k4))
    · refine br_f k4 ?_
      by_cases k5 : q 0 p = 5
      · exact br_t k5 (inner (Or.inr (Or.inl k5)))
      · refine br_f k5 ?_
        by_cases k6 : q 0 p = 6
        · exact br_t k6 (inner (Or.inr (Or.inr k6)))
        · exact br_f k6 (br_t rfl (nm_r (nI_1 p) hW))
theorem sf_Y_ready {post : Int32 → Prop} {u : SY} (h : sf_Y ib db nd lim g l u) (hp : post (sf_fi sf_isRdy l)) : wpY_oldestReady post u := by
  obtain ⟨hL, q, rfl, hA⟩ := h
  refine Exists.intro (l.length + 1) (sf_fs_law (fun m p => wY_oldestReady_2 post (nI ib) (nI db) (nI nd) (nI lim) (nI (4 * ib)) (nI (4 * db)) (nI (1 + ib + db + nd)) (nI (l.length)) (g 21 0) (g 22 0) (g 23 0) (g 0) (g 1) (g 2) (g 16) (g 18) (g 12) (g 13) (g 6) (g 7) (g 3) (g 4) (g 5) (g 17) (g 19) (g 14) (g 15) (g 8) (g 9) (g 10) (g 11) (g 20) (q 0) (q 1) (q 2) (q 3) (q 4) (q 5) m (nI p)) (P := fun p => sf_isRdy (sf_n l p)) (hi := l.length) ?_ ?_ ?_ l.length 0 (by omega) hp)
  · intro hz m
    exact br_t (nI_le (Nat.le_refl _) (by omega)) hz
  · intro m p hlt c hz
    have hi : vp_in (nI p) 256 := vp_in_nI (by omega) (by decide)
    have hc : (nI p).toNatClampNeg = p := nI_clamp (by omega)
    have c : sf_isRdy (sf_q q p) = true := by rw [← hA p hlt]; exact c
    obtain ⟨c1, c2⟩ := sf_isRdy_k c
    have c1 : q 0 p = 4 ∨ q 0 p = 5 ∨ q 0 p = 6 := c1
    have c2 : q 1 p = 0 := c2
    have inner : wY_oldestReady_41 post (wY_oldestReady_2 post (nI ib) (nI db) (nI nd) (nI lim) (nI (4 * ib)) (nI (4 * db)) (nI (1 + ib + db + nd)) (nI (l.length)) (g 21 0) (g 22 0) (g 23 0) (g 0) (g 1) (g 2) (g 16) (g 18) (g 12) (g 13) (g 6) (g 7) (g 3) (g 4) (g 5) (g 17) (g 19) (g 14) (g 15) (g 8) (g 9) (g 10) (g 11) (g 20) (q 0) (q 1) (q 2) (q 3) (q 4) (q 5) m) (nI p) (nI ib) (nI db) (nI nd) (nI lim) (nI (4 * ib)) (nI (4 * db)) (nI (1 + ib + db + nd)) (nI (l.length)) (g 21 0) (g 22 0) (g 23 0) (g 0) (g 1) (g 2) (g 16) (g 18) (g 12) (g 13) (g 6) (g 7) (g 3) (g 4) (g 5) (g 17) (g 19) (g 14) (g 15) (g 8) (g 9) (g 10) (g 11) (g 20) (q 0) (q 1) (q 2) (q 3) (q 4) (q 5) :=
      And.intro hi (by rw [hc]; exact br_t c2 hz)
    refine br_f (nI_ge hlt (by omega)) (And.intro hi ?_)
    rw [hc]
    by_cases k4 : q 0 p = 4
    · exact br_t k4 inner
    · refine br_f k4 (And.intro hi ?_)
      by_cases k5 : q 0 p = 5
      · exact br_t k5 inner
      · have k6 : q 0 p = 6 := (c1.resolve_left k4).resolve_left k5
        exact br_f k5 (And.intro hi (br_t k6 inner))
  · intro m p hlt c hW
    have hi : vp_in (nI p) 256 := vp_in_nI (by omega) (by decide)
    have hc : (nI p).toNatClampNeg = p := nI_clamp (by omega)
    have c : sf_isRdy (sf_q q p) = false := by rw [← hA p hlt]; exact c
    have inner : (q 0 p = 4 ∨ q 0 p = 5 ∨ q 0 p = 6) → wY_oldestReady_41 post (wY_oldestReady_2 post (nI ib) (nI db) (nI nd) (nI lim) (nI (4 * ib)) (nI (4 * db)) (nI (1 + ib + db + nd)) (nI (l.length)) (g 21 0) (g 22 0) (g 23 0) (g 0) (g 1) (g 2) (g 16) (g 18) (g 12) (g 13) (g 6) (g 7) (g 3) (g 4) (g 5) (g 17) (g 19) (g 14) (g 15) (g 8) (g 9) (g 10) (g 11) (g 20) (q 0) (q 1) (q 2) (q 3) (q 4) (q 5) m) (nI p) (nI ib) (nI db) (nI nd) (nI lim) (nI (4 * ib)) (nI (4 * db)) (nI (1 + ib + db + nd)) (nI (l.length)) (g 21 0) (g 22 0) (g 23 0) (g 0) (g 1) (g 2) (g 16) (g 18) (g 12) (g 13) (g 6) (g 7) (g 3) (g 4) (g 5) (g 17) (g 19) (g 14) (g 15) (g 8) (g 9) (g 10) (g 11) (g 20) (q 0) (q 1) (q 2) (q 3) (q 4) (q 5) := by
      intro k
      have c2 : ¬ q 1 p = 0 := by
        intro z
        simp [sf_isRdy, sf_q, z] at c
        rcases k with k | k | k
        · exact c.1 k
        · exact c.2.1 k
        · exact c.2.2 k
      exact And.intro hi (by rw [hc]; exact br_f c2 (nm_r (nI_1 p) hW))
    refine br_f (nI_ge hlt (by omega)) (And.intro hi ?_)
    rw [hc]
    by_cases k4 : q 0 p = 4
    · exact br_t k4 (inner (Or.inl k4))
    · refine br_f k4 (And.intro hi ?_)
      by_cases k5 : q 0 p = 5
      · exact br_t k5 (inner (Or.inr (Or.inl k5)))
      · refine br_f k5 (And.intro hi ?_)
        by_cases k6 : q 0 p = 6
        · exact br_t k6 (inner (Or.inr (Or.inr k6)))
        · exact br_f k6 (nm_r (nI_1 p) hW)
theorem sf_X_carry {post : SX → Prop} {u : SX} (hZ : sf_Z ib db nd lim) (h : sf_X ib db nd lim g (A ++ r :: B) u) (hw : sf_wf (4 * ib) (4 * db) nd r) (hr : sf_isRdy r = true) (hN : (A ++ r :: B).length + sf_nz (g 2) ≤ 99) (hp : ∀ u', sf_X ib db nd lim (sf_cr ib db g (A ++ B) r).1 (sf_cr ib db g (A ++ B) r).2 u' → post u') : wpX_carryOut post u (nI A.length) := by
  have z := hZ
  obtain ⟨z1, z2, z3, z4, z5, z6, -⟩ := z
  obtain ⟨hL, q, rfl, hA⟩ := h
  have hq := sf_A_at hA
  have hlen : A.length < (A ++ r :: B).length := by simp
  have hlen2 : (A ++ r :: B).length = (A ++ B).length + 1 := by simp; omega
  have hi : vp_in (nI A.length) 128 := vp_in_nI (by omega) (by decide)
  have hc : (nI A.length).toNatClampNeg = A.length := nI_clamp (by omega)
  obtain ⟨i, i1, i2, hin⟩ := hw.1
  have hv : vp_in (nI i) 17 := vp_in_nI (by omega) (by decide)
  have hci : (nI i).toNatClampNeg = i := nI_clamp (by omega)
  refine And.intro hi (nm_r (e' := r.1) (by rw [hc, hq]; rfl) (And.intro hi (nm_r (e' := nI i) (by rw [hc, ← hin, hq]; rfl) (And.intro hi (nm_r (e' := r.2.2.2.2.1) (by rw [hc, hq]; rfl) (sf_X_del ⟨hL, q, rfl, hA⟩ (fun u1 h1 => ?_)))))))
  obtain ⟨hL1, q1, rfl, hA1⟩ := h1
  rw [sf_cr, hin, hci] at hp
  by_cases k4 : r.1 = 4
  · rw [if_pos k4] at hp
    refine br_t k4 (And.intro hv (And.intro hv (nm_r (e' := upd (g 1) i (g 1 i - 1)) (by rw [hci]) ?_)))
    refine sf_X_dirtyInode (g := sf_up g 1 i (g 1 i - 1)) (l := A ++ B) ⟨hL1, q1, rfl, hA1⟩ i1 (by omega) (fun u2 h2 => ?_)
    obtain ⟨hL2, q2, rfl, hA2⟩ := h2
    refine And.intro hv ?_
    rw [hci]
    have e1 : sf_dI (sf_up g 1 i (g 1 i - 1)) i 1 i = g 1 i - 1 := sf_upd_s
    rw [e1]
    by_cases c : g 1 i - 1 = 0
    · rw [if_pos c] at hp
      exact br_t c (sf_X_reclaim (g := sf_c4 g i) (l := A ++ B) ⟨hL2, q2, rfl, hA2⟩ i1 (by omega) (show (A ++ B).length + sf_nz (g 2) ≤ 120 by omega) hp)
    · rw [if_neg c] at hp
      exact br_f c (hp _ ⟨hL2, q2, rfl, hA2⟩)
  · rw [if_neg k4] at hp
    refine br_f k4 ?_
    by_cases k5 : r.1 = 5
    · rw [if_pos k5] at hp
      obtain ⟨b, b1, hb⟩ := hw.2.2.1 k5
      have hvb : vp_in (nI b) 17 := vp_in_nI (by omega) (by decide)
      have hcb : (nI b).toNatClampNeg = b := nI_clamp (by omega)
      have hx : (nI ib + nI db) + nI b = nI (ib + db + b) := by rw [nI_add, nI_add]
      refine br_t k5 ?_
      rw [hb] at hp ⊢
      rw [hcb] at hp
      refine And.intro hvb (nm_r (e' := upd (g 18) b 0) (by rw [hcb]) (nm_r (e' := upd (g 20) 0 1) (by rw [sf_t1]) (And.intro hvb (And.intro hvb (nm_r (e' := upd (g 12) b (g 14 b)) (by rw [hcb]) (And.intro hvb (And.intro hvb (nm_r (e' := upd (g 13) b (g 15 b)) (by rw [hcb]) (And.intro (by rw [hx]; exact vp_in_nI (by omega) (by decide)) (nm_r (e' := upd (upd (g 20) 0 1) (ib + db + b) 0) (by rw [hx, nI_clamp (by omega), sf_t0]) (hp _ ⟨hL1, q1, rfl, hA1⟩)))))))))))
    · rw [if_neg k5] at hp
      refine br_f k5 (And.intro hv (nm_r (e' := upd (g 16) i 0) (by rw [hci]) (nm_r (e' := upd (g 20) 0 1) (by rw [sf_t1]) (hp _ ⟨hL1, q1, rfl, hA1⟩))))
theorem sf_wk_step {d : Nat} {s : Nat × sf_G × List sf_R} (hl : s.2.2 = A ++ r :: B) (hr : sf_isRdy r = true) (hA : ∀ a, a ∈ A → sf_isRdy a = false) : sf_wk ib db (d + 1) s = sf_wk ib db d (s.1 + 1, sf_cr ib db s.2.1 (A ++ B) r) := by
  rw [sf_wk, hl, sf_any_at hr, if_pos rfl, sf_ep_at hr hA, sf_ff_at hr hA]
theorem sf_wk_stop {d : Nat} {s : Nat × sf_G × List sf_R} (hn : ∀ x, x ∈ s.2.2 → sf_isRdy x = false) : sf_wk ib db (d + 1) s = s := by
  rw [sf_wk, sf_any_none hn]
  rfl
/-- carrying out keeps the invariant -/
theorem sf_M_cr (hZ : sf_Z ib db nd lim) (hM : sf_M ib db nd g (A ++ r :: B)) (hr : sf_isRdy r = true) : sf_M ib db nd (sf_cr ib db g (A ++ B) r).1 (sf_cr ib db g (A ++ B) r).2 := by
  have z := hZ
  obtain ⟨z1, z2, z3, z4, z5, z6, -⟩ := z
  obtain ⟨h21, hT, hJ⟩ := hM
  obtain ⟨⟨p1, p2, p3⟩, pt, pd, pc⟩ := hT
  obtain ⟨hk, h0⟩ := sf_isRdy_k hr
  have hw := (hJ.2.1 r (by simp)).1
  obtain ⟨i, i1, i2, hin⟩ := hw.1
  have hci : (nI i).toNatClampNeg = i := nI_clamp (by omega)
  have hlen : (A ++ r :: B).length = (A ++ B).length + 1 := by simp; omega
  rw [sf_cr, hin, hci]
  by_cases k4 : r.1 = 4
  · rw [if_pos k4]
    have j1 : sf_JJ ib db nd 17 (sf_c4 g i) (A ++ B) := sf_J_rem hJ k4 h0 hin i1 i2
    have t1 : (A ++ B).length + sf_nz (sf_c4 g i 2) + 1 ≤ 99 := by
      show (A ++ B).length + sf_nz (g 2) + 1 ≤ 99
      omega
    have T1 : sf_T db nd (sf_c4 g i) (A ++ B) := ⟨⟨p1, p2, p3⟩, pt, fun x hx => sf_upd_01 (Or.inr rfl) (pd x hx), by omega⟩
    by_cases c : g 1 i - 1 = 0
    · rw [if_pos c]
      have hm : sf_c4 g i 0 i ≠ 0 := by
        have := (hJ.2.1 r (by simp)).2.2.2.2.1 k4
        rw [hin, hci] at this
        exact this
      have hio := (j1.2.2.2.2 i i1 i2).1 hm
      have hml := hio.2.2 (by omega)
      have e1 : sf_c4 g i 1 i = 0 := by
        show upd (g 1) i (g 1 i - 1) i = 0
        rw [sf_upd_s, c]
      rw [e1] at hml
      have hb1 := sf_cS_le (sf_c4 g i 7) (4 * db) (nI i)
      have hb2 : sf_cR (A ++ B) (nI i) ≤ (A ++ B).length := List.countP_le_length
      have hs0 : sf_cS (sf_c4 g i 7) (4 * db) (nI i) + sf_cR (A ++ B) (nI i) = 0 := by
        have := (nI_eq (a := 0) (by omega) (by omega)).mp hml
        omega
      refine ⟨?_, sf_T_rc (by omega) T1 t1, sf_J_rc i1 i2 (by omega) j1 (fun x hx => (pt x hx).1) hm (sf_cS_0' (by omega)) (sf_cR_0' (by omega))⟩
      rw [sf_rc_fr (by decide) (by decide) (by decide) (by decide)]
      exact h21
    · rw [if_neg c]
      exact ⟨h21, T1, j1⟩
  · rw [if_neg k4]
    by_cases k5 : r.1 = 5
    · rw [if_pos k5]
      refine ⟨h21, ⟨⟨p1, p2, p3⟩, pt, fun x hx => sf_upd_01 (Or.inl rfl) (sf_upd_01 (Or.inr rfl) (pd x hx)), ?_⟩, sf_J_del hJ (by rw [k5]; decide) k4⟩
      show (A ++ B).length + sf_nz (g 2) ≤ 99
      omega
    · rw [if_neg k5]
      have k6 : r.1 = 6 := (hk.resolve_left k4).resolve_left k5
      refine ⟨h21, ⟨⟨p1, p2, p3⟩, pt, fun x hx => sf_upd_01 (Or.inr rfl) (pd x hx), ?_⟩, sf_J_fi hJ k6 h0 hin i1 i2⟩
      show (A ++ B).length + sf_nz (g 2) ≤ 99
      omega
theorem sf_M_wk (hZ : sf_Z ib db nd lim) : ∀ d (s : Nat × sf_G × List sf_R), sf_M ib db nd s.2.1 s.2.2 → sf_M ib db nd (sf_wk ib db d s).2.1 (sf_wk ib db d s).2.2 := by
  intro d
  induction d with
  | zero => intro s h; exact h
  | succ d ih =>
    intro s h
    rcases sf_fi_cases sf_isRdy s.2.2 with hn | ⟨A, r, B, hl, hr, hA⟩
    · rw [sf_wk_stop hn]; exact h
    · rw [sf_wk_step hl hr hA]
      rw [hl] at h
      exact ih _ (sf_M_cr hZ h hr)
theorem sf_X_wk {post : Int32 → SX → Prop} (hZ : sf_Z ib db nd lim) {T : Nat} (hT : T ≤ 16) : ∀ d t (s : Nat × sf_G × List sf_R) (q : sf_G), t + d = T → sf_M ib db nd s.2.1 s.2.2 → s.2.2.length ≤ 128 → sf_A s.2.2 q → (∀ u', sf_X ib db nd lim (sf_wk ib db d s).2.1 (sf_wk ib db d s).2.2 u' → post (nI (sf_wk ib db d s).1) u') → wX_work_24 post (nI T) (d + 1) (nI s.1) (nI t) (nI ib) (nI db) (nI (4 * ib)) (nI (4 * db)) (nI nd) (nI (1 + ib + db + nd)) (nI lim) (nI (s.2.2.length)) ((s.2.1) 21 0) ((s.2.1) 22 0) ((s.2.1) 23 0) ((s.2.1) 0) ((s.2.1) 1) ((s.2.1) 2) ((s.2.1) 3) ((s.2.1) 4) ((s.2.1) 5) ((s.2.1) 6) ((s.2.1) 7) ((s.2.1) 8) ((s.2.1) 9) ((s.2.1) 10) ((s.2.1) 11) ((s.2.1) 12) ((s.2.1) 13) ((s.2.1) 14) ((s.2.1) 15) ((s.2.1) 16) ((s.2.1) 17) ((s.2.1) 18) ((s.2.1) 19) ((s.2.1) 20) (q 0) (q 1) (q 2) (q 3) (q 4) (q 5) := by
  intro d
  induction d with
  | zero =>
    intro t s q e hM hL hA hp
    exact br_t (nI_le (by omega) (by omega)) (hp _ ⟨hL, q, rfl, hA⟩)
  | succ d ih =>
    intro t s q e hM hL hA hp
    refine br_f (nI_ge (by omega) (by omega)) (sf_X_ready (g := s.2.1) (l := s.2.2) ⟨hL, q, rfl, hA⟩ ?_)
    rcases sf_fi_cases sf_isRdy s.2.2 with hn | ⟨A, r, B, hl, hr, hA'⟩
    · rw [sf_wk_stop hn] at hp
      rw [sf_fi_none hn]
      exact br_t rfl (hp _ ⟨hL, q, rfl, hA⟩)
    · rw [sf_wk_step hl hr hA'] at hp
      have hlen : A.length < s.2.2.length := by rw [hl]; simp
      have hM' := hM
      rw [hl] at hM'
      rw [hl, sf_fi_at hr hA']
      refine br_f (sf_nI_m1 (by omega)) (sf_X_carry (g := s.2.1) (A := A) (r := r) (B := B) hZ ⟨by rw [← hl]; exact hL, q, rfl, by rw [← hl]; exact hA⟩ (hM'.2.2.2.1 r (by simp)).1 hr hM'.2.1.2.2.2 (fun u1 h1 => ?_))
      obtain ⟨hL1, q1, rfl, hA1⟩ := h1
      exact nm_r (nI_1 _) (nm_r (nI_1 t) (ih (t + 1) (s.1 + 1, sf_cr ib db s.2.1 (A ++ B) r) q1 (by omega) (sf_M_cr hZ hM' hr) hL1 hA1 hp))
theorem sf_Y_wk {post : Int32 → SY → Prop} (hZ : sf_Z ib db nd lim) {T : Nat} (hT : T ≤ 16) : ∀ d t (s : Nat × sf_G × List sf_R) (q : sf_G), t + d = T → sf_M ib db nd s.2.1 s.2.2 → s.2.2.length ≤ 128 → sf_A s.2.2 q → (∀ u', sf_Y ib db nd lim (sf_wk ib db d s).2.1 (sf_wk ib db d s).2.2 u' → post (nI (sf_wk ib db d s).1) u') → wY_work_24 post (nI T) (d + 1) (nI s.1) (nI t) (nI ib) (nI db) (nI nd) (nI lim) (nI (4 * ib)) (nI (4 * db)) (nI (1 + ib + db + nd)) (nI (s.2.2.length)) ((s.2.1) 21 0) ((s.2.1) 22 0) ((s.2.1) 23 0) ((s.2.1) 0) ((s.2.1) 1) ((s.2.1) 2) ((s.2.1) 16) ((s.2.1) 18) ((s.2.1) 12) ((s.2.1) 13) ((s.2.1) 6) ((s.2.1) 7) ((s.2.1) 3) ((s.2.1) 4) ((s.2.1) 5) ((s.2.1) 17) ((s.2.1) 19) ((s.2.1) 14) ((s.2.1) 15) ((s.2.1) 8) ((s.2.1) 9) ((s.2.1) 10) ((s.2.1) 11) ((s.2.1) 20) (q 0) (q 1) (q 2) (q 3) (q 4) (q 5) := by
  have z := hZ
  obtain ⟨z1, z2, z3, z4, z5, z6, -⟩ := z
  intro d
  induction d with
  | zero =>
    intro t s q e hM hL hA hp
    exact br_t (nI_le (by omega) (by omega)) (hp _ ⟨hL, q, rfl, hA⟩)
  | succ d ih =>
    intro t s q e hM hL hA hp
    obtain ⟨c, g, l⟩ := s
    dsimp only at hM hL hA
    refine br_f (nI_ge (by omega) (by omega)) (sf_Y_ready (g := g) (l := l) ⟨hL, q, rfl, hA⟩ ?_)
    rcases sf_fi_cases sf_isRdy l with hn | ⟨A, r, B, hl, hr, hA'⟩
    · rw [sf_wk_stop (s := (c, g, l)) hn] at hp
      rw [sf_fi_none hn]
      exact br_t rfl (hp _ ⟨hL, q, rfl, hA⟩)
    · rw [sf_wk_step (s := (c, g, l)) hl hr hA'] at hp
      subst hl
      have hM1 := sf_M_cr hZ hM hr
      have hw := (hM.2.2.2.1 r (by simp)).1
      have hN := hM.2.1.2.2.2
      have hq := sf_A_at hA
      have hlen : A.length < (A ++ r :: B).length := by simp
      have hlen2 : (A ++ r :: B).length = (A ++ B).length + 1 := by simp; omega
      have hi : vp_in (nI A.length) 256 := vp_in_nI (by omega) (by decide)
      have hc : (nI A.length).toNatClampNeg = A.length := nI_clamp (by omega)
      obtain ⟨i, i1, i2, hin⟩ := hw.1
      have hv : vp_in (nI i) 17 := vp_in_nI (by omega) (by decide)
      have hci : (nI i).toNatClampNeg = i := nI_clamp (by omega)
      have IH := fun (u1 : SY) (h1 : sf_Y ib db nd lim (sf_cr ib db g (A ++ B) r).1 (sf_cr ib db g (A ++ B) r).2 u1) => (show ∃ q1, u1 = sf_mY ib db nd lim (sf_cr ib db g (A ++ B) r).2.length (sf_cr ib db g (A ++ B) r).1 q1 ∧ wY_work_24 post (nI T) (d + 1) (nI (c + 1)) (nI (t + 1)) (nI ib) (nI db) (nI nd) (nI lim) (nI (4 * ib)) (nI (4 * db)) (nI (1 + ib + db + nd)) (nI ((sf_cr ib db g (A ++ B) r).2.length)) (((sf_cr ib db g (A ++ B) r).1) 21 0) (((sf_cr ib db g (A ++ B) r).1) 22 0) (((sf_cr ib db g (A ++ B) r).1) 23 0) (((sf_cr ib db g (A ++ B) r).1) 0) (((sf_cr ib db g (A ++ B) r).1) 1) (((sf_cr ib db g (A ++ B) r).1) 2) (((sf_cr ib db g (A ++ B) r).1) 16) (((sf_cr ib db g (A ++ B) r).1) 18) (((sf_cr ib db g (A ++ B) r).1) 12) (((sf_cr ib db g (A ++ B) r).1) 13) (((sf_cr ib db g (A ++ B) r).1) 6) (((sf_cr ib db g (A ++ B) r).1) 7) (((sf_cr ib db g (A ++ B) r).1) 3) (((sf_cr ib db g (A ++ B) r).1) 4) (((sf_cr ib db g (A ++ B) r).1) 5) (((sf_cr ib db g (A ++ B) r).1) 17) (((sf_cr ib db g (A ++ B) r).1) 19) (((sf_cr ib db g (A ++ B) r).1) 14) (((sf_cr ib db g (A ++ B) r).1) 15) (((sf_cr ib db g (A ++ B) r).1) 8) (((sf_cr ib db g (A ++ B) r).1) 9) (((sf_cr ib db g (A ++ B) r).1) 10) (((sf_cr ib db g (A ++ B) r).1) 11) (((sf_cr ib db g (A ++ B) r).1) 20) (q1 0) (q1 1) (q1 2) (q1 3) (q1 4) (q1 5) from by
        obtain ⟨hL1, q1, e1, hA1⟩ := h1
        exact ⟨q1, e1, ih (t + 1) (c + 1, sf_cr ib db g (A ++ B) r) q1 (by omega) hM1 hL1 hA1 hp⟩)
      rw [sf_fi_at hr hA']
      refine br_f (sf_nI_m1 (by omega)) (And.intro hi (nm_r (e' := r.1) (by rw [hc, hq]; rfl) (And.intro hi (nm_r (e' := nI i) (by rw [hc, ← hin, hq]; rfl) (And.intro hi (nm_r (e' := r.2.2.2.2.1) (by rw [hc, hq]; rfl) (sf_Y_del ⟨hL, q, rfl, hA⟩ (fun u1 h1 => ?_))))))))
      obtain ⟨hL1, q1, rfl, hA1⟩ := h1
      rw [sf_cr, hin, hci] at IH
      by_cases k4 : r.1 = 4
      · rw [if_pos k4] at IH
        refine br_t k4 (And.intro hv (And.intro hv (nm_r (e' := upd (g 1) i (g 1 i - 1)) (by rw [hci]) ?_)))
        refine sf_Y_dirtyInode (g := sf_up g 1 i (g 1 i - 1)) (l := A ++ B) ⟨hL1, q1, rfl, hA1⟩ i1 (by omega) (fun u2 h2 => ?_)
        obtain ⟨hL2, q2, rfl, hA2⟩ := h2
        refine And.intro hv ?_
        rw [hci]
        have e1 : sf_dI (sf_up g 1 i (g 1 i - 1)) i 1 i = g 1 i - 1 := sf_upd_s
        rw [e1]
        by_cases c0 : g 1 i - 1 = 0
        · rw [if_pos c0] at IH
          refine br_t c0 (sf_Y_reclaim (g := sf_c4 g i) (l := A ++ B) ⟨hL2, q2, rfl, hA2⟩ i1 (by omega) (show (A ++ B).length + sf_nz (g 2) ≤ 120 by omega) (fun u3 h3 => ?_))
          obtain ⟨q3, rfl, k⟩ := IH u3 h3
          exact nm_r (nI_1 _) (nm_r (nI_1 _) k)
        · rw [if_neg c0] at IH
          obtain ⟨hL3, q3, e3, hA3⟩ : sf_Y ib db nd lim (sf_c4 g i) (A ++ B) (sf_mY ib db nd lim (A ++ B).length (sf_c4 g i) q2) := ⟨hL2, q2, rfl, hA2⟩
          have k := ih (t + 1) (c + 1, sf_c4 g i, A ++ B) q2 (by omega) (by rw [sf_cr, hin, hci, if_pos k4, if_neg c0] at hM1; exact hM1) hL2 hA2 (by rw [sf_cr, hin, hci, if_pos k4, if_neg c0] at hp; exact hp)
          exact br_f c0 (nm_r (nI_1 _) (nm_r (nI_1 _) k))
      · refine br_f k4 ?_
        by_cases k5 : r.1 = 5
        · obtain ⟨b, b1, hb⟩ := hw.2.2.1 k5
          have hvb : vp_in (nI b) 17 := vp_in_nI (by omega) (by decide)
          have hcb : (nI b).toNatClampNeg = b := nI_clamp (by omega)
          have hx : (nI ib + nI db) + nI b = nI (ib + db + b) := by rw [nI_add, nI_add]
          have k := ih (t + 1) (c + 1, sf_c5 ib db g b, A ++ B) q1 (by omega) (by rw [sf_cr, if_neg k4, if_pos k5, hb, hcb] at hM1; exact hM1) hL1 hA1 (by rw [sf_cr, if_neg k4, if_pos k5, hb, hcb] at hp; exact hp)
          refine br_t k5 ?_
          rw [hb]
          refine And.intro hvb (nm_r (e' := upd (g 18) b 0) (by rw [hcb]) (nm_r (e' := upd (g 20) 0 1) (by rw [sf_t1]) (And.intro hvb (And.intro hvb (nm_r (e' := upd (g 12) b (g 14 b)) (by rw [hcb]) (And.intro hvb (And.intro hvb (nm_r (e' := upd (g 13) b (g 15 b)) (by rw [hcb]) (And.intro (by rw [hx]; exact vp_in_nI (by omega) (by decide)) (nm_r (e' := upd (upd (g 20) 0 1) (ib + db + b) 0) (by rw [hx, nI_clamp (by omega), sf_t0]) (nm_r (nI_1 _) (nm_r (nI_1 _) k))))))))))))
        · have k := ih (t + 1) (c + 1, sf_c6 g i, A ++ B) q1 (by omega) (by rw [sf_cr, hin, hci, if_neg k4, if_neg k5] at hM1; exact hM1) hL1 hA1 (by rw [sf_cr, hin, hci, if_neg k4, if_neg k5] at hp; exact hp)
          exact br_f k5 (And.intro hv (nm_r (e' := upd (g 16) i 0) (by rw [hci]) (nm_r (e' := upd (g 20) 0 1) (by rw [sf_t1]) (nm_r (nI_1 _) (nm_r (nI_1 _) k)))))
end
theorem i_vc_work {k : Nat} {u : SX} {v : SY} (I : i_Rel k u v) (hk : k + 4 ≤ 2052) (v1 : Int32) : wpX_work (fun r u' => wpY_work (fun r' v' => r' = r ∧ i_Rel (k + 4) u' v') v v1) u v1 := by
  obtain ⟨ib, db, nd, lim, g, l, hZ, ⟨hL, q, rfl, hA⟩, ⟨hL', q', rfl, hA'⟩, hI⟩ := I
  obtain ⟨t, t1, t2, cX, cY⟩ := sf_clamp 0 16 (by omega) (by decide) v1
  by_cases hm : g 21 0 = 0
  · exact br_t hm (br_t hm ⟨rfl, ib, db, nd, lim, g, l, hZ, ⟨hL, q, rfl, hA⟩, ⟨hL', q', rfl, hA'⟩, hI⟩)
  · have hM := sf_MU hI hm
    refine br_f hm (cX _ _ (Exists.intro (t + 1) (sf_X_wk hZ t2 t 0 (0, g, l) q (by omega) hM hL hA (fun u' hu' => ?_))))
    refine br_f hm (cY _ _ (Exists.intro (t + 1) (sf_Y_wk hZ t2 t 0 (0, g, l) q' (by omega) hM hL' hA' (fun v' hv' => ?_))))
    exact ⟨rfl, ib, db, nd, lim, _, _, hZ, hu', hv', Or.inl (sf_M_wk hZ t (0, g, l) hM)⟩
end
section
/-! crash -/
def sf_kg (g : sf_G) (i p e b t : Nat) : sf_G :=
  sf_st (sf_st (sf_st (sf_st (sf_st (sf_st (sf_st (sf_st (sf_st (sf_st (sf_st (sf_st g 0 (sf_cp (g 3) (g 0) 1 i)) 1 (sf_cp (g 4) (g 1) 1 i)) 16 (sf_cp (g 17) (g 16) 1 i)) 2 (sf_cp (g 5) (g 2) 3 p))
    6 (sf_cp (g 8) (g 6) 0 e)) 7 (sf_cp (g 9) (g 7) 0 e)) 10 (sf_cp (g 8) (g 10) 0 e)) 11 (sf_cp (g 9) (g 11) 0 e))
    12 (sf_cp (g 14) (g 12) 1 b)) 13 (sf_cp (g 15) (g 13) 1 b)) 18 (sf_cp (g 19) (g 18) 1 b)) 20 (sf_cp (fun _ => 0) (g 20) 0 t)
theorem sf_st_id (g : sf_G) (f : Nat) : sf_st g f (g f) = g := by
  funext h
  rw [sf_st]
  split
  · rename_i e; rw [e]
  · rfl
theorem sf_kg_0 (g : sf_G) : sf_kg g 1 3 0 1 0 = g := by
  rw [sf_kg]
  simp only [sf_cp_0, sf_st_id]
section
variable {ib db nd lim : Nat} {g : sf_G} {l A B : List sf_R} {r : sf_R}
theorem sf_X_kd {post : Int32 → SX → Prop} {q : sf_G} {C : Int32} {n I P E B : Nat} (hZ : sf_Z ib db nd lim) (hp : ∀ u', sf_X ib db nd lim (sf_up (sf_kg g I P E B (1 + ib + db + nd)) 21 0 0) [] u' → post C u') (hn : True) : ∀ d t, t + d = 1 + ib + db + nd → wX_crash_217 post C (nI ib) (nI db) (nI (4 * ib)) (nI (4 * db)) (nI nd) (nI (1 + ib + db + nd)) (nI lim) (nI n) (g 21 0) (g 22 0) (g 23 0) (d + 1) (nI t) ((sf_kg g I P E B t) 0) ((sf_kg g I P E B t) 1) ((sf_kg g I P E B t) 2) ((sf_kg g I P E B t) 3) ((sf_kg g I P E B t) 4) ((sf_kg g I P E B t) 5) ((sf_kg g I P E B t) 6) ((sf_kg g I P E B t) 7) ((sf_kg g I P E B t) 8) ((sf_kg g I P E B t) 9) ((sf_kg g I P E B t) 10) ((sf_kg g I P E B t) 11) ((sf_kg g I P E B t) 12) ((sf_kg g I P E B t) 13) ((sf_kg g I P E B t) 14) ((sf_kg g I P E B t) 15) ((sf_kg g I P E B t) 16) ((sf_kg g I P E B t) 17) ((sf_kg g I P E B t) 18) ((sf_kg g I P E B t) 19) ((sf_kg g I P E B t) 20) (q 0) (q 1) (q 2) (q 3) (q 4) (q 5) := by
  obtain ⟨z1, z2, z3, z4, z5, z6, -⟩ := hZ
  intro d
  induction d with
  | zero =>
    intro t e
    have e1 : t = 1 + ib + db + nd := by omega
    subst e1
    skip
    exact br_t (nI_le (by omega) (by omega)) (hp _ ⟨Nat.zero_le _, q, rfl, sf_A_nil q⟩)
  | succ d ih =>
    intro t e
    have hi : vp_in (nI t) 25 := vp_in_nI (by omega) (by decide)
    have hc : (nI t).toNatClampNeg = t := nI_clamp (by omega)
    exact br_f (nI_ge (by omega) (by omega)) (And.intro hi (nm_r (e' := sf_cp (fun _ => 0) (g 20) 0 (t + 1)) (by rw [hc, sf_t0]; exact sf_cp_s (by omega) rfl) (nm_r (nI_1 t) (ih (t + 1) (by omega)))))
theorem sf_Y_kd {post : Int32 → SY → Prop} {q : sf_G} {C : Int32} {n I P E B : Nat} (hZ : sf_Z ib db nd lim) (hp : ∀ u', sf_Y ib db nd lim (sf_up (sf_kg g I P E B (1 + ib + db + nd)) 21 0 0) [] u' → post C u') (hn : n = 0) : ∀ d t, t + d = 1 + ib + db + nd → wY_crash_222 post C (nI ib) (nI db) (nI nd) (nI lim) (nI (4 * ib)) (nI (4 * db)) (nI (1 + ib + db + nd)) (nI n) (g 21 0) (g 22 0) (g 23 0) (d + 1) (nI t) ((sf_kg g I P E B t) 0) ((sf_kg g I P E B t) 1) ((sf_kg g I P E B t) 2) ((sf_kg g I P E B t) 16) ((sf_kg g I P E B t) 18) ((sf_kg g I P E B t) 12) ((sf_kg g I P E B t) 13) ((sf_kg g I P E B t) 6) ((sf_kg g I P E B t) 7) ((sf_kg g I P E B t) 3) ((sf_kg g I P E B t) 4) ((sf_kg g I P E B t) 5) ((sf_kg g I P E B t) 17) ((sf_kg g I P E B t) 19) ((sf_kg g I P E B t) 14) ((sf_kg g I P E B t) 15) ((sf_kg g I P E B t) 8) ((sf_kg g I P E B t) 9) ((sf_kg g I P E B t) 10) ((sf_kg g I P E B t) 11) ((sf_kg g I P E B t) 20) (q 0) (q 1) (q 2) (q 3) (q 4) (q 5) := by
  obtain ⟨z1, z2, z3, z4, z5, z6, -⟩ := hZ
  intro d
  induction d with
  | zero =>
    intro t e
    have e1 : t = 1 + ib + db + nd := by omega
    subst e1
    subst hn
    exact br_t (nI_le (by omega) (by omega)) (hp _ ⟨Nat.zero_le _, q, rfl, sf_A_nil q⟩)
  | succ d ih =>
    intro t e
    have hi : vp_in (nI t) 25 := vp_in_nI (by omega) (by decide)
    have hc : (nI t).toNatClampNeg = t := nI_clamp (by omega)
    exact br_f (nI_ge (by omega) (by omega)) (And.intro hi (nm_r (e' := sf_cp (fun _ => 0) (g 20) 0 (t + 1)) (by rw [hc, sf_t0]; exact sf_cp_s (by omega) rfl) (nm_r (nI_1 t) (ih (t + 1) (by omega)))))
theorem sf_X_ks {post : Int32 → SX → Prop} {q : sf_G} {C : Int32} {N I P B : Nat} (hZ : sf_Z ib db nd lim) (hp : ∃ n, wX_crash_165 post C (nI ib) (nI db) (nI (4 * ib)) (nI (4 * db)) (nI nd) (nI (1 + ib + db + nd)) (nI lim) (nI N) (g 21 0) (g 22 0) (g 23 0) n 1 ((sf_kg g I P (4 * db) B 0) 0) ((sf_kg g I P (4 * db) B 0) 1) ((sf_kg g I P (4 * db) B 0) 2) ((sf_kg g I P (4 * db) B 0) 3) ((sf_kg g I P (4 * db) B 0) 4) ((sf_kg g I P (4 * db) B 0) 5) ((sf_kg g I P (4 * db) B 0) 6) ((sf_kg g I P (4 * db) B 0) 7) ((sf_kg g I P (4 * db) B 0) 8) ((sf_kg g I P (4 * db) B 0) 9) ((sf_kg g I P (4 * db) B 0) 10) ((sf_kg g I P (4 * db) B 0) 11) ((sf_kg g I P (4 * db) B 0) 12) ((sf_kg g I P (4 * db) B 0) 13) ((sf_kg g I P (4 * db) B 0) 14) ((sf_kg g I P (4 * db) B 0) 15) ((sf_kg g I P (4 * db) B 0) 16) ((sf_kg g I P (4 * db) B 0) 17) ((sf_kg g I P (4 * db) B 0) 18) ((sf_kg g I P (4 * db) B 0) 19) ((sf_kg g I P (4 * db) B 0) 20) (q 0) (q 1) (q 2) (q 3) (q 4) (q 5)) : ∀ d e, e + d = 4 * db → wX_crash_101 post C (nI ib) (nI db) (nI (4 * ib)) (nI (4 * db)) (nI nd) (nI (1 + ib + db + nd)) (nI lim) (nI N) (g 21 0) (g 22 0) (g 23 0) (d + 1) (nI e) ((sf_kg g I P e B 0) 0) ((sf_kg g I P e B 0) 1) ((sf_kg g I P e B 0) 2) ((sf_kg g I P e B 0) 3) ((sf_kg g I P e B 0) 4) ((sf_kg g I P e B 0) 5) ((sf_kg g I P e B 0) 6) ((sf_kg g I P e B 0) 7) ((sf_kg g I P e B 0) 8) ((sf_kg g I P e B 0) 9) ((sf_kg g I P e B 0) 10) ((sf_kg g I P e B 0) 11) ((sf_kg g I P e B 0) 12) ((sf_kg g I P e B 0) 13) ((sf_kg g I P e B 0) 14) ((sf_kg g I P e B 0) 15) ((sf_kg g I P e B 0) 16) ((sf_kg g I P e B 0) 17) ((sf_kg g I P e B 0) 18) ((sf_kg g I P e B 0) 19) ((sf_kg g I P e B 0) 20) (q 0) (q 1) (q 2) (q 3) (q 4) (q 5) := by
  obtain ⟨z1, z2, z3, z4, z5, z6, -⟩ := hZ
  intro d
  induction d with
  | zero =>
    intro e h
    have e1 : e = 4 * db := by omega
    subst e1
    exact br_t (nI_le (by omega) (by omega)) hp
  | succ d ih =>
    intro e h
    have hi : vp_in (nI e) 16 := vp_in_nI (by omega) (by decide)
    have hc : (nI e).toNatClampNeg = e := nI_clamp (by omega)
    exact br_f (nI_ge (by omega) (by omega)) (And.intro hi (And.intro hi (nm_r (e' := sf_cp (g 8) (g 6) 0 (e + 1)) (by rw [hc]; exact sf_cp_s (by omega) rfl) (And.intro hi (And.intro hi (nm_r (e' := sf_cp (g 9) (g 7) 0 (e + 1)) (by rw [hc]; exact sf_cp_s (by omega) rfl) (And.intro hi (And.intro hi (nm_r (e' := sf_cp (g 8) (g 10) 0 (e + 1)) (by rw [hc]; exact sf_cp_s (by omega) rfl) (And.intro hi (And.intro hi (nm_r (e' := sf_cp (g 9) (g 11) 0 (e + 1)) (by rw [hc]; exact sf_cp_s (by omega) rfl) (nm_r (nI_1 e) (ih (e + 1) (by omega)))))))))))))))
theorem sf_Y_ks {post : Int32 → SY → Prop} {q : sf_G} {C : Int32} {N I P B : Nat} (hZ : sf_Z ib db nd lim) (hp : ∃ n, wY_crash_222 post C (nI ib) (nI db) (nI nd) (nI lim) (nI (4 * ib)) (nI (4 * db)) (nI (1 + ib + db + nd)) (nI 0) (g 21 0) (g 22 0) (g 23 0) n 0 ((sf_kg g I P (4 * db) B 0) 0) ((sf_kg g I P (4 * db) B 0) 1) ((sf_kg g I P (4 * db) B 0) 2) ((sf_kg g I P (4 * db) B 0) 16) ((sf_kg g I P (4 * db) B 0) 18) ((sf_kg g I P (4 * db) B 0) 12) ((sf_kg g I P (4 * db) B 0) 13) ((sf_kg g I P (4 * db) B 0) 6) ((sf_kg g I P (4 * db) B 0) 7) ((sf_kg g I P (4 * db) B 0) 3) ((sf_kg g I P (4 * db) B 0) 4) ((sf_kg g I P (4 * db) B 0) 5) ((sf_kg g I P (4 * db) B 0) 17) ((sf_kg g I P (4 * db) B 0) 19) ((sf_kg g I P (4 * db) B 0) 14) ((sf_kg g I P (4 * db) B 0) 15) ((sf_kg g I P (4 * db) B 0) 8) ((sf_kg g I P (4 * db) B 0) 9) ((sf_kg g I P (4 * db) B 0) 10) ((sf_kg g I P (4 * db) B 0) 11) ((sf_kg g I P (4 * db) B 0) 20) (q 0) (q 1) (q 2) (q 3) (q 4) (q 5)) : ∀ d e, e + d = 4 * db → wY_crash_153 post C (nI ib) (nI db) (nI nd) (nI lim) (nI (4 * ib)) (nI (4 * db)) (nI (1 + ib + db + nd)) (nI N) (g 21 0) (g 22 0) (g 23 0) (d + 1) (nI e) ((sf_kg g I P e B 0) 0) ((sf_kg g I P e B 0) 1) ((sf_kg g I P e B 0) 2) ((sf_kg g I P e B 0) 16) ((sf_kg g I P e B 0) 18) ((sf_kg g I P e B 0) 12) ((sf_kg g I P e B 0) 13) ((sf_kg g I P e B 0) 6) ((sf_kg g I P e B 0) 7) ((sf_kg g I P e B 0) 3) ((sf_kg g I P e B 0) 4) ((sf_kg g I P e B 0) 5) ((sf_kg g I P e B 0) 17) ((sf_kg g I P e B 0) 19) ((sf_kg g I P e B 0) 14) ((sf_kg g I P e B 0) 15) ((sf_kg g I P e B 0) 8) ((sf_kg g I P e B 0) 9) ((sf_kg g I P e B 0) 10) ((sf_kg g I P e B 0) 11) ((sf_kg g I P e B 0) 20) (q 0) (q 1) (q 2) (q 3) (q 4) (q 5) := by
  obtain ⟨z1, z2, z3, z4, z5, z6, -⟩ := hZ
  intro d
  induction d with
  | zero =>
    intro e h
    have e1 : e = 4 * db := by omega
    subst e1
    exact br_t (nI_le (by omega) (by omega)) hp
  | succ d ih =>
    intro e h
    have hi : vp_in (nI e) 16 := vp_in_nI (by omega) (by decide)
    have hc : (nI e).toNatClampNeg = e := nI_clamp (by omega)
    exact br_f (nI_ge (by omega) (by omega)) (And.intro hi (And.intro hi (nm_r (e' := sf_cp (g 8) (g 6) 0 (e + 1)) (by rw [hc]; exact sf_cp_s (by omega) rfl) (And.intro hi (And.intro hi (nm_r (e' := sf_cp (g 9) (g 7) 0 (e + 1)) (by rw [hc]; exact sf_cp_s (by omega) rfl) (And.intro hi (And.intro hi (nm_r (e' := sf_cp (g 8) (g 10) 0 (e + 1)) (by rw [hc]; exact sf_cp_s (by omega) rfl) (And.intro hi (And.intro hi (nm_r (e' := sf_cp (g 9) (g 11) 0 (e + 1)) (by rw [hc]; exact sf_cp_s (by omega) rfl) (nm_r (nI_1 e) (ih (e + 1) (by omega)))))))))))))))
theorem sf_X_kb {post : Int32 → SX → Prop} {q : sf_G} {C : Int32} {N I P E : Nat} (hZ : sf_Z ib db nd lim) (hp : ∃ n, wX_crash_217 post C (nI ib) (nI db) (nI (4 * ib)) (nI (4 * db)) (nI nd) (nI (1 + ib + db + nd)) (nI lim) (nI N) (g 21 0) (g 22 0) (g 23 0) n 0 ((sf_kg g I P E (nd + 1) 0) 0) ((sf_kg g I P E (nd + 1) 0) 1) ((sf_kg g I P E (nd + 1) 0) 2) ((sf_kg g I P E (nd + 1) 0) 3) ((sf_kg g I P E (nd + 1) 0) 4) ((sf_kg g I P E (nd + 1) 0) 5) ((sf_kg g I P E (nd + 1) 0) 6) ((sf_kg g I P E (nd + 1) 0) 7) ((sf_kg g I P E (nd + 1) 0) 8) ((sf_kg g I P E (nd + 1) 0) 9) ((sf_kg g I P E (nd + 1) 0) 10) ((sf_kg g I P E (nd + 1) 0) 11) ((sf_kg g I P E (nd + 1) 0) 12) ((sf_kg g I P E (nd + 1) 0) 13) ((sf_kg g I P E (nd + 1) 0) 14) ((sf_kg g I P E (nd + 1) 0) 15) ((sf_kg g I P E (nd + 1) 0) 16) ((sf_kg g I P E (nd + 1) 0) 17) ((sf_kg g I P E (nd + 1) 0) 18) ((sf_kg g I P E (nd + 1) 0) 19) ((sf_kg g I P E (nd + 1) 0) 20) (q 0) (q 1) (q 2) (q 3) (q 4) (q 5)) : ∀ d b, 1 ≤ b → b + d = nd + 1 → wX_crash_165 post C (nI ib) (nI db) (nI (4 * ib)) (nI (4 * db)) (nI nd) (nI (1 + ib + db + nd)) (nI lim) (nI N) (g 21 0) (g 22 0) (g 23 0) (d + 1) (nI b) ((sf_kg g I P E b 0) 0) ((sf_kg g I P E b 0) 1) ((sf_kg g I P E b 0) 2) ((sf_kg g I P E b 0) 3) ((sf_kg g I P E b 0) 4) ((sf_kg g I P E b 0) 5) ((sf_kg g I P E b 0) 6) ((sf_kg g I P E b 0) 7) ((sf_kg g I P E b 0) 8) ((sf_kg g I P E b 0) 9) ((sf_kg g I P E b 0) 10) ((sf_kg g I P E b 0) 11) ((sf_kg g I P E b 0) 12) ((sf_kg g I P E b 0) 13) ((sf_kg g I P E b 0) 14) ((sf_kg g I P E b 0) 15) ((sf_kg g I P E b 0) 16) ((sf_kg g I P E b 0) 17) ((sf_kg g I P E b 0) 18) ((sf_kg g I P E b 0) 19) ((sf_kg g I P E b 0) 20) (q 0) (q 1) (q 2) (q 3) (q 4) (q 5) := by
  obtain ⟨z1, z2, z3, z4, z5, z6, -⟩ := hZ
  intro d
  induction d with
  | zero =>
    intro b b1 h
    have e1 : b = nd + 1 := by omega
    subst e1
    exact br_t (nI_lt (by omega) (by omega)) hp
  | succ d ih =>
    intro b b1 h
    have hi : vp_in (nI b) 17 := vp_in_nI (by omega) (by decide)
    have hc : (nI b).toNatClampNeg = b := nI_clamp (by omega)
    exact br_f (nI_nlt (by omega) (by omega)) (And.intro hi (And.intro hi (nm_r (e' := sf_cp (g 14) (g 12) 1 (b + 1)) (by rw [hc]; exact sf_cp_s b1 rfl) (And.intro hi (And.intro hi (nm_r (e' := sf_cp (g 15) (g 13) 1 (b + 1)) (by rw [hc]; exact sf_cp_s b1 rfl) (And.intro hi (And.intro hi (nm_r (e' := sf_cp (g 19) (g 18) 1 (b + 1)) (by rw [hc]; exact sf_cp_s b1 rfl) (nm_r (nI_1 b) (ih (b + 1) (by omega) (by omega))))))))))))
theorem sf_Y_kb {post : Int32 → SY → Prop} {q : sf_G} {C : Int32} {N I P E : Nat} (hZ : sf_Z ib db nd lim) (hp : ∃ n, wY_crash_153 post C (nI ib) (nI db) (nI nd) (nI lim) (nI (4 * ib)) (nI (4 * db)) (nI (1 + ib + db + nd)) (nI N) (g 21 0) (g 22 0) (g 23 0) n 0 ((sf_kg g I P E (nd + 1) 0) 0) ((sf_kg g I P E (nd + 1) 0) 1) ((sf_kg g I P E (nd + 1) 0) 2) ((sf_kg g I P E (nd + 1) 0) 16) ((sf_kg g I P E (nd + 1) 0) 18) ((sf_kg g I P E (nd + 1) 0) 12) ((sf_kg g I P E (nd + 1) 0) 13) ((sf_kg g I P E (nd + 1) 0) 6) ((sf_kg g I P E (nd + 1) 0) 7) ((sf_kg g I P E (nd + 1) 0) 3) ((sf_kg g I P E (nd + 1) 0) 4) ((sf_kg g I P E (nd + 1) 0) 5) ((sf_kg g I P E (nd + 1) 0) 17) ((sf_kg g I P E (nd + 1) 0) 19) ((sf_kg g I P E (nd + 1) 0) 14) ((sf_kg g I P E (nd + 1) 0) 15) ((sf_kg g I P E (nd + 1) 0) 8) ((sf_kg g I P E (nd + 1) 0) 9) ((sf_kg g I P E (nd + 1) 0) 10) ((sf_kg g I P E (nd + 1) 0) 11) ((sf_kg g I P E (nd + 1) 0) 20) (q 0) (q 1) (q 2) (q 3) (q 4) (q 5)) : ∀ d b, 1 ≤ b → b + d = nd + 1 → wY_crash_101 post C (nI ib) (nI db) (nI nd) (nI lim) (nI (4 * ib)) (nI (4 * db)) (nI (1 + ib + db + nd)) (nI N) (g 21 0) (g 22 0) (g 23 0) (d + 1) (nI b) ((sf_kg g I P E b 0) 0) ((sf_kg g I P E b 0) 1) ((sf_kg g I P E b 0) 2) ((sf_kg g I P E b 0) 16) ((sf_kg g I P E b 0) 18) ((sf_kg g I P E b 0) 12) ((sf_kg g I P E b 0) 13) ((sf_kg g I P E b 0) 6) ((sf_kg g I P E b 0) 7) ((sf_kg g I P E b 0) 3) ((sf_kg g I P E b 0) 4) ((sf_kg g I P E b 0) 5) ((sf_kg g I P E b 0) 17) ((sf_kg g I P E b 0) 19) ((sf_kg g I P E b 0) 14) ((sf_kg g I P E b 0) 15) ((sf_kg g I P E b 0) 8) ((sf_kg g I P E b 0) 9) ((sf_kg g I P E b 0) 10) ((sf_kg g I P E b 0) 11) ((sf_kg g I P E b 0) 20) (q 0) (q 1) (q 2) (q 3) (q 4) (q 5) := by
  obtain ⟨z1, z2, z3, z4, z5, z6, -⟩ := hZ
  intro d
  induction d with
  | zero =>
    intro b b1 h
    have e1 : b = nd + 1 := by omega
    subst e1
    exact br_t (nI_lt (by omega) (by omega)) hp
  | succ d ih =>
    intro b b1 h
    have hi : vp_in (nI b) 17 := vp_in_nI (by omega) (by decide)
    have hc : (nI b).toNatClampNeg = b := nI_clamp (by omega)
    exact br_f (nI_nlt (by omega) (by omega)) (And.intro hi (And.intro hi (nm_r (e' := sf_cp (g 19) (g 18) 1 (b + 1)) (by rw [hc]; exact sf_cp_s b1 rfl) (And.intro hi (And.intro hi (nm_r (e' := sf_cp (g 14) (g 12) 1 (b + 1)) (by rw [hc]; exact sf_cp_s b1 rfl) (And.intro hi (And.intro hi (nm_r (e' := sf_cp (g 15) (g 13) 1 (b + 1)) (by rw [hc]; exact sf_cp_s b1 rfl) (nm_r (nI_1 b) (ih (b + 1) (by omega) (by omega))))))))))))
theorem sf_X_ki {post : Int32 → SX → Prop} {q : sf_G} {C : Int32} {N : Nat} (hZ : sf_Z ib db nd lim) (hp : ∃ n, wX_crash_101 post C (nI ib) (nI db) (nI (4 * ib)) (nI (4 * db)) (nI nd) (nI (1 + ib + db + nd)) (nI lim) (nI N) (g 21 0) (g 22 0) (g 23 0) n 0 ((sf_kg g (4 * ib + 1) (3 * (4 * ib + 1)) 0 1 0) 0) ((sf_kg g (4 * ib + 1) (3 * (4 * ib + 1)) 0 1 0) 1) ((sf_kg g (4 * ib + 1) (3 * (4 * ib + 1)) 0 1 0) 2) ((sf_kg g (4 * ib + 1) (3 * (4 * ib + 1)) 0 1 0) 3) ((sf_kg g (4 * ib + 1) (3 * (4 * ib + 1)) 0 1 0) 4) ((sf_kg g (4 * ib + 1) (3 * (4 * ib + 1)) 0 1 0) 5) ((sf_kg g (4 * ib + 1) (3 * (4 * ib + 1)) 0 1 0) 6) ((sf_kg g (4 * ib + 1) (3 * (4 * ib + 1)) 0 1 0) 7) ((sf_kg g (4 * ib + 1) (3 * (4 * ib + 1)) 0 1 0) 8) ((sf_kg g (4 * ib + 1) (3 * (4 * ib + 1)) 0 1 0) 9) ((sf_kg g (4 * ib + 1) (3 * (4 * ib + 1)) 0 1 0) 10) ((sf_kg g (4 * ib + 1) (3 * (4 * ib + 1)) 0 1 0) 11) ((sf_kg g (4 * ib + 1) (3 * (4 * ib + 1)) 0 1 0) 12) ((sf_kg g (4 * ib + 1) (3 * (4 * ib + 1)) 0 1 0) 13) ((sf_kg g (4 * ib + 1) (3 * (4 * ib + 1)) 0 1 0) 14) ((sf_kg g (4 * ib + 1) (3 * (4 * ib + 1)) 0 1 0) 15) ((sf_kg g (4 * ib + 1) (3 * (4 * ib + 1)) 0 1 0) 16) ((sf_kg g (4 * ib + 1) (3 * (4 * ib + 1)) 0 1 0) 17) ((sf_kg g (4 * ib + 1) (3 * (4 * ib + 1)) 0 1 0) 18) ((sf_kg g (4 * ib + 1) (3 * (4 * ib + 1)) 0 1 0) 19) ((sf_kg g (4 * ib + 1) (3 * (4 * ib + 1)) 0 1 0) 20) (q 0) (q 1) (q 2) (q 3) (q 4) (q 5)) : ∀ d i, 1 ≤ i → i + d = 4 * ib + 1 → wX_crash_16 post C (nI ib) (nI db) (nI (4 * ib)) (nI (4 * db)) (nI nd) (nI (1 + ib + db + nd)) (nI lim) (nI N) (g 21 0) (g 22 0) (g 23 0) (d + 1) (nI i) ((sf_kg g i (3 * i) 0 1 0) 0) ((sf_kg g i (3 * i) 0 1 0) 1) ((sf_kg g i (3 * i) 0 1 0) 2) ((sf_kg g i (3 * i) 0 1 0) 3) ((sf_kg g i (3 * i) 0 1 0) 4) ((sf_kg g i (3 * i) 0 1 0) 5) ((sf_kg g i (3 * i) 0 1 0) 6) ((sf_kg g i (3 * i) 0 1 0) 7) ((sf_kg g i (3 * i) 0 1 0) 8) ((sf_kg g i (3 * i) 0 1 0) 9) ((sf_kg g i (3 * i) 0 1 0) 10) ((sf_kg g i (3 * i) 0 1 0) 11) ((sf_kg g i (3 * i) 0 1 0) 12) ((sf_kg g i (3 * i) 0 1 0) 13) ((sf_kg g i (3 * i) 0 1 0) 14) ((sf_kg g i (3 * i) 0 1 0) 15) ((sf_kg g i (3 * i) 0 1 0) 16) ((sf_kg g i (3 * i) 0 1 0) 17) ((sf_kg g i (3 * i) 0 1 0) 18) ((sf_kg g i (3 * i) 0 1 0) 19) ((sf_kg g i (3 * i) 0 1 0) 20) (q 0) (q 1) (q 2) (q 3) (q 4) (q 5) := by
  obtain ⟨z1, z2, z3, z4, z5, z6, -⟩ := hZ
  intro d
  induction d with
  | zero =>
    intro i b1 h
    have e1 : i = 4 * ib + 1 := by omega
    subst e1
    exact br_t (nI_lt (by omega) (by omega)) hp
  | succ d ih =>
    intro i b1 h
    have hi : vp_in (nI i) 17 := vp_in_nI (by omega) (by decide)
    have hc : (nI i).toNatClampNeg = i := nI_clamp (by omega)
    have k2 : ∀ d2 k, k + d2 = 3 → wX_crash_62 post (wX_crash_16 post C (nI ib) (nI db) (nI (4 * ib)) (nI (4 * db)) (nI nd) (nI (1 + ib + db + nd)) (nI lim) (nI N) (g 21 0) (g 22 0) (g 23 0) (d + 1)) C (nI i) (nI ib) (nI db) (nI (4 * ib)) (nI (4 * db)) (nI nd) (nI (1 + ib + db + nd)) (nI lim) (nI N) (g 21 0) (g 22 0) (g 23 0) (d2 + 1) (nI k) ((sf_kg g (i + 1) (3 * i + k) 0 1 0) 0) ((sf_kg g (i + 1) (3 * i + k) 0 1 0) 1) ((sf_kg g (i + 1) (3 * i + k) 0 1 0) 2) ((sf_kg g (i + 1) (3 * i + k) 0 1 0) 3) ((sf_kg g (i + 1) (3 * i + k) 0 1 0) 4) ((sf_kg g (i + 1) (3 * i + k) 0 1 0) 5) ((sf_kg g (i + 1) (3 * i + k) 0 1 0) 6) ((sf_kg g (i + 1) (3 * i + k) 0 1 0) 7) ((sf_kg g (i + 1) (3 * i + k) 0 1 0) 8) ((sf_kg g (i + 1) (3 * i + k) 0 1 0) 9) ((sf_kg g (i + 1) (3 * i + k) 0 1 0) 10) ((sf_kg g (i + 1) (3 * i + k) 0 1 0) 11) ((sf_kg g (i + 1) (3 * i + k) 0 1 0) 12) ((sf_kg g (i + 1) (3 * i + k) 0 1 0) 13) ((sf_kg g (i + 1) (3 * i + k) 0 1 0) 14) ((sf_kg g (i + 1) (3 * i + k) 0 1 0) 15) ((sf_kg g (i + 1) (3 * i + k) 0 1 0) 16) ((sf_kg g (i + 1) (3 * i + k) 0 1 0) 17) ((sf_kg g (i + 1) (3 * i + k) 0 1 0) 18) ((sf_kg g (i + 1) (3 * i + k) 0 1 0) 19) ((sf_kg g (i + 1) (3 * i + k) 0 1 0) 20) (q 0) (q 1) (q 2) (q 3) (q 4) (q 5) := by
      intro d2
      induction d2 with
      | zero =>
        intro k e
        have e3 : k = 3 := by omega
        subst e3
        exact br_t (by decide) (nm_r (nI_1 i) (ih (i + 1) (by omega) (by omega)))
      | succ d2 ih2 =>
        intro k e
        have hx : ((3 : Int32) * nI i) + nI k = nI (3 * i + k) := by
          show (nI 3 * nI i) + nI k = _
          rw [pk_mul, nI_add]
          all_goals exact congrArg nI (by omega)
        have hv : vp_in (nI (3 * i + k)) 51 := vp_in_nI (by omega) (by decide)
        have hcx : (nI (3 * i + k)).toNatClampNeg = 3 * i + k := nI_clamp (by omega)
        refine br_f (nI_ge (b := 3) (by omega) (by decide)) ?_
        rw [hx, hcx]
        exact And.intro hv (And.intro hv (nm_r (e' := sf_cp (g 5) (g 2) 3 (3 * i + (k + 1))) (sf_cp_s (by omega) rfl) (nm_r (nI_1 k) (ih2 (k + 1) (by omega)))))
    exact br_f (nI_nlt (by omega) (by omega)) (And.intro hi (And.intro hi (nm_r (e' := sf_cp (g 3) (g 0) 1 (i + 1)) (by rw [hc]; exact sf_cp_s b1 rfl) (And.intro hi (And.intro hi (nm_r (e' := sf_cp (g 4) (g 1) 1 (i + 1)) (by rw [hc]; exact sf_cp_s b1 rfl) (And.intro hi (And.intro hi (nm_r (e' := sf_cp (g 17) (g 16) 1 (i + 1)) (by rw [hc]; exact sf_cp_s b1 rfl) (Exists.intro 4 (k2 3 0 rfl)))))))))))
theorem sf_Y_ki {post : Int32 → SY → Prop} {q : sf_G} {C : Int32} {N : Nat} (hZ : sf_Z ib db nd lim) (hp : ∃ n, wY_crash_101 post C (nI ib) (nI db) (nI nd) (nI lim) (nI (4 * ib)) (nI (4 * db)) (nI (1 + ib + db + nd)) (nI N) (g 21 0) (g 22 0) (g 23 0) n 1 ((sf_kg g (4 * ib + 1) (3 * (4 * ib + 1)) 0 1 0) 0) ((sf_kg g (4 * ib + 1) (3 * (4 * ib + 1)) 0 1 0) 1) ((sf_kg g (4 * ib + 1) (3 * (4 * ib + 1)) 0 1 0) 2) ((sf_kg g (4 * ib + 1) (3 * (4 * ib + 1)) 0 1 0) 16) ((sf_kg g (4 * ib + 1) (3 * (4 * ib + 1)) 0 1 0) 18) ((sf_kg g (4 * ib + 1) (3 * (4 * ib + 1)) 0 1 0) 12) ((sf_kg g (4 * ib + 1) (3 * (4 * ib + 1)) 0 1 0) 13) ((sf_kg g (4 * ib + 1) (3 * (4 * ib + 1)) 0 1 0) 6) ((sf_kg g (4 * ib + 1) (3 * (4 * ib + 1)) 0 1 0) 7) ((sf_kg g (4 * ib + 1) (3 * (4 * ib + 1)) 0 1 0) 3) ((sf_kg g (4 * ib + 1) (3 * (4 * ib + 1)) 0 1 0) 4) ((sf_kg g (4 * ib + 1) (3 * (4 * ib + 1)) 0 1 0) 5) ((sf_kg g (4 * ib + 1) (3 * (4 * ib + 1)) 0 1 0) 17) ((sf_kg g (4 * ib + 1) (3 * (4 * ib + 1)) 0 1 0) 19) ((sf_kg g (4 * ib + 1) (3 * (4 * ib + 1)) 0 1 0) 14) ((sf_kg g (4 * ib + 1) (3 * (4 * ib + 1)) 0 1 0) 15) ((sf_kg g (4 * ib + 1) (3 * (4 * ib + 1)) 0 1 0) 8) ((sf_kg g (4 * ib + 1) (3 * (4 * ib + 1)) 0 1 0) 9) ((sf_kg g (4 * ib + 1) (3 * (4 * ib + 1)) 0 1 0) 10) ((sf_kg g (4 * ib + 1) (3 * (4 * ib + 1)) 0 1 0) 11) ((sf_kg g (4 * ib + 1) (3 * (4 * ib + 1)) 0 1 0) 20) (q 0) (q 1) (q 2) (q 3) (q 4) (q 5)) : ∀ d i, 1 ≤ i → i + d = 4 * ib + 1 → wY_crash_16 post C (nI ib) (nI db) (nI nd) (nI lim) (nI (4 * ib)) (nI (4 * db)) (nI (1 + ib + db + nd)) (nI N) (g 21 0) (g 22 0) (g 23 0) (d + 1) (nI i) ((sf_kg g i (3 * i) 0 1 0) 0) ((sf_kg g i (3 * i) 0 1 0) 1) ((sf_kg g i (3 * i) 0 1 0) 2) ((sf_kg g i (3 * i) 0 1 0) 16) ((sf_kg g i (3 * i) 0 1 0) 18) ((sf_kg g i (3 * i) 0 1 0) 12) ((sf_kg g i (3 * i) 0 1 0) 13) ((sf_kg g i (3 * i) 0 1 0) 6) ((sf_kg g i (3 * i) 0 1 0) 7) ((sf_kg g i (3 * i) 0 1 0) 3) ((sf_kg g i (3 * i) 0 1 0) 4) ((sf_kg g i (3 * i) 0 1 0) 5) ((sf_kg g i (3 * i) 0 1 0) 17) ((sf_kg g i (3 * i) 0 1 0) 19) ((sf_kg g i (3 * i) 0 1 0) 14) ((sf_kg g i (3 * i) 0 1 0) 15) ((sf_kg g i (3 * i) 0 1 0) 8) ((sf_kg g i (3 * i) 0 1 0) 9) ((sf_kg g i (3 * i) 0 1 0) 10) ((sf_kg g i (3 * i) 0 1 0) 11) ((sf_kg g i (3 * i) 0 1 0) 20) (q 0) (q 1) (q 2) (q 3) (q 4) (q 5) := by
  obtain ⟨z1, z2, z3, z4, z5, z6, -⟩ := hZ
  intro d
  induction d with
  | zero =>
    intro i b1 h
    have e1 : i = 4 * ib + 1 := by omega
    subst e1
    exact br_t (nI_lt (by omega) (by omega)) hp
  | succ d ih =>
    intro i b1 h
    have hi : vp_in (nI i) 17 := vp_in_nI (by omega) (by decide)
    have hc : (nI i).toNatClampNeg = i := nI_clamp (by omega)
    have k2 : ∀ d2 k, k + d2 = 3 → wY_crash_62 post (wY_crash_16 post C (nI ib) (nI db) (nI nd) (nI lim) (nI (4 * ib)) (nI (4 * db)) (nI (1 + ib + db + nd)) (nI N) (g 21 0) (g 22 0) (g 23 0) (d + 1)) C (nI i) (nI ib) (nI db) (nI nd) (nI lim) (nI (4 * ib)) (nI (4 * db)) (nI (1 + ib + db + nd)) (nI N) (g 21 0) (g 22 0) (g 23 0) (d2 + 1) (nI k) ((sf_kg g (i + 1) (3 * i + k) 0 1 0) 0) ((sf_kg g (i + 1) (3 * i + k) 0 1 0) 1) ((sf_kg g (i + 1) (3 * i + k) 0 1 0) 2) ((sf_kg g (i + 1) (3 * i + k) 0 1 0) 16) ((sf_kg g (i + 1) (3 * i + k) 0 1 0) 18) ((sf_kg g (i + 1) (3 * i + k) 0 1 0) 12) ((sf_kg g (i + 1) (3 * i + k) 0 1 0) 13) ((sf_kg g (i + 1) (3 * i + k) 0 1 0) 6) ((sf_kg g (i + 1) (3 * i + k) 0 1 0) 7) ((sf_kg g (i + 1) (3 * i + k) 0 1 0) 3) ((sf_kg g (i + 1) (3 * i + k) 0 1 0) 4) ((sf_kg g (i + 1) (3 * i + k) 0 1 0) 5) ((sf_kg g (i + 1) (3 * i + k) 0 1 0) 17) ((sf_kg g (i + 1) (3 * i + k) 0 1 0) 19) ((sf_kg g (i + 1) (3 * i + k) 0 1 0) 14) ((sf_kg g (i + 1) (3 * i + k) 0 1 0) 15) ((sf_kg g (i + 1) (3 * i + k) 0 1 0) 8) ((sf_kg g (i + 1) (3 * i + k) 0 1 0) 9) ((sf_kg g (i + 1) (3 * i + k) 0 1 0) 10) ((sf_kg g (i + 1) (3 * i + k) 0 1 0) 11) ((sf_kg g (i + 1) (3 * i + k) 0 1 0) 20) (q 0) (q 1) (q 2) (q 3) (q 4) (q 5) := by
      intro d2
      induction d2 with
      | zero =>
        intro k e
        have e3 : k = 3 := by omega
        subst e3
        exact br_t (by decide) (nm_r (nI_1 i) (ih (i + 1) (by omega) (by omega)))
      | succ d2 ih2 =>
        intro k e
        have hx : (nI i * 3) + nI k = nI (3 * i + k) := by
          show (nI i * nI 3) + nI k = _
          rw [pk_mul, nI_add]
          all_goals exact congrArg nI (by omega)
        have hv : vp_in (nI (3 * i + k)) 51 := vp_in_nI (by omega) (by decide)
        have hcx : (nI (3 * i + k)).toNatClampNeg = 3 * i + k := nI_clamp (by omega)
        refine br_f (nI_ge (b := 3) (by omega) (by decide)) ?_
        rw [hx, hcx]
        exact And.intro hv (And.intro hv (nm_r (e' := sf_cp (g 5) (g 2) 3 (3 * i + (k + 1))) (sf_cp_s (by omega) rfl) (nm_r (nI_1 k) (ih2 (k + 1) (by omega)))))
    exact br_f (nI_nlt (by omega) (by omega)) (And.intro hi (And.intro hi (nm_r (e' := sf_cp (g 3) (g 0) 1 (i + 1)) (by rw [hc]; exact sf_cp_s b1 rfl) (And.intro hi (And.intro hi (nm_r (e' := sf_cp (g 4) (g 1) 1 (i + 1)) (by rw [hc]; exact sf_cp_s b1 rfl) (And.intro hi (And.intro hi (nm_r (e' := sf_cp (g 17) (g 16) 1 (i + 1)) (by rw [hc]; exact sf_cp_s b1 rfl) (Exists.intro 4 (k2 3 0 rfl)))))))))))
def sf_ck (ib db nd : Nat) (g : sf_G) : sf_G := sf_up (sf_kg g (4 * ib + 1) (3 * (4 * ib + 1)) (4 * db) (nd + 1) (1 + ib + db + nd)) 21 0 0
theorem sf_X_crash {post : Int32 → SX → Prop} {u : SX} (hZ : sf_Z ib db nd lim) (h : sf_X ib db nd lim g l u) (hm : ¬ g 21 0 = 0) (hp : ∀ u', sf_X ib db nd lim (sf_ck ib db nd g) [] u' → post (nI (sf_ct (fun b => !decide (g 20 b = 0)) (1 + ib + db + nd) 0)) u') : wpX_crash post u := by
  obtain ⟨hL, q, rfl, hA⟩ := h
  refine br_f hm (sf_X_dirtyCount hZ ⟨hL, q, rfl, hA⟩ (Exists.intro (4 * ib + 1) ?_))
  have k4 := sf_X_kd (q := q) (n := l.length) hZ hp trivial (1 + ib + db + nd) 0 (by omega)
  have k3 := sf_X_kb (q := q) (N := l.length) hZ ⟨_, k4⟩ nd 1 (by omega) (by omega)
  have k2 := sf_X_ks (q := q) (N := l.length) hZ ⟨_, k3⟩ (4 * db) 0 (by omega)
  have k1 := sf_X_ki (q := q) (N := l.length) hZ ⟨_, k2⟩ (4 * ib) 1 (by omega) (by omega)
  rw [sf_kg_0] at k1
  exact k1
theorem sf_Y_crash {post : Int32 → SY → Prop} {u : SY} (hZ : sf_Z ib db nd lim) (h : sf_Y ib db nd lim g l u) (hm : ¬ g 21 0 = 0) (hp : ∀ u', sf_Y ib db nd lim (sf_ck ib db nd g) [] u' → post (nI (sf_ct (fun b => !decide (g 20 b = 0)) (1 + ib + db + nd) 0)) u') : wpY_crash post u := by
  obtain ⟨hL, q, rfl, hA⟩ := h
  refine br_f hm (sf_Y_dirtyCount hZ ⟨hL, q, rfl, hA⟩ (Exists.intro (4 * ib + 1) ?_))
  have k4 := sf_Y_kd (q := q) (n := 0) hZ hp rfl (1 + ib + db + nd) 0 (by omega)
  have k3 := sf_Y_ks (q := q) (N := l.length) hZ ⟨_, k4⟩ (4 * db) 0 (by omega)
  have k2 := sf_Y_kb (q := q) (N := l.length) hZ ⟨_, k3⟩ nd 1 (by omega) (by omega)
  have k1 := sf_Y_ki (q := q) (N := l.length) hZ ⟨_, k2⟩ (4 * ib) 1 (by omega) (by omega)
  rw [sf_kg_0] at k1
  exact k1
theorem sf_U_crash (hZ : sf_Z ib db nd lim) (hM : sf_M ib db nd g l) : sf_U ib db nd (sf_ck ib db nd g) [] := by
  obtain ⟨z1, z2, z3, z4, z5, z6, -⟩ := hZ
  obtain ⟨h21, ⟨⟨p1, p2, p3⟩, pt, pd, pc⟩, hJ⟩ := hM
  have in6 : ∀ (a b : Nat → Int32) e, e < 4 * db → sf_cp a b 0 (4 * db) e = a e := fun a b e he => sf_cp_in (by omega)
  have in1 : ∀ (a b : Nat → Int32) i, 1 ≤ i → i ≤ 4 * ib → sf_cp a b 1 (4 * ib + 1) i = a i := fun a b i i1 i2 => sf_cp_in (by omega)
  refine ⟨rfl, ⟨⟨fun e he => ?_, p2, fun e he => ?_⟩, fun x hx => ⟨?_, (pt x hx).2⟩, fun x hx => ?_, ?_⟩, rfl, fun i i1 i2 => ⟨?_, ?_⟩, fun e he => ⟨?_, ?_, (hJ.2.2.2.1 e he).2.2.1, fun h => ((hJ.2.2.2.1 e he).2.2.2.2.2 h).1⟩, fun i i1 i2 h => ((hJ.2.2.2.2 i i1 i2).2 h).2⟩
  · show sf_cp (g 8) (g 6) 0 (4 * db) e = 0 ↔ sf_cp (g 9) (g 7) 0 (4 * db) e = 0
    rw [in6 _ _ e he, in6 _ _ e he]
    exact p2 e he
  · show sf_cp (g 8) (g 10) 0 (4 * db) e = 0 ↔ sf_cp (g 9) (g 11) 0 (4 * db) e = 0
    rw [in6 _ _ e he, in6 _ _ e he]
    exact p2 e he
  · show ∃ b, b ≤ nd ∧ sf_cp (g 5) (g 2) 3 (3 * (4 * ib + 1)) x = nI b
    rw [sf_cp]
    split
    · exact (pt x hx).2
    · exact (pt x hx).1
  · show sf_cp (fun _ => 0) (g 20) 0 (1 + ib + db + nd) x = 0 ∨ sf_cp (fun _ => 0) (g 20) 0 (1 + ib + db + nd) x = 1
    rw [sf_cp]
    split
    · exact Or.inl rfl
    · exact pd x hx
  · have := sf_nz_51 (sf_ck ib db nd g 2)
    rw [List.length_nil]
    omega
  · exact in1 _ _ i i1 i2
  · exact in1 _ _ i i1 i2
  · exact in6 _ _ e he
  · exact in6 _ _ e he
end
theorem i_vc_crash {k : Nat} {u : SX} {v : SY} (I : i_Rel k u v) (hk : k + 4 ≤ 2052) : wpX_crash (fun r u' => wpY_crash (fun r' v' => r' = r ∧ i_Rel (k + 4) u' v') v) u := by
  obtain ⟨ib, db, nd, lim, g, l, hZ, hX, hY, hI⟩ := I
  by_cases hm : g 21 0 = 0
  · obtain ⟨hL, q, rfl, hA⟩ := hX
    obtain ⟨hL', q', rfl, hA'⟩ := hY
    exact br_t hm (br_t hm ⟨rfl, ib, db, nd, lim, g, l, hZ, ⟨hL, q, rfl, hA⟩, ⟨hL', q', rfl, hA'⟩, hI⟩)
  · exact sf_X_crash hZ hX hm (fun u' hu' => sf_Y_crash hZ hY hm (fun v' hv' => ⟨rfl, ib, db, nd, lim, _, _, hZ, hu', hv', Or.inr (sf_U_crash hZ (sf_MU hI hm))⟩))
end
section
/-! mount: the walks -/
def sf_ri (db i : Nat) (s : sf_G × List sf_R) : sf_G × List sf_R :=
  if s.1 3 i = 0 then (if s.1 16 i = 1 then (sf_up (sf_up s.1 16 i 0) 20 0 1, s.2) else s)
  else if nI (sf_us0 s.1 (4 * db) (nI i)) = 0 then sf_rc i s
  else if s.1 1 i = nI (sf_us0 s.1 (4 * db) (nI i)) then s else (sf_dI (sf_up s.1 1 i (nI (sf_us0 s.1 (4 * db) (nI i)))) i, s.2)
def sf_rl (db : Nat) : Nat → Nat → sf_G × List sf_R → sf_G × List sf_R
  | 0, _, s => s
  | d + 1, i, s => sf_rl db d (i + 1) (sf_ri db i s)
def sf_rb1 (ib b : Nat) (g : sf_G) : sf_G := if g 18 b = 1 ∧ sf_na ib g (nI b) = 0 then sf_up (sf_up g 18 b 0) 20 0 1 else g
def sf_rb (ib : Nat) : Nat → Nat → sf_G → sf_G
  | 0, _, g => g
  | d + 1, b, g => sf_rb ib d (b + 1) (sf_rb1 ib b g)
def sf_mt (ib db nd : Nat) (g : sf_G) (l : List sf_R) : sf_G × List sf_R := (sf_rb ib nd 1 (sf_rl db (4 * ib) 1 (sf_up g 21 0 1, l)).1, (sf_rl db (4 * ib) 1 (sf_up g 21 0 1, l)).2)
theorem sf_ri_len {db i : Nat} {s : sf_G × List sf_R} (hi : i ≤ 16) : (sf_ri db i s).2.length + sf_nz ((sf_ri db i s).1 2) ≤ s.2.length + sf_nz (s.1 2) + 1 := by
  rw [sf_ri]
  split
  · split
    · exact Nat.le_succ _
    · exact Nat.le_succ _
  · split
    · exact sf_rc_len hi
    · split
      · exact Nat.le_succ _
      · exact Nat.le_succ _
section
variable {ib db nd lim : Nat} {g : sf_G} {l A B : List sf_R} {r : sf_R}
theorem sf_X_rb {post : Int32 → SX → Prop} {C : Int32} (hZ : sf_Z ib db nd lim) (hL : l.length ≤ 128) {q : sf_G} (hA : sf_A l q) : ∀ d b (g : sf_G), 1 ≤ b → b + d = nd + 1 → (∀ u', sf_X ib db nd lim (sf_rb ib d b g) l u' → post C u') → wX_mount_43 post C (nI ib) (nI db) (nI (4 * ib)) (nI (4 * db)) (nI nd) (nI (1 + ib + db + nd)) (nI lim) (nI (l.length)) (g 21 0) (g 22 0) (g 23 0) (d + 1) (nI b) (g 0) (g 1) (g 2) (g 3) (g 4) (g 5) (g 6) (g 7) (g 8) (g 9) (g 10) (g 11) (g 12) (g 13) (g 14) (g 15) (g 16) (g 17) (g 18) (g 19) (g 20) (q 0) (q 1) (q 2) (q 3) (q 4) (q 5) := by
  have z := hZ
  obtain ⟨z1, z2, z3, z4, z5, z6, -⟩ := z
  intro d
  induction d with
  | zero =>
    intro b g b1 e hp
    exact br_t (nI_lt (by omega) (by omega)) (hp _ ⟨hL, q, rfl, hA⟩)
  | succ d ih =>
    intro b g b1 e hp
    have hi : vp_in (nI b) 17 := vp_in_nI (by omega) (by decide)
    have hc : (nI b).toNatClampNeg = b := nI_clamp (by omega)
    rw [sf_rb, sf_rb1] at hp
    refine br_f (nI_nlt (by omega) (by omega)) (And.intro hi ?_)
    rw [hc]
    by_cases c1 : g 18 b = 1
    · refine br_t c1 (sf_X_named hZ ⟨hL, q, rfl, hA⟩ _ ?_)
      by_cases c2 : sf_na ib g (nI b) = 0
      · rw [if_pos ⟨c1, c2⟩] at hp
        exact br_t c2 (And.intro hi (nm_r (e' := upd (g 18) b 0) rfl (nm_r (e' := upd (g 20) 0 1) (by rw [sf_t1]) (nm_r (nI_1 b) (ih (b + 1) (sf_up (sf_up g 18 b 0) 20 0 1) (by omega) (by omega) hp)))))
      · rw [if_neg (fun k => c2 k.2)] at hp
        exact br_f c2 (nm_r (nI_1 b) (ih (b + 1) g (by omega) (by omega) hp))
    · rw [if_neg (fun k => c1 k.1)] at hp
      exact br_f c1 (nm_r (nI_1 b) (ih (b + 1) g (by omega) (by omega) hp))
theorem sf_Y_rb {post : Int32 → SY → Prop} {C : Int32} (hZ : sf_Z ib db nd lim) (hL : l.length ≤ 128) {q : sf_G} (hA : sf_A l q) : ∀ d b (g : sf_G), 1 ≤ b → b + d = nd + 1 → (∀ u', sf_Y ib db nd lim (sf_rb ib d b g) l u' → post C u') → wY_mount_136 post C (nI ib) (nI db) (nI nd) (nI lim) (nI (4 * ib)) (nI (4 * db)) (nI (1 + ib + db + nd)) (nI (l.length)) (g 21 0) (g 22 0) (g 23 0) (d + 1) (nI b) (g 0) (g 1) (g 2) (g 16) (g 18) (g 12) (g 13) (g 6) (g 7) (g 3) (g 4) (g 5) (g 17) (g 19) (g 14) (g 15) (g 8) (g 9) (g 10) (g 11) (g 20) (q 0) (q 1) (q 2) (q 3) (q 4) (q 5) := by
  have z := hZ
  obtain ⟨z1, z2, z3, z4, z5, z6, -⟩ := z
  intro d
  induction d with
  | zero =>
    intro b g b1 e hp
    exact br_t (nI_lt (by omega) (by omega)) (hp _ ⟨hL, q, rfl, hA⟩)
  | succ d ih =>
    intro b g b1 e hp
    have hi : vp_in (nI b) 17 := vp_in_nI (by omega) (by decide)
    have hc : (nI b).toNatClampNeg = b := nI_clamp (by omega)
    rw [sf_rb, sf_rb1] at hp
    refine br_f (nI_nlt (by omega) (by omega)) (And.intro hi ?_)
    rw [hc]
    by_cases c1 : g 18 b = 1
    · refine br_t c1 (sf_Y_named hZ ⟨hL, q, rfl, hA⟩ _ ?_)
      by_cases c2 : sf_na ib g (nI b) = 0
      · rw [if_pos ⟨c1, c2⟩] at hp
        exact br_t c2 (And.intro hi (nm_r (e' := upd (g 18) b 0) rfl (nm_r (e' := upd (g 20) 0 1) (by rw [sf_t1]) (nm_r (nI_1 b) (ih (b + 1) (sf_up (sf_up g 18 b 0) 20 0 1) (by omega) (by omega) hp)))))
      · rw [if_neg (fun k => c2 k.2)] at hp
        exact br_f c2 (nm_r (nI_1 b) (ih (b + 1) g (by omega) (by omega) hp))
    · rw [if_neg (fun k => c1 k.1)] at hp
      exact br_f c1 (nm_r (nI_1 b) (ih (b + 1) g (by omega) (by omega) hp))
theorem sf_X_ri {post : SX → Prop} {u : SX} (hZ : sf_Z ib db nd lim) (h : sf_X ib db nd lim g l u) {i : Nat} (i1 : 1 ≤ i) (i2 : i ≤ 16) (hN : l.length + sf_nz (g 2) ≤ 120) (hp : ∀ u', sf_X ib db nd lim (sf_ri db i (g, l)).1 (sf_ri db i (g, l)).2 u' → post u') : wpX_repairInode post u (nI i) := by
  obtain ⟨hL, q, rfl, hA⟩ := h
  have hi : vp_in (nI i) 17 := vp_in_nI (by omega) (by decide)
  have hc : (nI i).toNatClampNeg = i := nI_clamp (by omega)
  rw [sf_ri] at hp
  dsimp only at hp
  refine sf_X_diskUses hZ ⟨hL, q, rfl, hA⟩ _ (And.intro hi ?_)
  rw [hc]
  by_cases c0 : g 3 i = 0
  · rw [if_pos c0] at hp
    refine br_t c0 (And.intro hi ?_)
    by_cases c1 : g 16 i = 1
    · rw [if_pos c1] at hp
      exact br_t c1 (And.intro hi (nm_r (e' := upd (g 16) i 0) rfl (nm_r (e' := upd (g 20) 0 1) (by rw [sf_t1]) (hp _ ⟨hL, q, rfl, hA⟩))))
    · rw [if_neg c1] at hp
      exact br_f c1 (hp _ ⟨hL, q, rfl, hA⟩)
  · rw [if_neg c0] at hp
    refine br_f c0 ?_
    by_cases c1 : nI (sf_us0 g (4 * db) (nI i)) = 0
    · rw [if_pos c1] at hp
      exact br_t c1 (sf_X_reclaim ⟨hL, q, rfl, hA⟩ i1 i2 hN hp)
    · rw [if_neg c1] at hp
      refine br_f c1 (And.intro hi ?_)
      by_cases c2 : g 1 i = nI (sf_us0 g (4 * db) (nI i))
      · rw [if_pos c2] at hp
        exact br_t c2 (hp _ ⟨hL, q, rfl, hA⟩)
      · rw [if_neg c2] at hp
        refine br_f c2 (And.intro hi (nm_r (e' := upd (g 1) i (nI (sf_us0 g (4 * db) (nI i)))) rfl ?_))
        exact sf_X_dirtyInode (g := sf_up g 1 i (nI (sf_us0 g (4 * db) (nI i)))) (l := l) ⟨hL, q, rfl, hA⟩ i1 i2 hp
theorem sf_X_rl {post : Int32 → SX → Prop} {C : Int32} (hZ : sf_Z ib db nd lim) : ∀ d i (s : sf_G × List sf_R) (q : sf_G), 1 ≤ i → i + d = 4 * ib + 1 → s.2.length + sf_nz (s.1 2) ≤ 51 + i → s.2.length ≤ 128 → sf_A s.2 q → (∀ u', sf_X ib db nd lim (sf_rb ib nd 1 (sf_rl db d i s).1) (sf_rl db d i s).2 u' → post C u') → wX_mount_22 post C (d + 1) (nI i) (nI ib) (nI db) (nI (4 * ib)) (nI (4 * db)) (nI nd) (nI (1 + ib + db + nd)) (nI lim) (nI (s.2.length)) ((s.1) 21 0) ((s.1) 22 0) ((s.1) 23 0) ((s.1) 0) ((s.1) 1) ((s.1) 2) ((s.1) 3) ((s.1) 4) ((s.1) 5) ((s.1) 6) ((s.1) 7) ((s.1) 8) ((s.1) 9) ((s.1) 10) ((s.1) 11) ((s.1) 12) ((s.1) 13) ((s.1) 14) ((s.1) 15) ((s.1) 16) ((s.1) 17) ((s.1) 18) ((s.1) 19) ((s.1) 20) (q 0) (q 1) (q 2) (q 3) (q 4) (q 5) := by
  have z := hZ
  obtain ⟨z1, z2, z3, z4, z5, z6, -⟩ := z
  intro d
  induction d with
  | zero =>
    intro i s q i1 e hN hL hA hp
    exact br_t (nI_lt (by omega) (by omega)) (Exists.intro (nd + 1) (sf_X_rb hZ hL hA nd 1 s.1 (by omega) (by omega) hp))
  | succ d ih =>
    intro i s q i1 e hN hL hA hp
    have hN' := sf_ri_len (db := db) (i := i) (s := s) (by omega)
    rw [sf_rl] at hp
    refine br_f (nI_nlt (by omega) (by omega)) (sf_X_ri (g := s.1) (l := s.2) hZ ⟨hL, q, rfl, hA⟩ i1 (by omega) (by omega) (fun u1 h1 => ?_))
    obtain ⟨hL1, q1, rfl, hA1⟩ := h1
    exact nm_r (nI_1 i) (ih (i + 1) (sf_ri db i s) q1 (by omega) (by omega) (by omega) hL1 hA1 hp)
theorem sf_Y_rl {post : Int32 → SY → Prop} {C : Int32} (hZ : sf_Z ib db nd lim) : ∀ d i (s : sf_G × List sf_R) (q : sf_G), 1 ≤ i → i + d = 4 * ib + 1 → s.2.length + sf_nz (s.1 2) ≤ 51 + i → s.2.length ≤ 128 → sf_A s.2 q → (∀ u', sf_Y ib db nd lim (sf_rb ib nd 1 (sf_rl db d i s).1) (sf_rl db d i s).2 u' → post C u') → wY_mount_22 post C (d + 1) (nI i) (nI ib) (nI db) (nI nd) (nI lim) (nI (4 * ib)) (nI (4 * db)) (nI (1 + ib + db + nd)) (nI (s.2.length)) ((s.1) 21 0) ((s.1) 22 0) ((s.1) 23 0) ((s.1) 0) ((s.1) 1) ((s.1) 2) ((s.1) 16) ((s.1) 18) ((s.1) 12) ((s.1) 13) ((s.1) 6) ((s.1) 7) ((s.1) 3) ((s.1) 4) ((s.1) 5) ((s.1) 17) ((s.1) 19) ((s.1) 14) ((s.1) 15) ((s.1) 8) ((s.1) 9) ((s.1) 10) ((s.1) 11) ((s.1) 20) (q 0) (q 1) (q 2) (q 3) (q 4) (q 5) := by
  have z := hZ
  obtain ⟨z1, z2, z3, z4, z5, z6, -⟩ := z
  intro d
  induction d with
  | zero =>
    intro i s q i1 e hN hL hA hp
    exact br_t (nI_lt (by omega) (by omega)) (Exists.intro (nd + 1) (sf_Y_rb hZ hL hA nd 1 s.1 (by omega) (by omega) hp))
  | succ d ih =>
    intro i s q i1 e hN hL hA hp
    have hN' := sf_ri_len (db := db) (i := i) (s := s) (by omega)
    obtain ⟨g, l⟩ := s
    dsimp only at hN hL hA
    have hi : vp_in (nI i) 17 := vp_in_nI (by omega) (by decide)
    have hc : (nI i).toNatClampNeg = i := nI_clamp (by omega)
    have hu16 : sf_us0 g (4 * db) (nI i) ≤ 4 * db := sf_ct_le _ _ _
    rw [sf_rl] at hp
    have IH := fun (s' : sf_G × List sf_R) (es : sf_ri db i (g, l) = s') (q1 : sf_G) (hL1 : s'.2.length ≤ 128) (hA1 : sf_A s'.2 q1) => ih (i + 1) s' q1 (by omega) (by omega) (by rw [es] at hN'; have hN2 : s'.2.length + sf_nz (s'.1 2) ≤ l.length + sf_nz (g 2) + 1 := hN'; omega) hL1 hA1 (by rw [es] at hp; exact hp)
    refine br_f (nI_nlt (by omega) (by omega)) (sf_Y_diskUses (g := g) (l := l) hZ ⟨hL, q, rfl, hA⟩ _ (And.intro hi ?_))
    rw [hc]
    by_cases c0 : g 3 i = 0
    · refine br_t c0 (And.intro hi ?_)
      rw [hc]
      refine br_t c0 (And.intro hi ?_)
      rw [hc]
      refine br_t c0 (And.intro hi ?_)
      by_cases c1 : g 16 i = 1
      · have es : sf_ri db i (g, l) = (sf_up (sf_up g 16 i 0) 20 0 1, l) := by rw [sf_ri, if_pos c0, if_pos c1]
        exact br_t c1 (And.intro hi (nm_r (e' := upd (g 16) i 0) rfl (nm_r (e' := upd (g 20) 0 1) (by rw [sf_t1]) (nm_r (nI_1 i) (IH _ es q hL hA)))))
      · have es : sf_ri db i (g, l) = (g, l) := by rw [sf_ri, if_pos c0, if_neg c1]
        exact br_f c1 (nm_r (nI_1 i) (IH _ es q hL hA))
    · refine br_f c0 ?_
      by_cases c1 : nI (sf_us0 g (4 * db) (nI i)) = 0
      · have es : sf_ri db i (g, l) = sf_rc i (g, l) := by rw [sf_ri, if_neg c0, if_pos c1]
        refine br_t c1 (sf_Y_reclaim (g := g) (l := l) ⟨hL, q, rfl, hA⟩ i1 (by omega) (by omega) (fun u1 h1 => ?_))
        obtain ⟨hL1, q1, rfl, hA1⟩ := h1
        exact nm_r (nI_1 i) (IH _ es q1 hL1 hA1)
      · have c3 : ¬ nI (sf_us0 g (4 * db) (nI i)) ≤ 0 := nI_nle (Nat.pos_of_ne_zero (fun z => c1 (by rw [z]; rfl))) (by omega)
        refine br_f c1 (And.intro hi ?_)
        rw [hc]
        refine br_f c0 (br_f c3 (And.intro hi ?_))
        by_cases c2 : g 1 i = nI (sf_us0 g (4 * db) (nI i))
        · have es : sf_ri db i (g, l) = (g, l) := by rw [sf_ri, if_neg c0, if_neg c1, if_pos c2]
          refine br_t c2 (And.intro hi ?_)
          rw [hc]
          exact br_f c0 (nm_r (nI_1 i) (IH _ es q hL hA))
        · have es : sf_ri db i (g, l) = (sf_dI (sf_up g 1 i (nI (sf_us0 g (4 * db) (nI i)))) i, l) := by rw [sf_ri, if_neg c0, if_neg c1, if_neg c2]
          refine br_f c2 (And.intro hi (nm_r (e' := upd (g 1) i (nI (sf_us0 g (4 * db) (nI i)))) rfl ?_))
          refine sf_Y_dirtyInode (g := sf_up g 1 i (nI (sf_us0 g (4 * db) (nI i)))) (l := l) ⟨hL, q, rfl, hA⟩ i1 (by omega) (fun u1 h1 => ?_)
          obtain ⟨hL1, q1, rfl, hA1⟩ := h1
          exact nm_r (nI_1 i) (IH _ es q1 hL1 hA1)
theorem sf_X_mount {post : Int32 → SX → Prop} {u : SX} (hZ : sf_Z ib db nd lim) (h : sf_X ib db nd lim g l u) (hm : g 21 0 = 0) (hl : l = []) (hp : ∀ u', sf_X ib db nd lim (sf_mt ib db nd g l).1 (sf_mt ib db nd g l).2 u' → post (sf_lks ib db nd g) u') : wpX_mount post u := by
  obtain ⟨hL, q, rfl, hA⟩ := h
  refine br_t hm (sf_X_leaks hZ ⟨hL, q, rfl, hA⟩ (Exists.intro (4 * ib + 1) ?_))
  have hn := sf_nz_51 (g 2)
  exact sf_X_rl hZ (4 * ib) 1 (sf_up g 21 0 1, l) q (by omega) (by omega) (by subst hl; show 0 + sf_nz (g 2) ≤ 51 + 1; omega) hL hA hp
theorem sf_Y_mount {post : Int32 → SY → Prop} {u : SY} (hZ : sf_Z ib db nd lim) (h : sf_Y ib db nd lim g l u) (hm : g 21 0 = 0) (hl : l = []) (hp : ∀ u', sf_Y ib db nd lim (sf_mt ib db nd g l).1 (sf_mt ib db nd g l).2 u' → post (sf_lks ib db nd g) u') : wpY_mount post u := by
  obtain ⟨hL, q, rfl, hA⟩ := h
  refine br_t hm (sf_Y_leaks hZ ⟨hL, q, rfl, hA⟩ (Exists.intro (4 * ib + 1) ?_))
  have hn := sf_nz_51 (g 2)
  exact sf_Y_rl hZ (4 * ib) 1 (sf_up g 21 0 1, l) q (by omega) (by omega) (by subst hl; show 0 + sf_nz (g 2) ≤ 51 + 1; omega) hL hA hp
end
end
section
/-! mount: the invariant -/
section
variable {ib db nd lim m : Nat} {g : sf_G} {l A B : List sf_R} {r : sf_R}
theorem sf_J_raise {ni ne : Nat} {mm ml mp dm mi di si mib dib : Nat → Int32} (h : sf_J m ni ne nd mm ml mp dm mi di si mib dib l) (hm : 1 ≤ m → m ≤ ni → mm m ≠ 0 → ml m = nI (sf_cS mi ne (nI m) + sf_cR l (nI m))) : sf_J (m + 1) ni ne nd mm ml mp dm mi di si mib dib l := by
  obtain ⟨a, b, c, d, e⟩ := h
  refine ⟨a, b, c, d, fun i i1 i2 => ⟨fun z => ?_, (e i i1 i2).2⟩⟩
  obtain ⟨x, y, w⟩ := (e i i1 i2).1 z
  refine ⟨x, y, fun im => ?_⟩
  by_cases q : i = m
  · subst q; exact hm i1 i2 z
  · exact w (by omega)
theorem sf_J_top {ni ne M : Nat} {mm ml mp dm mi di si mib dib : Nat → Int32} (h : sf_J m ni ne nd mm ml mp dm mi di si mib dib l) (hm : ni < m) : sf_J M ni ne nd mm ml mp dm mi di si mib dib l := by
  obtain ⟨a, b, c, d, e⟩ := h
  refine ⟨a, b, c, d, fun i i1 i2 => ⟨fun z => ?_, (e i i1 i2).2⟩⟩
  obtain ⟨x, y, w⟩ := (e i i1 i2).1 z
  exact ⟨x, y, fun _ => w (by omega)⟩
theorem sf_J_ml {ni ne : Nat} {v : Int32} {mm ml mp dm mi di si mib dib : Nat → Int32} (h : sf_J m ni ne nd mm ml mp dm mi di si mib dib l) : sf_J m ni ne nd mm (upd ml m v) mp dm mi di si mib dib l := by
  obtain ⟨a, b, c, d, e⟩ := h
  refine ⟨a, b, c, d, fun i i1 i2 => ⟨fun z => ?_, (e i i1 i2).2⟩⟩
  obtain ⟨x, y, w⟩ := (e i i1 i2).1 z
  exact ⟨x, y, fun im => by rw [sf_upd_n (by omega)]; exact w im⟩
theorem sf_J_bit {ni ne i : Nat} {mm ml mp dm mi di si mib dib : Nat → Int32} (h : sf_J m ni ne nd mm ml mp dm mi di si mib dib l) (h1 : mm i = 0) (h2 : dm i = 0) (h3 : ∀ r, r ∈ l → r.1 = 6 → r.2.2.2.1.toNatClampNeg ≠ i) : sf_J m ni ne nd mm ml mp dm mi di si (upd mib i 0) dib l := by
  obtain ⟨a, b, c, d, e⟩ := h
  refine ⟨a, fun r hr => ?_, c, d, fun j i1 i2 => ?_⟩
  · obtain ⟨w, o1, o2, o3, o4, o6⟩ := b r hr
    refine ⟨w, o1, o2, o3, o4, fun k => ?_⟩
    rw [sf_upd_n (h3 r hr k)]
    exact o6 k
  · by_cases q : j = i
    · subst q
      exact ⟨fun z => absurd h1 z, fun z => absurd h2 z⟩
    · rw [sf_io, sf_upd_n q]
      exact e j i1 i2
/-- while mount looks at inode i -/
def sf_MI (ib db nd i : Nat) (s : sf_G × List sf_R) : Prop :=
  sf_JJ ib db nd i s.1 s.2 ∧ ((sf_pr (4 * db) (s.1 6) (s.1 7) ∧ sf_pr (4 * db) (s.1 8) (s.1 9) ∧ sf_pr (4 * db) (s.1 10) (s.1 11)) ∧ (∀ x, x < 51 → (∃ b, b ≤ nd ∧ s.1 2 x = nI b) ∧ (∃ b, b ≤ nd ∧ s.1 5 x = nI b)) ∧ (∀ x, x < 25 → s.1 20 x = 0 ∨ s.1 20 x = 1)) ∧
  (∀ r, r ∈ s.2 → (r.1 = 5 ∨ r.1 = 6) ∧ ∃ j, j < i ∧ r.2.2.2.1 = nI j) ∧ (∀ j, i ≤ j → j ≤ 4 * ib → s.1 0 j = s.1 3 j) ∧ (∀ e, e < 4 * db → s.1 7 e = s.1 9 e) ∧ s.1 21 0 = 1 ∧ s.2.length + sf_nz (s.1 2) ≤ 51 + i
theorem sf_MI_step (hib : ib ≤ 4) {i : Nat} (i1 : 1 ≤ i) (i2 : i ≤ 4 * ib) {s : sf_G × List sf_R} (h : sf_MI ib db nd i s) : sf_MI ib db nd (i + 1) (sf_ri db i s) := by
  obtain ⟨hJ, ⟨⟨p1, p2, p3⟩, pt, pd⟩, hr, hd, he, h21, hN⟩ := h
  obtain ⟨g, l⟩ := s
  dsimp only at hJ p1 p2 p3 pt pd hr hd he h21 hN
  have hn16 := hJ.1
  have hme : g 0 i = g 3 i := hd i (Nat.le_refl _) i2
  have hr' : ∀ r, r ∈ l → (r.1 = 5 ∨ r.1 = 6) ∧ ∃ j, j < i + 1 ∧ r.2.2.2.1 = nI j := by
    intro r hr1
    obtain ⟨a, j, b, c⟩ := hr r hr1
    exact ⟨a, j, by omega, c⟩
  have hd' : ∀ j, i + 1 ≤ j → j ≤ 4 * ib → g 0 j = g 3 j := fun j a b => hd j (by omega) b
  by_cases c0 : g 3 i = 0
  · have m0 : g 0 i = 0 := by rw [hme, c0]
    have J1 : sf_JJ ib db nd (i + 1) g l := sf_J_raise hJ (fun _ _ z => absurd m0 z)
    by_cases c1 : g 16 i = 1
    · have es : sf_ri db i (g, l) = (sf_up (sf_up g 16 i 0) 20 0 1, l) := by rw [sf_ri, if_pos c0, if_pos c1]
      rw [es]
      refine ⟨sf_J_bit J1 m0 c0 (fun r hr1 _ => ?_), ⟨⟨p1, p2, p3⟩, pt, fun x hx => sf_upd_01 (Or.inr rfl) (pd x hx)⟩, hr', hd', he, h21, ?_⟩
      · obtain ⟨_, j, a, b⟩ := hr r hr1
        rw [b, nI_clamp (by omega)]
        omega
      · show l.length + sf_nz (g 2) ≤ 51 + (i + 1)
        omega
    · have es : sf_ri db i (g, l) = (g, l) := by rw [sf_ri, if_pos c0, if_neg c1]
      rw [es]
      refine ⟨J1, ⟨⟨p1, p2, p3⟩, pt, pd⟩, hr', hd', he, h21, ?_⟩
      show l.length + sf_nz (g 2) ≤ 51 + (i + 1)
      omega
  · have m1 : g 0 i ≠ 0 := by rw [hme]; exact c0
    have hu16 : sf_us0 g (4 * db) (nI i) ≤ 4 * db := sf_ct_le _ _ _
    have hcs : sf_cS (g 7) (4 * db) (nI i) = sf_us0 g (4 * db) (nI i) := by
      refine sf_ct_congr _ _ (fun j _ hj => ?_)
      rw [he j (by omega)]
    have hcr : sf_cR l (nI i) = 0 := by
      refine sf_cR_0 (fun r hr1 h4 => ?_)
      rcases (hr r hr1).1 with k | k <;> rw [k] at h4 <;> exact absurd h4 (by decide)
    by_cases c1 : nI (sf_us0 g (4 * db) (nI i)) = 0
    · have u0 : sf_us0 g (4 * db) (nI i) = 0 := (nI_eq (b := 0) (by omega) (by decide)).mp c1
      have es : sf_ri db i (g, l) = sf_rc i (g, l) := by rw [sf_ri, if_neg c0, if_pos c1]
      have J1 : sf_JJ ib db nd i (sf_rc i (g, l)).1 (sf_rc i (g, l)).2 := sf_J_rc i1 i2 (by omega) hJ (fun x hx => (pt x hx).1) m1 (sf_cS_0' (by rw [hcs, u0])) (sf_cR_0' hcr)
      have e0 : (sf_rc i (g, l)).1 0 = upd (g 0) i 0 := by
        have : (sf_dk i 3 0 (g, l)).1 0 = g 0 := sf_dk_fr (by decide) 3 0 (g, l)
        show upd ((sf_dk i 3 0 (g, l)).1 0) i 0 = _
        rw [this]
      have fr : ∀ f, f ≠ 0 → f ≠ 1 → f ≠ 2 → f ≠ 20 → (sf_rc i (g, l)).1 f = g f := fun f h0 h1 h2 h20 => sf_rc_fr h0 h1 h2 h20
      have f3 := fr 3 (by decide) (by decide) (by decide) (by decide)
      have f5 := fr 5 (by decide) (by decide) (by decide) (by decide)
      have f6 := fr 6 (by decide) (by decide) (by decide) (by decide)
      have f7 := fr 7 (by decide) (by decide) (by decide) (by decide)
      have f8 := fr 8 (by decide) (by decide) (by decide) (by decide)
      have f9 := fr 9 (by decide) (by decide) (by decide) (by decide)
      have f10 := fr 10 (by decide) (by decide) (by decide) (by decide)
      have f11 := fr 11 (by decide) (by decide) (by decide) (by decide)
      have f21 := fr 21 (by decide) (by decide) (by decide) (by decide)
      have hlen := sf_rc_len (g := g) (l := l) (i := i) (by omega)
      rw [es]
      refine ⟨sf_J_raise J1 (fun _ _ z => absurd (by rw [e0]; exact sf_upd_s) z), ⟨⟨by rw [f6, f7]; exact p1, by rw [f8, f9]; exact p2, by rw [f10, f11]; exact p3⟩, fun x hx => ⟨?_, by rw [f5]; exact (pt x hx).2⟩, fun x hx => ?_⟩, fun r hr1 => ?_, fun j a b => ?_, by rw [f7, f9]; exact he, by rw [f21]; exact h21, by omega⟩
      · rw [sf_rc_2]
        split
        · exact ⟨0, by omega, rfl⟩
        · exact (pt x hx).1
      · rw [sf_rc_20]
        exact sf_upd_01 (Or.inr rfl) (pd x hx)
      · rw [sf_rc] at hr1
        rcases sf_mem_1 hr1 with a | rfl
        · rcases sf_dk_mem 3 0 (g, l) (sf_ep_mem a) with b | b
          · exact hr' r b
          · exact ⟨Or.inl b.1, i, by omega, b.2⟩
        · exact ⟨Or.inr rfl, i, by omega, rfl⟩
      · rw [e0, f3, sf_upd_n (by omega)]
        exact hd' j a b
    · have hval : nI (sf_us0 g (4 * db) (nI i)) = nI (sf_cS (g 7) (4 * db) (nI i) + sf_cR l (nI i)) := by rw [hcs, hcr, Nat.add_zero]
      by_cases c2 : g 1 i = nI (sf_us0 g (4 * db) (nI i))
      · have es : sf_ri db i (g, l) = (g, l) := by rw [sf_ri, if_neg c0, if_neg c1, if_pos c2]
        rw [es]
        refine ⟨sf_J_raise hJ (fun _ _ _ => c2.trans hval), ⟨⟨p1, p2, p3⟩, pt, pd⟩, hr', hd', he, h21, ?_⟩
        show l.length + sf_nz (g 2) ≤ 51 + (i + 1)
        omega
      · have es : sf_ri db i (g, l) = (sf_dI (sf_up g 1 i (nI (sf_us0 g (4 * db) (nI i)))) i, l) := by rw [sf_ri, if_neg c0, if_neg c1, if_neg c2]
        rw [es]
        have J0 : sf_JJ ib db nd i (sf_dI (sf_up g 1 i (nI (sf_us0 g (4 * db) (nI i)))) i) l := sf_J_ml hJ
        refine ⟨sf_J_raise J0 (fun _ _ _ => ?_), ⟨⟨p1, p2, p3⟩, pt, fun x hx => sf_upd_01 (Or.inr rfl) (pd x hx)⟩, hr', hd', he, h21, ?_⟩
        · show upd (g 1) i (nI (sf_us0 g (4 * db) (nI i))) i = nI (sf_cS (g 7) (4 * db) (nI i) + sf_cR l (nI i))
          rw [sf_upd_s]
          exact hval
        · show l.length + sf_nz (g 2) ≤ 51 + (i + 1)
          omega
theorem sf_MI_loop (hib : ib ≤ 4) : ∀ d i (s : sf_G × List sf_R), 1 ≤ i → i + d = 4 * ib + 1 → sf_MI ib db nd i s → sf_MI ib db nd (4 * ib + 1) (sf_rl db d i s) := by
  intro d
  induction d with
  | zero =>
    intro i s i1 e h
    have : i = 4 * ib + 1 := by omega
    subst this
    exact h
  | succ d ih =>
    intro i s i1 e h
    exact ih (i + 1) (sf_ri db i s) (by omega) (by omega) (sf_MI_step hib i1 (by omega) h)
theorem sf_rb_fr {f : Nat} (h1 : f ≠ 18) (h2 : f ≠ 20) : ∀ d b (g : sf_G), sf_rb ib d b g f = g f := by
  intro d
  induction d with
  | zero => intro b g; rfl
  | succ d ih =>
    intro b g
    rw [sf_rb, ih, sf_rb1]
    split
    · simp only [sf_up, sf_st, if_neg h1, if_neg h2]
    · rfl
theorem sf_rb_20 {x : Nat} : ∀ d b (g : sf_G), (g 20 x = 0 ∨ g 20 x = 1) → (sf_rb ib d b g 20 x = 0 ∨ sf_rb ib d b g 20 x = 1) := by
  intro d
  induction d with
  | zero => intro b g h; exact h
  | succ d ih =>
    intro b g h
    refine ih (b + 1) _ ?_
    rw [sf_rb1]
    split
    · exact sf_upd_01 (Or.inr rfl) h
    · exact h
theorem sf_M_mt (hZ : sf_Z ib db nd lim) (hU : sf_U ib db nd g l) : sf_M ib db nd (sf_mt ib db nd g l).1 (sf_mt ib db nd g l).2 := by
  obtain ⟨z1, z2, z3, z4, z5, z6, -⟩ := hZ
  obtain ⟨h21, ⟨⟨p1, p2, p3⟩, pt, pd, pc⟩, rfl, hi, he, hH⟩ := hU
  have J0 : sf_JJ ib db nd 1 (sf_up g 21 0 1) [] := by
    refine ⟨by omega, fun r hr => (by cases hr), List.Pairwise.nil, fun e h => ?_, fun i i1 i2 => ⟨fun z => ⟨?_, Or.inr ?_, fun k => absurd k (by omega)⟩, fun z => ⟨?_, ?_⟩⟩⟩
    · obtain ⟨a, b, c, d⟩ := he e h
      refine ⟨?_, ?_, c, ?_, ?_, ?_⟩
      · show ∃ j, j ≤ 4 * ib ∧ g 7 e = nI j
        rw [a]; exact c
      · show ∃ j, j ≤ 4 * ib ∧ g 11 e = nI j
        rw [b]; exact c
      · show g 7 e ≠ 0 → g 0 (g 7 e).toNatClampNeg ≠ 0
        rw [a]
        intro z
        obtain ⟨j, c1, c2⟩ := c
        have d := d z
        rw [c2] at z d ⊢
        rw [nI_clamp (by omega)] at d ⊢
        rw [(hi j (by
          apply Classical.byContradiction
          intro k
          have : j = 0 := by omega
          subst this
          exact z rfl) c1).1]
        exact d
      · show g 11 e ≠ 0 → g 3 (g 11 e).toNatClampNeg ≠ 0 ∧ (sf_cov2 [] e (g 11 e) ∨ (sf_noA [] e ∧ g 7 e = g 11 e))
        rw [b]
        exact fun z => ⟨d z, Or.inr ⟨fun r hr => (by cases hr), a⟩⟩
      · show g 9 e ≠ 0 → g 3 (g 9 e).toNatClampNeg ≠ 0 ∧ (sf_cov [] e (g 9 e) ∨ (sf_noA [] e ∧ g 7 e = g 9 e))
        exact fun z => ⟨d z, Or.inr ⟨fun r hr => (by cases hr), a⟩⟩
    · show g 16 i ≠ 0
      rw [(hi i i1 i2).2]
      exact hH i i1 i2 (by rw [← (hi i i1 i2).1]; exact z)
    · show g 17 i ≠ 0
      exact hH i i1 i2 (by rw [← (hi i i1 i2).1]; exact z)
    · show g 16 i ≠ 0
      rw [(hi i i1 i2).2]
      exact hH i i1 i2 z
    · exact hH i i1 i2 z
  have M0 : sf_MI ib db nd 1 (sf_up g 21 0 1, []) := by
    have hn := sf_nz_51 (g 2)
    refine ⟨J0, ⟨⟨p1, p2, p3⟩, pt, pd⟩, fun r hr => (by cases hr), fun j a b => (hi j a b).1, fun e h => (he e h).1, rfl, ?_⟩
    show 0 + sf_nz (g 2) ≤ 51 + 1
    omega
  obtain ⟨hJ, ⟨⟨q1, q2, q3⟩, qt, qd⟩, _, _, _, q21, hN⟩ := sf_MI_loop (by omega) (4 * ib) 1 (sf_up g 21 0 1, []) (by omega) (by omega) M0
  rw [sf_mt]
  generalize sf_rl db (4 * ib) 1 (sf_up g 21 0 1, []) = s at hJ q1 q2 q3 qt qd q21 hN
  have fr : ∀ f, f ≠ 18 → f ≠ 20 → sf_rb ib nd 1 s.1 f = s.1 f := fun f h1 h2 => sf_rb_fr h1 h2 nd 1 s.1
  have f0 := fr 0 (by decide) (by decide)
  have f1 := fr 1 (by decide) (by decide)
  have f2 := fr 2 (by decide) (by decide)
  have f3 := fr 3 (by decide) (by decide)
  have f5 := fr 5 (by decide) (by decide)
  have f6 := fr 6 (by decide) (by decide)
  have f7 := fr 7 (by decide) (by decide)
  have f8 := fr 8 (by decide) (by decide)
  have f9 := fr 9 (by decide) (by decide)
  have f10 := fr 10 (by decide) (by decide)
  have f11 := fr 11 (by decide) (by decide)
  have f16 := fr 16 (by decide) (by decide)
  have f17 := fr 17 (by decide) (by decide)
  have f21 := fr 21 (by decide) (by decide)
  show sf_M ib db nd (sf_rb ib nd 1 s.1) s.2
  refine ⟨by rw [f21]; exact q21, ⟨⟨by rw [f6, f7]; exact q1, by rw [f8, f9]; exact q2, by rw [f10, f11]; exact q3⟩, by rw [f2, f5]; exact qt, fun x hx => sf_rb_20 nd 1 s.1 (qd x hx), by rw [f2]; omega⟩, ?_⟩
  rw [sf_JJ, f0, f1, f2, f3, f7, f9, f11, f16, f17]
  exact sf_J_top hJ (by omega)
end
theorem i_vc_mount {k : Nat} {u : SX} {v : SY} (I : i_Rel k u v) (hk : k + 4 ≤ 2052) : wpX_mount (fun r u' => wpY_mount (fun r' v' => r' = r ∧ i_Rel (k + 4) u' v') v) u := by
  obtain ⟨ib, db, nd, lim, g, l, hZ, hX, hY, hI⟩ := I
  rcases hI with hM | hU
  · have hm : ¬ g 21 0 = 0 := by rw [hM.1]; decide
    obtain ⟨hL, q, rfl, hA⟩ := hX
    obtain ⟨hL', q', rfl, hA'⟩ := hY
    exact br_f hm (br_f hm ⟨rfl, ib, db, nd, lim, g, l, hZ, ⟨hL, q, rfl, hA⟩, ⟨hL', q', rfl, hA'⟩, Or.inl hM⟩)
  · exact sf_X_mount hZ hX hU.1 hU.2.2.1 (fun u' hu' => sf_Y_mount hZ hY hU.1 hU.2.2.1 (fun v' hv' => ⟨rfl, ib, db, nd, lim, _, _, hZ, hu', hv', Or.inl (sf_M_mt hZ hU)⟩))
end
section
/-! create -/
theorem sf_us_cases (db : Nat) (g : sf_G) (l : List sf_R) : sf_us db g l = -1 ∨ ∃ e, e < 4 * db ∧ sf_us db g l = nI e ∧ g 6 e = 0 := by
  rcases sf_fs_cases (fun e => g 6 e == 0 && !l.any (sf_MHat (nI e))) (4 * db) 0 with n | ⟨j, j1, j2, j3, j4⟩
  · exact Or.inl (sf_fs_none _ _ n)
  · refine Or.inr ⟨j, by omega, sf_fs_some _ _ j j1 j2 j3 j4, ?_⟩
    rw [Bool.and_eq_true] at j3
    simpa using j3.1
theorem sf_fr_cases (a : Nat → Int32) (n : Nat) : sf_fr a n = 0 ∨ ∃ i, 1 ≤ i ∧ i ≤ n ∧ sf_fr a n = nI i ∧ a i = 0 := by
  rcases sf_fs_cases (fun i => a i == 0) n 1 with h | ⟨j, j1, j2, j3, j4⟩
  · exact Or.inl (sf_fs_none _ _ h)
  · exact Or.inr ⟨j, j1, by omega, sf_fs_some _ _ j j1 j2 j3 j4, by simpa using j3⟩
theorem sf_ent_congr {db : Nat} {g g' : sf_G} {e : Nat} {x : Int32} (h : g' 8 = g 8) : sf_ent db g' e x = sf_ent db g e x := by
  rw [sf_ent, sf_ent, sf_el, sf_el, h]
def sf_cr1 (g : sf_G) (i : Nat) (y : Int32) : sf_G := sf_up (sf_up (sf_up (sf_up g 16 i 1) 20 0 1) 0 i y) 1 i 1
def sf_cr2 (g : sf_G) (i : Nat) (y : Int32) : sf_G := sf_dI (sf_up (sf_up (sf_up (sf_cr1 g i y) 2 (3 * i + 0) 0) 2 (3 * i + 1) 0) 2 (3 * i + 2) 0) i
def sf_crl (g : sf_G) (l : List sf_R) (i : Nat) : List sf_R := if g 17 i = 0 then l ++ [(2, 1, -1, nI i, 0, -1)] else l
def sf_cre (ib db : Nat) (g : sf_G) (l : List sf_R) (e i : Nat) (x y : Int32) : sf_G × List sf_R :=
  (sf_dS ib (sf_up (sf_up (sf_cs (sf_cr2 g i y) e) 6 e x) 7 e (nI i)) e, sf_crl g l i ++ [(1, sf_ent db g e x, nI e, nI i, 0, -1)])
def sf_crv (ib db lim : Nat) (g : sf_G) (l : List sf_R) (x y : Int32) : Int32 × sf_G × List sf_R :=
  if g 21 0 = 0 then (-2, g, l) else if sf_bad x = true then (-3, g, l) else if y < 1 then (-3, g, l) else if y ≤ 7 then (if sf_fn db g x = -1 then (if sf_bz g l x = true then (-6, g, l) else if sf_us db g l = -1 then (-7, g, l) else if sf_fr (g 16) (4 * ib) = 0 then (-8, g, l) else if lim < l.length + 2 then (-10, g, l) else (sf_fr (g 16) (4 * ib), sf_cre ib db g l (sf_us db g l).toNatClampNeg (sf_fr (g 16) (4 * ib)).toNatClampNeg x y)) else (-5, g, l)) else (-3, g, l)
section
variable {ib db nd lim : Nat} {g : sf_G} {l A B : List sf_R} {r : sf_R}
theorem sf_X_freeIno {post : Int32 → Prop} {u : SX} (hZ : sf_Z ib db nd lim) (h : sf_X ib db nd lim g l u) (hp : post (sf_fr (g 16) (4 * ib))) : wpX_lowestFreeInode post u := by
  obtain ⟨hL, q, rfl, hA⟩ := h
  obtain ⟨z1, z2, z3, z4, z5, z6, -⟩ := hZ
  refine Exists.intro (4 * ib + 1) (sf_fs_law (fun m p => wX_lowestFreeInode_2 post (nI ib) (nI db) (nI (4 * ib)) (nI (4 * db)) (nI nd) (nI (1 + ib + db + nd)) (nI lim) (nI (l.length)) (g 21 0) (g 22 0) (g 23 0) (g 0) (g 1) (g 2) (g 3) (g 4) (g 5) (g 6) (g 7) (g 8) (g 9) (g 10) (g 11) (g 12) (g 13) (g 14) (g 15) (g 16) (g 17) (g 18) (g 19) (g 20) (q 0) (q 1) (q 2) (q 3) (q 4) (q 5) m (nI p)) (P := fun i => g 16 i == 0) (hi := 4 * ib + 1) ?_ ?_ ?_ (4 * ib) 1 (by omega) hp)
  · intro hz m
    exact br_t (nI_lt (by omega) (by omega)) hz
  · intro m p hlt c hz
    have hi : vp_in (nI p) 17 := vp_in_nI (by omega) (by decide)
    have hc : (nI p).toNatClampNeg = p := nI_clamp (by omega)
    refine br_f (nI_nlt (by omega) (by omega)) (And.intro hi ?_)
    rw [hc]
    exact br_t (by simpa using c) hz
  · intro m p hlt c hW
    have hi : vp_in (nI p) 17 := vp_in_nI (by omega) (by decide)
    have hc : (nI p).toNatClampNeg = p := nI_clamp (by omega)
    refine br_f (nI_nlt (by omega) (by omega)) (And.intro hi ?_)
    rw [hc]
    exact br_f (by simpa using c) (nm_r (nI_1 p) hW)
theorem sf_X_freeDat {post : Int32 → Prop} {u : SX} (hZ : sf_Z ib db nd lim) (h : sf_X ib db nd lim g l u) (hp : post (sf_fr (g 18) nd)) : wpX_lowestFreeData post u := by
  obtain ⟨hL, q, rfl, hA⟩ := h
  obtain ⟨z1, z2, z3, z4, z5, z6, -⟩ := hZ
  refine Exists.intro (nd + 1) (sf_fs_law (fun m p => wX_lowestFreeData_2 post (nI ib) (nI db) (nI (4 * ib)) (nI (4 * db)) (nI nd) (nI (1 + ib + db + nd)) (nI lim) (nI (l.length)) (g 21 0) (g 22 0) (g 23 0) (g 0) (g 1) (g 2) (g 3) (g 4) (g 5) (g 6) (g 7) (g 8) (g 9) (g 10) (g 11) (g 12) (g 13) (g 14) (g 15) (g 16) (g 17) (g 18) (g 19) (g 20) (q 0) (q 1) (q 2) (q 3) (q 4) (q 5) m (nI p)) (P := fun i => g 18 i == 0) (hi := nd + 1) ?_ ?_ ?_ nd 1 (by omega) hp)
  · intro hz m
    exact br_t (nI_lt (by omega) (by omega)) hz
  · intro m p hlt c hz
    have hi : vp_in (nI p) 17 := vp_in_nI (by omega) (by decide)
    have hc : (nI p).toNatClampNeg = p := nI_clamp (by omega)
    refine br_f (nI_nlt (by omega) (by omega)) (And.intro hi ?_)
    rw [hc]
    exact br_t (by simpa using c) hz
  · intro m p hlt c hW
    have hi : vp_in (nI p) 17 := vp_in_nI (by omega) (by decide)
    have hc : (nI p).toNatClampNeg = p := nI_clamp (by omega)
    refine br_f (nI_nlt (by omega) (by omega)) (And.intro hi ?_)
    rw [hc]
    exact br_f (by simpa using c) (nm_r (nI_1 p) hW)
theorem sf_X_cre3 {post : Int32 → SX → Prop} {q : sf_G} (hZ : sf_Z ib db nd lim) (hL : l.length < 128) (hA : sf_A l q) {e i : Nat} (he : e < 16) (x : Int32) (hp : ∀ u', sf_X ib db nd lim (sf_dS ib (sf_up (sf_up (sf_cs g e) 6 e x) 7 e (nI i)) e) (l ++ [(1, sf_ent db g e x, nI e, nI i, 0, -1)]) u' → post (nI i) u') : wX_create_179 post x (nI e) (nI i) (nI ib) (nI db) (nI (4 * ib)) (nI (4 * db)) (nI nd) (nI (1 + ib + db + nd)) (nI lim) (nI (l.length)) (g 21 0) (g 22 0) (g 23 0) (g 0) (g 1) (g 2) (g 3) (g 4) (g 5) (g 6) (g 7) (g 8) (g 9) (g 10) (g 11) (g 12) (g 13) (g 14) (g 15) (g 16) (g 17) (g 18) (g 19) (g 20) (q 0) (q 1) (q 2) (q 3) (q 4) (q 5) := by
  refine sf_X_clearSafe (g := g) (l := l) ⟨by omega, q, rfl, hA⟩ he (fun u1 h1 => ?_)
  obtain ⟨hL1, q1, rfl, hA1⟩ := h1
  refine sf_X_enter (g := sf_cs g e) (l := l) hZ ⟨hL1, q1, rfl, hA1⟩ hL he x (nI i) (fun u2 h2 => ?_)
  rw [sf_ent_congr (g := g) (g' := sf_cs g e) rfl] at h2
  obtain ⟨hL2, q2, rfl, hA2⟩ := h2
  exact hp _ ⟨hL2, q2, rfl, hA2⟩
theorem sf_Y_cre3 {post : Int32 → SY → Prop} {q : sf_G} (hZ : sf_Z ib db nd lim) (h89 : sf_pr (4 * db) (g 8) (g 9)) (hL : l.length < 128) (hA : sf_A l q) {e i : Nat} (he : e < 16) (x : Int32) (hp : ∀ u', sf_Y ib db nd lim (sf_dS ib (sf_up (sf_up (sf_cs g e) 6 e x) 7 e (nI i)) e) (l ++ [(1, sf_ent db g e x, nI e, nI i, 0, -1)]) u' → post (nI i) u') : wY_create_212 post x (nI e) (nI i) (nI ib) (nI db) (nI nd) (nI lim) (nI (4 * ib)) (nI (4 * db)) (nI (1 + ib + db + nd)) (nI (l.length)) (g 21 0) (g 22 0) (g 23 0) (g 0) (g 1) (g 2) (g 16) (g 18) (g 12) (g 13) (g 6) (g 7) (g 3) (g 4) (g 5) (g 17) (g 19) (g 14) (g 15) (g 8) (g 9) (g 10) (g 11) (g 20) (q 0) (q 1) (q 2) (q 3) (q 4) (q 5) := by
  have hi : vp_in (nI e) 16 := vp_in_nI he (by decide)
  have hc : (nI e).toNatClampNeg = e := nI_clamp (by omega)
  refine And.intro hi (nm_r (e' := upd (g 6) e x) (by rw [hc]) (And.intro hi (nm_r (e' := upd (g 7) e (nI i)) (by rw [hc]) (And.intro hi (nm_r (e' := upd (g 10) e 0) (by rw [hc]) (And.intro hi (nm_r (e' := upd (g 11) e 0) (by rw [hc]) ?_)))))))
  refine sf_Y_dirtySlot (g := sf_up (sf_up (sf_cs g e) 6 e x) 7 e (nI i)) (l := l) hZ ⟨by omega, q, rfl, hA⟩ he (fun u1 h1 => ?_)
  obtain ⟨hL1, q1, rfl, hA1⟩ := h1
  refine sf_Y_appAdd (g := sf_dS ib (sf_up (sf_up (sf_cs g e) 6 e x) 7 e (nI i)) e) (l := l) hZ ⟨hL1, q1, rfl, hA1⟩ h89 hL he (nI i) (fun u2 h2 => ?_)
  have e6 : sf_dS ib (sf_up (sf_up (sf_cs g e) 6 e x) 7 e (nI i)) e 6 e = x := sf_upd_s
  rw [e6, sf_ent_congr (g := g) (g' := sf_dS ib (sf_up (sf_up (sf_cs g e) 6 e x) 7 e (nI i)) e) rfl] at h2
  obtain ⟨hL2, q2, rfl, hA2⟩ := h2
  exact hp _ ⟨hL2, q2, rfl, hA2⟩
theorem sf_X_cre2 {post : Int32 → SX → Prop} {q : sf_G} (hZ : sf_Z ib db nd lim) (h89 : sf_pr (4 * db) (g 8) (g 9)) (hL : l.length + 2 ≤ 128) (hA : sf_A l q) {e i : Nat} (he : e < 16) (i1 : 1 ≤ i) (i2 : i ≤ 16) (x y : Int32) (hp : ∀ u', sf_X ib db nd lim (sf_cre ib db g l e i x y).1 (sf_cre ib db g l e i x y).2 u' → post (nI i) u') : wX_create_127 post x (nI e) (nI i) (nI ib) (nI db) (nI (4 * ib)) (nI (4 * db)) (nI nd) (nI (1 + ib + db + nd)) (nI lim) (nI (l.length)) (g 21 0) (g 22 0) (g 23 0) 4 0 ((sf_cr1 g i y) 0) ((sf_cr1 g i y) 1) ((sf_cr1 g i y) 2) ((sf_cr1 g i y) 3) ((sf_cr1 g i y) 4) ((sf_cr1 g i y) 5) ((sf_cr1 g i y) 6) ((sf_cr1 g i y) 7) ((sf_cr1 g i y) 8) ((sf_cr1 g i y) 9) ((sf_cr1 g i y) 10) ((sf_cr1 g i y) 11) ((sf_cr1 g i y) 12) ((sf_cr1 g i y) 13) ((sf_cr1 g i y) 14) ((sf_cr1 g i y) 15) ((sf_cr1 g i y) 16) ((sf_cr1 g i y) 17) ((sf_cr1 g i y) 18) ((sf_cr1 g i y) 19) ((sf_cr1 g i y) 20) (q 0) (q 1) (q 2) (q 3) (q 4) (q 5) := by
  have hx : ∀ k, k < 3 → ((3 : Int32) * nI i) + nI k = nI (3 * i + k) := by
    intro k _
    show (nI 3 * nI i) + nI k = _
    rw [pk_mul, nI_add]
    all_goals exact congrArg nI (by omega)
  have hv : ∀ k, k < 3 → vp_in (((3 : Int32) * nI i) + nI k) 51 := fun k hk => by rw [hx k hk]; exact vp_in_nI (by omega) (by decide)
  have hc : ∀ k, k < 3 → (((3 : Int32) * nI i) + nI k).toNatClampNeg = 3 * i + k := fun k hk => by rw [hx k hk]; exact nI_clamp (by omega)
  have hvi : vp_in (nI i) 17 := vp_in_nI (by omega) (by decide)
  have hci : (nI i).toNatClampNeg = i := nI_clamp (by omega)
  refine br_f (by decide) (And.intro (hv 0 (by omega)) (nm_r (e' := upd (g 2) (3 * i + 0) 0) (congrArg (fun t => upd (g 2) t 0) (hc 0 (by omega))) (nm_r (nI_1 0) ?_)))
  refine br_f (by decide) (And.intro (hv 1 (by omega)) (nm_r (e' := upd (upd (g 2) (3 * i + 0) 0) (3 * i + 1) 0) (congrArg (fun t => upd (upd (g 2) (3 * i + 0) 0) t 0) (hc 1 (by omega))) (nm_r (nI_1 1) ?_)))
  refine br_f (by decide) (And.intro (hv 2 (by omega)) (nm_r (e' := upd (upd (upd (g 2) (3 * i + 0) 0) (3 * i + 1) 0) (3 * i + 2) 0) (congrArg (fun t => upd (upd (upd (g 2) (3 * i + 0) 0) (3 * i + 1) 0) t 0) (hc 2 (by omega))) (nm_r (nI_1 2) ?_)))
  refine br_t (by decide) (sf_X_dirtyInode (g := sf_up (sf_up (sf_up (sf_cr1 g i y) 2 (3 * i + 0) 0) 2 (3 * i + 1) 0) 2 (3 * i + 2) 0) (l := l) ⟨by omega, q, rfl, hA⟩ i1 i2 (fun u1 h1 => ?_))
  obtain ⟨hL1, q1, rfl, hA1⟩ := h1
  refine And.intro hvi ?_
  rw [hci]
  rw [sf_cre, sf_crl] at hp
  by_cases c : g 17 i = 0
  · rw [if_pos c] at hp
    refine br_t c (sf_X_append (g := sf_cr2 g i y) (l := l) ⟨hL1, q1, rfl, hA1⟩ (by omega) _ _ _ _ _ _ (fun u2 h2 => ?_))
    obtain ⟨hL2, q2, rfl, hA2⟩ := h2
    refine sf_X_cre3 (g := sf_cr2 g i y) hZ (by simp; omega) hA2 he x ?_
    rw [sf_ent_congr (g := g) (g' := sf_cr2 g i y) rfl]
    exact hp
  · rw [if_neg c] at hp
    refine br_f c (sf_X_cre3 (g := sf_cr2 g i y) hZ (by omega) hA1 he x ?_)
    rw [sf_ent_congr (g := g) (g' := sf_cr2 g i y) rfl]
    exact hp
theorem sf_Y_cre2 {post : Int32 → SY → Prop} {q : sf_G} (hZ : sf_Z ib db nd lim) (h89 : sf_pr (4 * db) (g 8) (g 9)) (hL : l.length + 2 ≤ 128) (hA : sf_A l q) {e i : Nat} (he : e < 16) (i1 : 1 ≤ i) (i2 : i ≤ 16) (x y : Int32) (hp : ∀ u', sf_Y ib db nd lim (sf_cre ib db g l e i x y).1 (sf_cre ib db g l e i x y).2 u' → post (nI i) u') : wY_create_160 post x (nI e) (nI i) (nI ib) (nI db) (nI nd) (nI lim) (nI (4 * ib)) (nI (4 * db)) (nI (1 + ib + db + nd)) (nI (l.length)) (g 21 0) (g 22 0) (g 23 0) 4 0 ((sf_cr1 g i y) 0) ((sf_cr1 g i y) 1) ((sf_cr1 g i y) 2) ((sf_cr1 g i y) 16) ((sf_cr1 g i y) 18) ((sf_cr1 g i y) 12) ((sf_cr1 g i y) 13) ((sf_cr1 g i y) 6) ((sf_cr1 g i y) 7) ((sf_cr1 g i y) 3) ((sf_cr1 g i y) 4) ((sf_cr1 g i y) 5) ((sf_cr1 g i y) 17) ((sf_cr1 g i y) 19) ((sf_cr1 g i y) 14) ((sf_cr1 g i y) 15) ((sf_cr1 g i y) 8) ((sf_cr1 g i y) 9) ((sf_cr1 g i y) 10) ((sf_cr1 g i y) 11) ((sf_cr1 g i y) 20) (q 0) (q 1) (q 2) (q 3) (q 4) (q 5) := by
  have hx : ∀ k, k < 3 → (nI i * 3) + nI k = nI (3 * i + k) := by
    intro k _
    show (nI i * nI 3) + nI k = _
    rw [pk_mul, nI_add]
    all_goals exact congrArg nI (by omega)
  have hv : ∀ k, k < 3 → vp_in ((nI i * 3) + nI k) 51 := fun k hk => by rw [hx k hk]; exact vp_in_nI (by omega) (by decide)
  have hc : ∀ k, k < 3 → ((nI i * 3) + nI k).toNatClampNeg = 3 * i + k := fun k hk => by rw [hx k hk]; exact nI_clamp (by omega)
  have hvi : vp_in (nI i) 17 := vp_in_nI (by omega) (by decide)
  have hci : (nI i).toNatClampNeg = i := nI_clamp (by omega)
  refine br_f (by decide) (And.intro (hv 0 (by omega)) (nm_r (e' := upd (g 2) (3 * i + 0) 0) (congrArg (fun t => upd (g 2) t 0) (hc 0 (by omega))) (nm_r (nI_1 0) ?_)))
  refine br_f (by decide) (And.intro (hv 1 (by omega)) (nm_r (e' := upd (upd (g 2) (3 * i + 0) 0) (3 * i + 1) 0) (congrArg (fun t => upd (upd (g 2) (3 * i + 0) 0) t 0) (hc 1 (by omega))) (nm_r (nI_1 1) ?_)))
  refine br_f (by decide) (And.intro (hv 2 (by omega)) (nm_r (e' := upd (upd (upd (g 2) (3 * i + 0) 0) (3 * i + 1) 0) (3 * i + 2) 0) (congrArg (fun t => upd (upd (upd (g 2) (3 * i + 0) 0) (3 * i + 1) 0) t 0) (hc 2 (by omega))) (nm_r (nI_1 2) ?_)))
  refine br_t (by decide) (sf_Y_dirtyInode (g := sf_up (sf_up (sf_up (sf_cr1 g i y) 2 (3 * i + 0) 0) 2 (3 * i + 1) 0) 2 (3 * i + 2) 0) (l := l) ⟨by omega, q, rfl, hA⟩ i1 i2 (fun u1 h1 => ?_))
  obtain ⟨hL1, q1, rfl, hA1⟩ := h1
  refine And.intro hvi ?_
  rw [hci]
  rw [sf_cre, sf_crl] at hp
  by_cases c : g 17 i = 0
  · rw [if_pos c] at hp
    refine br_t c (sf_Y_append (g := sf_cr2 g i y) (l := l) ⟨hL1, q1, rfl, hA1⟩ (by omega) _ _ _ _ _ _ (fun u2 h2 => ?_))
    obtain ⟨hL2, q2, rfl, hA2⟩ := h2
    refine sf_Y_cre3 (g := sf_cr2 g i y) hZ h89 (by simp; omega) hA2 he x ?_
    rw [sf_ent_congr (g := g) (g' := sf_cr2 g i y) rfl]
    exact hp
  · rw [if_neg c] at hp
    refine br_f c (sf_Y_cre3 (g := sf_cr2 g i y) hZ h89 (by omega) hA1 he x ?_)
    rw [sf_ent_congr (g := g) (g' := sf_cr2 g i y) rfl]
    exact hp
theorem sf_X_create {post : Int32 → SX → Prop} {u : SX} (hZ : sf_Z ib db nd lim) (h : sf_X ib db nd lim g l u) (hM : ¬ g 21 0 = 0 → sf_M ib db nd g l) (x y : Int32) (hp : ∀ u', sf_X ib db nd lim (sf_crv ib db lim g l x y).2.1 (sf_crv ib db lim g l x y).2.2 u' → post (sf_crv ib db lim g l x y).1 u') : wpX_create post u x y := by
  obtain ⟨hL, q, rfl, hA⟩ := h
  have hu : sf_X ib db nd lim g l (sf_mX ib db nd lim l.length g q) := ⟨hL, q, rfl, hA⟩
  have z := hZ
  obtain ⟨z1, z2, z3, z4, z5, z6, z7, z8⟩ := z
  rw [sf_crv] at hp
  by_cases hm : g 21 0 = 0
  · rw [if_pos hm] at hp
    exact br_t hm (hp _ hu)
  rw [if_neg hm] at hp
  have hM := hM hm
  have h67 := hM.2.1.1.1
  have h89 := hM.2.1.1.2.1
  have hK2 : sf_K2 (4 * db) l := sf_T_K2 (fun r hr => (hM.2.2.2.1 r hr).1)
  refine br_f hm (sf_X_bad _ ?_)
  cases hb : sf_bad x with
  | true =>
    rw [hb, if_pos rfl] at hp
    exact br_f (by decide) (hp _ hu)
  | false =>
    rw [hb, if_neg Bool.false_ne_true] at hp
    refine br_t (by decide) ?_
    by_cases y1 : y < 1
    · rw [if_pos y1] at hp
      exact br_t y1 (hp _ hu)
    rw [if_neg y1] at hp
    refine br_f y1 ?_
    by_cases y2 : y ≤ 7
    · rw [if_pos y2] at hp
      refine br_t y2 (sf_X_findName hZ hu _ ?_)
      by_cases hf : sf_fn db g x = -1
      · rw [if_pos hf] at hp
        refine br_t hf (sf_X_busy hZ hu hK2 x ?_)
        cases hz : sf_bz g l x with
        | true =>
          rw [hz, if_pos rfl] at hp
          exact br_f (by decide) (hp _ hu)
        | false =>
          rw [hz, if_neg Bool.false_ne_true] at hp
          refine br_t (by decide) (sf_X_usable hZ hu ?_)
          rcases sf_us_cases db g l with hs | ⟨e, he, hs, h6⟩
          · rw [if_pos hs] at hp
            exact br_t hs (hp _ hu)
          · have hsn : ¬ sf_us db g l = -1 := by rw [hs]; exact sf_nI_m1 (by omega)
            rw [if_neg hsn, hs, nI_clamp (show e < 2 ^ 31 by omega)] at hp
            refine br_f hsn ?_
            rw [hs]
            refine sf_X_freeIno hZ hu ?_
            rcases sf_fr_cases (g 16) (4 * ib) with hf | ⟨i, i1, i2, hf, hb⟩
            · rw [if_pos hf] at hp
              exact br_t hf (hp _ hu)
            · have hn : ¬ sf_fr (g 16) (4 * ib) = 0 := by rw [hf]; exact nI_ne0 (by omega) (by omega)
              have hvi : vp_in (nI i) 17 := vp_in_nI (by omega) (by decide)
              have hci : (nI i).toNatClampNeg = i := nI_clamp (by omega)
              rw [if_neg hn] at hp
              refine br_f hn (sf_X_over hZ hu 2 (by omega) ?_)
              by_cases c : lim < l.length + 2
              · rw [if_pos c] at hp
                rw [decide_eq_true c]
                exact br_f (by decide) (hp _ hu)
              · rw [if_neg c, hf, hci] at hp
                rw [decide_eq_false c, hf]
                exact br_t (by decide) (And.intro hvi (nm_r (e' := upd (g 16) i 1) (by rw [hci]) (nm_r (e' := upd (g 20) 0 1) (by rw [sf_t1]) (And.intro hvi (nm_r (e' := upd (g 0) i y) (by rw [hci]) (And.intro hvi (nm_r (e' := upd (g 1) i 1) (by rw [hci]) (Exists.intro 4 (sf_X_cre2 hZ h89 (by omega) hA (by omega) i1 (by omega) x y hp)))))))))
      · rw [if_neg hf] at hp
        exact br_f hf (hp _ hu)
    · rw [if_neg y2] at hp
      exact br_f y2 (hp _ hu)
theorem sf_Y_create {post : Int32 → SY → Prop} {u : SY} (hZ : sf_Z ib db nd lim) (h : sf_Y ib db nd lim g l u) (hM : ¬ g 21 0 = 0 → sf_M ib db nd g l) (x y : Int32) (hp : ∀ u', sf_Y ib db nd lim (sf_crv ib db lim g l x y).2.1 (sf_crv ib db lim g l x y).2.2 u' → post (sf_crv ib db lim g l x y).1 u') : wpY_create post u x y := by
  obtain ⟨hL, q, rfl, hA⟩ := h
  have hu : sf_Y ib db nd lim g l (sf_mY ib db nd lim l.length g q) := ⟨hL, q, rfl, hA⟩
  have z := hZ
  obtain ⟨z1, z2, z3, z4, z5, z6, z7, z8⟩ := z
  rw [sf_crv] at hp
  by_cases hm : g 21 0 = 0
  · rw [if_pos hm] at hp
    exact br_t hm (hp _ hu)
  rw [if_neg hm] at hp
  have hM := hM hm
  have h67 := hM.2.1.1.1
  have h89 := hM.2.1.1.2.1
  have hK2 : sf_K2 (4 * db) l := sf_T_K2 (fun r hr => (hM.2.2.2.1 r hr).1)
  refine br_f hm (sf_Y_bad _ ?_)
  cases hb : sf_bad x with
  | true =>
    rw [hb, if_pos rfl] at hp
    exact br_f (by decide) (hp _ hu)
  | false =>
    rw [hb, if_neg Bool.false_ne_true] at hp
    refine br_t (by decide) ?_
    by_cases y1 : y < 1
    · rw [if_pos y1] at hp
      exact br_t y1 (hp _ hu)
    rw [if_neg y1] at hp
    refine br_f y1 ?_
    by_cases y2 : y ≤ 7
    · rw [if_pos y2] at hp
      refine br_t y2 (sf_Y_findName hZ hu _ ?_)
      by_cases hf : sf_fn db g x = -1
      · rw [if_pos hf] at hp
        refine br_t hf (sf_Y_busy hZ hu hK2 x ?_)
        cases hz : sf_bz g l x with
        | true =>
          rw [hz, if_pos rfl] at hp
          exact br_f (by decide) (hp _ hu)
        | false =>
          rw [hz, if_neg Bool.false_ne_true] at hp
          refine br_t (by decide) (sf_Y_usable hZ hu h67 ?_)
          rcases sf_us_cases db g l with hs | ⟨e, he, hs, h6⟩
          · rw [if_pos hs] at hp
            exact br_t hs (hp _ hu)
          · have hsn : ¬ sf_us db g l = -1 := by rw [hs]; exact sf_nI_m1 (by omega)
            rw [if_neg hsn, hs, nI_clamp (show e < 2 ^ 31 by omega)] at hp
            refine br_f hsn ?_
            rw [hs]
            have loop : ∀ j, j ≤ 4 * ib → wY_create_81 post x y (nI e) (nI ib) (nI db) (nI nd) (nI lim) (nI (4 * ib)) (nI (4 * db)) (nI (1 + ib + db + nd)) (nI (l.length)) (g 21 0) (g 22 0) (g 23 0) (g 0) (g 1) (g 2) (g 16) (g 18) (g 12) (g 13) (g 6) (g 7) (g 3) (g 4) (g 5) (g 17) (g 19) (g 14) (g 15) (g 8) (g 9) (g 10) (g 11) (g 20) (q 0) (q 1) (q 2) (q 3) (q 4) (q 5) (j + 1) (sf_fs 0 nI (fun i => g 16 i == 0) (4 * ib - j) (j + 1)) (nI j) := by
              intro j
              induction j with
              | zero =>
                intro _
                refine br_t (by decide) ?_
                rw [show 4 * ib - 0 = 4 * ib by omega]
                have e0 : sf_fs 0 nI (fun i => g 16 i == 0) (4 * ib) (0 + 1) = sf_fr (g 16) (4 * ib) := rfl
                rw [e0]
                rcases sf_fr_cases (g 16) (4 * ib) with hf | ⟨i, i1, i2, hf, hb⟩
                · rw [if_pos hf] at hp
                  exact br_t hf (hp _ hu)
                · have hn : ¬ sf_fr (g 16) (4 * ib) = 0 := by rw [hf]; exact nI_ne0 (by omega) (by omega)
                  have hvi : vp_in (nI i) 17 := vp_in_nI (by omega) (by decide)
                  have hci : (nI i).toNatClampNeg = i := nI_clamp (by omega)
                  rw [if_neg hn] at hp
                  refine br_f hn (sf_Y_over hZ hu 2 (by omega) ?_)
                  by_cases c : lim < l.length + 2
                  · rw [if_pos c] at hp
                    rw [decide_eq_true c]
                    exact br_f (by decide) (hp _ hu)
                  · rw [if_neg c, hf, hci] at hp
                    rw [decide_eq_false c, hf]
                    exact br_t (by decide) (And.intro hvi (nm_r (e' := upd (g 16) i 1) (by rw [hci]) (nm_r (e' := upd (g 20) 0 1) (by rw [sf_t1]) (And.intro hvi (nm_r (e' := upd (g 0) i y) (by rw [hci]) (And.intro hvi (nm_r (e' := upd (g 1) i 1) (by rw [hci]) (Exists.intro 4 (sf_Y_cre2 hZ h89 (by omega) hA (by omega) i1 (by omega) x y hp)))))))))
              | succ j ih =>
                intro hj
                have ih := ih (by omega)
                have hv : vp_in (nI (j + 1)) 17 := vp_in_nI (by omega) (by decide)
                have hcj : (nI (j + 1)).toNatClampNeg = j + 1 := nI_clamp (by omega)
                rw [show 4 * ib - j = (4 * ib - (j + 1)) + 1 by omega, sf_fs] at ih
                refine br_f (nI_nlt (b := 1) (by omega) (by omega)) (And.intro hv ?_)
                rw [hcj]
                by_cases c : g 16 (j + 1) = 0
                · rw [if_pos (by simpa using c)] at ih
                  exact br_t c (nm_r (pk_m1 j) ih)
                · rw [if_neg (by simpa using c)] at ih
                  exact br_f c (nm_r (pk_m1 j) ih)
            have k := loop (4 * ib) (Nat.le_refl _)
            rw [Nat.sub_self] at k
            exact Exists.intro (4 * ib + 1) k
      · rw [if_neg hf] at hp
        exact br_f hf (hp _ hu)
    · rw [if_neg y2] at hp
      exact br_f y2 (hp _ hu)
/-- create keeps the invariant -/
theorem sf_M_cre (hZ : sf_Z ib db nd lim) (hM : sf_M ib db nd g l) {e i : Nat} (he : e < 4 * db) (i1 : 1 ≤ i) (i2 : i ≤ 4 * ib) (h6 : g 6 e = 0) (hb : g 16 i = 0) {x y : Int32} (hx : ¬ x = 0) (hy : ¬ y = 0) (hl : l.length + 2 ≤ 48) : sf_M ib db nd (sf_cre ib db g l e i x y).1 (sf_cre ib db g l e i x y).2 := by
  obtain ⟨z1, z2, z3, z4, z5, z6, -⟩ := hZ
  obtain ⟨h21, ⟨⟨p1, p2, p3⟩, pt, pd, pc⟩, hJ⟩ := hM
  have h7 : g 7 e = 0 := (p1 e he).mp h6
  have J1 := sf_J_new (mp' := upd (upd (upd (g 2) (3 * i + 0) 0) (3 * i + 1) 0) (3 * i + 2) 0) (v := y) (l' := sf_crl g l i) hJ i1 i2 hb hy (fun x hx => by rw [sf_upd_n (by omega), sf_upd_n (by omega), sf_upd_n (by omega)]) (by
    rw [sf_crl]
    by_cases c : g 17 i = 0
    · rw [if_pos c]; exact Or.inl ⟨c, rfl⟩
    · rw [if_neg c]; exact Or.inr ⟨c, rfl⟩)
  have hst : sf_ent db g e x = 4 ∨ sf_ent db g e x = 12 := by
    rw [sf_ent]
    split
    · exact Or.inl rfl
    · exact Or.inr rfl
  have J3 := sf_J_enter (e := e) (i := i) (st := sf_ent db g e x) (sf_J_cs (e := e) J1) he i1 i2 h7 (by rw [sf_upd_s]; exact hy) hst
  have eml : upd (upd (g 1) i 0) i (upd (g 1) i 0 i + 1) = upd (g 1) i 1 := by
    funext j
    by_cases c : j = i
    · subst c; rw [sf_upd_s, sf_upd_s, sf_upd_s]; rfl
    · rw [sf_upd_n c, sf_upd_n c, sf_upd_n c]
  rw [eml] at J3
  have hlen : (sf_crl g l i).length ≤ l.length + 1 := by
    rw [sf_crl]
    split
    · simp
    · omega
  refine ⟨h21, ⟨⟨fun j hj => ?_, p2, fun j hj => ?_⟩, fun j hj => ⟨?_, (pt j hj).2⟩, fun j hj => ?_, ?_⟩, J3⟩
  · show upd (g 6) e x j = 0 ↔ upd (g 7) e (nI i) j = 0
    by_cases c : j = e
    · subst c
      rw [sf_upd_s, sf_upd_s]
      exact ⟨fun k => absurd k hx, fun k => absurd k (sf_nI_0 i1 (by omega))⟩
    · rw [sf_upd_n c, sf_upd_n c]
      exact p1 j hj
  · show upd (g 10) e 0 j = 0 ↔ upd (g 11) e 0 j = 0
    by_cases c : j = e
    · subst c
      rw [sf_upd_s, sf_upd_s]
    · rw [sf_upd_n c, sf_upd_n c]
      exact p3 j hj
  · show ∃ b, b ≤ nd ∧ upd (upd (upd (g 2) (3 * i + 0) 0) (3 * i + 1) 0) (3 * i + 2) 0 j = nI b
    by_cases c2 : j = 3 * i + 2
    · subst c2; rw [sf_upd_s]; exact ⟨0, by omega, rfl⟩
    · rw [sf_upd_n c2]
      by_cases c1 : j = 3 * i + 1
      · subst c1; rw [sf_upd_s]; exact ⟨0, by omega, rfl⟩
      · rw [sf_upd_n c1]
        by_cases c0 : j = 3 * i + 0
        · subst c0; rw [sf_upd_s]; exact ⟨0, by omega, rfl⟩
        · rw [sf_upd_n c0]; exact (pt j hj).1
  · exact sf_upd_01 (Or.inr rfl) (sf_upd_01 (Or.inr rfl) (sf_upd_01 (Or.inr rfl) (pd j hj)))
  · have hn := sf_nz_51 ((sf_cre ib db g l e i x y).1 2)
    have hlen2 : (sf_cre ib db g l e i x y).2.length = (sf_crl g l i).length + 1 := by
      rw [sf_cre]
      exact List.length_append
    rw [hlen2]
    omega
end
theorem sf_bad0 {x : Int32} (h : sf_bad x = false) : ¬ x = 0 := by
  rintro rfl
  exact absurd h (by decide)
theorem i_vc_create {k : Nat} {u : SX} {v : SY} (I : i_Rel k u v) (hk : k + 4 ≤ 2052) (v1 : Int32) (v2 : Int32) : wpX_create (fun r u' => wpY_create (fun r' v' => r' = r ∧ i_Rel (k + 4) u' v') v v1 v2) u v1 v2 := by
  obtain ⟨ib, db, nd, lim, g, l, hZ, hX, hY, hI⟩ := I
  have hI' : sf_M ib db nd (sf_crv ib db lim g l v1 v2).2.1 (sf_crv ib db lim g l v1 v2).2.2 ∨ sf_U ib db nd (sf_crv ib db lim g l v1 v2).2.1 (sf_crv ib db lim g l v1 v2).2.2 := by
    have z := hZ
    obtain ⟨z1, z2, z3, z4, z5, z6, z7, z8⟩ := z
    rw [sf_crv]
    by_cases hm : g 21 0 = 0
    · rw [if_pos hm]; exact hI
    rw [if_neg hm]
    have hM := sf_MU hI hm
    cases hb : sf_bad v1 with
    | true => rw [if_pos rfl]; exact hI
    | false =>
      rw [if_neg Bool.false_ne_true]
      by_cases y1 : v2 < 1
      · rw [if_pos y1]; exact hI
      rw [if_neg y1]
      by_cases y2 : v2 ≤ 7
      · rw [if_pos y2]
        by_cases hf : sf_fn db g v1 = -1
        · rw [if_pos hf]
          cases hz : sf_bz g l v1 with
          | true => rw [if_pos rfl]; exact hI
          | false =>
            rw [if_neg Bool.false_ne_true]
            rcases sf_us_cases db g l with hs | ⟨e, he, hs, h6⟩
            · rw [if_pos hs]; exact hI
            · rw [hs, if_neg (sf_nI_m1 (by omega)), nI_clamp (show e < 2 ^ 31 by omega)]
              rcases sf_fr_cases (g 16) (4 * ib) with hf | ⟨i, i1, i2, hf, hb'⟩
              · rw [if_pos hf]; exact hI
              · rw [hf, if_neg (nI_ne0 (by omega) (by omega)), nI_clamp (show i < 2 ^ 31 by omega)]
                by_cases c : lim < l.length + 2
                · rw [if_pos c]; exact hI
                · rw [if_neg c]
                  refine Or.inl (sf_M_cre hZ hM he i1 i2 h6 hb' (sf_bad0 hb) ?_ (by omega))
                  rintro rfl
                  exact y1 (by decide)
        · rw [if_neg hf]; exact hI
      · rw [if_neg y2]; exact hI
  exact sf_X_create hZ hX (sf_MU hI) _ _ (fun u' hu' => sf_Y_create hZ hY (sf_MU hI) _ _ (fun v' hv' => ⟨rfl, ib, db, nd, lim, _, _, hZ, hu', hv', hI'⟩))
end
section
/-! link and unlink -/
def sf_lnk (ib db : Nat) (g : sf_G) (l : List sf_R) (e i : Nat) (y : Int32) : sf_G × List sf_R :=
  (sf_dS ib (sf_up (sf_up (sf_cs (sf_dI (sf_up g 1 i (g 1 i + 1)) i) e) 6 e y) 7 e (nI i)) e, l ++ [(1, sf_ent db g e y, nI e, nI i, 0, -1)])
def sf_lnv (ib db lim : Nat) (g : sf_G) (l : List sf_R) (x y : Int32) : Int32 × sf_G × List sf_R :=
  if g 21 0 = 0 then (-2, g, l) else if sf_bad x = true then (-3, g, l) else if sf_bad y = true then (-3, g, l) else if sf_fn db g x = -1 then (-4, g, l) else if sf_fn db g y = -1 then (if sf_bz g l y = true then (-6, g, l) else if sf_us db g l = -1 then (-7, g, l) else if lim < l.length + 1 then (-10, g, l) else (g 1 (g 7 (sf_fn db g x).toNatClampNeg).toNatClampNeg + 1, sf_lnk ib db g l (sf_us db g l).toNatClampNeg (g 7 (sf_fn db g x).toNatClampNeg).toNatClampNeg y)) else (-5, g, l)
def sf_Pe (e : Int32) (r : sf_R) : Bool := sf_MH r && r.2.2.2.2.2 == e
def sf_unl (ib : Nat) (g : sf_G) (l : List sf_R) (e i : Nat) : sf_G × List sf_R :=
  (sf_dS ib (sf_cs (sf_cm (sf_cg (sf_Pe (nI e)) l g) e) e) e,
   if (l.map (sf_rm (sf_Pe (nI e)))).any (sf_isAdd (nI e)) then ((l.map (sf_rm (sf_Pe (nI e)))).eraseP (sf_isAdd (nI e))).map (sf_own (nI e)) ++ [(4, 0, nI e, nI i, 0, -1)] else l.map (sf_rm (sf_Pe (nI e))) ++ [(4, 16, nI e, nI i, 0, -1)])
def sf_unv (ib db lim : Nat) (g : sf_G) (l : List sf_R) (x : Int32) : Int32 × sf_G × List sf_R :=
  if g 21 0 = 0 then (-2, g, l) else if sf_bad x = true then (-3, g, l) else if sf_fn db g x = -1 then (-4, g, l) else if lim < l.length + 1 then (-10, g, l) else (g 7 (sf_fn db g x).toNatClampNeg, sf_unl ib g l (sf_fn db g x).toNatClampNeg (g 7 (sf_fn db g x).toNatClampNeg).toNatClampNeg)
section
variable {ib db nd lim m : Nat} {g : sf_G} {l A B : List sf_R} {r : sf_R}
theorem sf_X_link {post : Int32 → SX → Prop} {u : SX} (hZ : sf_Z ib db nd lim) (h : sf_X ib db nd lim g l u) (hM : ¬ g 21 0 = 0 → sf_M ib db nd g l) (x y : Int32) (hp : ∀ u', sf_X ib db nd lim (sf_lnv ib db lim g l x y).2.1 (sf_lnv ib db lim g l x y).2.2 u' → post (sf_lnv ib db lim g l x y).1 u') : wpX_link post u x y := by
  obtain ⟨hL, q, rfl, hA⟩ := h
  have hu : sf_X ib db nd lim g l (sf_mX ib db nd lim l.length g q) := ⟨hL, q, rfl, hA⟩
  have z := hZ
  obtain ⟨z1, z2, z3, z4, z5, z6, z7, z8⟩ := z
  rw [sf_lnv] at hp
  by_cases hm : g 21 0 = 0
  · rw [if_pos hm] at hp
    exact br_t hm (hp _ hu)
  rw [if_neg hm] at hp
  have hM := hM hm
  have h67 := hM.2.1.1.1
  have h89 := hM.2.1.1.2.1
  have hK2 : sf_K2 (4 * db) l := sf_T_K2 (fun r hr => (hM.2.2.2.1 r hr).1)
  refine br_f hm (sf_X_bad _ ?_)
  cases hb : sf_bad x with
  | true =>
    rw [hb, if_pos rfl] at hp
    exact br_f (by decide) (hp _ hu)
  | false =>
    rw [hb, if_neg Bool.false_ne_true] at hp
    refine br_t (by decide) (sf_X_bad _ ?_)
    cases hb2 : sf_bad y with
    | true =>
      rw [hb2, if_pos rfl] at hp
      exact br_f (by decide) (hp _ hu)
    | false =>
      rw [hb2, if_neg Bool.false_ne_true] at hp
      refine br_t (by decide) (sf_X_findName hZ hu _ ?_)
      rcases sf_fn_cases db g x with hf | ⟨o, ho, hf, hx⟩
      · rw [if_pos hf] at hp
        exact br_t hf (hp _ hu)
      · obtain ⟨i, i1, i2, hi7⟩ := sf_found hZ hM hb ho hx
        have hfn : ¬ sf_fn db g x = -1 := by rw [hf]; exact sf_nI_m1 (by omega)
        have hco : (nI o).toNatClampNeg = o := nI_clamp (by omega)
        have hci : (nI i).toNatClampNeg = i := nI_clamp (by omega)
        have hvi : vp_in (nI i) 17 := vp_in_nI (by omega) (by decide)
        rw [if_neg hfn, hf, hco, hi7, hci] at hp
        refine br_f hfn (sf_X_findName hZ hu _ ?_)
        by_cases hf2 : sf_fn db g y = -1
        · rw [if_pos hf2] at hp
          refine br_t hf2 (sf_X_busy hZ hu hK2 y ?_)
          cases hz : sf_bz g l y with
          | true =>
            rw [hz, if_pos rfl] at hp
            exact br_f (by decide) (hp _ hu)
          | false =>
            rw [hz, if_neg Bool.false_ne_true] at hp
            refine br_t (by decide) (sf_X_usable hZ hu ?_)
            rcases sf_us_cases db g l with hs | ⟨e, he, hs, h6⟩
            · rw [if_pos hs] at hp
              exact br_t hs (hp _ hu)
            · have hsn : ¬ sf_us db g l = -1 := by rw [hs]; exact sf_nI_m1 (by omega)
              rw [if_neg hsn, hs, nI_clamp (show e < 2 ^ 31 by omega)] at hp
              refine br_f hsn (sf_X_over hZ hu 1 (by omega) ?_)
              by_cases c : lim < l.length + 1
              · rw [if_pos c] at hp
                rw [decide_eq_true c]
                exact br_f (by decide) (hp _ hu)
              · rw [if_neg c] at hp
                rw [decide_eq_false c, hf, hs]
                refine br_t (by decide) (And.intro (vp_in_nI (by omega) (by decide)) (nm_r (e' := nI i) (by rw [hco]; exact hi7) (And.intro hvi (And.intro hvi (nm_r (e' := upd (g 1) i (g 1 i + 1)) (by rw [hci]) ?_)))))
                refine sf_X_dirtyInode (g := sf_up g 1 i (g 1 i + 1)) (l := l) ⟨hL, q, rfl, hA⟩ i1 (by omega) (fun u1 h1 => ?_)
                obtain ⟨hL1, q1, rfl, hA1⟩ := h1
                refine sf_X_clearSafe (g := sf_dI (sf_up g 1 i (g 1 i + 1)) i) (l := l) ⟨hL1, q1, rfl, hA1⟩ (by omega) (fun u2 h2 => ?_)
                obtain ⟨hL2, q2, rfl, hA2⟩ := h2
                refine sf_X_enter (g := sf_cs (sf_dI (sf_up g 1 i (g 1 i + 1)) i) e) (l := l) hZ ⟨hL2, q2, rfl, hA2⟩ (by omega) (by omega) y (nI i) (fun u3 h3 => ?_)
                rw [sf_ent_congr (g := g) (g' := sf_cs (sf_dI (sf_up g 1 i (g 1 i + 1)) i) e) rfl] at h3
                obtain ⟨hL3, q3, rfl, hA3⟩ := h3
                refine And.intro hvi ?_
                rw [hci]
                have e1 : sf_dS ib (sf_up (sf_up (sf_cs (sf_dI (sf_up g 1 i (g 1 i + 1)) i) e) 6 e y) 7 e (nI i)) e 1 i = g 1 i + 1 := sf_upd_s
                rw [e1]
                exact hp _ ⟨hL3, q3, rfl, hA3⟩
        · rw [if_neg hf2] at hp
          exact br_f hf2 (hp _ hu)
theorem sf_Y_link {post : Int32 → SY → Prop} {u : SY} (hZ : sf_Z ib db nd lim) (h : sf_Y ib db nd lim g l u) (hM : ¬ g 21 0 = 0 → sf_M ib db nd g l) (x y : Int32) (hp : ∀ u', sf_Y ib db nd lim (sf_lnv ib db lim g l x y).2.1 (sf_lnv ib db lim g l x y).2.2 u' → post (sf_lnv ib db lim g l x y).1 u') : wpY_link post u x y := by
  obtain ⟨hL, q, rfl, hA⟩ := h
  have hu : sf_Y ib db nd lim g l (sf_mY ib db nd lim l.length g q) := ⟨hL, q, rfl, hA⟩
  have z := hZ
  obtain ⟨z1, z2, z3, z4, z5, z6, z7, z8⟩ := z
  rw [sf_lnv] at hp
  by_cases hm : g 21 0 = 0
  · rw [if_pos hm] at hp
    exact br_t hm (hp _ hu)
  rw [if_neg hm] at hp
  have hM := hM hm
  have h67 := hM.2.1.1.1
  have h89 := hM.2.1.1.2.1
  have hK2 : sf_K2 (4 * db) l := sf_T_K2 (fun r hr => (hM.2.2.2.1 r hr).1)
  refine br_f hm (sf_Y_bad _ ?_)
  cases hb : sf_bad x with
  | true =>
    rw [hb, if_pos rfl] at hp
    exact br_f (by decide) (hp _ hu)
  | false =>
    rw [hb, if_neg Bool.false_ne_true] at hp
    refine br_t (by decide) (sf_Y_bad _ ?_)
    cases hb2 : sf_bad y with
    | true =>
      rw [hb2, if_pos rfl] at hp
      exact br_f (by decide) (hp _ hu)
    | false =>
      rw [hb2, if_neg Bool.false_ne_true] at hp
      refine br_t (by decide) (sf_Y_findName hZ hu _ ?_)
      rcases sf_fn_cases db g x with hf | ⟨o, ho, hf, hx⟩
      · rw [if_pos hf] at hp
        exact br_t hf (hp _ hu)
      · obtain ⟨i, i1, i2, hi7⟩ := sf_found hZ hM hb ho hx
        have hfn : ¬ sf_fn db g x = -1 := by rw [hf]; exact sf_nI_m1 (by omega)
        have hco : (nI o).toNatClampNeg = o := nI_clamp (by omega)
        have hci : (nI i).toNatClampNeg = i := nI_clamp (by omega)
        have hvi : vp_in (nI i) 17 := vp_in_nI (by omega) (by decide)
        rw [if_neg hfn, hf, hco, hi7, hci] at hp
        refine br_f hfn (sf_Y_findName hZ hu _ ?_)
        by_cases hf2 : sf_fn db g y = -1
        · rw [if_pos hf2] at hp
          refine br_t hf2 (sf_Y_busy hZ hu hK2 y ?_)
          cases hz : sf_bz g l y with
          | true =>
            rw [hz, if_pos rfl] at hp
            exact br_f (by decide) (hp _ hu)
          | false =>
            rw [hz, if_neg Bool.false_ne_true] at hp
            refine br_t (by decide) (sf_Y_usable hZ hu h67 ?_)
            rcases sf_us_cases db g l with hs | ⟨e, he, hs, h6⟩
            · rw [if_pos hs] at hp
              exact br_t hs (hp _ hu)
            · have hsn : ¬ sf_us db g l = -1 := by rw [hs]; exact sf_nI_m1 (by omega)
              rw [if_neg hsn, hs, nI_clamp (show e < 2 ^ 31 by omega)] at hp
              refine br_f hsn (sf_Y_over hZ hu 1 (by omega) ?_)
              by_cases c : lim < l.length + 1
              · rw [if_pos c] at hp
                rw [decide_eq_true c]
                exact br_f (by decide) (hp _ hu)
              · rw [if_neg c] at hp
                rw [decide_eq_false c, hf, hs]
                refine br_t (by decide) (And.intro (vp_in_nI (by omega) (by decide)) (nm_r (e' := nI i) (by rw [hco]; exact hi7) (And.intro hvi (And.intro hvi (nm_r (e' := upd (g 1) i (g 1 i + 1)) (by rw [hci]) ?_)))))
                refine sf_Y_dirtyInode (g := sf_up g 1 i (g 1 i + 1)) (l := l) ⟨hL, q, rfl, hA⟩ i1 (by omega) (fun u1 h1 => ?_)
                obtain ⟨hL1, q1, rfl, hA1⟩ := h1
                have hie : vp_in (nI e) 16 := vp_in_nI (by omega) (by decide)
                have hce : (nI e).toNatClampNeg = e := nI_clamp (by omega)
                refine And.intro hie (nm_r (e' := upd (g 6) e y) (by rw [hce]; rfl) (And.intro hie (nm_r (e' := upd (g 7) e (nI i)) (by rw [hce]; rfl) (And.intro hie (nm_r (e' := upd (g 10) e 0) (by rw [hce]; rfl) (And.intro hie (nm_r (e' := upd (g 11) e 0) (by rw [hce]; rfl) ?_)))))))
                refine sf_Y_dirtySlot (g := sf_up (sf_up (sf_cs (sf_dI (sf_up g 1 i (g 1 i + 1)) i) e) 6 e y) 7 e (nI i)) (l := l) hZ ⟨hL1, q1, rfl, hA1⟩ (by omega) (fun u2 h2 => ?_)
                obtain ⟨hL2, q2, rfl, hA2⟩ := h2
                refine sf_Y_appAdd (g := sf_dS ib (sf_up (sf_up (sf_cs (sf_dI (sf_up g 1 i (g 1 i + 1)) i) e) 6 e y) 7 e (nI i)) e) (l := l) hZ ⟨hL2, q2, rfl, hA2⟩ h89 (by omega) (by omega) (nI i) (fun u3 h3 => ?_)
                have e6 : sf_dS ib (sf_up (sf_up (sf_cs (sf_dI (sf_up g 1 i (g 1 i + 1)) i) e) 6 e y) 7 e (nI i)) e 6 e = y := sf_upd_s
                rw [e6, sf_ent_congr (g := g) (g' := sf_dS ib (sf_up (sf_up (sf_cs (sf_dI (sf_up g 1 i (g 1 i + 1)) i) e) 6 e y) 7 e (nI i)) e) rfl] at h3
                obtain ⟨hL3, q3, rfl, hA3⟩ := h3
                refine And.intro hvi ?_
                rw [hci]
                have e1 : sf_dS ib (sf_up (sf_up (sf_cs (sf_dI (sf_up g 1 i (g 1 i + 1)) i) e) 6 e y) 7 e (nI i)) e 1 i = g 1 i + 1 := sf_upd_s
                rw [e1]
                exact hp _ ⟨hL3, q3, rfl, hA3⟩
        · rw [if_neg hf2] at hp
          exact br_f hf2 (hp _ hu)
theorem sf_M_lnk (hZ : sf_Z ib db nd lim) (hM : sf_M ib db nd g l) {e i : Nat} (he : e < 4 * db) (i1 : 1 ≤ i) (i2 : i ≤ 4 * ib) (h6 : g 6 e = 0) (hmm : g 0 i ≠ 0) {y : Int32} (hy : ¬ y = 0) (hl : l.length + 1 ≤ 48) : sf_M ib db nd (sf_lnk ib db g l e i y).1 (sf_lnk ib db g l e i y).2 := by
  obtain ⟨z1, z2, z3, z4, z5, z6, -⟩ := hZ
  obtain ⟨h21, ⟨⟨p1, p2, p3⟩, pt, pd, pc⟩, hJ⟩ := hM
  have h7 : g 7 e = 0 := (p1 e he).mp h6
  have hst : sf_ent db g e y = 4 ∨ sf_ent db g e y = 12 := by
    rw [sf_ent]
    split
    · exact Or.inl rfl
    · exact Or.inr rfl
  have J3 := sf_J_enter (e := e) (i := i) (st := sf_ent db g e y) (sf_J_cs (e := e) hJ) he i1 i2 h7 hmm hst
  refine ⟨h21, ⟨⟨fun j hj => ?_, p2, fun j hj => ?_⟩, pt, fun j hj => ?_, ?_⟩, J3⟩
  · show upd (g 6) e y j = 0 ↔ upd (g 7) e (nI i) j = 0
    by_cases c : j = e
    · subst c
      rw [sf_upd_s, sf_upd_s]
      exact ⟨fun k => absurd k hy, fun k => absurd k (sf_nI_0 i1 (by omega))⟩
    · rw [sf_upd_n c, sf_upd_n c]
      exact p1 j hj
  · show upd (g 10) e 0 j = 0 ↔ upd (g 11) e 0 j = 0
    by_cases c : j = e
    · subst c
      rw [sf_upd_s, sf_upd_s]
    · rw [sf_upd_n c, sf_upd_n c]
      exact p3 j hj
  · exact sf_upd_01 (Or.inr rfl) (sf_upd_01 (Or.inr rfl) (pd j hj))
  · have hn := sf_nz_51 ((sf_lnk ib db g l e i y).1 2)
    have hlen2 : (sf_lnk ib db g l e i y).2.length = l.length + 1 := by
      rw [sf_lnk]
      exact List.length_append
    rw [hlen2]
    omega
/-- a slot with an ADD loses its inode: READY -/
theorem sf_J_detA {ni ne e i : Nat} {mm ml mp dm mi di si mib dib : Nat → Int32} (hJ : sf_J m ni ne nd mm ml mp dm mi di si mib dib (A ++ r :: B)) (he : e < ne) (i1 : 1 ≤ i) (i2 : i ≤ ni) (hmi : mi e = nI i) (hr : sf_isAdd (nI e) r = true) (o : Int32) : sf_J m ni ne nd mm ml mp dm (upd mi e 0) di si mib dib ((A ++ B) ++ [(4, 0, nI e, nI i, 0, o)]) := by
  have hr1 : r.1 = 1 ∧ r.2.2.1 = nI e := by
    simp [sf_isAdd] at hr
    exact hr
  have hd := sf_J_del hJ (by rw [hr1.1]; decide) (by rw [hr1.1]; decide)
  have hno : sf_noA (A ++ B) e := by
    intro x hx k w
    exact sf_pw_at hJ.2.2.1 hx ⟨by rw [hr1.1, k], Or.inl ⟨hr1.1, by rw [hr1.2, w]⟩⟩
  have hso := hJ.2.2.2.1 e he
  have hcov : ∀ x, x ∈ A ++ r :: B → x.1 = 4 → x ∈ A ++ B := by
    intro x hx k
    rcases sf_mem_or hx with rfl | a
    · rw [hr1.1] at k; exact absurd k (by decide)
    · exact a
  refine sf_J_detach hd he i1 i2 hmi hno (fun z => ⟨rfl, Or.inr ?_⟩) hso.2.1 (fun _ _ => rfl) (fun z => Or.inr ?_)
  · rcases (hso.2.2.2.2.1 z).2 with w | ⟨w, _⟩
    · exact sf_cov2_mono w hcov
    · exact absurd hr1.2 (w r (by simp) hr1.1)
  · rcases (hso.2.2.2.2.2 z).2 with w | ⟨w, _⟩
    · exact sf_cov_mono w hcov
    · exact absurd hr1.2 (w r (by simp) hr1.1)
theorem sf_noA_of {e : Nat} (h : ∀ x, x ∈ l → sf_isAdd (nI e) x = false) : sf_noA l e := by
  intro x hx k w
  have := h x hx
  simp [sf_isAdd, k, w] at this
theorem sf_Pe_4 {e : Int32} {r : sf_R} (h : sf_Pe e r = true) : r.1 = 4 := by
  rw [sf_Pe, Bool.and_eq_true] at h
  have := h.1
  simp [sf_MH] at this
  exact this.1
theorem sf_own_app {e : Int32} {l : List sf_R} {a b c d f : Int32} : (l ++ [(a, 0, b, c, d, f)]).map (sf_own e) = l.map (sf_own e) ++ [(a, 0, b, c, d, f)] := by
  rw [List.map_append]
  refine congrArg (fun t => l.map (sf_own e) ++ t) ?_
  show [sf_own e (a, 0, b, c, d, f)] = _
  rw [sf_own, if_neg]
  simp [sf_isOH]
theorem sf_M_unl (hZ : sf_Z ib db nd lim) (hM : sf_M ib db nd g l) {e i : Nat} (he : e < 4 * db) (i1 : 1 ≤ i) (i2 : i ≤ 4 * ib) (h7 : g 7 e = nI i) (hl : l.length + 1 ≤ 48) : sf_M ib db nd (sf_unl ib g l e i).1 (sf_unl ib g l e i).2 := by
  obtain ⟨z1, z2, z3, z4, z5, z6, -⟩ := hZ
  obtain ⟨h21, ⟨⟨p1, p2, p3⟩, pt, pd, pc⟩, hJ⟩ := hM
  have J1 : sf_JJ ib db nd 17 (sf_cg (sf_Pe (nI e)) l g) (l.map (sf_rm (sf_Pe (nI e)))) := sf_J_rel (by omega) (fun r h => sf_Pe_4 h) hJ
  have p3' := sf_cg_pr (l := l) (P := sf_Pe (nI e)) p3
  have hlen1 : (l.map (sf_rm (sf_Pe (nI e)))).length = l.length := List.length_map _
  have J2 : sf_JJ ib db nd 17 (sf_unl ib g l e i).1 (sf_unl ib g l e i).2 ∧ (sf_unl ib g l e i).2.length ≤ l.length + 1 := by
    rw [sf_unl]
    generalize l.map (sf_rm (sf_Pe (nI e))) = l1 at J1 hlen1
    rcases sf_fi_cases (sf_isAdd (nI e)) l1 with hno | ⟨A, r, B, rfl, hr, hA⟩
    · rw [sf_any_none hno, if_neg Bool.false_ne_true]
      refine ⟨sf_J_detach (si' := upd (sf_cg (sf_Pe (nI e)) l g 11) e 0) J1 he i1 i2 h7 (sf_noA_of hno) (fun z => absurd sf_upd_s z) ⟨0, by omega, sf_upd_s⟩ (fun j hj => sf_upd_n hj) (fun _ => Or.inl (by decide)), ?_⟩
      rw [List.length_append, hlen1]
      exact Nat.le_refl _
    · rw [sf_any_at hr, if_pos rfl, sf_ep_at hr hA]
      have k := sf_J_own (e := e) (sf_J_detA J1 he i1 i2 h7 hr (-1)) he
      rw [sf_own_app] at k
      refine ⟨k, ?_⟩
      rw [List.length_append, List.length_map, ← hlen1]
      simp
  refine ⟨h21, ⟨⟨fun j hj => ?_, p2, fun j hj => ?_⟩, pt, fun j hj => sf_upd_01 (Or.inr rfl) (pd j hj), ?_⟩, J2.1⟩
  · show upd (g 6) e 0 j = 0 ↔ upd (g 7) e 0 j = 0
    by_cases c : j = e
    · subst c
      rw [sf_upd_s, sf_upd_s]
    · rw [sf_upd_n c, sf_upd_n c]
      exact p1 j hj
  · show upd (sf_cg (sf_Pe (nI e)) l g 10) e 0 j = 0 ↔ upd (sf_cg (sf_Pe (nI e)) l g 11) e 0 j = 0
    by_cases c : j = e
    · subst c
      rw [sf_upd_s, sf_upd_s]
    · rw [sf_upd_n c, sf_upd_n c]
      exact p3' j hj
  · have hn := sf_nz_51 ((sf_unl ib g l e i).1 2)
    have := J2.2
    omega
end
end
section
/-! unlink; the owed statements of link and unlink -/
section
variable {ib db nd lim m : Nat} {g : sf_G} {l A B : List sf_R} {r : sf_R}
theorem sf_X_un6 {post : Int32 → SX → Prop} {q : sf_G} (hZ : sf_Z ib db nd lim) (hL : l.length ≤ 128) (hA : sf_A l q) {e : Nat} (he : e < 16) (x : Int32) (hp : ∀ u', sf_X ib db nd lim (sf_dS ib (sf_cs (sf_cm g e) e) e) l u' → post x u') : wX_unlink_106 post (nI e) x (nI ib) (nI db) (nI (4 * ib)) (nI (4 * db)) (nI nd) (nI (1 + ib + db + nd)) (nI lim) (nI (l.length)) (g 21 0) (g 22 0) (g 23 0) (g 0) (g 1) (g 2) (g 3) (g 4) (g 5) (g 6) (g 7) (g 8) (g 9) (g 10) (g 11) (g 12) (g 13) (g 14) (g 15) (g 16) (g 17) (g 18) (g 19) (g 20) (q 0) (q 1) (q 2) (q 3) (q 4) (q 5) := by
  refine sf_X_clearMem (g := g) (l := l) ⟨hL, q, rfl, hA⟩ he (fun u1 h1 => ?_)
  obtain ⟨hL1, q1, rfl, hA1⟩ := h1
  refine sf_X_clearSafe (g := sf_cm g e) (l := l) ⟨hL1, q1, rfl, hA1⟩ he (fun u2 h2 => ?_)
  obtain ⟨hL2, q2, rfl, hA2⟩ := h2
  refine sf_X_dirtySlot (g := sf_cs (sf_cm g e) e) (l := l) hZ ⟨hL2, q2, rfl, hA2⟩ he (fun u3 h3 => ?_)
  obtain ⟨hL3, q3, rfl, hA3⟩ := h3
  exact hp _ ⟨hL3, q3, rfl, hA3⟩
theorem sf_Y_un6 {post : Int32 → SY → Prop} {q : sf_G} (hZ : sf_Z ib db nd lim) (hL : l.length ≤ 128) (hA : sf_A l q) {e : Nat} (he : e < 16) (x : Int32) (hp : ∀ u', sf_Y ib db nd lim (sf_dS ib (sf_cs (sf_cm g e) e) e) l u' → post x u') : wY_unlink_106 post (nI e) x (nI ib) (nI db) (nI nd) (nI lim) (nI (4 * ib)) (nI (4 * db)) (nI (1 + ib + db + nd)) (nI (l.length)) (g 21 0) (g 22 0) (g 23 0) (g 0) (g 1) (g 2) (g 16) (g 18) (g 12) (g 13) (g 6) (g 7) (g 3) (g 4) (g 5) (g 17) (g 19) (g 14) (g 15) (g 8) (g 9) (g 10) (g 11) (g 20) (q 0) (q 1) (q 2) (q 3) (q 4) (q 5) := by
  have hi : vp_in (nI e) 16 := vp_in_nI he (by decide)
  have hc : (nI e).toNatClampNeg = e := nI_clamp (by omega)
  refine And.intro hi (nm_r (e' := upd (g 6) e 0) (by rw [hc]) (And.intro hi (nm_r (e' := upd (g 7) e 0) (by rw [hc]) (And.intro hi (nm_r (e' := upd (g 10) e 0) (by rw [hc]) (And.intro hi (nm_r (e' := upd (g 11) e 0) (by rw [hc]) ?_)))))))
  refine sf_Y_dirtySlot (g := sf_cs (sf_cm g e) e) (l := l) hZ ⟨hL, q, rfl, hA⟩ he (fun u3 h3 => ?_)
  obtain ⟨hL3, q3, rfl, hA3⟩ := h3
  exact hp _ ⟨hL3, q3, rfl, hA3⟩
theorem sf_X_unlink {post : Int32 → SX → Prop} {u : SX} (hZ : sf_Z ib db nd lim) (h : sf_X ib db nd lim g l u) (hM : ¬ g 21 0 = 0 → sf_M ib db nd g l) (x : Int32) (hp : ∀ u', sf_X ib db nd lim (sf_unv ib db lim g l x).2.1 (sf_unv ib db lim g l x).2.2 u' → post (sf_unv ib db lim g l x).1 u') : wpX_unlink post u x := by
  obtain ⟨hL, q, rfl, hA⟩ := h
  have hu : sf_X ib db nd lim g l (sf_mX ib db nd lim l.length g q) := ⟨hL, q, rfl, hA⟩
  have z := hZ
  obtain ⟨z1, z2, z3, z4, z5, z6, z7, z8⟩ := z
  rw [sf_unv] at hp
  by_cases hm : g 21 0 = 0
  · rw [if_pos hm] at hp
    exact br_t hm (hp _ hu)
  rw [if_neg hm] at hp
  have hM := hM hm
  have hK1 : sf_K1 l := sf_T_K1 hZ (fun r hr => (hM.2.2.2.1 r hr).1)
  refine br_f hm (sf_X_bad _ ?_)
  cases hb : sf_bad x with
  | true =>
    rw [hb, if_pos rfl] at hp
    exact br_f (by decide) (hp _ hu)
  | false =>
    rw [hb, if_neg Bool.false_ne_true] at hp
    refine br_t (by decide) (sf_X_findName hZ hu _ ?_)
    rcases sf_fn_cases db g x with hf | ⟨e, he, hf, hx⟩
    · rw [if_pos hf] at hp
      exact br_t hf (hp _ hu)
    · obtain ⟨i, i1, i2, hi7⟩ := sf_found hZ hM hb he hx
      have hfn : ¬ sf_fn db g x = -1 := by rw [hf]; exact sf_nI_m1 (by omega)
      have hce : (nI e).toNatClampNeg = e := nI_clamp (by omega)
      have hci : (nI i).toNatClampNeg = i := nI_clamp (by omega)
      rw [if_neg hfn, hf, hce, hi7, hci] at hp
      refine br_f hfn (sf_X_over hZ hu 1 (by omega) ?_)
      by_cases c : lim < l.length + 1
      · rw [if_pos c] at hp
        rw [decide_eq_true c]
        exact br_f (by decide) (hp _ hu)
      · rw [if_neg c, sf_unl] at hp
        rw [decide_eq_false c, hf]
        refine br_t (by decide) (And.intro (vp_in_nI (by omega) (by decide)) (nm_r (e' := nI i) (by rw [hce]; exact hi7) ?_))
        refine sf_X_relo hu hK1 (nI e) (fun u1 h1 => ?_)
        have h1' : sf_X ib db nd lim (sf_cg (sf_Pe (nI e)) l g) (l.map (sf_rm (sf_Pe (nI e)))) u1 := h1
        clear h1
        have hlen1 : (l.map (sf_rm (sf_Pe (nI e)))).length = l.length := List.length_map _
        generalize l.map (sf_rm (sf_Pe (nI e))) = l1 at hp h1' hlen1
        generalize sf_cg (sf_Pe (nI e)) l g = g1 at hp h1'
        obtain ⟨hL1, q1, rfl, hA1⟩ := h1'
        refine sf_X_findAdd (g := g1) (l := l1) ⟨hL1, q1, rfl, hA1⟩ _ ?_
        rcases sf_fi_cases (sf_isAdd (nI e)) l1 with hno | ⟨A, r, B, rfl, hr, hA'⟩
        · rw [sf_any_none hno, if_neg Bool.false_ne_true] at hp
          rw [sf_fi_none hno]
          refine br_t rfl (sf_X_append (g := g1) (l := l1) ⟨hL1, q1, rfl, hA1⟩ (by omega) _ _ _ _ _ _ (fun u2 h2 => ?_))
          obtain ⟨hL2, q2, rfl, hA2⟩ := h2
          exact sf_X_un6 (g := g1) hZ hL2 hA2 (by omega) (nI i) hp
        · rw [sf_any_at hr, if_pos rfl, sf_ep_at hr hA'] at hp
          rw [sf_fi_at hr hA']
          have hlA : A.length < (A ++ r :: B).length := by simp
          have hlB : (A ++ r :: B).length = (A ++ B).length + 1 := by simp; omega
          refine br_f (sf_nI_m1 (by omega)) (sf_X_del (g := g1) ⟨hL1, q1, rfl, hA1⟩ (fun u2 h2 => ?_))
          obtain ⟨hL2, q2, rfl, hA2⟩ := h2
          refine sf_X_own (g := g1) (l := A ++ B) ⟨hL2, q2, rfl, hA2⟩ (nI e) (fun u3 h3 => ?_)
          obtain ⟨hL3, q3, rfl, hA3⟩ := h3
          refine sf_X_append (g := g1) (l := (A ++ B).map (sf_own (nI e))) ⟨hL3, q3, rfl, hA3⟩ (by rw [List.length_map]; omega) _ _ _ _ _ _ (fun u4 h4 => ?_)
          obtain ⟨hL4, q4, rfl, hA4⟩ := h4
          exact sf_X_un6 (g := g1) hZ hL4 hA4 (by omega) (nI i) hp
theorem sf_Y_unlink {post : Int32 → SY → Prop} {u : SY} (hZ : sf_Z ib db nd lim) (h : sf_Y ib db nd lim g l u) (hM : ¬ g 21 0 = 0 → sf_M ib db nd g l) (x : Int32) (hp : ∀ u', sf_Y ib db nd lim (sf_unv ib db lim g l x).2.1 (sf_unv ib db lim g l x).2.2 u' → post (sf_unv ib db lim g l x).1 u') : wpY_unlink post u x := by
  obtain ⟨hL, q, rfl, hA⟩ := h
  have hu : sf_Y ib db nd lim g l (sf_mY ib db nd lim l.length g q) := ⟨hL, q, rfl, hA⟩
  have z := hZ
  obtain ⟨z1, z2, z3, z4, z5, z6, z7, z8⟩ := z
  rw [sf_unv] at hp
  by_cases hm : g 21 0 = 0
  · rw [if_pos hm] at hp
    exact br_t hm (hp _ hu)
  rw [if_neg hm] at hp
  have hM := hM hm
  have hK1 : sf_K1 l := sf_T_K1 hZ (fun r hr => (hM.2.2.2.1 r hr).1)
  refine br_f hm (sf_Y_bad _ ?_)
  cases hb : sf_bad x with
  | true =>
    rw [hb, if_pos rfl] at hp
    exact br_f (by decide) (hp _ hu)
  | false =>
    rw [hb, if_neg Bool.false_ne_true] at hp
    refine br_t (by decide) (sf_Y_findName hZ hu _ ?_)
    rcases sf_fn_cases db g x with hf | ⟨e, he, hf, hx⟩
    · rw [if_pos hf] at hp
      exact br_t hf (hp _ hu)
    · obtain ⟨i, i1, i2, hi7⟩ := sf_found hZ hM hb he hx
      have hfn : ¬ sf_fn db g x = -1 := by rw [hf]; exact sf_nI_m1 (by omega)
      have hce : (nI e).toNatClampNeg = e := nI_clamp (by omega)
      have hci : (nI i).toNatClampNeg = i := nI_clamp (by omega)
      rw [if_neg hfn, hf, hce, hi7, hci] at hp
      refine br_f hfn (sf_Y_over hZ hu 1 (by omega) ?_)
      by_cases c : lim < l.length + 1
      · rw [if_pos c] at hp
        rw [decide_eq_true c]
        exact br_f (by decide) (hp _ hu)
      · rw [if_neg c, sf_unl] at hp
        rw [decide_eq_false c, hf]
        refine br_t (by decide) (And.intro (vp_in_nI (by omega) (by decide)) (nm_r (e' := nI i) (by rw [hce]; exact hi7) ?_))
        refine sf_Y_relo hu hK1 (nI e) (fun u1 h1 => ?_)
        have h1' : sf_Y ib db nd lim (sf_cg (sf_Pe (nI e)) l g) (l.map (sf_rm (sf_Pe (nI e)))) u1 := h1
        clear h1
        have hlen1 : (l.map (sf_rm (sf_Pe (nI e)))).length = l.length := List.length_map _
        generalize l.map (sf_rm (sf_Pe (nI e))) = l1 at hp h1' hlen1
        generalize sf_cg (sf_Pe (nI e)) l g = g1 at hp h1'
        obtain ⟨hL1, q1, rfl, hA1⟩ := h1'
        refine sf_Y_findAdd (g := g1) (l := l1) ⟨hL1, q1, rfl, hA1⟩ _ ?_
        rcases sf_fi_cases (sf_isAdd (nI e)) l1 with hno | ⟨A, r, B, rfl, hr, hA'⟩
        · rw [sf_any_none hno, if_neg Bool.false_ne_true] at hp
          rw [sf_fi_none hno]
          refine br_t rfl (sf_Y_append (g := g1) (l := l1) ⟨hL1, q1, rfl, hA1⟩ (by omega) _ _ _ _ _ _ (fun u2 h2 => ?_))
          obtain ⟨hL2, q2, rfl, hA2⟩ := h2
          exact sf_Y_un6 (g := g1) hZ hL2 hA2 (by omega) (nI i) hp
        · rw [sf_any_at hr, if_pos rfl, sf_ep_at hr hA'] at hp
          rw [sf_fi_at hr hA']
          have hlA : A.length < (A ++ r :: B).length := by simp
          have hlB : (A ++ r :: B).length = (A ++ B).length + 1 := by simp; omega
          refine br_f (sf_nI_m1 (by omega)) (sf_Y_del (g := g1) ⟨hL1, q1, rfl, hA1⟩ (fun u2 h2 => ?_))
          obtain ⟨hL2, q2, rfl, hA2⟩ := h2
          refine sf_Y_own (g := g1) (l := A ++ B) ⟨hL2, q2, rfl, hA2⟩ (nI e) (fun u3 h3 => ?_)
          obtain ⟨hL3, q3, rfl, hA3⟩ := h3
          refine sf_Y_append (g := g1) (l := (A ++ B).map (sf_own (nI e))) ⟨hL3, q3, rfl, hA3⟩ (by rw [List.length_map]; omega) _ _ _ _ _ _ (fun u4 h4 => ?_)
          obtain ⟨hL4, q4, rfl, hA4⟩ := h4
          exact sf_Y_un6 (g := g1) hZ hL4 hA4 (by omega) (nI i) hp
end
theorem i_vc_unlink {k : Nat} {u : SX} {v : SY} (I : i_Rel k u v) (hk : k + 4 ≤ 2052) (v1 : Int32) : wpX_unlink (fun r u' => wpY_unlink (fun r' v' => r' = r ∧ i_Rel (k + 4) u' v') v v1) u v1 := by
  obtain ⟨ib, db, nd, lim, g, l, hZ, hX, hY, hI⟩ := I
  have hI' : sf_M ib db nd (sf_unv ib db lim g l v1).2.1 (sf_unv ib db lim g l v1).2.2 ∨ sf_U ib db nd (sf_unv ib db lim g l v1).2.1 (sf_unv ib db lim g l v1).2.2 := by
    have z := hZ
    obtain ⟨z1, z2, z3, z4, z5, z6, z7, z8⟩ := z
    rw [sf_unv]
    by_cases hm : g 21 0 = 0
    · rw [if_pos hm]; exact hI
    rw [if_neg hm]
    have hM := sf_MU hI hm
    cases hb : sf_bad v1 with
    | true => rw [if_pos rfl]; exact hI
    | false =>
      rw [if_neg Bool.false_ne_true]
      rcases sf_fn_cases db g v1 with hf | ⟨e, he, hf, hx⟩
      · rw [if_pos hf]; exact hI
      · obtain ⟨i, i1, i2, hi7⟩ := sf_found hZ hM hb he hx
        rw [hf, if_neg (sf_nI_m1 (by omega)), nI_clamp (show e < 2 ^ 31 by omega), hi7, nI_clamp (show i < 2 ^ 31 by omega)]
        by_cases c : lim < l.length + 1
        · rw [if_pos c]; exact hI
        · rw [if_neg c]
          exact Or.inl (sf_M_unl hZ hM he i1 i2 hi7 (by omega))
  exact sf_X_unlink hZ hX (sf_MU hI) _ (fun u' hu' => sf_Y_unlink hZ hY (sf_MU hI) _ (fun v' hv' => ⟨rfl, ib, db, nd, lim, _, _, hZ, hu', hv', hI'⟩))
theorem sf_mm_of {ib db nd lim : Nat} {g : sf_G} {l : List sf_R} (hZ : sf_Z ib db nd lim) (hM : sf_M ib db nd g l) {e i : Nat} (he : e < 4 * db) (i1 : 1 ≤ i) (i2 : i ≤ 4 * ib) (h7 : g 7 e = nI i) : g 0 i ≠ 0 := by
  obtain ⟨z1, z2, z3, z4, z5, z6, -⟩ := hZ
  have := (hM.2.2.2.2.2.1 e he).2.2.2.1
  rw [h7, nI_clamp (by omega)] at this
  exact this (sf_nI_0 i1 (by omega))
theorem i_vc_link {k : Nat} {u : SX} {v : SY} (I : i_Rel k u v) (hk : k + 4 ≤ 2052) (v1 : Int32) (v2 : Int32) : wpX_link (fun r u' => wpY_link (fun r' v' => r' = r ∧ i_Rel (k + 4) u' v') v v1 v2) u v1 v2 := by
  obtain ⟨ib, db, nd, lim, g, l, hZ, hX, hY, hI⟩ := I
  have hI' : sf_M ib db nd (sf_lnv ib db lim g l v1 v2).2.1 (sf_lnv ib db lim g l v1 v2).2.2 ∨ sf_U ib db nd (sf_lnv ib db lim g l v1 v2).2.1 (sf_lnv ib db lim g l v1 v2).2.2 := by
    have z := hZ
    obtain ⟨z1, z2, z3, z4, z5, z6, z7, z8⟩ := z
    rw [sf_lnv]
    by_cases hm : g 21 0 = 0
    · rw [if_pos hm]; exact hI
    rw [if_neg hm]
    have hM := sf_MU hI hm
    cases hb : sf_bad v1 with
    | true => rw [if_pos rfl]; exact hI
    | false =>
      rw [if_neg Bool.false_ne_true]
      cases hb2 : sf_bad v2 with
      | true => rw [if_pos rfl]; exact hI
      | false =>
        rw [if_neg Bool.false_ne_true]
        rcases sf_fn_cases db g v1 with hf | ⟨o, ho, hf, hx⟩
        · rw [if_pos hf]; exact hI
        · obtain ⟨i, i1, i2, hi7⟩ := sf_found hZ hM hb ho hx
          rw [hf, if_neg (sf_nI_m1 (by omega)), nI_clamp (show o < 2 ^ 31 by omega), hi7, nI_clamp (show i < 2 ^ 31 by omega)]
          by_cases hf2 : sf_fn db g v2 = -1
          · rw [if_pos hf2]
            cases hz : sf_bz g l v2 with
            | true => rw [if_pos rfl]; exact hI
            | false =>
              rw [if_neg Bool.false_ne_true]
              rcases sf_us_cases db g l with hs | ⟨e, he, hs, h6⟩
              · rw [if_pos hs]; exact hI
              · rw [hs, if_neg (sf_nI_m1 (by omega)), nI_clamp (show e < 2 ^ 31 by omega)]
                by_cases c : lim < l.length + 1
                · rw [if_pos c]; exact hI
                · rw [if_neg c]
                  exact Or.inl (sf_M_lnk hZ hM he i1 i2 h6 (sf_mm_of hZ hM ho i1 i2 hi7) (sf_bad0 hb2) (by omega))
          · rw [if_neg hf2]; exact hI
  exact sf_X_link hZ hX (sf_MU hI) _ _ (fun u' hu' => sf_Y_link hZ hY (sf_MU hI) _ _ (fun v' hv' => ⟨rfl, ib, db, nd, lim, _, _, hZ, hu', hv', hI'⟩))
end
section
/-! rename: the walks -/
def sf_rd (e1 e2 : Int32) (r : sf_R) : sf_R := if (sf_MH r && r.2.2.2.2.2 == e1) = true then (r.1, r.2.1, r.2.2.1, r.2.2.2.1, r.2.2.2.2.1, e2) else r
def sf_dpl (g : sf_G) (l : List sf_R) (e j : Nat) : sf_G × List sf_R :=
  (sf_cg (sf_Pe (nI e)) l g, if (l.map (sf_rm (sf_Pe (nI e)))).any (sf_isAdd (nI e)) then (l.map (sf_rm (sf_Pe (nI e)))).eraseP (sf_isAdd (nI e)) ++ [(4, 0, nI e, nI j, 0, -1)] else l.map (sf_rm (sf_Pe (nI e))) ++ [(4, 32, nI e, nI j, 0, nI e)])
def sf_lv (g : sf_G) (l : List sf_R) (e1 e2 i : Nat) : sf_G × List sf_R :=
  if l.any (sf_isAdd (nI e1)) then (sf_cs g e1, (l.eraseP (sf_isAdd (nI e1))).map (sf_own (nI e1)) ++ [(4, 0, nI e1, nI i, 0, -1)]) else (g, l ++ [(4, 32, nI e1, nI i, 0, nI e2)])
def sf_rn3 (ib db : Nat) (s : sf_G × List sf_R) (e1 e2 i : Nat) (y : Int32) : sf_G × List sf_R :=
  (sf_dS ib (sf_up (sf_up s.1 6 e2 y) 7 e2 (nI i)) e2, (s.2 ++ [(1, sf_ent db s.1 e2 y, nI e2, nI i, 0, -1)]).map (sf_rd (nI e1) (nI e2)))
def sf_rn (ib db : Nat) (s : sf_G × List sf_R) (e1 e2 i : Nat) (y : Int32) : sf_G × List sf_R :=
  (sf_dS ib (sf_cm (sf_lv (sf_rn3 ib db s e1 e2 i y).1 (sf_rn3 ib db s e1 e2 i y).2 e1 e2 i).1 e1) e1, (sf_lv (sf_rn3 ib db s e1 e2 i y).1 (sf_rn3 ib db s e1 e2 i y).2 e1 e2 i).2)
def sf_g1 (g : sf_G) (i : Nat) : sf_G := sf_dI (sf_up g 1 i (g 1 i + 1)) i
def sf_rnv (ib db lim : Nat) (g : sf_G) (l : List sf_R) (x y : Int32) : Int32 × sf_G × List sf_R :=
  if g 21 0 = 0 then (-2, g, l) else if sf_bad x = true then (-3, g, l) else if sf_bad y = true then (-3, g, l) else if sf_fn db g x = -1 then (-4, g, l) else if x = y then (-11, g, l)
  else if sf_fn db g y = -1 then (if sf_bz g l y = true then (-6, g, l) else if sf_us db g l = -1 then (-7, g, l) else if lim < l.length + 2 then (-10, g, l) else (sf_us db g l, sf_rn ib db (sf_cs (sf_g1 g (g 7 (sf_fn db g x).toNatClampNeg).toNatClampNeg) (sf_us db g l).toNatClampNeg, l) (sf_fn db g x).toNatClampNeg (sf_us db g l).toNatClampNeg (g 7 (sf_fn db g x).toNatClampNeg).toNatClampNeg y))
  else (if g 7 (sf_fn db g y).toNatClampNeg = g 7 (sf_fn db g x).toNatClampNeg then (-11, g, l) else if lim < l.length + 3 then (-10, g, l) else (sf_fn db g y, sf_rn ib db (sf_dpl (sf_g1 g (g 7 (sf_fn db g x).toNatClampNeg).toNatClampNeg) l (sf_fn db g y).toNatClampNeg (g 7 (sf_fn db g y).toNatClampNeg).toNatClampNeg) (sf_fn db g x).toNatClampNeg (sf_fn db g y).toNatClampNeg (g 7 (sf_fn db g x).toNatClampNeg).toNatClampNeg y))
theorem sf_q_oth {q : sf_G} {p : Nat} {v : Int32} : sf_q (sf_up q 5 p v) p = ((sf_q q p).1, (sf_q q p).2.1, (sf_q q p).2.2.1, (sf_q q p).2.2.2.1, (sf_q q p).2.2.2.2.1, v) := by
  simp [sf_q, sf_up, sf_st, upd]
theorem sf_A_oth {A B : List sf_R} {r : sf_R} {q : sf_G} (v : Int32) (h : sf_A (A ++ r :: B) q) : sf_A (A ++ (r.1, r.2.1, r.2.2.1, r.2.2.2.1, r.2.2.2.2.1, v) :: B) (sf_up q 5 A.length v) :=
  sf_A_up h (by rw [sf_q_oth, ← sf_A_at h])
section
variable {ib db nd lim m : Nat} {g : sf_G} {l A B : List sf_R} {r : sf_R}
theorem sf_X_redir {post : SX → Prop} {u : SX} (h : sf_X ib db nd lim g l u) (e1 e2 : Int32) (hp : ∀ u', sf_X ib db nd lim g (l.map (sf_rd e1 e2)) u' → post u') : wpX_redirectMoves post u e1 e2 := by
  obtain ⟨hL, q, rfl, hA⟩ := h
  refine Exists.intro (l.length + 1) (sf_map_law0 (fun m p q => wX_redirectMoves_2 post e1 e2 (nI ib) (nI db) (nI (4 * ib)) (nI (4 * db)) (nI nd) (nI (1 + ib + db + nd)) (nI lim) (nI (l.length)) (g 21 0) (g 22 0) (g 23 0) m (nI p) (g 0) (g 1) (g 2) (g 3) (g 4) (g 5) (g 6) (g 7) (g 8) (g 9) (g 10) (g 11) (g 12) (g 13) (g 14) (g 15) (g 16) (g 17) (g 18) (g 19) (g 20) (q 0) (q 1) (q 2) (q 3) (q 4) (q 5)) (fun _ => True) (sf_rd e1 e2) (N := l.length) (Post := fun q => post (sf_mX ib db nd lim l.length g q)) ?_ (fun _ _ _ _ => trivial) ?_ l [] q rfl trivial hA (fun q' h' => hp _ ⟨by simpa using hL, q', by rw [List.length_map], by simpa using h'⟩))
  · intro m q hz
    exact br_t (nI_le (Nat.le_refl _) (by omega)) hz
  · intro m q A r B hN _ hA hn
    have hlt : A.length < l.length := by rw [← hN]; simp
    have hlt2 : A.length < (A ++ r :: B).length := by simp
    have hi : vp_in (nI A.length) 128 := vp_in_nI (by omega) (by decide)
    have hc : (nI A.length).toNatClampNeg = A.length := nI_clamp (by omega)
    have hr := sf_A_at hA
    have h5 : q 5 A.length = r.2.2.2.2.2 := by rw [hr]; rfl
    have hu : sf_X ib db nd lim g (A ++ r :: B) (sf_mX ib db nd lim l.length g q) := ⟨by omega, q, by rw [hN], hA⟩
    refine br_f (nI_ge hlt (by omega)) (sf_X_MH hu hlt2 ?_)
    rw [sf_n_at]
    cases c1 : sf_MH r with
    | false =>
      have hf : sf_rd e1 e2 r = r := by rw [sf_rd, c1]; rfl
      rw [hf] at hn
      exact br_t (by decide) (nm_r (nI_1 _) (hn q hA))
    | true =>
      refine br_f (by decide) (And.intro hi ?_)
      rw [hc, h5]
      by_cases c2 : r.2.2.2.2.2 = e1
      · have hf : sf_rd e1 e2 r = (r.1, r.2.1, r.2.2.1, r.2.2.2.1, r.2.2.2.2.1, e2) := by
          rw [sf_rd, if_pos (by rw [c1, c2]; simp)]
        rw [hf] at hn
        exact br_t c2 (And.intro hi (nm_e (nm_r (nI_1 _) (hn _ (sf_A_oth e2 hA)))))
      · have hf : sf_rd e1 e2 r = r := by
          rw [sf_rd, if_neg (by simp [c2])]
        rw [hf] at hn
        exact br_f c2 (nm_r (nI_1 _) (hn q hA))
theorem sf_X_leave {post : SX → Prop} {u : SX} (h : sf_X ib db nd lim g l u) (hl : l.length < 128) {e1 e2 i : Nat} (he : e1 < 16) (hp : ∀ u', sf_X ib db nd lim (sf_lv g l e1 e2 i).1 (sf_lv g l e1 e2 i).2 u' → post u') : wpX_leaveSource post u (nI e1) (nI e2) (nI i) := by
  obtain ⟨hL, q, rfl, hA⟩ := h
  rw [sf_lv] at hp
  refine sf_X_findAdd ⟨hL, q, rfl, hA⟩ _ ?_
  rcases sf_fi_cases (sf_isAdd (nI e1)) l with hno | ⟨A, r, B, rfl, hr, hA'⟩
  · rw [sf_any_none hno, if_neg Bool.false_ne_true] at hp
    rw [sf_fi_none hno]
    refine br_t rfl (sf_X_append ⟨hL, q, rfl, hA⟩ hl _ _ _ _ _ _ (fun u2 h2 => ?_))
    obtain ⟨hL2, q2, rfl, hA2⟩ := h2
    exact hp _ ⟨hL2, q2, rfl, hA2⟩
  · rw [sf_any_at hr, if_pos rfl, sf_ep_at hr hA'] at hp
    rw [sf_fi_at hr hA']
    have hlA : A.length < (A ++ r :: B).length := by simp
    have hlB : (A ++ r :: B).length = (A ++ B).length + 1 := by simp; omega
    refine br_f (sf_nI_m1 (by omega)) (sf_X_del ⟨hL, q, rfl, hA⟩ (fun u2 h2 => ?_))
    obtain ⟨hL2, q2, rfl, hA2⟩ := h2
    refine sf_X_own (l := A ++ B) ⟨hL2, q2, rfl, hA2⟩ (nI e1) (fun u3 h3 => ?_)
    obtain ⟨hL3, q3, rfl, hA3⟩ := h3
    refine sf_X_clearSafe (l := (A ++ B).map (sf_own (nI e1))) ⟨hL3, q3, rfl, hA3⟩ he (fun u4 h4 => ?_)
    obtain ⟨hL4, q4, rfl, hA4⟩ := h4
    refine sf_X_append (g := sf_cs g e1) (l := (A ++ B).map (sf_own (nI e1))) ⟨hL4, q4, rfl, hA4⟩ (by rw [List.length_map]; omega) _ _ _ _ _ _ (fun u5 h5 => ?_)
    obtain ⟨hL5, q5, rfl, hA5⟩ := h5
    exact hp _ ⟨hL5, q5, rfl, hA5⟩
theorem sf_X_r184 {post : Int32 → SX → Prop} {q : sf_G} (hZ : sf_Z ib db nd lim) (hL : l.length + 2 ≤ 128) (hA : sf_A l q) {e1 e2 i : Nat} (h1 : e1 < 16) (h2 : e2 < 16) (y : Int32) (hp : ∀ u', sf_X ib db nd lim (sf_rn ib db (g, l) e1 e2 i y).1 (sf_rn ib db (g, l) e1 e2 i y).2 u' → post (nI e2) u') : wX_rename_184 post y (nI e1) (nI i) (nI e2) (nI ib) (nI db) (nI (4 * ib)) (nI (4 * db)) (nI nd) (nI (1 + ib + db + nd)) (nI lim) (nI (l.length)) (g 21 0) (g 22 0) (g 23 0) (g 0) (g 1) (g 2) (g 3) (g 4) (g 5) (g 6) (g 7) (g 8) (g 9) (g 10) (g 11) (g 12) (g 13) (g 14) (g 15) (g 16) (g 17) (g 18) (g 19) (g 20) (q 0) (q 1) (q 2) (q 3) (q 4) (q 5) := by
  rw [sf_rn] at hp
  refine sf_X_enter (g := g) (l := l) hZ ⟨by omega, q, rfl, hA⟩ (by omega) h2 y (nI i) (fun u1 k1 => ?_)
  obtain ⟨hL1, q1, rfl, hA1⟩ := k1
  refine sf_X_redir (g := sf_dS ib (sf_up (sf_up g 6 e2 y) 7 e2 (nI i)) e2) (l := l ++ [(1, sf_ent db g e2 y, nI e2, nI i, 0, -1)]) ⟨hL1, q1, rfl, hA1⟩ (nI e1) (nI e2) (fun u2 k2 => ?_)
  have k2' : sf_X ib db nd lim (sf_rn3 ib db (g, l) e1 e2 i y).1 (sf_rn3 ib db (g, l) e1 e2 i y).2 u2 := k2
  have hl3 : (sf_rn3 ib db (g, l) e1 e2 i y).2.length = l.length + 1 := by
    rw [sf_rn3, List.length_map]
    exact List.length_append
  clear k2
  generalize sf_rn3 ib db (g, l) e1 e2 i y = s at hp k2' hl3
  obtain ⟨hL2, q2, rfl, hA2⟩ := k2'
  refine sf_X_leave (g := s.1) (l := s.2) ⟨hL2, q2, rfl, hA2⟩ (by omega) h1 (fun u3 k3 => ?_)
  generalize sf_lv s.1 s.2 e1 e2 i = t at hp k3
  obtain ⟨hL3, q3, rfl, hA3⟩ := k3
  refine sf_X_clearMem (g := t.1) (l := t.2) ⟨hL3, q3, rfl, hA3⟩ h1 (fun u4 k4 => ?_)
  obtain ⟨hL4, q4, rfl, hA4⟩ := k4
  refine sf_X_dirtySlot (g := sf_cm t.1 e1) (l := t.2) hZ ⟨hL4, q4, rfl, hA4⟩ h1 (fun u5 k5 => ?_)
  obtain ⟨hL5, q5, rfl, hA5⟩ := k5
  exact hp _ ⟨hL5, q5, rfl, hA5⟩
theorem sf_X_disp {post : SX → Prop} {u : SX} (h : sf_X ib db nd lim g l u) (hK : sf_K1 l) (hl : l.length < 128) {e j : Nat} (he : e < 16) (h7 : g 7 e = nI j) (hp : ∀ u', sf_X ib db nd lim (sf_dpl g l e j).1 (sf_dpl g l e j).2 u' → post u') : wpX_displaceTarget post u (nI e) := by
  obtain ⟨hL, q, rfl, hA⟩ := h
  have hce : (nI e).toNatClampNeg = e := nI_clamp (by omega)
  rw [sf_dpl] at hp
  refine And.intro (vp_in_nI he (by decide)) (nm_r (e' := nI j) (by rw [hce]; exact h7) ?_)
  refine sf_X_relo ⟨hL, q, rfl, hA⟩ hK (nI e) (fun u1 k1 => ?_)
  have k1' : sf_X ib db nd lim (sf_cg (sf_Pe (nI e)) l g) (l.map (sf_rm (sf_Pe (nI e)))) u1 := k1
  clear k1
  have hlen1 : (l.map (sf_rm (sf_Pe (nI e)))).length = l.length := List.length_map _
  generalize l.map (sf_rm (sf_Pe (nI e))) = l1 at hp k1' hlen1
  generalize sf_cg (sf_Pe (nI e)) l g = g1 at hp k1'
  obtain ⟨hL1, q1, rfl, hA1⟩ := k1'
  refine sf_X_findAdd (g := g1) (l := l1) ⟨hL1, q1, rfl, hA1⟩ _ ?_
  rcases sf_fi_cases (sf_isAdd (nI e)) l1 with hno | ⟨A, r, B, rfl, hr, hA'⟩
  · rw [sf_any_none hno, if_neg Bool.false_ne_true] at hp
    rw [sf_fi_none hno]
    refine br_t rfl (sf_X_append (g := g1) (l := l1) ⟨hL1, q1, rfl, hA1⟩ (by omega) _ _ _ _ _ _ (fun u2 h2 => ?_))
    obtain ⟨hL2, q2, rfl, hA2⟩ := h2
    exact hp _ ⟨hL2, q2, rfl, hA2⟩
  · rw [sf_any_at hr, if_pos rfl, sf_ep_at hr hA'] at hp
    rw [sf_fi_at hr hA']
    have hlA : A.length < (A ++ r :: B).length := by simp
    have hlB : (A ++ r :: B).length = (A ++ B).length + 1 := by simp; omega
    refine br_f (sf_nI_m1 (by omega)) (sf_X_del (g := g1) ⟨hL1, q1, rfl, hA1⟩ (fun u2 h2 => ?_))
    obtain ⟨hL2, q2, rfl, hA2⟩ := h2
    refine sf_X_append (g := g1) (l := A ++ B) ⟨hL2, q2, rfl, hA2⟩ (by omega) _ _ _ _ _ _ (fun u3 h3 => ?_)
    obtain ⟨hL3, q3, rfl, hA3⟩ := h3
    exact hp _ ⟨hL3, q3, rfl, hA3⟩
theorem sf_Y_r398 {post : Int32 → SY → Prop} {q : sf_G} (hZ : sf_Z ib db nd lim) (hL : l.length ≤ 128) (hA : sf_A l q) {e1 : Nat} (h1 : e1 < 16) (x : Int32) (hp : ∀ u', sf_Y ib db nd lim (sf_dS ib (sf_cm g e1) e1) l u' → post x u') : wY_rename_398 post (nI e1) x (nI ib) (nI db) (nI nd) (nI lim) (nI (4 * ib)) (nI (4 * db)) (nI (1 + ib + db + nd)) (nI (l.length)) (g 21 0) (g 22 0) (g 23 0) (g 0) (g 1) (g 2) (g 16) (g 18) (g 12) (g 13) (g 6) (g 7) (g 3) (g 4) (g 5) (g 17) (g 19) (g 14) (g 15) (g 8) (g 9) (g 10) (g 11) (g 20) (q 0) (q 1) (q 2) (q 3) (q 4) (q 5) := by
  have hi : vp_in (nI e1) 16 := vp_in_nI h1 (by decide)
  have hc : (nI e1).toNatClampNeg = e1 := nI_clamp (by omega)
  refine And.intro hi (nm_r (e' := upd (g 6) e1 0) (by rw [hc]) (And.intro hi (nm_r (e' := upd (g 7) e1 0) (by rw [hc]) ?_)))
  refine sf_Y_dirtySlot (g := sf_cm g e1) (l := l) hZ ⟨hL, q, rfl, hA⟩ h1 (fun u5 k5 => ?_)
  obtain ⟨hL5, q5, rfl, hA5⟩ := k5
  exact hp _ ⟨hL5, q5, rfl, hA5⟩
theorem sf_Y_r289 {post : Int32 → SY → Prop} {q : sf_G} (hZ : sf_Z ib db nd lim) (hL : l.length < 128) (hA : sf_A l q) {e1' e2' i : Nat} (h1 : e1' < 16) (hp : ∀ u', sf_Y ib db nd lim (sf_dS ib (sf_cm (sf_lv g (l.map (sf_rd (nI e1') (nI e2'))) e1' e2' i).1 e1') e1') (sf_lv g (l.map (sf_rd (nI e1') (nI e2'))) e1' e2' i).2 u' → post (nI e2') u') : wY_rename_289 post (nI e1') (nI i) (nI e2') (nI ib) (nI db) (nI nd) (nI lim) (nI (4 * ib)) (nI (4 * db)) (nI (1 + ib + db + nd)) (nI (l.length)) (g 21 0) (g 22 0) (g 23 0) (l.length + 1) 0 (g 0) (g 1) (g 2) (g 16) (g 18) (g 12) (g 13) (g 6) (g 7) (g 3) (g 4) (g 5) (g 17) (g 19) (g 14) (g 15) (g 8) (g 9) (g 10) (g 11) (g 20) (q 0) (q 1) (q 2) (q 3) (q 4) (q 5) := by
  have hlen2 : (l.map (sf_rd (nI e1') (nI e2'))).length = l.length := List.length_map _
  refine sf_map_law0 (fun m p q => wY_rename_289 post (nI e1') (nI i) (nI e2') (nI ib) (nI db) (nI nd) (nI lim) (nI (4 * ib)) (nI (4 * db)) (nI (1 + ib + db + nd)) (nI (l.length)) (g 21 0) (g 22 0) (g 23 0) m (nI p) (g 0) (g 1) (g 2) (g 16) (g 18) (g 12) (g 13) (g 6) (g 7) (g 3) (g 4) (g 5) (g 17) (g 19) (g 14) (g 15) (g 8) (g 9) (g 10) (g 11) (g 20) (q 0) (q 1) (q 2) (q 3) (q 4) (q 5)) (fun _ => True) (sf_rd (nI e1') (nI e2')) (N := l.length) (Post := fun q => sf_A (l.map (sf_rd (nI e1') (nI e2'))) q) ?_ (fun _ _ _ _ => trivial) ?_ l [] q rfl trivial hA (fun q' h' => by simpa using h')
  · intro m q hz
    rw [sf_lv] at hp
    have hi : vp_in (nI e1') 16 := vp_in_nI h1 (by decide)
    have hce : (nI e1').toNatClampNeg = e1' := nI_clamp (by omega)
    refine br_t (nI_le (Nat.le_refl _) (by omega)) ?_
    rw [← hlen2]
    generalize l.map (sf_rd (nI e1') (nI e2')) = l2 at hp hz hlen2
    refine sf_Y_findAdd (g := g) (l := l2) ⟨by omega, q, rfl, hz⟩ _ ?_
    rcases sf_fi_cases (sf_isAdd (nI e1')) l2 with hno | ⟨A, r, B, rfl, hr, hA'⟩
    · rw [sf_any_none hno, if_neg Bool.false_ne_true] at hp
      rw [sf_fi_none hno]
      refine br_t rfl (sf_Y_append (g := g) (l := l2) ⟨by omega, q, rfl, hz⟩ (by omega) _ _ _ _ _ _ (fun u2 k2 => ?_))
      obtain ⟨hL2, q2, rfl, hA2⟩ := k2
      exact sf_Y_r398 hZ hL2 hA2 h1 _ hp
    · rw [sf_any_at hr, if_pos rfl, sf_ep_at hr hA'] at hp
      rw [sf_fi_at hr hA']
      have hlA : A.length < (A ++ r :: B).length := by simp
      have hlB : (A ++ r :: B).length = (A ++ B).length + 1 := by simp; omega
      refine br_f (sf_nI_m1 (by omega)) (sf_Y_del (g := g) ⟨by omega, q, rfl, hz⟩ (fun u2 k2 => ?_))
      obtain ⟨hL2, q2, rfl, hA2⟩ := k2
      refine sf_Y_own (g := g) (l := A ++ B) ⟨hL2, q2, rfl, hA2⟩ (nI e1') (fun u3 k3 => ?_)
      obtain ⟨hL3, q3, rfl, hA3⟩ := k3
      refine And.intro hi (nm_r (e' := upd (g 10) e1' 0) (by rw [hce]) (And.intro hi (nm_r (e' := upd (g 11) e1' 0) (by rw [hce]) ?_)))
      refine sf_Y_append (g := sf_cs g e1') (l := (A ++ B).map (sf_own (nI e1'))) ⟨hL3, q3, rfl, hA3⟩ (by rw [List.length_map]; omega) _ _ _ _ _ _ (fun u5 k5 => ?_)
      obtain ⟨hL5, q5, rfl, hA5⟩ := k5
      exact sf_Y_r398 hZ hL5 hA5 h1 _ hp
  · intro m q A r B hN _ hA hn
    have hlt : A.length < l.length := by rw [← hN]; simp
    have hlt2 : A.length < (A ++ r :: B).length := by simp
    have hi : vp_in (nI A.length) 256 := vp_in_nI (by omega) (by decide)
    have hc : (nI A.length).toNatClampNeg = A.length := nI_clamp (by omega)
    have hr := sf_A_at hA
    have h5 : q 5 A.length = r.2.2.2.2.2 := by rw [hr]; rfl
    have hu : sf_Y ib db nd lim g (A ++ r :: B) (sf_mY ib db nd lim l.length g q) := ⟨by omega, q, by rw [hN], hA⟩
    refine br_f (nI_ge hlt (by omega)) (sf_Y_MH hu hlt2 ?_)
    rw [sf_n_at]
    cases c1 : sf_MH r with
    | false =>
      have hf : sf_rd (nI e1') (nI e2') r = r := by rw [sf_rd, c1]; rfl
      rw [hf] at hn
      exact br_t (by decide) (nm_r (nI_1 _) (hn q hA))
    | true =>
      refine br_f (by decide) (And.intro hi ?_)
      rw [hc, h5]
      by_cases c2 : r.2.2.2.2.2 = nI e1'
      · have hf : sf_rd (nI e1') (nI e2') r = (r.1, r.2.1, r.2.2.1, r.2.2.2.1, r.2.2.2.2.1, nI e2') := by
          rw [sf_rd, if_pos (by rw [c1, c2]; simp)]
        rw [hf] at hn
        exact br_t c2 (And.intro hi (nm_e (nm_r (nI_1 _) (hn _ (sf_A_oth (nI e2') hA)))))
      · have hf : sf_rd (nI e1') (nI e2') r = r := by
          rw [sf_rd, if_neg (by simp [c2])]
        rw [hf] at hn
        exact br_f c2 (nm_r (nI_1 _) (hn q hA))
theorem sf_Y_r255 {post : Int32 → SY → Prop} {q : sf_G} (hZ : sf_Z ib db nd lim) (h89 : sf_pr (4 * db) (g 8) (g 9)) (hL : l.length + 2 ≤ 128) (hA : sf_A l q) {e1 e2 i : Nat} (h1 : e1 < 16) (h2 : e2 < 16) (y : Int32) (hp : ∀ u', sf_Y ib db nd lim (sf_rn ib db (g, l) e1 e2 i y).1 (sf_rn ib db (g, l) e1 e2 i y).2 u' → post (nI e2) u') : wY_rename_255 post y (nI e1) (nI i) (nI e2) (nI ib) (nI db) (nI nd) (nI lim) (nI (4 * ib)) (nI (4 * db)) (nI (1 + ib + db + nd)) (nI (l.length)) (g 21 0) (g 22 0) (g 23 0) (g 0) (g 1) (g 2) (g 16) (g 18) (g 12) (g 13) (g 6) (g 7) (g 3) (g 4) (g 5) (g 17) (g 19) (g 14) (g 15) (g 8) (g 9) (g 10) (g 11) (g 20) (q 0) (q 1) (q 2) (q 3) (q 4) (q 5) := by
  have hi : vp_in (nI e2) 16 := vp_in_nI h2 (by decide)
  have hc : (nI e2).toNatClampNeg = e2 := nI_clamp (by omega)
  refine And.intro hi (nm_r (e' := upd (g 6) e2 y) (by rw [hc]) (And.intro hi (nm_r (e' := upd (g 7) e2 (nI i)) (by rw [hc]) ?_)))
  refine sf_Y_appAdd (g := sf_up (sf_up g 6 e2 y) 7 e2 (nI i)) (l := l) hZ ⟨by omega, q, rfl, hA⟩ h89 (by omega) h2 (nI i) (fun u1 k1 => ?_)
  have e6 : sf_up (sf_up g 6 e2 y) 7 e2 (nI i) 6 e2 = y := sf_upd_s
  rw [e6, sf_ent_congr (g := g) (g' := sf_up (sf_up g 6 e2 y) 7 e2 (nI i)) rfl] at k1
  obtain ⟨hL1, q1, rfl, hA1⟩ := k1
  refine sf_Y_dirtySlot (g := sf_up (sf_up g 6 e2 y) 7 e2 (nI i)) (l := l ++ [(1, sf_ent db g e2 y, nI e2, nI i, 0, -1)]) hZ ⟨hL1, q1, rfl, hA1⟩ h2 (fun u2 k2 => ?_)
  obtain ⟨hL2, q2, rfl, hA2⟩ := k2
  have hl3 : (l ++ [(1, sf_ent db g e2 y, nI e2, nI i, 0, -1)]).length = l.length + 1 := List.length_append
  exact Exists.intro ((l ++ [(1, sf_ent db g e2 y, nI e2, nI i, 0, -1)]).length + 1) (sf_Y_r289 (g := sf_dS ib (sf_up (sf_up g 6 e2 y) 7 e2 (nI i)) e2) hZ (by omega) hA2 h1 hp)
end
end
section
/-! rename: the whole walk, and the invariant -/
section
variable {ib db nd lim m : Nat} {g : sf_G} {l A B : List sf_R} {r : sf_R}
theorem sf_dpl_len {e j : Nat} : (sf_dpl g l e j).2.length ≤ l.length + 1 := by
  have h := sf_ep_len (P := sf_isAdd (nI e)) (l := l.map (sf_rm (sf_Pe (nI e))))
  rw [List.length_map] at h
  rw [sf_dpl]
  by_cases c : (l.map (sf_rm (sf_Pe (nI e)))).any (sf_isAdd (nI e)) = true
  · rw [if_pos c, List.length_append]
    exact Nat.add_le_add_right h 1
  · rw [if_neg c, List.length_append, List.length_map]
    exact Nat.le_refl _
theorem sf_X_rename {post : Int32 → SX → Prop} {u : SX} (hZ : sf_Z ib db nd lim) (h : sf_X ib db nd lim g l u) (hM : ¬ g 21 0 = 0 → sf_M ib db nd g l) (x y : Int32) (hp : ∀ u', sf_X ib db nd lim (sf_rnv ib db lim g l x y).2.1 (sf_rnv ib db lim g l x y).2.2 u' → post (sf_rnv ib db lim g l x y).1 u') : wpX_rename post u x y := by
  obtain ⟨hL, q, rfl, hA⟩ := h
  have hu : sf_X ib db nd lim g l (sf_mX ib db nd lim l.length g q) := ⟨hL, q, rfl, hA⟩
  have z := hZ
  obtain ⟨z1, z2, z3, z4, z5, z6, z7, z8⟩ := z
  rw [sf_rnv] at hp
  by_cases hm : g 21 0 = 0
  · rw [if_pos hm] at hp
    exact br_t hm (hp _ hu)
  rw [if_neg hm] at hp
  have hM := hM hm
  have h67 := hM.2.1.1.1
  have h89 := hM.2.1.1.2.1
  have hK2 : sf_K2 (4 * db) l := sf_T_K2 (fun r hr => (hM.2.2.2.1 r hr).1)
  have hK1 : sf_K1 l := sf_T_K1 hZ (fun r hr => (hM.2.2.2.1 r hr).1)
  refine br_f hm (sf_X_bad _ ?_)
  cases hb : sf_bad x with
  | true =>
    rw [hb, if_pos rfl] at hp
    exact br_f (by decide) (hp _ hu)
  | false =>
    rw [hb, if_neg Bool.false_ne_true] at hp
    refine br_t (by decide) (sf_X_bad _ ?_)
    cases hb2 : sf_bad y with
    | true =>
      rw [hb2, if_pos rfl] at hp
      exact br_f (by decide) (hp _ hu)
    | false =>
      rw [hb2, if_neg Bool.false_ne_true] at hp
      refine br_t (by decide) (sf_X_findName hZ hu _ ?_)
      rcases sf_fn_cases db g x with hf | ⟨e1, he1, hf, hx⟩
      · rw [if_pos hf] at hp
        exact br_t hf (hp _ hu)
      · obtain ⟨i, i1, i2, hi7⟩ := sf_found hZ hM hb he1 hx
        have hfn : ¬ sf_fn db g x = -1 := by rw [hf]; exact sf_nI_m1 (by omega)
        have hc1 : (nI e1).toNatClampNeg = e1 := nI_clamp (by omega)
        have hci : (nI i).toNatClampNeg = i := nI_clamp (by omega)
        have hvi : vp_in (nI i) 17 := vp_in_nI (by omega) (by decide)
        rw [if_neg hfn, hf, hc1, hi7, hci] at hp
        refine br_f hfn ?_
        rw [hf]
        by_cases hxy : x = y
        · rw [if_pos hxy] at hp
          exact br_t hxy (hp _ hu)
        rw [if_neg hxy] at hp
        refine br_f hxy (And.intro (vp_in_nI (by omega) (by decide)) (nm_r (e' := nI i) (by rw [hc1]; exact hi7) (sf_X_findName hZ hu _ ?_)))
        rcases sf_fn_cases db g y with hf2 | ⟨e2, he2, hf2, hy⟩
        · rw [if_pos hf2] at hp
          refine br_t hf2 (br_t rfl (sf_X_busy hZ hu hK2 y ?_))
          cases hz : sf_bz g l y with
          | true =>
            rw [hz, if_pos rfl] at hp
            exact br_f (by decide) (hp _ hu)
          | false =>
            rw [hz, if_neg Bool.false_ne_true] at hp
            refine br_t (by decide) (sf_X_usable hZ hu ?_)
            rcases sf_us_cases db g l with hs | ⟨e2, he2, hs, h6⟩
            · rw [if_pos hs] at hp
              exact br_t hs (hp _ hu)
            · have hsn : ¬ sf_us db g l = -1 := by rw [hs]; exact sf_nI_m1 (by omega)
              have hc2 : (nI e2).toNatClampNeg = e2 := nI_clamp (by omega)
              rw [if_neg hsn, hs, hc2] at hp
              refine br_f hsn (sf_X_over hZ hu 2 (by omega) ?_)
              by_cases c : lim < l.length + 2
              · rw [if_pos c] at hp
                rw [decide_eq_true c]
                exact br_f (by decide) (hp _ hu)
              · rw [if_neg c] at hp
                rw [decide_eq_false c, hs]
                refine br_t (by decide) (And.intro hvi (And.intro hvi (nm_r (e' := upd (g 1) i (g 1 i + 1)) (by rw [hci]) ?_)))
                refine sf_X_dirtyInode (g := sf_up g 1 i (g 1 i + 1)) (l := l) ⟨hL, q, rfl, hA⟩ i1 (by omega) (fun u1 k1 => ?_)
                obtain ⟨hL1, q1, rfl, hA1⟩ := k1
                refine br_t rfl ?_
                refine sf_X_clearSafe (g := sf_g1 g i) (l := l) ⟨hL1, q1, rfl, hA1⟩ (by omega) (fun u2 k2 => ?_)
                obtain ⟨hL2, q2, rfl, hA2⟩ := k2
                exact sf_X_r184 (g := sf_cs (sf_g1 g i) e2) hZ (by omega) hA2 (by omega) (by omega) y hp
        · obtain ⟨j, j1, j2, hj7⟩ := sf_found hZ hM hb2 he2 hy
          have hfn2 : ¬ sf_fn db g y = -1 := by rw [hf2]; exact sf_nI_m1 (by omega)
          have hc2 : (nI e2).toNatClampNeg = e2 := nI_clamp (by omega)
          have hcj : (nI j).toNatClampNeg = j := nI_clamp (by omega)
          rw [if_neg hfn2, hf2, hc2, hj7, hcj] at hp
          refine br_f hfn2 ?_
          rw [hf2]
          refine br_f (by decide) (And.intro (vp_in_nI (by omega) (by decide)) ?_)
          rw [hc2, hj7]
          by_cases hji : nI j = nI i
          · rw [if_pos hji] at hp
            exact br_t hji (hp _ hu)
          rw [if_neg hji] at hp
          refine br_f hji (sf_X_over hZ hu 3 (by omega) ?_)
          by_cases c : lim < l.length + 3
          · rw [if_pos c] at hp
            rw [decide_eq_true c]
            exact br_f (by decide) (hp _ hu)
          · rw [if_neg c] at hp
            rw [decide_eq_false c]
            refine br_t (by decide) (And.intro hvi (And.intro hvi (nm_r (e' := upd (g 1) i (g 1 i + 1)) (by rw [hci]) ?_)))
            refine sf_X_dirtyInode (g := sf_up g 1 i (g 1 i + 1)) (l := l) ⟨hL, q, rfl, hA⟩ i1 (by omega) (fun u1 k1 => ?_)
            obtain ⟨hL1, q1, rfl, hA1⟩ := k1
            refine br_f (by decide) ?_
            refine sf_X_disp (g := sf_g1 g i) (l := l) ⟨hL1, q1, rfl, hA1⟩ hK1 (by omega) (by omega) (show sf_g1 g i 7 e2 = nI j from hj7) (fun u2 k2 => ?_)
            have hl2 : (sf_dpl (sf_g1 g i) l e2 j).2.length ≤ l.length + 1 := sf_dpl_len
            generalize sf_dpl (sf_g1 g i) l e2 j = s at hp k2 hl2
            obtain ⟨hL2, q2, rfl, hA2⟩ := k2
            exact sf_X_r184 (g := s.1) (l := s.2) hZ (by omega) hA2 (by omega) (by omega) y hp
theorem sf_Y_rename {post : Int32 → SY → Prop} {u : SY} (hZ : sf_Z ib db nd lim) (h : sf_Y ib db nd lim g l u) (hM : ¬ g 21 0 = 0 → sf_M ib db nd g l) (x y : Int32) (hp : ∀ u', sf_Y ib db nd lim (sf_rnv ib db lim g l x y).2.1 (sf_rnv ib db lim g l x y).2.2 u' → post (sf_rnv ib db lim g l x y).1 u') : wpY_rename post u x y := by
  obtain ⟨hL, q, rfl, hA⟩ := h
  have hu : sf_Y ib db nd lim g l (sf_mY ib db nd lim l.length g q) := ⟨hL, q, rfl, hA⟩
  have z := hZ
  obtain ⟨z1, z2, z3, z4, z5, z6, z7, z8⟩ := z
  rw [sf_rnv] at hp
  by_cases hm : g 21 0 = 0
  · rw [if_pos hm] at hp
    exact br_t hm (hp _ hu)
  rw [if_neg hm] at hp
  have hM := hM hm
  have h67 := hM.2.1.1.1
  have h89 := hM.2.1.1.2.1
  have hK2 : sf_K2 (4 * db) l := sf_T_K2 (fun r hr => (hM.2.2.2.1 r hr).1)
  have hK1 : sf_K1 l := sf_T_K1 hZ (fun r hr => (hM.2.2.2.1 r hr).1)
  refine br_f hm (sf_Y_bad _ ?_)
  cases hb : sf_bad x with
  | true =>
    rw [hb, if_pos rfl] at hp
    exact br_f (by decide) (hp _ hu)
  | false =>
    rw [hb, if_neg Bool.false_ne_true] at hp
    refine br_t (by decide) (sf_Y_bad _ ?_)
    cases hb2 : sf_bad y with
    | true =>
      rw [hb2, if_pos rfl] at hp
      exact br_f (by decide) (hp _ hu)
    | false =>
      rw [hb2, if_neg Bool.false_ne_true] at hp
      refine br_t (by decide) (sf_Y_findName hZ hu _ ?_)
      rcases sf_fn_cases db g x with hf | ⟨e1, he1, hf, hx⟩
      · rw [if_pos hf] at hp
        exact br_t hf (hp _ hu)
      · obtain ⟨i, i1, i2, hi7⟩ := sf_found hZ hM hb he1 hx
        have hfn : ¬ sf_fn db g x = -1 := by rw [hf]; exact sf_nI_m1 (by omega)
        have hc1 : (nI e1).toNatClampNeg = e1 := nI_clamp (by omega)
        have hci : (nI i).toNatClampNeg = i := nI_clamp (by omega)
        have hvi : vp_in (nI i) 17 := vp_in_nI (by omega) (by decide)
        rw [if_neg hfn, hf, hc1, hi7, hci] at hp
        refine br_f hfn ?_
        rw [hf]
        by_cases hxy : x = y
        · rw [if_pos hxy] at hp
          exact br_t hxy (hp _ hu)
        rw [if_neg hxy] at hp
        refine br_f hxy (And.intro (vp_in_nI (by omega) (by decide)) (nm_r (e' := nI i) (by rw [hc1]; exact hi7) (sf_Y_findName hZ hu _ ?_)))
        rcases sf_fn_cases db g y with hf2 | ⟨e2, he2, hf2, hy⟩
        · rw [if_pos hf2] at hp
          refine br_t hf2 (br_t rfl (sf_Y_busy hZ hu hK2 y ?_))
          cases hz : sf_bz g l y with
          | true =>
            rw [hz, if_pos rfl] at hp
            exact br_f (by decide) (hp _ hu)
          | false =>
            rw [hz, if_neg Bool.false_ne_true] at hp
            refine br_t (by decide) (sf_Y_usable hZ hu h67 ?_)
            rcases sf_us_cases db g l with hs | ⟨e2, he2, hs, h6⟩
            · rw [if_pos hs] at hp
              exact br_t hs (hp _ hu)
            · have hsn : ¬ sf_us db g l = -1 := by rw [hs]; exact sf_nI_m1 (by omega)
              have hc2 : (nI e2).toNatClampNeg = e2 := nI_clamp (by omega)
              rw [if_neg hsn, hs, hc2] at hp
              refine br_f hsn (sf_Y_over hZ hu 2 (by omega) ?_)
              by_cases c : lim < l.length + 2
              · rw [if_pos c] at hp
                rw [decide_eq_true c]
                exact br_f (by decide) (hp _ hu)
              · rw [if_neg c] at hp
                rw [decide_eq_false c, hs]
                refine br_t (by decide) (And.intro hvi (And.intro hvi (nm_r (e' := upd (g 1) i (g 1 i + 1)) (by rw [hci]) ?_)))
                refine sf_Y_dirtyInode (g := sf_up g 1 i (g 1 i + 1)) (l := l) ⟨hL, q, rfl, hA⟩ i1 (by omega) (fun u1 k1 => ?_)
                obtain ⟨hL1, q1, rfl, hA1⟩ := k1
                refine br_t rfl ?_
                have hie : vp_in (nI e2) 16 := vp_in_nI (by omega) (by decide)
                refine And.intro hie (nm_r (e' := upd (g 10) e2 0) (by rw [hc2]; rfl) (And.intro hie (nm_r (e' := upd (g 11) e2 0) (by rw [hc2]; rfl) ?_)))
                exact sf_Y_r255 (g := sf_cs (sf_g1 g i) e2) hZ h89 (by omega) hA1 (by omega) (by omega) y hp
        · obtain ⟨j, j1, j2, hj7⟩ := sf_found hZ hM hb2 he2 hy
          have hfn2 : ¬ sf_fn db g y = -1 := by rw [hf2]; exact sf_nI_m1 (by omega)
          have hc2 : (nI e2).toNatClampNeg = e2 := nI_clamp (by omega)
          have hcj : (nI j).toNatClampNeg = j := nI_clamp (by omega)
          rw [if_neg hfn2, hf2, hc2, hj7, hcj] at hp
          refine br_f hfn2 ?_
          rw [hf2]
          refine br_f (by decide) (And.intro (vp_in_nI (by omega) (by decide)) ?_)
          refine nm_r (e' := nI j) (by rw [hc2]; exact hj7) ?_
          by_cases hji : nI j = nI i
          · rw [if_pos hji] at hp
            exact br_t hji (hp _ hu)
          rw [if_neg hji] at hp
          refine br_f hji (sf_Y_over hZ hu 3 (by omega) ?_)
          by_cases c : lim < l.length + 3
          · rw [if_pos c] at hp
            rw [decide_eq_true c]
            exact br_f (by decide) (hp _ hu)
          · rw [if_neg c] at hp
            rw [decide_eq_false c]
            refine br_t (by decide) (And.intro hvi (And.intro hvi (nm_r (e' := upd (g 1) i (g 1 i + 1)) (by rw [hci]) ?_)))
            refine sf_Y_dirtyInode (g := sf_up g 1 i (g 1 i + 1)) (l := l) ⟨hL, q, rfl, hA⟩ i1 (by omega) (fun u1 k1 => ?_)
            obtain ⟨hL1, q1, rfl, hA1⟩ := k1
            refine br_f (by decide) ?_
            refine sf_Y_relo (g := sf_g1 g i) (l := l) ⟨hL1, q1, rfl, hA1⟩ hK1 (nI e2) (fun u2 k2 => ?_)
            have k2' : sf_Y ib db nd lim (sf_cg (sf_Pe (nI e2)) l (sf_g1 g i)) (l.map (sf_rm (sf_Pe (nI e2)))) u2 := k2
            clear k2
            have h89' : sf_pr (4 * db) (sf_cg (sf_Pe (nI e2)) l (sf_g1 g i) 8) (sf_cg (sf_Pe (nI e2)) l (sf_g1 g i) 9) := h89
            rw [sf_dpl] at hp
            have hlen1 : (l.map (sf_rm (sf_Pe (nI e2)))).length = l.length := List.length_map _
            generalize l.map (sf_rm (sf_Pe (nI e2))) = l1 at hp k2' hlen1
            generalize sf_cg (sf_Pe (nI e2)) l (sf_g1 g i) = g2 at hp k2' h89'
            obtain ⟨hL2, q2, rfl, hA2⟩ := k2'
            refine sf_Y_findAdd (g := g2) (l := l1) ⟨hL2, q2, rfl, hA2⟩ _ ?_
            rcases sf_fi_cases (sf_isAdd (nI e2)) l1 with hno | ⟨A, r, B, rfl, hr, hA'⟩
            · rw [sf_any_none hno, if_neg Bool.false_ne_true] at hp
              rw [sf_fi_none hno]
              refine br_t rfl (sf_Y_append (g := g2) (l := l1) ⟨hL2, q2, rfl, hA2⟩ (by omega) _ _ _ _ _ _ (fun u3 k3 => ?_))
              obtain ⟨hL3, q3, rfl, hA3⟩ := k3
              exact sf_Y_r255 (g := g2) hZ h89' (by rw [List.length_append, List.length_singleton]; omega) hA3 (by omega) (by omega) y hp
            · rw [sf_any_at hr, if_pos rfl, sf_ep_at hr hA'] at hp
              rw [sf_fi_at hr hA']
              have hlA : A.length < (A ++ r :: B).length := by simp
              have hlB : (A ++ r :: B).length = (A ++ B).length + 1 := by simp; omega
              refine br_f (sf_nI_m1 (by omega)) (sf_Y_del (g := g2) ⟨hL2, q2, rfl, hA2⟩ (fun u3 k3 => ?_))
              obtain ⟨hL3, q3, rfl, hA3⟩ := k3
              refine sf_Y_append (g := g2) (l := A ++ B) ⟨hL3, q3, rfl, hA3⟩ (by omega) _ _ _ _ _ _ (fun u4 k4 => ?_)
              obtain ⟨hL4, q4, rfl, hA4⟩ := k4
              exact sf_Y_r255 (g := g2) hZ h89' (by rw [List.length_append, List.length_singleton]; omega) hA4 (by omega) (by omega) y hp
theorem sf_sim_rd (e1 e2 : Int32) : sf_sim (sf_rd e1 e2) := by
  intro r
  by_cases c : (sf_MH r && r.2.2.2.2.2 == e1) = true
  · have e : sf_rd e1 e2 r = (r.1, r.2.1, r.2.2.1, r.2.2.2.1, r.2.2.2.2.1, e2) := by rw [sf_rd, if_pos c]
    rw [e]
    refine ⟨rfl, rfl, rfl, rfl, fun k => ?_⟩
    rw [Bool.and_eq_true] at c
    have := c.1
    simp [sf_MH] at this
    exact absurd this.1 k
  · have e : sf_rd e1 e2 r = r := by rw [sf_rd, if_neg c]
    rw [e]
    exact ⟨rfl, rfl, rfl, rfl, fun _ => rfl⟩
theorem sf_J_rd {ni ne : Nat} {mm ml mp dm mi di si mib dib : Nat → Int32} {e1 e2 : Int32} (h : sf_J m ni ne nd mm ml mp dm mi di si mib dib l) : sf_J m ni ne nd mm ml mp dm mi di si mib dib (l.map (sf_rd e1 e2)) := by
  refine sf_J_redir (sf_sim_rd e1 e2) (fun r => ?_) (fun r h4 => ?_) h
  · rw [sf_rd]
    split
    · rfl
    · rfl
  · rw [sf_rd, if_neg]
    intro c
    rw [Bool.and_eq_true] at c
    have := c.1
    simp [sf_MH] at this
    exact h4 this.1
theorem sf_upd_upd {a : Nat → Int32} {i : Nat} {v w : Int32} : upd (upd a i v) i w = upd a i w := by
  funext j
  by_cases c : j = i
  · subst c; rw [sf_upd_s, sf_upd_s]
  · rw [sf_upd_n c, sf_upd_n c, sf_upd_n c]
/-- from the state behind step 2: mi2 is MEMORY's inodes with e2 empty, ml the links without the new one -/
theorem sf_J_rn {s : sf_G × List sf_R} {ml mi2 : Nat → Int32} {e1 e2 i : Nat} {y : Int32} (hz : 4 * ib ≤ 16) (he1 : e1 < 4 * db) (he2 : e2 < 4 * db) (i1 : 1 ≤ i) (i2 : i ≤ 4 * ib)
    (hJ : sf_J 17 (4 * ib) (4 * db) nd (s.1 0) ml (s.1 2) (s.1 3) mi2 (s.1 9) (s.1 11) (s.1 16) (s.1 17) s.2) (hml : s.1 1 = upd ml i (ml i + 1)) (hmm : s.1 0 i ≠ 0) (h2 : mi2 e2 = 0) (h1 : mi2 e1 = nI i) (hmi : upd mi2 e2 (nI i) = upd (s.1 7) e2 (nI i)) :
    sf_JJ ib db nd 17 (sf_rn ib db s e1 e2 i y).1 (sf_rn ib db s e1 e2 i y).2 := by
  have hst : sf_ent db s.1 e2 y = 4 ∨ sf_ent db s.1 e2 y = 12 := by
    rw [sf_ent]
    split
    · exact Or.inl rfl
    · exact Or.inr rfl
  have hne : e1 ≠ e2 := by
    rintro rfl
    rw [h2] at h1
    exact sf_nI_0 i1 (by omega) h1.symm
  have J1 := sf_J_rd (e1 := nI e1) (e2 := nI e2) (sf_J_enter (e := e2) (i := i) (st := sf_ent db s.1 e2 y) hJ he2 i1 i2 h2 hmm hst)
  rw [hmi, ← hml] at J1
  have hm1 : upd (s.1 7) e2 (nI i) e1 = nI i := by
    rw [← hmi, sf_upd_n hne, h1]
  have J2 : sf_JJ ib db nd 17 (sf_rn3 ib db s e1 e2 i y).1 (sf_rn3 ib db s e1 e2 i y).2 := J1
  have hm2 : (sf_rn3 ib db s e1 e2 i y).1 7 e1 = nI i := hm1
  rw [sf_rn]
  clear J1 hm1
  generalize sf_rn3 ib db s e1 e2 i y = t at J2 hm2
  rw [sf_lv]
  rcases sf_fi_cases (sf_isAdd (nI e1)) t.2 with hno | ⟨A, r, B, hl, hr, hA⟩
  · rw [sf_any_none hno, if_neg Bool.false_ne_true]
    exact sf_J_detach (si' := t.1 11) J2 he1 i1 i2 hm2 (sf_noA_of hno) (fun _ => ⟨rfl, Or.inl rfl⟩) (J2.2.2.2.1 e1 he1).2.1 (fun _ _ => rfl) (fun _ => Or.inl (by decide))
  · have J3 : sf_JJ ib db nd 17 t.1 (A ++ r :: B) := by rw [← hl]; exact J2
    rw [hl, sf_any_at hr, if_pos rfl, sf_ep_at hr hA]
    have k := sf_J_own (e := e1) (sf_J_detA J3 he1 i1 i2 hm2 hr (-1)) he1
    rw [sf_own_app] at k
    exact k
theorem sf_rn_len {s : sf_G × List sf_R} {e1 e2 i : Nat} {y : Int32} : (sf_rn ib db s e1 e2 i y).2.length ≤ s.2.length + 2 := by
  have h3 : (sf_rn3 ib db s e1 e2 i y).2.length = s.2.length + 1 := by
    rw [sf_rn3, List.length_map]
    exact List.length_append
  rw [sf_rn]
  generalize sf_rn3 ib db s e1 e2 i y = t at h3
  rw [sf_lv]
  have h := sf_ep_len (P := sf_isAdd (nI e1)) (l := t.2)
  by_cases c : t.2.any (sf_isAdd (nI e1)) = true
  · rw [if_pos c]
    show (((t.2.eraseP (sf_isAdd (nI e1))).map (sf_own (nI e1))) ++ [(4, 0, nI e1, nI i, 0, -1)]).length ≤ _
    rw [List.length_append, List.length_map, List.length_singleton]
    omega
  · rw [if_neg c]
    show (t.2 ++ [(4, 32, nI e1, nI i, 0, nI e2)]).length ≤ _
    rw [List.length_append, List.length_singleton]
    omega
theorem sf_lv_fr {f e1 e2 i : Nat} (h1 : f ≠ 10) (h2 : f ≠ 11) : (sf_lv g l e1 e2 i).1 f = g f := by
  rw [sf_lv]
  split
  · simp only [sf_cs, sf_up, sf_st, if_neg h1, if_neg h2]
  · rfl
theorem sf_cs_pr {e : Nat} (h : sf_pr (4 * db) (g 10) (g 11)) : sf_pr (4 * db) (sf_cs g e 10) (sf_cs g e 11) := by
  intro j hj
  show upd (g 10) e 0 j = 0 ↔ upd (g 11) e 0 j = 0
  by_cases c : j = e
  · subst c
    rw [sf_upd_s, sf_upd_s]
  · rw [sf_upd_n c, sf_upd_n c]
    exact h j hj
theorem sf_lv_pr {e1 e2 i : Nat} (h : sf_pr (4 * db) (g 10) (g 11)) : sf_pr (4 * db) ((sf_lv g l e1 e2 i).1 10) ((sf_lv g l e1 e2 i).1 11) := by
  rw [sf_lv]
  split
  · exact sf_cs_pr h
  · exact h
theorem sf_M_rn {s : sf_G × List sf_R} {e1 e2 i : Nat} {y : Int32} (hib : 4 * ib ≤ 16) (i1 : 1 ≤ i) (i2 : i ≤ 4 * ib) (hy : ¬ y = 0) (hJ : sf_JJ ib db nd 17 (sf_rn ib db s e1 e2 i y).1 (sf_rn ib db s e1 e2 i y).2)
    (h21 : s.1 21 0 = 1) (p1 : sf_pr (4 * db) (s.1 6) (s.1 7)) (p2 : sf_pr (4 * db) (s.1 8) (s.1 9)) (p3 : sf_pr (4 * db) (s.1 10) (s.1 11)) (pt : ∀ x, x < 51 → (∃ b, b ≤ nd ∧ s.1 2 x = nI b) ∧ (∃ b, b ≤ nd ∧ s.1 5 x = nI b)) (pd : ∀ x, x < 25 → s.1 20 x = 0 ∨ s.1 20 x = 1) (hl : s.2.length ≤ 46) :
    sf_M ib db nd (sf_rn ib db s e1 e2 i y).1 (sf_rn ib db s e1 e2 i y).2 := by
  have hlen := sf_rn_len (ib := ib) (db := db) (s := s) (e1 := e1) (e2 := e2) (i := i) (y := y)
  have hn := sf_nz_51 ((sf_rn ib db s e1 e2 i y).1 2)
  have fr : ∀ f, f ≠ 10 → f ≠ 11 → (sf_lv (sf_rn3 ib db s e1 e2 i y).1 (sf_rn3 ib db s e1 e2 i y).2 e1 e2 i).1 f = (sf_rn3 ib db s e1 e2 i y).1 f := fun f a b => sf_lv_fr a b
  have f2 := fr 2 (by decide) (by decide)
  have f5 := fr 5 (by decide) (by decide)
  have f6 := fr 6 (by decide) (by decide)
  have f7 := fr 7 (by decide) (by decide)
  have f8 := fr 8 (by decide) (by decide)
  have f9 := fr 9 (by decide) (by decide)
  have f20 := fr 20 (by decide) (by decide)
  have f21 := fr 21 (by decide) (by decide)
  have f1011 := sf_lv_pr (db := db) (g := (sf_rn3 ib db s e1 e2 i y).1) (l := (sf_rn3 ib db s e1 e2 i y).2) (e1 := e1) (e2 := e2) (i := i) p3
  refine ⟨?_, ⟨⟨fun j hj => ?_, ?_, f1011⟩, fun x hx => ⟨?_, ?_⟩, fun x hx => ?_, by omega⟩, hJ⟩
  · show (sf_lv (sf_rn3 ib db s e1 e2 i y).1 (sf_rn3 ib db s e1 e2 i y).2 e1 e2 i).1 21 0 = 1
    rw [f21]
    exact h21
  · show upd ((sf_lv (sf_rn3 ib db s e1 e2 i y).1 (sf_rn3 ib db s e1 e2 i y).2 e1 e2 i).1 6) e1 0 j = 0 ↔ upd ((sf_lv (sf_rn3 ib db s e1 e2 i y).1 (sf_rn3 ib db s e1 e2 i y).2 e1 e2 i).1 7) e1 0 j = 0
    rw [f6, f7]
    by_cases c : j = e1
    · subst c
      rw [sf_upd_s, sf_upd_s]
    · rw [sf_upd_n c, sf_upd_n c]
      show upd (s.1 6) e2 y j = 0 ↔ upd (s.1 7) e2 (nI i) j = 0
      by_cases c2 : j = e2
      · subst c2
        rw [sf_upd_s, sf_upd_s]
        exact ⟨fun k => absurd k hy, fun k => absurd k (sf_nI_0 i1 (by omega))⟩
      · rw [sf_upd_n c2, sf_upd_n c2]
        exact p1 j hj
  · show sf_pr (4 * db) ((sf_lv (sf_rn3 ib db s e1 e2 i y).1 (sf_rn3 ib db s e1 e2 i y).2 e1 e2 i).1 8) ((sf_lv (sf_rn3 ib db s e1 e2 i y).1 (sf_rn3 ib db s e1 e2 i y).2 e1 e2 i).1 9)
    rw [f8, f9]
    exact p2
  · show ∃ b, b ≤ nd ∧ (sf_lv (sf_rn3 ib db s e1 e2 i y).1 (sf_rn3 ib db s e1 e2 i y).2 e1 e2 i).1 2 x = nI b
    rw [f2]
    exact (pt x hx).1
  · show ∃ b, b ≤ nd ∧ (sf_lv (sf_rn3 ib db s e1 e2 i y).1 (sf_rn3 ib db s e1 e2 i y).2 e1 e2 i).1 5 x = nI b
    rw [f5]
    exact (pt x hx).2
  · show upd ((sf_lv (sf_rn3 ib db s e1 e2 i y).1 (sf_rn3 ib db s e1 e2 i y).2 e1 e2 i).1 20) _ 1 x = 0 ∨ upd ((sf_lv (sf_rn3 ib db s e1 e2 i y).1 (sf_rn3 ib db s e1 e2 i y).2 e1 e2 i).1 20) _ 1 x = 1
    rw [f20]
    exact sf_upd_01 (Or.inr rfl) (sf_upd_01 (Or.inr rfl) (pd x hx))
end
end
section
/-! rename: the owed statement -/
section
variable {ib db nd lim m : Nat} {g : sf_G} {l A B : List sf_R} {r : sf_R}
theorem sf_M_rnew (hZ : sf_Z ib db nd lim) (hM : sf_M ib db nd g l) {e1 e2 i : Nat} {y : Int32} (he1 : e1 < 4 * db) (he2 : e2 < 4 * db) (i1 : 1 ≤ i) (i2 : i ≤ 4 * ib) (h7 : g 7 e1 = nI i) (h6 : g 6 e2 = 0) (hy : ¬ y = 0) (hl : l.length + 2 ≤ 48) : sf_M ib db nd (sf_rn ib db (sf_cs (sf_g1 g i) e2, l) e1 e2 i y).1 (sf_rn ib db (sf_cs (sf_g1 g i) e2, l) e1 e2 i y).2 := by
  have hmm := sf_mm_of hZ hM he1 i1 i2 h7
  obtain ⟨z1, z2, z3, z4, z5, z6, -⟩ := hZ
  obtain ⟨h21, ⟨⟨p1, p2, p3⟩, pt, pd, pc⟩, hJ⟩ := hM
  have h72 : g 7 e2 = 0 := (p1 e2 he2).mp h6
  have J := sf_J_rn (s := (sf_cs (sf_g1 g i) e2, l)) (ml := g 1) (mi2 := g 7) (y := y) (by omega) he1 he2 i1 i2 (sf_J_cs (e := e2) hJ) rfl hmm h72 h7 rfl
  exact sf_M_rn (s := (sf_cs (sf_g1 g i) e2, l)) (by omega) i1 i2 hy J h21 p1 p2 (sf_cs_pr (g := sf_g1 g i) p3) pt (fun x hx => sf_upd_01 (Or.inr rfl) (pd x hx)) (show l.length ≤ 46 by omega)
theorem sf_M_rrep (hZ : sf_Z ib db nd lim) (hM : sf_M ib db nd g l) {e1 e2 i j : Nat} {y : Int32} (he1 : e1 < 4 * db) (he2 : e2 < 4 * db) (hne : e1 ≠ e2) (i1 : 1 ≤ i) (i2 : i ≤ 4 * ib) (j1 : 1 ≤ j) (j2 : j ≤ 4 * ib) (h7 : g 7 e1 = nI i) (h72 : g 7 e2 = nI j) (hy : ¬ y = 0) (hl : l.length + 3 ≤ 48) : sf_M ib db nd (sf_rn ib db (sf_dpl (sf_g1 g i) l e2 j) e1 e2 i y).1 (sf_rn ib db (sf_dpl (sf_g1 g i) l e2 j) e1 e2 i y).2 := by
  have hmm := sf_mm_of hZ hM he1 i1 i2 h7
  obtain ⟨z1, z2, z3, z4, z5, z6, -⟩ := hZ
  obtain ⟨h21, ⟨⟨p1, p2, p3⟩, pt, pd, pc⟩, hJ⟩ := hM
  have J1 : sf_JJ ib db nd 17 (sf_cg (sf_Pe (nI e2)) l g) (l.map (sf_rm (sf_Pe (nI e2)))) := sf_J_rel (by omega) (fun r h => sf_Pe_4 h) hJ
  have J2 : sf_J 17 (4 * ib) (4 * db) nd ((sf_dpl (sf_g1 g i) l e2 j).1 0) (g 1) ((sf_dpl (sf_g1 g i) l e2 j).1 2) ((sf_dpl (sf_g1 g i) l e2 j).1 3) (upd (g 7) e2 0) ((sf_dpl (sf_g1 g i) l e2 j).1 9) ((sf_dpl (sf_g1 g i) l e2 j).1 11) ((sf_dpl (sf_g1 g i) l e2 j).1 16) ((sf_dpl (sf_g1 g i) l e2 j).1 17) (sf_dpl (sf_g1 g i) l e2 j).2 := by
    rw [sf_dpl]
    generalize l.map (sf_rm (sf_Pe (nI e2))) = l1 at J1
    rcases sf_fi_cases (sf_isAdd (nI e2)) l1 with hno | ⟨A, r, B, rfl, hr, hA⟩
    · rw [sf_any_none hno, if_neg Bool.false_ne_true]
      exact sf_J_detach (si' := sf_cg (sf_Pe (nI e2)) l g 11) J1 he2 j1 j2 h72 (sf_noA_of hno) (fun _ => ⟨rfl, Or.inl rfl⟩) (J1.2.2.2.1 e2 he2).2.1 (fun _ _ => rfl) (fun _ => Or.inl (by decide))
    · rw [sf_any_at hr, if_pos rfl, sf_ep_at hr hA]
      exact sf_J_detA J1 he2 j1 j2 h72 hr (-1)
  have J := sf_J_rn (s := sf_dpl (sf_g1 g i) l e2 j) (ml := g 1) (mi2 := upd (g 7) e2 0) (y := y) (by omega) he1 he2 i1 i2 J2 rfl hmm sf_upd_s (by rw [sf_upd_n hne]; exact h7) sf_upd_upd
  have hlen := sf_dpl_len (g := sf_g1 g i) (l := l) (e := e2) (j := j)
  exact sf_M_rn (s := sf_dpl (sf_g1 g i) l e2 j) (by omega) i1 i2 hy J h21 p1 p2 (sf_cg_pr (l := l) (g := sf_g1 g i) (P := sf_Pe (nI e2)) p3) pt (fun x hx => sf_upd_01 (Or.inr rfl) (pd x hx)) (by omega)
end
theorem i_vc_rename {k : Nat} {u : SX} {v : SY} (I : i_Rel k u v) (hk : k + 4 ≤ 2052) (v1 : Int32) (v2 : Int32) : wpX_rename (fun r u' => wpY_rename (fun r' v' => r' = r ∧ i_Rel (k + 4) u' v') v v1 v2) u v1 v2 := by
  obtain ⟨ib, db, nd, lim, g, l, hZ, hX, hY, hI⟩ := I
  have hI' : sf_M ib db nd (sf_rnv ib db lim g l v1 v2).2.1 (sf_rnv ib db lim g l v1 v2).2.2 ∨ sf_U ib db nd (sf_rnv ib db lim g l v1 v2).2.1 (sf_rnv ib db lim g l v1 v2).2.2 := by
    have z := hZ
    obtain ⟨z1, z2, z3, z4, z5, z6, z7, z8⟩ := z
    rw [sf_rnv]
    by_cases hm : g 21 0 = 0
    · rw [if_pos hm]; exact hI
    rw [if_neg hm]
    have hM := sf_MU hI hm
    cases hb : sf_bad v1 with
    | true => rw [if_pos rfl]; exact hI
    | false =>
      rw [if_neg Bool.false_ne_true]
      cases hb2 : sf_bad v2 with
      | true => rw [if_pos rfl]; exact hI
      | false =>
        rw [if_neg Bool.false_ne_true]
        rcases sf_fn_cases db g v1 with hf | ⟨e1, he1, hf, hx⟩
        · rw [if_pos hf]; exact hI
        · obtain ⟨i, i1, i2, hi7⟩ := sf_found hZ hM hb he1 hx
          rw [hf, if_neg (sf_nI_m1 (by omega)), nI_clamp (show e1 < 2 ^ 31 by omega), hi7, nI_clamp (show i < 2 ^ 31 by omega)]
          by_cases hxy : v1 = v2
          · rw [if_pos hxy]; exact hI
          rw [if_neg hxy]
          rcases sf_fn_cases db g v2 with hf2 | ⟨e2, he2, hf2, hy⟩
          · rw [if_pos hf2]
            cases hz : sf_bz g l v2 with
            | true => rw [if_pos rfl]; exact hI
            | false =>
              rw [if_neg Bool.false_ne_true]
              rcases sf_us_cases db g l with hs | ⟨e2, he2, hs, h6⟩
              · rw [if_pos hs]; exact hI
              · rw [hs, if_neg (sf_nI_m1 (by omega)), nI_clamp (show e2 < 2 ^ 31 by omega)]
                by_cases c : lim < l.length + 2
                · rw [if_pos c]; exact hI
                · rw [if_neg c]
                  exact Or.inl (sf_M_rnew hZ hM he1 he2 i1 i2 hi7 h6 (sf_bad0 hb2) (by omega))
          · obtain ⟨j, j1, j2, hj7⟩ := sf_found hZ hM hb2 he2 hy
            rw [hf2, if_neg (sf_nI_m1 (by omega)), nI_clamp (show e2 < 2 ^ 31 by omega), hj7, nI_clamp (show j < 2 ^ 31 by omega)]
            by_cases hji : nI j = nI i
            · rw [if_pos hji]; exact hI
            rw [if_neg hji]
            by_cases c : lim < l.length + 3
            · rw [if_pos c]; exact hI
            · rw [if_neg c]
              refine Or.inl (sf_M_rrep hZ hM he1 he2 ?_ i1 i2 j1 j2 hi7 hj7 (sf_bad0 hb2) (by omega))
              rintro rfl
              exact hxy (hx.symm.trans hy)
  exact sf_X_rename hZ hX (sf_MU hI) _ _ (fun u' hu' => sf_Y_rename hZ hY (sf_MU hI) _ _ (fun v' hv' => ⟨rfl, ib, db, nd, lim, _, _, hZ, hu', hv', hI'⟩))
end
section
/-! write and truncate -/
def sf_wra (ib db : Nat) (g : sf_G) (b i k : Nat) (w : Int32) : sf_G := sf_dI (sf_up (sf_dD ib db (sf_up (sf_up (sf_up (sf_up g 18 b 1) 20 0 1) 12 b (nI i)) 13 b w) b) 2 (3 * i + k) (nI b)) i
def sf_wr2 (ib db nd lim : Nat) (g : sf_G) (l : List sf_R) (i k : Nat) (w : Int32) : Int32 × sf_G × List sf_R :=
  if g 2 (3 * i + k) = 0 then (if sf_fr (g 18) nd = 0 then (-9, g, l) else if lim < l.length + 1 then (-10, g, l) else (sf_fr (g 18) nd, sf_wra ib db g (sf_fr (g 18) nd).toNatClampNeg i k w, l ++ [(3, if g 19 (sf_fr (g 18) nd).toNatClampNeg = 0 then 3 else 2, -1, nI i, sf_fr (g 18) nd, nI k)]))
  else (g 2 (3 * i + k), sf_dD ib db (sf_up g 13 (g 2 (3 * i + k)).toNatClampNeg w) (g 2 (3 * i + k)).toNatClampNeg, l)
def sf_wrv (ib db nd lim : Nat) (g : sf_G) (l : List sf_R) (x y w : Int32) : Int32 × sf_G × List sf_R :=
  if g 21 0 = 0 then (-2, g, l) else if sf_bad x = true then (-3, g, l) else if y < 0 then (-3, g, l) else if y ≤ 2 then (if sf_fn db g x = -1 then (-4, g, l) else sf_wr2 ib db nd lim g l (g 7 (sf_fn db g x).toNatClampNeg).toNatClampNeg y.toNatClampNeg (w &&& 65535)) else (-3, g, l)
def sf_tn (g : sf_G) (i k : Nat) : Nat := sf_ct (fun j => !decide (g 2 (3 * i + j) = 0)) (3 - k) k
def sf_tr2 (lim : Nat) (g : sf_G) (l : List sf_R) (i k : Nat) : Int32 × sf_G × List sf_R :=
  if sf_tn g i k = 0 then (0, g, l) else if lim < l.length + sf_tn g i k then (-10, g, l) else (nI (sf_tn g i k), sf_dI (sf_dk i (3 - k) k (g, l)).1 i, (sf_dk i (3 - k) k (g, l)).2)
def sf_trv (db lim : Nat) (g : sf_G) (l : List sf_R) (x y : Int32) : Int32 × sf_G × List sf_R :=
  if g 21 0 = 0 then (-2, g, l) else if sf_bad x = true then (-3, g, l) else if y < 0 then (-3, g, l) else if y ≤ 2 then (if sf_fn db g x = -1 then (-4, g, l) else sf_tr2 lim g l (g 7 (sf_fn db g x).toNatClampNeg).toNatClampNeg y.toNatClampNeg) else (-3, g, l)
section
variable {ib db nd lim m : Nat} {g : sf_G} {l A B : List sf_R} {r : sf_R}
theorem sf_X_write {post : Int32 → SX → Prop} {u : SX} (hZ : sf_Z ib db nd lim) (h : sf_X ib db nd lim g l u) (hM : ¬ g 21 0 = 0 → sf_M ib db nd g l) (x y w : Int32) (hp : ∀ u', sf_X ib db nd lim (sf_wrv ib db nd lim g l x y w).2.1 (sf_wrv ib db nd lim g l x y w).2.2 u' → post (sf_wrv ib db nd lim g l x y w).1 u') : wpX_write post u x y w := by
  obtain ⟨hL, q, rfl, hA⟩ := h
  have hu : sf_X ib db nd lim g l (sf_mX ib db nd lim l.length g q) := ⟨hL, q, rfl, hA⟩
  have z := hZ
  obtain ⟨z1, z2, z3, z4, z5, z6, z7, z8⟩ := z
  rw [sf_wrv] at hp
  by_cases hm : g 21 0 = 0
  · rw [if_pos hm] at hp
    exact br_t hm (hp _ hu)
  rw [if_neg hm] at hp
  have hM := hM hm
  refine br_f hm (sf_X_bad _ ?_)
  cases hb : sf_bad x with
  | true =>
    rw [hb, if_pos rfl] at hp
    exact br_f (by decide) (hp _ hu)
  | false =>
    rw [hb, if_neg Bool.false_ne_true] at hp
    refine br_t (by decide) ?_
    by_cases c1 : y < 0
    · rw [if_pos c1] at hp
      exact br_t c1 (hp _ hu)
    rw [if_neg c1] at hp
    refine br_f c1 ?_
    by_cases c2 : y ≤ 2
    · rw [if_pos c2] at hp
      refine br_t c2 (sf_X_findName hZ hu _ ?_)
      obtain ⟨k, k1, rfl⟩ := sf_le 2 rfl (by decide) c1 c2
      rcases sf_fn_cases db g x with hf | ⟨e, he, hf, hx⟩
      · rw [if_pos hf] at hp
        exact br_t hf (hp _ hu)
      · obtain ⟨i, i1, i2, hi7⟩ := sf_found hZ hM hb he hx
        have hfn : ¬ sf_fn db g x = -1 := by rw [hf]; exact sf_nI_m1 (by omega)
        have hce : (nI e).toNatClampNeg = e := nI_clamp (by omega)
        have hci : (nI i).toNatClampNeg = i := nI_clamp (by omega)
        have hck : (nI k).toNatClampNeg = k := nI_clamp (by omega)
        rw [if_neg hfn, hf, hce, hi7, hci, hck] at hp
        refine br_f hfn ?_
        rw [hf]
        have hix : ((3 : Int32) * nI i) + nI k = nI (3 * i + k) := by
          show (nI 3 * nI i) + nI k = _
          rw [pk_mul, nI_add]
          all_goals exact congrArg nI (by omega)
        have hv : vp_in (nI (3 * i + k)) 51 := vp_in_nI (by omega) (by decide)
        have hcx : (nI (3 * i + k)).toNatClampNeg = 3 * i + k := nI_clamp (by omega)
        obtain ⟨b0, b1, hb0⟩ := (hM.2.1.2.1 (3 * i + k) (by omega)).1
        rw [sf_wr2] at hp
        refine nm_e (And.intro (vp_in_nI (by omega) (by decide)) (nm_r (e' := nI i) (by rw [hce]; exact hi7) (And.intro (by rw [hix]; exact hv) (nm_r (e' := nI b0) (by rw [hix, hcx]; exact hb0) ?_))))
        rw [hb0] at hp
        by_cases cb : nI b0 = 0
        · rw [if_pos cb] at hp
          refine br_t cb ?_
          refine sf_X_freeDat hZ hu ?_
          rcases sf_fr_cases (g 18) nd with hf2 | ⟨b, bb1, bb2, hf2, hb18⟩
          · rw [if_pos hf2] at hp
            exact br_t hf2 (hp _ hu)
          · have hn : ¬ sf_fr (g 18) nd = 0 := by rw [hf2]; exact nI_ne0 (by omega) (by omega)
            have hvb : vp_in (nI b) 17 := vp_in_nI (by omega) (by decide)
            have hcb : (nI b).toNatClampNeg = b := nI_clamp (by omega)
            have hxd : (nI ib + nI db) + nI b = nI (ib + db + b) := by rw [nI_add, nI_add]
            rw [if_neg hn] at hp
            refine br_f hn (sf_X_over hZ hu 1 (by omega) ?_)
            by_cases c : lim < l.length + 1
            · rw [if_pos c] at hp
              rw [decide_eq_true c]
              exact br_f (by decide) (hp _ hu)
            · rw [if_neg c, hf2, hcb] at hp
              rw [decide_eq_false c, hf2]
              refine br_t (by decide) (And.intro hvb (nm_r (e' := upd (g 18) b 1) (by rw [hcb]) (nm_r (e' := upd (g 20) 0 1) (by rw [sf_t1]) (And.intro hvb (nm_r (e' := upd (g 12) b (nI i)) (by rw [hcb]) (And.intro hvb (nm_r (e' := upd (g 13) b (w &&& 65535)) (by rw [hcb]) ?_)))))))
              refine sf_X_dirtyData (g := sf_up (sf_up (sf_up (sf_up g 18 b 1) 20 0 1) 12 b (nI i)) 13 b (w &&& 65535)) (l := l) hZ ⟨hL, q, rfl, hA⟩ bb2 (fun u1 q1' => ?_)
              obtain ⟨hL1, q1, rfl, hA1⟩ := q1'
              refine And.intro (by rw [hix]; exact hv) (nm_r (e' := upd (g 2) (3 * i + k) (nI b)) (by rw [hix, hcx]; rfl) ?_)
              refine sf_X_dirtyInode (g := sf_up (sf_dD ib db (sf_up (sf_up (sf_up (sf_up g 18 b 1) 20 0 1) 12 b (nI i)) 13 b (w &&& 65535)) b) 2 (3 * i + k) (nI b)) (l := l) ⟨hL1, q1, rfl, hA1⟩ i1 (by omega) (fun u2 q2' => ?_)
              obtain ⟨hL2, q2, rfl, hA2⟩ := q2'
              refine And.intro hvb ?_
              rw [hcb]
              by_cases c19 : g 19 b = 0
              · rw [if_pos c19] at hp
                refine br_t c19 (sf_X_append (g := sf_wra ib db g b i k (w &&& 65535)) (l := l) ⟨hL2, q2, rfl, hA2⟩ (by omega) _ _ _ _ _ _ (fun u3 q3' => ?_))
                obtain ⟨hL3, q3, rfl, hA3⟩ := q3'
                exact hp _ ⟨hL3, q3, rfl, hA3⟩
              · rw [if_neg c19] at hp
                refine br_f c19 (sf_X_append (g := sf_wra ib db g b i k (w &&& 65535)) (l := l) ⟨hL2, q2, rfl, hA2⟩ (by omega) _ _ _ _ _ _ (fun u3 q3' => ?_))
                obtain ⟨hL3, q3, rfl, hA3⟩ := q3'
                exact hp _ ⟨hL3, q3, rfl, hA3⟩
        · rw [if_neg cb, nI_clamp (show b0 < 2 ^ 31 by omega)] at hp
          have hvb : vp_in (nI b0) 17 := vp_in_nI (by omega) (by decide)
          have hcb : (nI b0).toNatClampNeg = b0 := nI_clamp (by omega)
          refine br_f cb (And.intro hvb (nm_r (e' := upd (g 13) b0 (w &&& 65535)) (by rw [hcb]) ?_))
          refine sf_X_dirtyData (g := sf_up g 13 b0 (w &&& 65535)) (l := l) hZ ⟨hL, q, rfl, hA⟩ b1 (fun u1 k1 => ?_)
          obtain ⟨hL1, q1, rfl, hA1⟩ := k1
          exact hp _ ⟨hL1, q1, rfl, hA1⟩
    · rw [if_neg c2] at hp
      exact br_f c2 (hp _ hu)
theorem sf_Y_write {post : Int32 → SY → Prop} {u : SY} (hZ : sf_Z ib db nd lim) (h : sf_Y ib db nd lim g l u) (hM : ¬ g 21 0 = 0 → sf_M ib db nd g l) (x y w : Int32) (hp : ∀ u', sf_Y ib db nd lim (sf_wrv ib db nd lim g l x y w).2.1 (sf_wrv ib db nd lim g l x y w).2.2 u' → post (sf_wrv ib db nd lim g l x y w).1 u') : wpY_write post u x y w := by
  obtain ⟨hL, q, rfl, hA⟩ := h
  have hu : sf_Y ib db nd lim g l (sf_mY ib db nd lim l.length g q) := ⟨hL, q, rfl, hA⟩
  have z := hZ
  obtain ⟨z1, z2, z3, z4, z5, z6, z7, z8⟩ := z
  rw [sf_wrv] at hp
  by_cases hm : g 21 0 = 0
  · rw [if_pos hm] at hp
    exact br_t hm (hp _ hu)
  rw [if_neg hm] at hp
  have hM := hM hm
  refine br_f hm (sf_Y_bad _ ?_)
  cases hb : sf_bad x with
  | true =>
    rw [hb, if_pos rfl] at hp
    exact br_f (by decide) (hp _ hu)
  | false =>
    rw [hb, if_neg Bool.false_ne_true] at hp
    refine br_t (by decide) ?_
    by_cases c1 : y < 0
    · rw [if_pos c1] at hp
      exact br_t c1 (hp _ hu)
    rw [if_neg c1] at hp
    refine br_f c1 ?_
    by_cases c2 : y ≤ 2
    · rw [if_pos c2] at hp
      refine br_t c2 (sf_Y_findName hZ hu _ ?_)
      obtain ⟨k, k1, rfl⟩ := sf_le 2 rfl (by decide) c1 c2
      rcases sf_fn_cases db g x with hf | ⟨e, he, hf, hx⟩
      · rw [if_pos hf] at hp
        exact br_t hf (hp _ hu)
      · obtain ⟨i, i1, i2, hi7⟩ := sf_found hZ hM hb he hx
        have hfn : ¬ sf_fn db g x = -1 := by rw [hf]; exact sf_nI_m1 (by omega)
        have hce : (nI e).toNatClampNeg = e := nI_clamp (by omega)
        have hci : (nI i).toNatClampNeg = i := nI_clamp (by omega)
        have hck : (nI k).toNatClampNeg = k := nI_clamp (by omega)
        rw [if_neg hfn, hf, hce, hi7, hci, hck] at hp
        refine br_f hfn ?_
        rw [hf]
        have hix : (nI i * 3) + nI k = nI (3 * i + k) := by
          show (nI i * nI 3) + nI k = _
          rw [pk_mul, nI_add]
          all_goals exact congrArg nI (by omega)
        have hv : vp_in (nI (3 * i + k)) 51 := vp_in_nI (by omega) (by decide)
        have hcx : (nI (3 * i + k)).toNatClampNeg = 3 * i + k := nI_clamp (by omega)
        obtain ⟨b0, b1, hb0⟩ := (hM.2.1.2.1 (3 * i + k) (by omega)).1
        rw [sf_wr2] at hp
        refine nm_e (And.intro (vp_in_nI (by omega) (by decide)) (nm_r (e' := nI i) (by rw [hce]; exact hi7) (And.intro (by rw [hix]; exact hv) (nm_r (e' := nI b0) (by rw [hix, hcx]; exact hb0) ?_))))
        rw [hb0] at hp
        by_cases cb : nI b0 = 0
        · rw [if_pos cb] at hp
          refine br_t cb ?_
          have loop : ∀ j, j ≤ nd → wY_write_115 post (nI k) (w &&& 65535) (nI i) (nI ib) (nI db) (nI nd) (nI lim) (nI (4 * ib)) (nI (4 * db)) (nI (1 + ib + db + nd)) (nI (l.length)) (g 21 0) (g 22 0) (g 23 0) (g 0) (g 1) (g 2) (g 16) (g 18) (g 12) (g 13) (g 6) (g 7) (g 3) (g 4) (g 5) (g 17) (g 19) (g 14) (g 15) (g 8) (g 9) (g 10) (g 11) (g 20) (q 0) (q 1) (q 2) (q 3) (q 4) (q 5) (j + 1) (sf_fs 0 nI (fun i => g 18 i == 0) (nd - j) (j + 1)) (nI j) := by
            intro j
            induction j with
            | zero =>
              intro _
              refine br_t (by decide) ?_
              rw [show nd - 0 = nd by omega]
              have e0 : sf_fs 0 nI (fun i => g 18 i == 0) nd (0 + 1) = sf_fr (g 18) nd := rfl
              rw [e0]
              rcases sf_fr_cases (g 18) nd with hf2 | ⟨b, bb1, bb2, hf2, hb18⟩
              · rw [if_pos hf2] at hp
                exact br_t hf2 (hp _ hu)
              · have hn : ¬ sf_fr (g 18) nd = 0 := by rw [hf2]; exact nI_ne0 (by omega) (by omega)
                have hvb : vp_in (nI b) 17 := vp_in_nI (by omega) (by decide)
                have hcb : (nI b).toNatClampNeg = b := nI_clamp (by omega)
                have hxd : (nI ib + nI db) + nI b = nI (ib + db + b) := by rw [nI_add, nI_add]
                rw [if_neg hn] at hp
                refine br_f hn (sf_Y_over hZ hu 1 (by omega) ?_)
                by_cases c : lim < l.length + 1
                · rw [if_pos c] at hp
                  rw [decide_eq_true c]
                  exact br_f (by decide) (hp _ hu)
                · rw [if_neg c, hf2, hcb] at hp
                  rw [decide_eq_false c, hf2]
                  refine br_t (by decide) (And.intro hvb (nm_r (e' := upd (g 18) b 1) (by rw [hcb]) (nm_r (e' := upd (g 20) 0 1) (by rw [sf_t1]) (And.intro hvb (nm_r (e' := upd (g 12) b (nI i)) (by rw [hcb]) (And.intro hvb (nm_r (e' := upd (g 13) b (w &&& 65535)) (by rw [hcb]) ?_)))))))
                  refine And.intro (by rw [hxd]; exact vp_in_nI (by omega) (by decide)) (nm_r (e' := upd (upd (g 20) 0 1) (ib + db + b) 1) (by rw [hxd, nI_clamp (show ib + db + b < 2 ^ 31 by omega), sf_t1]) (And.intro (by rw [hix]; exact hv) (nm_r (e' := upd (g 2) (3 * i + k) (nI b)) (by rw [hix, hcx]) ?_)))
                  refine sf_Y_dirtyInode (g := sf_up (sf_dD ib db (sf_up (sf_up (sf_up (sf_up g 18 b 1) 20 0 1) 12 b (nI i)) 13 b (w &&& 65535)) b) 2 (3 * i + k) (nI b)) (l := l) ⟨hL, q, rfl, hA⟩ i1 (by omega) (fun u2 q2' => ?_)
                  obtain ⟨hL2, q2, rfl, hA2⟩ := q2'
                  refine And.intro hvb ?_
                  rw [hcb]
                  by_cases c19 : g 19 b = 0
                  · rw [if_pos c19] at hp
                    refine br_t c19 (nm_r (e' := 3) (by decide) (sf_Y_append (g := sf_wra ib db g b i k (w &&& 65535)) (l := l) ⟨hL2, q2, rfl, hA2⟩ (by omega) _ _ _ _ _ _ (fun u3 q3' => ?_)))
                    obtain ⟨hL3, q3, rfl, hA3⟩ := q3'
                    exact hp _ ⟨hL3, q3, rfl, hA3⟩
                  · rw [if_neg c19] at hp
                    refine br_f c19 (sf_Y_append (g := sf_wra ib db g b i k (w &&& 65535)) (l := l) ⟨hL2, q2, rfl, hA2⟩ (by omega) _ _ _ _ _ _ (fun u3 q3' => ?_))
                    obtain ⟨hL3, q3, rfl, hA3⟩ := q3'
                    exact hp _ ⟨hL3, q3, rfl, hA3⟩
            | succ j ih =>
              intro hj
              have ih := ih (by omega)
              have hvj : vp_in (nI (j + 1)) 17 := vp_in_nI (by omega) (by decide)
              have hcj : (nI (j + 1)).toNatClampNeg = j + 1 := nI_clamp (by omega)
              rw [show nd - j = (nd - (j + 1)) + 1 by omega, sf_fs] at ih
              refine br_f (nI_nlt (b := 1) (by omega) (by omega)) (And.intro hvj ?_)
              rw [hcj]
              by_cases c : g 18 (j + 1) = 0
              · rw [if_pos (by simpa using c)] at ih
                exact br_t c (nm_r (pk_m1 j) ih)
              · rw [if_neg (by simpa using c)] at ih
                exact br_f c (nm_r (pk_m1 j) ih)
          have kk := loop nd (Nat.le_refl _)
          rw [Nat.sub_self] at kk
          rw [cb]
          exact Exists.intro (nd + 1) kk
        · rw [if_neg cb, nI_clamp (show b0 < 2 ^ 31 by omega)] at hp
          have hvb : vp_in (nI b0) 17 := vp_in_nI (by omega) (by decide)
          have hcb : (nI b0).toNatClampNeg = b0 := nI_clamp (by omega)
          refine br_f cb (And.intro hvb (nm_r (e' := upd (g 13) b0 (w &&& 65535)) (by rw [hcb]) ?_))
          have hxd : (nI ib + nI db) + nI b0 = nI (ib + db + b0) := by rw [nI_add, nI_add]
          exact And.intro (by rw [hxd]; exact vp_in_nI (by omega) (by decide)) (nm_r (e' := upd (g 20) (ib + db + b0) 1) (by rw [hxd, nI_clamp (by omega), sf_t1]) (hp _ ⟨hL, q, rfl, hA⟩))
    · rw [if_neg c2] at hp
      exact br_f c2 (hp _ hu)
end
end
section
/-! truncate -/
section
variable {ib db nd lim m : Nat} {g : sf_G} {l A B : List sf_R} {r : sf_R}
theorem sf_Y_t113 {post : Int32 → SY → Prop} {C : Int32} {i : Nat} (i1 : 1 ≤ i) (i2 : i ≤ 16) : ∀ d k (s : sf_G × List sf_R) (q : sf_G), k + d = 3 → s.2.length ≤ 128 → s.2.length + sf_nz (s.1 2) ≤ 120 → sf_A s.2 q → (∀ u', sf_Y ib db nd lim (sf_dI (sf_dk i d k s).1 i) (sf_dk i d k s).2 u' → post C u') → wY_truncate_113 post (nI i) C (d + 1) (nI k) (nI ib) (nI db) (nI nd) (nI lim) (nI (4 * ib)) (nI (4 * db)) (nI (1 + ib + db + nd)) (nI (s.2.length)) ((s.1) 21 0) ((s.1) 22 0) ((s.1) 23 0) ((s.1) 0) ((s.1) 1) ((s.1) 2) ((s.1) 16) ((s.1) 18) ((s.1) 12) ((s.1) 13) ((s.1) 6) ((s.1) 7) ((s.1) 3) ((s.1) 4) ((s.1) 5) ((s.1) 17) ((s.1) 19) ((s.1) 14) ((s.1) 15) ((s.1) 8) ((s.1) 9) ((s.1) 10) ((s.1) 11) ((s.1) 20) (q 0) (q 1) (q 2) (q 3) (q 4) (q 5) := by
  intro d
  induction d with
  | zero =>
    intro k s q e hL hN hA hp
    have e3 : k = 3 := by omega
    subst e3
    refine br_t (by decide) (sf_Y_dirtyInode (g := s.1) (l := s.2) ⟨hL, q, rfl, hA⟩ i1 i2 (fun u1 k1 => ?_))
    obtain ⟨hL1, q1, rfl, hA1⟩ := k1
    exact hp _ ⟨hL1, q1, rfl, hA1⟩
  | succ d ih =>
    intro k s q e hL hN hA hp
    have hx : (nI i * 3) + nI k = nI (3 * i + k) := by
      show (nI i * nI 3) + nI k = _
      rw [pk_mul, nI_add]
      exact congrArg nI (by omega)
    have hv : vp_in (nI (3 * i + k)) 51 := vp_in_nI (by omega) (by decide)
    have hc : (nI (3 * i + k)).toNatClampNeg = 3 * i + k := nI_clamp (by omega)
    have hN' := sf_d1_len (i := i) (k := k) (s := s) (by omega)
    rw [sf_dk] at hp
    refine br_f (nI_ge (b := 3) (by omega) (by decide)) ?_
    rw [hx, hc]
    refine And.intro hv ?_
    by_cases c : s.1 2 (3 * i + k) = 0
    · have e1 : sf_d1 i k s = s := by rw [sf_d1, if_pos c]
      rw [e1] at hp
      exact br_t c (nm_r (nI_1 k) (ih (k + 1) s q (by omega) hL hN hA hp))
    · refine br_f c (sf_Y_drop1 (g := s.1) (l := s.2) ⟨hL, q, rfl, hA⟩ i2 (by omega) hN c (fun u1 h1 => ?_))
      obtain ⟨hL1, q1, rfl, hA1⟩ := h1
      exact nm_r (nI_1 k) (ih (k + 1) (sf_d1 i k s) q1 (by omega) hL1 (Nat.le_trans hN' hN) hA1 hp)
theorem sf_X_truncate {post : Int32 → SX → Prop} {u : SX} (hZ : sf_Z ib db nd lim) (h : sf_X ib db nd lim g l u) (hM : ¬ g 21 0 = 0 → sf_M ib db nd g l) (x y : Int32) (hp : ∀ u', sf_X ib db nd lim (sf_trv db lim g l x y).2.1 (sf_trv db lim g l x y).2.2 u' → post (sf_trv db lim g l x y).1 u') : wpX_truncate post u x y := by
  obtain ⟨hL, q, rfl, hA⟩ := h
  have hu : sf_X ib db nd lim g l (sf_mX ib db nd lim l.length g q) := ⟨hL, q, rfl, hA⟩
  have z := hZ
  obtain ⟨z1, z2, z3, z4, z5, z6, z7, z8⟩ := z
  rw [sf_trv] at hp
  by_cases hm : g 21 0 = 0
  · rw [if_pos hm] at hp
    exact br_t hm (hp _ hu)
  rw [if_neg hm] at hp
  have hM := hM hm
  refine br_f hm (sf_X_bad _ ?_)
  cases hb : sf_bad x with
  | true =>
    rw [hb, if_pos rfl] at hp
    exact br_f (by decide) (hp _ hu)
  | false =>
    rw [hb, if_neg Bool.false_ne_true] at hp
    refine br_t (by decide) ?_
    by_cases c1 : y < 0
    · rw [if_pos c1] at hp
      exact br_t c1 (hp _ hu)
    rw [if_neg c1] at hp
    refine br_f c1 ?_
    by_cases c2 : y ≤ 2
    · rw [if_pos c2] at hp
      refine br_t c2 (sf_X_findName hZ hu _ ?_)
      obtain ⟨k, k1, rfl⟩ := sf_le 2 rfl (by decide) c1 c2
      rcases sf_fn_cases db g x with hf | ⟨e, he, hf, hx⟩
      · rw [if_pos hf] at hp
        exact br_t hf (hp _ hu)
      · obtain ⟨i, i1, i2, hi7⟩ := sf_found hZ hM hb he hx
        have hfn : ¬ sf_fn db g x = -1 := by rw [hf]; exact sf_nI_m1 (by omega)
        have hce : (nI e).toNatClampNeg = e := nI_clamp (by omega)
        have hci : (nI i).toNatClampNeg = i := nI_clamp (by omega)
        have hck : (nI k).toNatClampNeg = k := nI_clamp (by omega)
        rw [if_neg hfn, hf, hce, hi7, hci, hck] at hp
        refine br_f hfn ?_
        rw [hf]
        have hix : ∀ k, k < 3 → ((3 : Int32) * nI i) + nI k = nI (3 * i + k) := by
          intro k _
          show (nI 3 * nI i) + nI k = _
          rw [pk_mul, nI_add]
          all_goals exact congrArg nI (by omega)
        refine And.intro (vp_in_nI (by omega) (by decide)) (nm_r (e' := nI i) (by rw [hce]; exact hi7) (Exists.intro (3 - k + 1) ?_))
        rw [sf_tr2] at hp
        have hle : sf_tn g i k ≤ 3 - k := sf_ct_le _ _ _
        have hN : l.length + sf_nz (g 2) ≤ 120 := by
          have := hM.2.1.2.2.2
          omega
        refine sf_ct_law (fun m c p => wX_truncate_58 post (nI k) (nI i) (nI ib) (nI db) (nI (4 * ib)) (nI (4 * db)) (nI nd) (nI (1 + ib + db + nd)) (nI lim) (nI (l.length)) (g 21 0) (g 22 0) (g 23 0) (g 0) (g 1) (g 2) (g 3) (g 4) (g 5) (g 6) (g 7) (g 8) (g 9) (g 10) (g 11) (g 12) (g 13) (g 14) (g 15) (g 16) (g 17) (g 18) (g 19) (g 20) (q 0) (q 1) (q 2) (q 3) (q 4) (q 5) m (nI c) (nI p)) (post := fun c => c = sf_tn g i k) (P := fun j => !decide (g 2 (3 * i + j) = 0)) (hi := 3) ?_ ?_ ?_ (3 - k) k 0 (by omega) (by rw [Nat.zero_add]; rfl)
        · rintro mm c rfl
          refine br_t (by decide) ?_
          by_cases c0 : sf_tn g i k = 0
          · rw [if_pos c0] at hp
            exact br_t (by rw [c0]; rfl) (hp _ hu)
          · rw [if_neg c0] at hp
            refine br_f (nI_ne0 (by omega) (by omega)) (sf_X_over hZ hu (sf_tn g i k) (by omega) ?_)
            by_cases c : lim < l.length + sf_tn g i k
            · rw [if_pos c] at hp
              rw [decide_eq_true c]
              exact br_f (by decide) (hp _ hu)
            · rw [if_neg c] at hp
              rw [decide_eq_false c]
              refine br_t (by decide) ?_
              refine sf_X_drops hu (by omega) (by omega) hN (fun u1 k1' => ?_)
              generalize sf_dk i (3 - k) k (g, l) = s at hp k1'
              obtain ⟨hL1, q1, rfl, hA1⟩ := k1'
              refine sf_X_dirtyInode (g := s.1) (l := s.2) ⟨hL1, q1, rfl, hA1⟩ i1 (by omega) (fun u2 k2' => ?_)
              obtain ⟨hL2, q2, rfl, hA2⟩ := k2'
              exact hp _ ⟨hL2, q2, rfl, hA2⟩
        · intro mm c p hlt cc hW
          have hv : vp_in (nI (3 * i + p)) 51 := vp_in_nI (by omega) (by decide)
          have hcx : (nI (3 * i + p)).toNatClampNeg = 3 * i + p := nI_clamp (by omega)
          refine br_f (nI_ge (b := 3) (by omega) (by decide)) ?_
          rw [hix p hlt, hcx]
          exact And.intro hv (br_f (by simpa using cc) (nm_r (nI_1 c) (nm_r (nI_1 p) hW)))
        · intro mm c p hlt cc hW
          have hv : vp_in (nI (3 * i + p)) 51 := vp_in_nI (by omega) (by decide)
          have hcx : (nI (3 * i + p)).toNatClampNeg = 3 * i + p := nI_clamp (by omega)
          refine br_f (nI_ge (b := 3) (by omega) (by decide)) ?_
          rw [hix p hlt, hcx]
          exact And.intro hv (br_t (by simpa using cc) (nm_r (nI_1 p) hW))
    · rw [if_neg c2] at hp
      exact br_f c2 (hp _ hu)
theorem sf_Y_truncate {post : Int32 → SY → Prop} {u : SY} (hZ : sf_Z ib db nd lim) (h : sf_Y ib db nd lim g l u) (hM : ¬ g 21 0 = 0 → sf_M ib db nd g l) (x y : Int32) (hp : ∀ u', sf_Y ib db nd lim (sf_trv db lim g l x y).2.1 (sf_trv db lim g l x y).2.2 u' → post (sf_trv db lim g l x y).1 u') : wpY_truncate post u x y := by
  obtain ⟨hL, q, rfl, hA⟩ := h
  have hu : sf_Y ib db nd lim g l (sf_mY ib db nd lim l.length g q) := ⟨hL, q, rfl, hA⟩
  have z := hZ
  obtain ⟨z1, z2, z3, z4, z5, z6, z7, z8⟩ := z
  rw [sf_trv] at hp
  by_cases hm : g 21 0 = 0
  · rw [if_pos hm] at hp
    exact br_t hm (hp _ hu)
  rw [if_neg hm] at hp
  have hM := hM hm
  refine br_f hm (sf_Y_bad _ ?_)
  cases hb : sf_bad x with
  | true =>
    rw [hb, if_pos rfl] at hp
    exact br_f (by decide) (hp _ hu)
  | false =>
    rw [hb, if_neg Bool.false_ne_true] at hp
    refine br_t (by decide) ?_
    by_cases c1 : y < 0
    · rw [if_pos c1] at hp
      exact br_t c1 (hp _ hu)
    rw [if_neg c1] at hp
    refine br_f c1 ?_
    by_cases c2 : y ≤ 2
    · rw [if_pos c2] at hp
      refine br_t c2 (sf_Y_findName hZ hu _ ?_)
      obtain ⟨k, k1, rfl⟩ := sf_le 2 rfl (by decide) c1 c2
      rcases sf_fn_cases db g x with hf | ⟨e, he, hf, hx⟩
      · rw [if_pos hf] at hp
        exact br_t hf (hp _ hu)
      · obtain ⟨i, i1, i2, hi7⟩ := sf_found hZ hM hb he hx
        have hfn : ¬ sf_fn db g x = -1 := by rw [hf]; exact sf_nI_m1 (by omega)
        have hce : (nI e).toNatClampNeg = e := nI_clamp (by omega)
        have hci : (nI i).toNatClampNeg = i := nI_clamp (by omega)
        have hck : (nI k).toNatClampNeg = k := nI_clamp (by omega)
        rw [if_neg hfn, hf, hce, hi7, hci, hck] at hp
        refine br_f hfn ?_
        rw [hf]
        have hix : ∀ k, k < 3 → (nI i * 3) + nI k = nI (3 * i + k) := by
          intro k _
          show (nI i * nI 3) + nI k = _
          rw [pk_mul, nI_add]
          all_goals exact congrArg nI (by omega)
        refine And.intro (vp_in_nI (by omega) (by decide)) (nm_r (e' := nI i) (by rw [hce]; exact hi7) (Exists.intro (3 - k + 1) ?_))
        rw [sf_tr2] at hp
        have hle : sf_tn g i k ≤ 3 - k := sf_ct_le _ _ _
        have hN : l.length + sf_nz (g 2) ≤ 120 := by
          have := hM.2.1.2.2.2
          omega
        refine sf_ct_law (fun m c p => wY_truncate_58 post (nI k) (nI i) (nI ib) (nI db) (nI nd) (nI lim) (nI (4 * ib)) (nI (4 * db)) (nI (1 + ib + db + nd)) (nI (l.length)) (g 21 0) (g 22 0) (g 23 0) (g 0) (g 1) (g 2) (g 16) (g 18) (g 12) (g 13) (g 6) (g 7) (g 3) (g 4) (g 5) (g 17) (g 19) (g 14) (g 15) (g 8) (g 9) (g 10) (g 11) (g 20) (q 0) (q 1) (q 2) (q 3) (q 4) (q 5) m (nI c) (nI p)) (post := fun c => c = sf_tn g i k) (P := fun j => !decide (g 2 (3 * i + j) = 0)) (hi := 3) ?_ ?_ ?_ (3 - k) k 0 (by omega) (by rw [Nat.zero_add]; rfl)
        · rintro mm c rfl
          refine br_t (by decide) ?_
          by_cases c0 : sf_tn g i k = 0
          · rw [if_pos c0] at hp
            exact br_t (by rw [c0]; rfl) (hp _ hu)
          · rw [if_neg c0] at hp
            refine br_f (nI_ne0 (by omega) (by omega)) (sf_Y_over hZ hu (sf_tn g i k) (by omega) ?_)
            by_cases c : lim < l.length + sf_tn g i k
            · rw [if_pos c] at hp
              rw [decide_eq_true c]
              exact br_f (by decide) (hp _ hu)
            · rw [if_neg c] at hp
              rw [decide_eq_false c]
              refine br_t (by decide) ?_
              exact Exists.intro (3 - k + 1) (sf_Y_t113 i1 (by omega) (3 - k) k (g, l) q (by omega) hL hN hA hp)
        · intro mm c p hlt cc hW
          have hv : vp_in (nI (3 * i + p)) 51 := vp_in_nI (by omega) (by decide)
          have hcx : (nI (3 * i + p)).toNatClampNeg = 3 * i + p := nI_clamp (by omega)
          refine br_f (nI_ge (b := 3) (by omega) (by decide)) ?_
          rw [hix p hlt, hcx]
          exact And.intro hv (br_f (by simpa using cc) (nm_r (nI_1 c) (nm_r (nI_1 p) hW)))
        · intro mm c p hlt cc hW
          have hv : vp_in (nI (3 * i + p)) 51 := vp_in_nI (by omega) (by decide)
          have hcx : (nI (3 * i + p)).toNatClampNeg = 3 * i + p := nI_clamp (by omega)
          refine br_f (nI_ge (b := 3) (by omega) (by decide)) ?_
          rw [hix p hlt, hcx]
          exact And.intro hv (br_t (by simpa using cc) (nm_r (nI_1 p) hW))
    · rw [if_neg c2] at hp
      exact br_f c2 (hp _ hu)
end
end
section
/-! write, truncate, the constructors: the owed statements -/
section
variable {ib db nd lim m : Nat} {g : sf_G} {l A B : List sf_R} {r : sf_R}
theorem sf_M_wr2 (hZ : sf_Z ib db nd lim) (hM : sf_M ib db nd g l) {i k : Nat} (i1 : 1 ≤ i) (i2 : i ≤ 4 * ib) (hk : k < 3) (hmm : g 0 i ≠ 0) (w : Int32) : sf_M ib db nd (sf_wr2 ib db nd lim g l i k w).2.1 (sf_wr2 ib db nd lim g l i k w).2.2 := by
  have hM0 := hM
  obtain ⟨z1, z2, z3, z4, z5, z6, z7, z8⟩ := hZ
  obtain ⟨h21, ⟨⟨p1, p2, p3⟩, pt, pd, pc⟩, hJ⟩ := hM
  rw [sf_wr2]
  by_cases c0 : g 2 (3 * i + k) = 0
  · rw [if_pos c0]
    rcases sf_fr_cases (g 18) nd with hf | ⟨b, b1, b2, hf, hb⟩
    · rw [if_pos hf]; exact hM0
    · rw [hf, if_neg (nI_ne0 (by omega) (by omega)), nI_clamp (show b < 2 ^ 31 by omega)]
      by_cases c : lim < l.length + 1
      · rw [if_pos c]; exact hM0
      · rw [if_neg c]
        have hlen2 : (l ++ [((3 : Int32), if g 19 b = 0 then 3 else 2, -1, nI i, nI b, nI k)]).length = l.length + 1 := List.length_append
        refine ⟨h21, ⟨⟨p1, p2, p3⟩, fun x hx => ⟨?_, (pt x hx).2⟩, fun x hx => ?_, ?_⟩, sf_J_alloc hJ i1 i2 hk hmm c0 (sf_nI_0 b1 (by omega))⟩
        · show ∃ y, y ≤ nd ∧ upd (g 2) (3 * i + k) (nI b) x = nI y
          by_cases e : x = 3 * i + k
          · subst e; rw [sf_upd_s]; exact ⟨b, b2, rfl⟩
          · rw [sf_upd_n e]; exact (pt x hx).1
        · exact sf_upd_01 (Or.inr rfl) (sf_upd_01 (Or.inr rfl) (sf_upd_01 (Or.inr rfl) (pd x hx)))
        · have hn := sf_nz_51 (sf_wra ib db g b i k w 2)
          dsimp only
          rw [hlen2]
          omega
  · rw [if_neg c0]
    exact ⟨h21, ⟨⟨p1, p2, p3⟩, pt, fun x hx => sf_upd_01 (Or.inr rfl) (pd x hx), pc⟩, hJ⟩
theorem sf_M_tr2 (hZ : sf_Z ib db nd lim) (hM : sf_M ib db nd g l) {i k : Nat} (i1 : 1 ≤ i) (i2 : i ≤ 4 * ib) (hk : k < 3) : sf_M ib db nd (sf_tr2 lim g l i k).2.1 (sf_tr2 lim g l i k).2.2 := by
  have hM0 := hM
  obtain ⟨z1, z2, z3, z4, z5, z6, z7, z8⟩ := hZ
  obtain ⟨h21, ⟨⟨p1, p2, p3⟩, pt, pd, pc⟩, hJ⟩ := hM
  rw [sf_tr2]
  by_cases c0 : sf_tn g i k = 0
  · rw [if_pos c0]; exact hM0
  · rw [if_neg c0]
    by_cases c : lim < l.length + sf_tn g i k
    · rw [if_pos c]; exact hM0
    · rw [if_neg c]
      have J1 := sf_J_dk (ib := ib) (db := db) (nd := nd) (m := 17) i1 i2 (by omega) (3 - k) k (g, l) (by omega) hJ (fun x hx => (pt x hx).1)
      have hlen : (sf_dk i (3 - k) k (g, l)).2.length + sf_nz ((sf_dk i (3 - k) k (g, l)).1 2) ≤ l.length + sf_nz (g 2) := sf_dk_len (by omega) (3 - k) k (g, l) (by omega)
      have fr : ∀ f, f ≠ 2 → (sf_dk i (3 - k) k (g, l)).1 f = g f := fun f h => sf_dk_fr h (3 - k) k (g, l)
      have f5 := fr 5 (by decide)
      have f6 := fr 6 (by decide)
      have f7 := fr 7 (by decide)
      have f8 := fr 8 (by decide)
      have f9 := fr 9 (by decide)
      have f10 := fr 10 (by decide)
      have f11 := fr 11 (by decide)
      have f20 := fr 20 (by decide)
      have f21 := fr 21 (by decide)
      have h2 : ∀ x, x < 51 → ∃ b, b ≤ nd ∧ (sf_dk i (3 - k) k (g, l)).1 2 x = nI b := by
        intro x hx
        rw [sf_dk_2]
        split
        · exact ⟨0, by omega, rfl⟩
        · exact (pt x hx).1
      show sf_M ib db nd (sf_dI (sf_dk i (3 - k) k (g, l)).1 i) (sf_dk i (3 - k) k (g, l)).2
      generalize sf_dk i (3 - k) k (g, l) = s at J1 hlen f5 f6 f7 f8 f9 f10 f11 f20 f21 h2
      refine ⟨?_, ⟨⟨?_, ?_, ?_⟩, fun x hx => ⟨h2 x hx, ?_⟩, fun x hx => ?_, ?_⟩, J1⟩
      · show s.1 21 0 = 1
        rw [f21]; exact h21
      · show sf_pr (4 * db) (s.1 6) (s.1 7)
        rw [f6, f7]; exact p1
      · show sf_pr (4 * db) (s.1 8) (s.1 9)
        rw [f8, f9]; exact p2
      · show sf_pr (4 * db) (s.1 10) (s.1 11)
        rw [f10, f11]; exact p3
      · show ∃ b, b ≤ nd ∧ s.1 5 x = nI b
        rw [f5]; exact (pt x hx).2
      · show upd (s.1 20) (1 + (i - 1) / 4) 1 x = 0 ∨ upd (s.1 20) (1 + (i - 1) / 4) 1 x = 1
        rw [f20]
        exact sf_upd_01 (Or.inr rfl) (pd x hx)
      · have e2 : sf_dI s.1 i 2 = s.1 2 := rfl
        rw [e2]
        omega
end
theorem i_vc_write {k : Nat} {u : SX} {v : SY} (I : i_Rel k u v) (hk : k + 4 ≤ 2052) (v1 : Int32) (v2 : Int32) (v3 : Int32) : wpX_write (fun r u' => wpY_write (fun r' v' => r' = r ∧ i_Rel (k + 4) u' v') v v1 v2 v3) u v1 v2 v3 := by
  obtain ⟨ib, db, nd, lim, g, l, hZ, hX, hY, hI⟩ := I
  have hI' : sf_M ib db nd (sf_wrv ib db nd lim g l v1 v2 v3).2.1 (sf_wrv ib db nd lim g l v1 v2 v3).2.2 ∨ sf_U ib db nd (sf_wrv ib db nd lim g l v1 v2 v3).2.1 (sf_wrv ib db nd lim g l v1 v2 v3).2.2 := by
    have z := hZ
    obtain ⟨z1, z2, z3, z4, z5, z6, z7, z8⟩ := z
    rw [sf_wrv]
    by_cases hm : g 21 0 = 0
    · rw [if_pos hm]; exact hI
    rw [if_neg hm]
    have hM := sf_MU hI hm
    cases hb : sf_bad v1 with
    | true => rw [if_pos rfl]; exact hI
    | false =>
      rw [if_neg Bool.false_ne_true]
      by_cases c1 : v2 < 0
      · rw [if_pos c1]; exact hI
      rw [if_neg c1]
      by_cases c2 : v2 ≤ 2
      · rw [if_pos c2]
        obtain ⟨j, j1, rfl⟩ := sf_le 2 rfl (by decide) c1 c2
        rcases sf_fn_cases db g v1 with hf | ⟨e, he, hf, hx⟩
        · rw [if_pos hf]; exact hI
        · obtain ⟨i, i1, i2, hi7⟩ := sf_found hZ hM hb he hx
          rw [hf, if_neg (sf_nI_m1 (by omega)), nI_clamp (show e < 2 ^ 31 by omega), hi7, nI_clamp (show i < 2 ^ 31 by omega), nI_clamp (show j < 2 ^ 31 by omega)]
          exact Or.inl (sf_M_wr2 hZ hM i1 i2 (by omega) (sf_mm_of hZ hM he i1 i2 hi7) _)
      · rw [if_neg c2]; exact hI
  exact sf_X_write hZ hX (sf_MU hI) _ _ _ (fun u' hu' => sf_Y_write hZ hY (sf_MU hI) _ _ _ (fun v' hv' => ⟨rfl, ib, db, nd, lim, _, _, hZ, hu', hv', hI'⟩))
theorem i_vc_truncate {k : Nat} {u : SX} {v : SY} (I : i_Rel k u v) (hk : k + 4 ≤ 2052) (v1 : Int32) (v2 : Int32) : wpX_truncate (fun r u' => wpY_truncate (fun r' v' => r' = r ∧ i_Rel (k + 4) u' v') v v1 v2) u v1 v2 := by
  obtain ⟨ib, db, nd, lim, g, l, hZ, hX, hY, hI⟩ := I
  have hI' : sf_M ib db nd (sf_trv db lim g l v1 v2).2.1 (sf_trv db lim g l v1 v2).2.2 ∨ sf_U ib db nd (sf_trv db lim g l v1 v2).2.1 (sf_trv db lim g l v1 v2).2.2 := by
    have z := hZ
    obtain ⟨z1, z2, z3, z4, z5, z6, z7, z8⟩ := z
    rw [sf_trv]
    by_cases hm : g 21 0 = 0
    · rw [if_pos hm]; exact hI
    rw [if_neg hm]
    have hM := sf_MU hI hm
    cases hb : sf_bad v1 with
    | true => rw [if_pos rfl]; exact hI
    | false =>
      rw [if_neg Bool.false_ne_true]
      by_cases c1 : v2 < 0
      · rw [if_pos c1]; exact hI
      rw [if_neg c1]
      by_cases c2 : v2 ≤ 2
      · rw [if_pos c2]
        obtain ⟨j, j1, rfl⟩ := sf_le 2 rfl (by decide) c1 c2
        rcases sf_fn_cases db g v1 with hf | ⟨e, he, hf, hx⟩
        · rw [if_pos hf]; exact hI
        · obtain ⟨i, i1, i2, hi7⟩ := sf_found hZ hM hb he hx
          rw [hf, if_neg (sf_nI_m1 (by omega)), nI_clamp (show e < 2 ^ 31 by omega), hi7, nI_clamp (show i < 2 ^ 31 by omega), nI_clamp (show j < 2 ^ 31 by omega)]
          exact Or.inl (sf_M_tr2 hZ hM i1 i2 (by omega))
      · rw [if_neg c2]; exact hI
  exact sf_X_truncate hZ hX (sf_MU hI) _ _ (fun u' hu' => sf_Y_truncate hZ hY (sf_MU hI) _ _ (fun v' hv' => ⟨rfl, ib, db, nd, lim, _, _, hZ, hu', hv', hI'⟩))
def sf_g0 : sf_G := sf_st (fun _ _ => 0) 21 (fun _ => 1)
theorem sf_M_0 {ib db nd lim : Nat} (hZ : sf_Z ib db nd lim) : sf_M ib db nd sf_g0 [] := by
  obtain ⟨z1, z2, z3, z4, z5, z6, z7, z8⟩ := hZ
  have hn := sf_nz_51 (sf_g0 2)
  refine ⟨rfl, ⟨⟨fun _ _ => Iff.rfl, fun _ _ => Iff.rfl, fun _ _ => Iff.rfl⟩, fun x _ => ⟨⟨0, by omega, rfl⟩, ⟨0, by omega, rfl⟩⟩, fun x _ => Or.inl rfl, ?_⟩, ⟨by omega, fun r hr => (by cases hr), List.Pairwise.nil, fun e _ => ⟨⟨0, by omega, rfl⟩, ⟨0, by omega, rfl⟩, ⟨0, by omega, rfl⟩, fun z => absurd rfl z, fun z => absurd rfl z, fun z => absurd rfl z⟩, fun i _ _ => ⟨fun z => absurd rfl z, fun z => absurd rfl z⟩⟩⟩
  rw [List.length_nil]
  omega
theorem i_vc0 (k0 : Int32) (k1 : Int32) (k2 : Int32) (k3 : Int32) : wpX_init (fun u => wpY_init (fun v => i_Rel 4 u v) k0 k1 k2 k3) k0 k1 k2 k3 := by
  obtain ⟨ib, a1, a2, aX, aY⟩ := sf_clamp 1 4 (by omega) (by decide) k0
  obtain ⟨db, b1, b2, bX, bY⟩ := sf_clamp 1 4 (by omega) (by decide) k1
  obtain ⟨nd, c1, c2, cX, cY⟩ := sf_clamp 2 16 (by omega) (by decide) k2
  obtain ⟨lim, d1, d2, dX, dY⟩ := sf_clamp 4 48 (by omega) (by decide) k3
  have hZ : sf_Z ib db nd lim := ⟨a1, a2, b1, b2, c1, c2, d1, d2⟩
  have e1 : (4 : Int32) * nI ib = nI (4 * ib) := pk_mul 4 ib
  have e2 : (4 : Int32) * nI db = nI (4 * db) := pk_mul 4 db
  have e3 : ((1 + nI ib) + nI db) + nI nd = nI (1 + ib + db + nd) := by
    show ((nI 1 + nI ib) + nI db) + nI nd = _
    rw [nI_add, nI_add, nI_add]
  refine aX _ _ (bX _ _ (cX _ _ (dX _ _ (nm_r e1 (nm_r e2 (nm_r e3 ?_))))))
  refine aY _ _ (bY _ _ (cY _ _ (dY _ _ (nm_r e1 (nm_r e2 (nm_r e3 ?_))))))
  exact ⟨ib, db, nd, lim, sf_g0, [], hZ, ⟨Nat.zero_le _, fun _ _ => 0, rfl, sf_A_nil _⟩, ⟨Nat.zero_le _, fun _ _ => 0, rfl, sf_A_nil _⟩, Or.inl (sf_M_0 hZ)⟩
end
