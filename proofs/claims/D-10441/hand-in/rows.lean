section
/-! int rows -/
theorem pb_ad {a b : Int32} (h1 : -1000000000 ≤ a.toInt + b.toInt) (h2 : a.toInt + b.toInt ≤ 1000000000) : (a + b).toInt = a.toInt + b.toInt := by
  rw [Int32.toInt_add]
  exact Int.bmod_eq_of_le (by omega) (by omega)
theorem pb_sb {a b : Int32} (h1 : -1000000000 ≤ a.toInt - b.toInt) (h2 : a.toInt - b.toInt ≤ 1000000000) : (a - b).toInt = a.toInt - b.toInt := by
  rw [Int32.toInt_sub]
  exact Int.bmod_eq_of_le (by omega) (by omega)
theorem pb_ml {a b : Int32} (h1 : -1000000000 ≤ a.toInt * b.toInt) (h2 : a.toInt * b.toInt ≤ 1000000000) : (a * b).toInt = a.toInt * b.toInt := by
  rw [Int32.toInt_mul]
  exact Int.bmod_eq_of_le (by omega) (by omega)
theorem pb_far : (1000000 : Int32).toInt = 1000000 := by decide
theorem pb_none : (-1000000 : Int32).toInt = -1000000 := by decide
theorem pb_i0 : (0 : Int32).toInt = 0 := by decide
theorem pb_i1 : (1 : Int32).toInt = 1 := by decide
theorem pb_im1 : (-1 : Int32).toInt = -1 := by decide
theorem pb_byte {x : Int32} (h1 : -128 ≤ x.toInt) (h2 : x.toInt ≤ 127) : x.toInt8.toInt32 = x := by
  apply Int32.toInt_inj.mp
  rw [Int8.toInt_toInt32, Int32.toInt_toInt8]
  exact Int.bmod_eq_of_le (by omega) (by omega)
/-! branches by the ints behind -/
theorem pb_ble {x y : Int32} {A B : Prop} (a b : Int) (hx : x.toInt = a) (hy : y.toInt = b) (f : a ≤ b → A) (g : b < a → B) : (x ≤ y → A) ∧ (¬ x ≤ y → B) := by
  subst hx hy
  rw [Int32.le_iff_toInt_le]
  exact ⟨f, fun z => g (by omega)⟩
theorem pb_blt {x y : Int32} {A B : Prop} (a b : Int) (hx : x.toInt = a) (hy : y.toInt = b) (f : a < b → A) (g : b ≤ a → B) : (x < y → A) ∧ (¬ x < y → B) := by
  subst hx hy
  rw [Int32.lt_iff_toInt_lt]
  exact ⟨f, fun z => g (by omega)⟩
theorem pb_beq {x y : Int32} {A B : Prop} (a b : Int) (hx : x.toInt = a) (hy : y.toInt = b) (f : a = b → A) (g : a ≠ b → B) : (x = y → A) ∧ (¬ x = y → B) := by
  subst hx hy
  rw [← Int32.toInt_inj]
  exact ⟨f, g⟩
/-! least values: 1000000 stands for 'none' -/
def pb_LS (P : Int → Prop) (v : Int) : Prop := (∀ x, P x → v ≤ x) ∧ ((v < 1000000 ∧ P v) ∨ (v = 1000000 ∧ ∀ x, ¬ P x))
theorem pb_ls_u {P : Int → Prop} {v v' : Int} (h : pb_LS P v) (h' : pb_LS P v') : v = v' := by
  obtain ⟨h1, h2⟩ := h
  obtain ⟨h3, h4⟩ := h'
  rcases h2 with ⟨_, h2⟩ | ⟨e, h2⟩
  · rcases h4 with ⟨_, h4⟩ | ⟨_, h4⟩
    · have a := h1 _ h4
      have b := h3 _ h2
      omega
    · exact absurd h2 (h4 _)
  · rcases h4 with ⟨_, h4⟩ | ⟨e', h4⟩
    · exact absurd h4 (h2 _)
    · omega
theorem pb_ls_le {P : Int → Prop} {v : Int} (h : pb_LS P v) : v ≤ 1000000 := by
  rcases h.2 with ⟨h2, _⟩ | ⟨e, _⟩ <;> omega
theorem pb_ls_p {P : Int → Prop} {v : Int} (h : pb_LS P v) (hv : v < 1000000) : P v := by
  rcases h.2 with ⟨_, h2⟩ | ⟨e, _⟩
  · exact h2
  · omega
theorem pb_ls_n {P : Int → Prop} {v : Int} (h : pb_LS P v) (hv : 1000000 ≤ v) : ∀ x, ¬ P x := by
  rcases h.2 with ⟨h2, _⟩ | ⟨_, h2⟩
  · omega
  · exact h2
theorem pb_ls_c {P Q : Int → Prop} {v : Int} (e : ∀ x, P x ↔ Q x) (h : pb_LS P v) : pb_LS Q v := by
  have : P = Q := funext (fun x => propext (e x))
  rw [← this]
  exact h
theorem pb_ls_0 {P : Int → Prop} (h : ∀ x, ¬ P x) : pb_LS P 1000000 := ⟨fun x hx => absurd hx (h x), Or.inr ⟨rfl, h⟩⟩
theorem pb_ls_1 {P : Int → Prop} (h : ∀ x, P x ↔ x = 0) : pb_LS P 0 := ⟨fun x hx => by rw [(h x).mp hx]; exact Int.le_refl 0, Or.inl ⟨by decide, (h 0).mpr rfl⟩⟩
/-- one more choice, not to be had -/
theorem pb_ls_s1 {P Q R : Int → Prop} {v l : Int} (h : pb_LS P v) (hl : 1000000 ≤ l) (e : ∀ x, Q x ↔ P x ∨ (l < 1000000 ∧ R (x - l))) : pb_LS Q v :=
  pb_ls_c (fun x => ⟨fun z => (e x).mpr (Or.inl z), fun z => by rcases (e x).mp z with z | ⟨z, _⟩; exact z; omega⟩) h
theorem pb_ls_s2 {P Q R : Int → Prop} {v l r : Int} (h : pb_LS P v) (hr : pb_LS R r) (h1 : 1000000 ≤ r) (e : ∀ x, Q x ↔ P x ∨ (l < 1000000 ∧ R (x - l))) : pb_LS Q v :=
  pb_ls_c (fun x => ⟨fun z => (e x).mpr (Or.inl z), fun z => by
    rcases (e x).mp z with z | ⟨_, z⟩
    · exact z
    · exact absurd z (pb_ls_n hr h1 _)⟩) h
/-- one more choice, no better -/
theorem pb_ls_s3 {P Q R : Int → Prop} {v l r : Int} (h : pb_LS P v) (hr : pb_LS R r) (hl : l < 1000000) (h1 : r < 1000000) (h3 : v ≤ l + r) (hb : l + r < 1000000) (e : ∀ x, Q x ↔ P x ∨ (l < 1000000 ∧ R (x - l))) : pb_LS Q v := by
  refine ⟨fun x hx => ?_, ?_⟩
  · rcases (e x).mp hx with z | ⟨_, z⟩
    · exact h.1 x z
    · have := hr.1 _ z
      omega
  · rcases h.2 with ⟨a, z⟩ | ⟨a, z⟩
    · exact Or.inl ⟨a, (e v).mpr (Or.inl z)⟩
    · omega
/-- one more choice, better -/
theorem pb_ls_s4 {P Q R : Int → Prop} {v l r : Int} (h : pb_LS P v) (hr : pb_LS R r) (hl : l < 1000000) (h1 : r < 1000000) (h3 : l + r < v) (e : ∀ x, Q x ↔ P x ∨ (l < 1000000 ∧ R (x - l))) : pb_LS Q (l + r) := by
  refine ⟨fun x hx => ?_, Or.inl ⟨?_, ?_⟩⟩
  · rcases (e x).mp hx with z | ⟨_, z⟩
    · have := h.1 x z
      omega
    · have := hr.1 _ z
      omega
  · have := pb_ls_le h
    omega
  · refine (e _).mpr (Or.inr ⟨hl, ?_⟩)
    rw [show l + r - l = r by omega]
    exact pb_ls_p hr h1
/-- there is a least value -/
theorem pb_ls_ex {P : Int → Prop} (hb : ∀ x, P x → -1000 ≤ x ∧ x < 1000000) : ∃ v, pb_LS P v := by
  by_cases h : ∃ x, P x
  · obtain ⟨x, hx⟩ := h
    obtain ⟨k, hk, hm⟩ := pk_least (fun k : Nat => P ((k : Int) - 1000)) ⟨(x + 1000).toNat, by
      have := hb x hx
      show P (((x + 1000).toNat : Int) - 1000)
      rw [show ((x + 1000).toNat : Int) - 1000 = x by omega]
      exact hx⟩
    refine ⟨(k : Int) - 1000, fun y hy => ?_, Or.inl ⟨(hb _ hk).2, hk⟩⟩
    have hy' := hb y hy
    rcases Int.lt_or_le y ((k : Int) - 1000) with z | z
    · refine absurd ?_ (hm (y + 1000).toNat (by omega))
      show P (((y + 1000).toNat : Int) - 1000)
      rw [show ((y + 1000).toNat : Int) - 1000 = y by omega]
      exact hy
    · exact z
  · exact ⟨1000000, pb_ls_0 (fun x hx => h ⟨x, hx⟩)⟩
/-! paths of n lines from break p to break q, at the cost x -/
def pb_pt (L : Nat → Nat → Int) : Nat → Nat → Nat → Int → Prop
  | 0, p, q, x => p = q ∧ x = 0
  | n + 1, p, q, x => ∃ r, p < r ∧ L p r < 1000000 ∧ pb_pt L n r q (x - L p r)
def pb_pa (L : Nat → Nat → Int) (p q : Nat) (x : Int) : Prop := ∃ n, pb_pt L n p q x
def pb_LB (L : Nat → Nat → Int) (c : Nat) : Prop := ∀ p q, p < q → q ≤ c → L p q < 1000000 → -40 ≤ L p q ∧ L p q ≤ 4000
theorem pb_pt_le {L : Nat → Nat → Int} : ∀ n p q x, pb_pt L n p q x → p + n ≤ q := by
  intro n
  induction n with
  | zero => intro p q x h; have := h.1; omega
  | succ n ih =>
    intro p q x h
    obtain ⟨r, h1, _, h2⟩ := h
    have := ih r q _ h2
    omega
theorem pb_pt_b {L : Nat → Nat → Int} {c : Nat} (hL : pb_LB L c) : ∀ n p q x, q ≤ c → pb_pt L n p q x → -40 * (n : Int) ≤ x ∧ x ≤ 4000 * (n : Int) := by
  intro n
  induction n with
  | zero => intro p q x _ h; have := h.2; omega
  | succ n ih =>
    intro p q x hq h
    obtain ⟨r, h1, h3, h2⟩ := h
    have a := ih r q _ hq h2
    have b := pb_pt_le n r q _ h2
    have d := hL p r h1 (by omega) h3
    omega
theorem pb_pt_b10 {L : Nat → Nat → Int} {c n p q : Nat} {x : Int} (hL : pb_LB L c) (hc : c ≤ 10) (hq : q ≤ c) (h : pb_pt L n p q x) : -400 ≤ x ∧ x ≤ 40000 := by
  have a := pb_pt_b hL n p q x hq h
  have b := pb_pt_le n p q x h
  omega
theorem pb_pt_cat {L : Nat → Nat → Int} {m r q : Nat} {y : Int} (h2 : pb_pt L m r q y) : ∀ n p x, pb_pt L n p r x → pb_pt L (n + m) p q (x + y) := by
  intro n
  induction n with
  | zero =>
    intro p x h
    obtain ⟨rfl, rfl⟩ := h
    rw [Nat.zero_add, Int.zero_add]
    exact h2
  | succ n ih =>
    intro p x h
    obtain ⟨s, h1, h3, h4⟩ := h
    rw [show n + 1 + m = (n + m) + 1 by omega]
    refine ⟨s, h1, h3, ?_⟩
    have := ih s _ h4
    rw [show x + y - L p s = x - L p s + y by omega]
    exact this
theorem pb_pt_one {L : Nat → Nat → Int} {p q : Nat} (h : p < q) (hl : L p q < 1000000) : pb_pt L 1 p q (L p q) := ⟨q, h, hl, rfl, by omega⟩
theorem pb_pt_snoc {L : Nat → Nat → Int} : ∀ n p q x, pb_pt L (n + 1) p q x → ∃ r, r < q ∧ L r q < 1000000 ∧ pb_pt L n p r (x - L r q) := by
  intro n
  induction n with
  | zero =>
    intro p q x h
    obtain ⟨r, h1, h2, h3, h4⟩ := h
    subst h3
    exact ⟨p, h1, h2, rfl, h4⟩
  | succ n ih =>
    intro p q x h
    obtain ⟨r, h1, h2, h3⟩ := h
    obtain ⟨s, h4, h5, h6⟩ := ih r q _ h3
    refine ⟨s, h4, h5, r, h1, h2, ?_⟩
    rw [show x - L s q - L p r = x - L p r - L s q by omega]
    exact h6
theorem pb_pa_cons {L : Nat → Nat → Int} {p q : Nat} (h : p < q) (x : Int) : pb_pa L p q x ↔ ∃ r, p < r ∧ r < q + 1 ∧ L p r < 1000000 ∧ pb_pa L r q (x - L p r) := by
  constructor
  · rintro ⟨n, hn⟩
    cases n with
    | zero => have := hn.1; omega
    | succ n =>
      obtain ⟨r, h1, h2, h3⟩ := hn
      have := pb_pt_le n r q _ h3
      exact ⟨r, h1, by omega, h2, n, h3⟩
  · rintro ⟨r, h1, _, h2, n, h3⟩
    exact ⟨n + 1, r, h1, h2, h3⟩
theorem pb_pa_snoc {L : Nat → Nat → Int} {q : Nat} (h : 0 < q) (x : Int) : pb_pa L 0 q x ↔ ∃ r, r < q ∧ L r q < 1000000 ∧ pb_pa L 0 r (x - L r q) := by
  constructor
  · rintro ⟨n, hn⟩
    cases n with
    | zero => have := hn.1; omega
    | succ n =>
      obtain ⟨r, h1, h2, h3⟩ := pb_pt_snoc n 0 q x hn
      exact ⟨r, h1, h2, n, h3⟩
  · rintro ⟨r, h1, h2, n, h3⟩
    refine ⟨n + 1, ?_⟩
    have := pb_pt_cat (pb_pt_one h1 h2) n 0 _ h3
    rw [show x - L r q + L r q = x by omega] at this
    exact this
theorem pb_pa_self {L : Nat → Nat → Int} {p : Nat} (x : Int) : pb_pa L p p x ↔ x = 0 := by
  constructor
  · rintro ⟨n, hn⟩
    have := pb_pt_le n p p x hn
    obtain rfl : n = 0 := by omega
    exact hn.2
  · rintro rfl
    exact ⟨0, rfl, rfl⟩
theorem pb_pa_cat {L : Nat → Nat → Int} {p r q : Nat} {x y : Int} (h1 : pb_pa L p r x) (h2 : pb_pa L r q y) : pb_pa L p q (x + y) := by
  obtain ⟨n, h1⟩ := h1
  obtain ⟨m, h2⟩ := h2
  exact ⟨n + m, pb_pt_cat h2 n p x h1⟩
theorem pb_pa_b {L : Nat → Nat → Int} {c p q : Nat} {x : Int} (hL : pb_LB L c) (hc : c ≤ 10) (hq : q ≤ c) (h : pb_pa L p q x) : -400 ≤ x ∧ x ≤ 40000 := by
  obtain ⟨n, h⟩ := h
  exact pb_pt_b10 hL hc hq h
/-- a way from p to q by single words -/
theorem pb_feas {L : Nat → Nat → Int} {c : Nat} (hs : ∀ p, p < c → L p (p + 1) < 1000000) : ∀ k p, p + k ≤ c → ∃ x, pb_pa L p (p + k) x := by
  intro k
  induction k with
  | zero => intro p _; exact ⟨0, (pb_pa_self 0).mpr rfl⟩
  | succ k ih =>
    intro p hp
    obtain ⟨x, hx⟩ := ih p (by omega)
    exact ⟨_, pb_pa_cat hx ⟨1, pb_pt_one (by omega) (hs (p + k) (by omega))⟩⟩
/-- a path either comes by the break v or is one that never breaks there -/
theorem pb_split {L L' : Nat → Nat → Int} {v q : Nat} (hL : ∀ p r, p < r → r ≠ v → L' p r = L p r) : ∀ n p x, pb_pt L n p q x → (∃ y z, pb_pa L p v y ∧ pb_pa L v q z ∧ x = y + z) ∨ pb_pt L' n p q x := by
  intro n
  induction n with
  | zero => intro p x h; exact Or.inr h
  | succ n ih =>
    intro p x h
    obtain ⟨r, h1, h2, h3⟩ := h
    by_cases e : r = v
    · subst e
      exact Or.inl ⟨L p r, x - L p r, ⟨1, pb_pt_one h1 h2⟩, ⟨n, h3⟩, by omega⟩
    · rcases ih r _ h3 with ⟨y, z, a1, a2, a3⟩ | a
      · exact Or.inl ⟨L p r + y, z, pb_pa_cat ⟨1, pb_pt_one h1 h2⟩ a1, a2, by omega⟩
      · refine Or.inr ⟨r, h1, ?_, ?_⟩
        · rw [hL p r h1 e]; exact h2
        · rw [hL p r h1 e]; exact a
/-- a path that never breaks at v is a path -/
theorem pb_weak {L L' : Nat → Nat → Int} (hL : ∀ p r, p < r → L' p r < 1000000 → L' p r = L p r) : ∀ n p q x, pb_pt L' n p q x → pb_pt L n p q x := by
  intro n
  induction n with
  | zero => intro p q x h; exact h
  | succ n ih =>
    intro p q x h
    obtain ⟨r, h1, h2, h3⟩ := h
    have e := hL p r h1 h2
    rw [e] at h2 h3
    exact ⟨r, h1, h2, ih r q _ h3⟩
/-! partial choices, as the loops go through them -/
def pb_PS (L : Nat → Nat → Int) (p : Nat) (R : Nat → Int → Prop) (i : Nat) (x : Int) : Prop := ∃ r, p < r ∧ r < i ∧ L p r < 1000000 ∧ R r (x - L p r)
theorem pb_PS_0 {L : Nat → Nat → Int} {p : Nat} {R : Nat → Int → Prop} {i : Nat} (h : i ≤ p + 1) : ∀ x, ¬ pb_PS L p R i x := by
  rintro x ⟨r, h1, h2, _⟩
  omega
theorem pb_PS_s {L : Nat → Nat → Int} {p : Nat} {R : Nat → Int → Prop} {i : Nat} (h : p < i) (x : Int) : pb_PS L p R (i + 1) x ↔ pb_PS L p R i x ∨ (L p i < 1000000 ∧ R i (x - L p i)) := by
  constructor
  · rintro ⟨r, h1, h2, h3, h4⟩
    by_cases e : r = i
    · subst e; exact Or.inr ⟨h3, h4⟩
    · exact Or.inl ⟨r, h1, by omega, h3, h4⟩
  · rintro (⟨r, h1, h2, h3, h4⟩ | ⟨h3, h4⟩)
    · exact ⟨r, h1, by omega, h3, h4⟩
    · exact ⟨i, h, by omega, h3, h4⟩
theorem pb_PS_pt {L : Nat → Nat → Int} {p c n i : Nat} (hi : c < i) (x : Int) : pb_PS L p (fun r y => pb_pt L n r c y) i x ↔ pb_pt L (n + 1) p c x := by
  constructor
  · rintro ⟨r, h1, h2, h3, h4⟩
    exact ⟨r, h1, h3, h4⟩
  · rintro ⟨r, h1, h3, h4⟩
    have := pb_pt_le n r c _ h4
    exact ⟨r, h1, by omega, h3, h4⟩
theorem pb_PS_pa {L : Nat → Nat → Int} {p c : Nat} (hp : p < c) (x : Int) : pb_PS L p (fun r y => pb_pa L r c y) (c + 1) x ↔ pb_pa L p c x := (pb_pa_cons hp x).symm
def pb_PU (L : Nat → Nat → Int) (q : Nat) (i : Nat) (x : Int) : Prop := ∃ r, r < i ∧ L r q < 1000000 ∧ pb_pa L 0 r (x - L r q)
theorem pb_PU_0 {L : Nat → Nat → Int} {q : Nat} : ∀ x, ¬ pb_PU L q 0 x := by
  rintro x ⟨r, h1, _⟩
  omega
theorem pb_PU_s {L : Nat → Nat → Int} {q i : Nat} (x : Int) : pb_PU L q (i + 1) x ↔ pb_PU L q i x ∨ (L i q < 1000000 ∧ pb_pa L 0 i (x - L i q)) := by
  constructor
  · rintro ⟨r, h1, h3, h4⟩
    by_cases e : r = i
    · subst e; exact Or.inr ⟨h3, h4⟩
    · exact Or.inl ⟨r, by omega, h3, h4⟩
  · rintro (⟨r, h2, h3, h4⟩ | ⟨h3, h4⟩)
    · exact ⟨r, by omega, h3, h4⟩
    · exact ⟨i, by omega, h3, h4⟩
theorem pb_PU_pa {L : Nat → Nat → Int} {q : Nat} (hq : 0 < q) (x : Int) : pb_PU L q q x ↔ pb_pa L 0 q x := (pb_pa_snoc hq x).symm
end
section
/-! the length of a line -/
def pb_sm (a : Nat → Int32) (p : Nat) : Nat → Int
  | 0 => 0
  | k + 1 => pb_sm a p k + (a (p + k)).toInt
theorem pb_sm_b {a : Nat → Int32} {p q : Nat} (ha : ∀ i, i < q → 1 ≤ (a i).toInt ∧ (a i).toInt ≤ 12) : ∀ k, p + k ≤ q → (k : Int) ≤ pb_sm a p k ∧ pb_sm a p k ≤ 12 * (k : Int) := by
  intro k
  induction k with
  | zero => intro _; exact ⟨by show (0 : Int) ≤ 0; omega, by show (0 : Int) ≤ 12 * 0; omega⟩
  | succ k ih =>
    intro h
    have a1 := ih (by omega)
    have a2 := ha (p + k) (by omega)
    have e : pb_sm a p (k + 1) = pb_sm a p k + (a (p + k)).toInt := rfl
    omega
theorem pb_len {post : Int32 → Prop} {W E C b : Int32} {a1 a2 a3 a4 a5 a6 : Nat → Int32} {p q : Nat} (h : p < q) (hq : q ≤ 10) (ha : ∀ i, i < q → 1 ≤ (a1 i).toInt ∧ (a1 i).toInt ≤ 12)
    (H : ∀ r : Int32, r.toInt = 2 * ((q : Int) - p - 1) + pb_sm a1 p (q - p) → post r) : wpX_length post (W, E, C, b, a1, a2, a3, a4, a5, a6) (nI p) (nI q) := by
  unfold wpX_length
  have e0 : ((nI q - nI p) - 1) * 2 = nI ((q - p - 1) * 2) := by
    rw [pk_sub (by omega)]
    obtain ⟨k, hk⟩ : ∃ k, q - p = k + 1 := ⟨q - p - 1, by omega⟩
    rw [hk, nI_pred, Nat.add_sub_cancel]
    exact pk_mul k 2
  refine nm_r e0 ?_
  refine pk_loop (σ := Int32) (fun n i s => wX_length_11 post (nI q) W E C b a1 a2 a3 a4 a5 a6 n s (nI i)) (fun i s => p ≤ i ∧ s.toInt = 2 * ((q : Int) - p - 1) + pb_sm a1 p (i - p)) q p _ (by omega) ⟨Nat.le_refl p, ?_⟩ ?_ ?_
  · rw [nI_toInt (by omega), Nat.sub_self]
    show _ = 2 * ((q : Int) - p - 1) + 0
    omega
  · intro n s hs
    exact pk_le q q (fun _ => H s hs.2) (fun z => absurd z (by omega))
  · intro n i s hi hs hw
    refine pk_le q i (fun z => absurd z (by omega)) (fun _ => ⟨pk_in i 10 (by omega), nm_e (nm_r (nI_1 i) (hw _ ⟨by omega, ?_⟩))⟩)
    have b1 := pb_sm_b (p := p) ha (i - p) (by omega)
    have b2 := ha i hi
    have hs2 := hs.2
    have hs1 := hs.1
    rw [nI_clamp (by omega), pb_ad (by omega) (by omega), hs2, show i + 1 - p = (i - p) + 1 by omega]
    show _ = 2 * ((q : Int) - p - 1) + (pb_sm a1 p (i - p) + (a1 (p + (i - p))).toInt)
    rw [show p + (i - p) = i by omega]
    omega
/-! what a line costs -/
def pb_dd (W : Int) (a1 : Nat → Int32) (p q : Nat) : Int := W - (2 * ((q : Int) - p - 1) + pb_sm a1 p (q - p))
def pb_bd (d : Int) : Int := if d < 0 then 3 * d * d else d * d
def pb_L (W E : Int) (c : Nat) (a1 a2 : Nat → Int32) (b : Int) (p q : Nat) : Int :=
  if pb_dd W a1 p q < (p : Int) + 1 - q ∨ (q < c ∧ (q : Int) - 1 = b) then 1000000
  else if q = c then (if pb_dd W a1 p q < 0 then 3 * pb_dd W a1 p q * pb_dd W a1 p q else 0)
  else pb_bd (pb_dd W a1 p q) + (a2 (q - 1)).toInt + (if (0 < p ∧ 0 < (a2 (p - 1)).toInt) ∧ (0 < q ∧ 0 < (a2 (q - 1)).toInt) then E else 0)
theorem pb_sq : ∀ k : Fin 70, 0 ≤ ((k.val : Int) - 10) * ((k.val : Int) - 10) ∧ ((k.val : Int) - 10) * ((k.val : Int) - 10) ≤ 3600 ∧ ((k.val : Int) - 10 < 0 → 3 * ((k.val : Int) - 10) * ((k.val : Int) - 10) ≤ 300 ∧ 0 ≤ 3 * ((k.val : Int) - 10) * ((k.val : Int) - 10)) := by decide +kernel
theorem pb_sq2 {d : Int} (h1 : -10 ≤ d) (h2 : d < 60) : 0 ≤ d * d ∧ d * d ≤ 3600 ∧ (d < 0 → 3 * d * d ≤ 300 ∧ 0 ≤ 3 * d * d) := by
  have := pb_sq ⟨(d + 10).toNat, by omega⟩
  have e : (((d + 10).toNat : Nat) : Int) - 10 = d := by omega
  simp only [e] at this
  exact this
theorem pb_bd_b {d : Int} (h1 : -10 ≤ d) (h2 : d < 60) : 0 ≤ pb_bd d ∧ pb_bd d ≤ 3600 := by
  have := pb_sq2 h1 h2
  unfold pb_bd
  by_cases h : d < 0
  · rw [if_pos h]
    have := this.2.2 h
    omega
  · rw [if_neg h]
    omega
def pb_ok (W E : Int32) (c : Nat) (a1 a2 : Nat → Int32) : Prop := 12 ≤ W.toInt ∧ W.toInt ≤ 60 ∧ 0 ≤ E.toInt ∧ E.toInt ≤ 100 ∧ c ≤ 10 ∧ (∀ i, i < c → 1 ≤ (a1 i).toInt ∧ (a1 i).toInt ≤ 12) ∧ (∀ i, i < c → -40 ≤ (a2 i).toInt ∧ (a2 i).toInt ≤ 40)
theorem pb_dd_b {W : Int} {a1 : Nat → Int32} {p q : Nat} (hW : 12 ≤ W ∧ W ≤ 60) (ha : ∀ i, i < q → 1 ≤ (a1 i).toInt ∧ (a1 i).toInt ≤ 12) (h : p < q) (hq : q ≤ 10) : -200 ≤ pb_dd W a1 p q ∧ pb_dd W a1 p q < 60 := by
  have b1 := pb_sm_b (p := p) ha (q - p) (by omega)
  unfold pb_dd
  omega
theorem pb_L_b {W E : Int32} {c : Nat} {a1 a2 : Nat → Int32} {b : Int} (hk : pb_ok W E c a1 a2) : pb_LB (pb_L W.toInt E.toInt c a1 a2 b) c := by
  intro p q h hq hl
  obtain ⟨k1, k2, k3, k4, k5, k6, k7⟩ := hk
  have d := pb_dd_b (p := p) ⟨k1, k2⟩ (fun i hi => k6 i (by omega)) h (by omega)
  have k7' := k7 (q - 1) (by omega)
  unfold pb_L at hl ⊢
  by_cases e1 : pb_dd W.toInt a1 p q < (p : Int) + 1 - q ∨ (q < c ∧ (q : Int) - 1 = b)
  · rw [if_pos e1] at hl
    omega
  · rw [if_neg e1]
    have e2 : ¬ pb_dd W.toInt a1 p q < (p : Int) + 1 - q := fun z => e1 (Or.inl z)
    have s := pb_sq2 (d := pb_dd W.toInt a1 p q) (by omega) (by omega)
    have s2 := pb_bd_b (d := pb_dd W.toInt a1 p q) (by omega) (by omega)
    by_cases e3 : q = c
    · rw [if_pos e3]
      by_cases e4 : pb_dd W.toInt a1 p q < 0
      · rw [if_pos e4]
        have := s.2.2 e4
        omega
      · rw [if_neg e4]
        omega
    · rw [if_neg e3]
      by_cases e4 : (0 < p ∧ 0 < (a2 (p - 1)).toInt) ∧ (0 < q ∧ 0 < (a2 (q - 1)).toInt)
      · rw [if_pos e4]
        omega
      · rw [if_neg e4]
        omega
/-- a line of one word can always be -/
theorem pb_L_1 {W E : Int32} {c : Nat} {a1 a2 : Nat → Int32} (hk : pb_ok W E c a1 a2) : ∀ p, p < c → pb_L W.toInt E.toInt c a1 a2 (-1) p (p + 1) < 1000000 := by
  intro p hp
  obtain ⟨k1, k2, k3, k4, k5, k6, k7⟩ := hk
  have d0 : pb_dd W.toInt a1 p (p + 1) = W.toInt - (a1 p).toInt := by
    unfold pb_dd
    rw [show p + 1 - p = 0 + 1 by omega]
    show W.toInt - (2 * (((p + 1 : Nat) : Int) - p - 1) + (0 + (a1 p).toInt)) = _
    omega
  have d := k6 p hp
  have k7' := k7 p hp
  unfold pb_L
  rw [Nat.add_sub_cancel, d0]
  have e1 : ¬ (W.toInt - (a1 p).toInt < (p : Int) + 1 - ((p + 1 : Nat) : Int) ∨ (p + 1 < c ∧ ((p + 1 : Nat) : Int) - 1 = -1)) := by
    intro z
    rcases z with z | ⟨_, z⟩ <;> omega
  rw [if_neg e1]
  have s2 := pb_bd_b (d := W.toInt - (a1 p).toInt) (by omega) (by omega)
  by_cases e3 : p + 1 = c
  · rw [if_pos e3, if_neg (by omega)]
    omega
  · rw [if_neg e3]
    by_cases e4 : (0 < p ∧ 0 < (a2 (p - 1)).toInt) ∧ (0 < p + 1 ∧ 0 < (a2 p).toInt)
    · rw [if_pos e4]
      omega
    · rw [if_neg e4]
      omega
/-- a barred break: the same lines but those that end there -/
theorem pb_L_bar {W E : Int} {c : Nat} {a1 a2 : Nat → Int32} {i : Nat} (p q : Nat) (hq : p < q) (h : q ≠ i + 1) : pb_L W E c a1 a2 i p q = pb_L W E c a1 a2 (-1) p q := by
  unfold pb_L
  have e : (pb_dd W a1 p q < (p : Int) + 1 - q ∨ (q < c ∧ (q : Int) - 1 = (i : Int))) ↔ (pb_dd W a1 p q < (p : Int) + 1 - q ∨ (q < c ∧ (q : Int) - 1 = -1)) := by
    constructor
    · intro z
      rcases z with z | ⟨_, z⟩
      · exact Or.inl z
      · omega
    · intro z
      rcases z with z | ⟨_, z⟩
      · exact Or.inl z
      · omega
  by_cases e1 : pb_dd W a1 p q < (p : Int) + 1 - q ∨ (q < c ∧ (q : Int) - 1 = -1)
  · rw [if_pos e1, if_pos (e.mpr e1)]
  · rw [if_neg e1, if_neg (fun z => e1 (e.mp z))]
theorem pb_L_bar2 {W E : Int} {c : Nat} {a1 a2 : Nat → Int32} {i : Nat} (hi : i + 1 < c) (p : Nat) : pb_L W E c a1 a2 i p (i + 1) = 1000000 := by
  unfold pb_L
  exact if_pos (Or.inr ⟨hi, by omega⟩)
/-! lineCost -/
theorem pb_pen {post : Int32 → Prop} {W E C b : Int32} {a1 a2 a3 a4 a5 a6 : Nat → Int32} {p : Nat} (hp : p ≤ 10) (hf : ¬ (0 < p ∧ 0 < (a2 (p - 1)).toInt) → post 0) (ht : (0 < p ∧ 0 < (a2 (p - 1)).toInt) → post 1) : wpX_penalised post (W, E, C, b, a1, a2, a3, a4, a5, a6) (nI p) := by
  unfold wpX_penalised
  refine pk_le p 0 (fun z => hf (fun y => by omega)) (fun z => ?_)
  obtain ⟨k, rfl⟩ : ∃ k, p = k + 1 := ⟨p - 1, by omega⟩
  rw [nI_pred, nI_clamp (by omega)]
  rw [Nat.add_sub_cancel] at hf ht
  refine ⟨pk_in k 10 (by omega), pb_ble _ 0 rfl pb_i0 (fun y => hf (fun t => by omega)) (fun y => ht ⟨z, y⟩)⟩
theorem pb_105 {post : Int32 → Prop} {W E C b z0 e0 : Int32} {a1 a2 a3 a4 a5 a6 : Nat → Int32} {q : Nat} (h0 : 0 < q) (hq : q ≤ 10) (h : post ((z0 + a2 (q - 1)) + e0)) : wX_lineCost_105 post (nI q) z0 e0 W E C b a1 a2 a3 a4 a5 a6 := by
  obtain ⟨k, rfl⟩ : ∃ k, q = k + 1 := ⟨q - 1, by omega⟩
  unfold wX_lineCost_105
  rw [nI_pred, nI_clamp (by omega)]
  exact ⟨pk_in k 10 (by omega), h⟩
theorem pb_79 {post : Int32 → Prop} {W E C b z0 : Int32} {a1 a2 a3 a4 a5 a6 : Nat → Int32} {p q : Nat} {z : Int} (h : p < q) (hq : q ≤ 10) (hz : z0.toInt = z) (z1 : 0 ≤ z) (z2 : z ≤ 4000) (hE : 0 ≤ E.toInt ∧ E.toInt ≤ 100) (ha : -40 ≤ (a2 (q - 1)).toInt ∧ (a2 (q - 1)).toInt ≤ 40)
    (H : ∀ r : Int32, r.toInt = z + (a2 (q - 1)).toInt + (if (0 < p ∧ 0 < (a2 (p - 1)).toInt) ∧ (0 < q ∧ 0 < (a2 (q - 1)).toInt) then E.toInt else 0) → post r) : wX_lineCost_79 post (nI p) (nI q) z0 W E C b a1 a2 a3 a4 a5 a6 := by
  have s1 : (z0 + a2 (q - 1)).toInt = z + (a2 (q - 1)).toInt := by
    rw [pb_ad (by omega) (by omega), hz]
  have H0 : ¬ ((0 < p ∧ 0 < (a2 (p - 1)).toInt) ∧ (0 < q ∧ 0 < (a2 (q - 1)).toInt)) → wX_lineCost_104 post (nI q) z0 W E C b a1 a2 a3 a4 a5 a6 := by
    intro hn
    unfold wX_lineCost_104
    refine pb_105 (by omega) hq (H _ ?_)
    rw [if_neg hn, pb_ad (by rw [pb_i0]; omega) (by rw [pb_i0]; omega), s1, pb_i0]
  unfold wX_lineCost_79
  refine pb_pen (by omega) (fun y => br_t rfl (H0 (fun t => y t.1))) (fun y => br_f (by decide) ?_)
  refine pb_pen (by omega) (fun y2 => br_t rfl (H0 (fun t => y2 t.2))) (fun y2 => br_f (by decide) ?_)
  refine pb_105 (by omega) hq (H _ ?_)
  rw [if_pos ⟨y, y2⟩, pb_ad (by omega) (by omega), s1]
theorem pb_lc {post : Int32 → Prop} {W E b : Int32} {c : Nat} {a1 a2 a3 a4 a5 a6 : Nat → Int32} {p q : Nat} (hk : pb_ok W E c a1 a2) (h : p < q) (hq : q ≤ c)
    (H : ∀ r : Int32, r.toInt = pb_L W.toInt E.toInt c a1 a2 b.toInt p q → post r) : wpX_lineCost post (W, E, nI c, b, a1, a2, a3, a4, a5, a6) (nI p) (nI q) := by
  obtain ⟨k1, k2, k3, k4, k5, k6, k7⟩ := hk
  have d := pb_dd_b (p := p) ⟨k1, k2⟩ (fun i hi => k6 i (by omega)) h (by omega)
  have k7' := k7 (q - 1) (by omega)
  have sb := pb_sm_b (a := a1) (p := p) (q := q) (fun i hi => k6 i (by omega)) (q - p) (by omega)
  unfold wpX_lineCost
  refine pb_len h (by omega) (fun i hi => k6 i (by omega)) (fun r hr x hx => ?_)
  have hxd : x.toInt = pb_dd W.toInt a1 p q := by
    rw [hx, pb_sb (by omega) (by omega), hr]
    rfl
  have hpq : ((nI p + 1) - nI q).toInt = (p : Int) + 1 - q := by
    rw [nI_1, pk_sub_toInt (by omega) (by omega)]
    omega
  unfold pb_L at H
  have main : ¬ (pb_dd W.toInt a1 p q < (p : Int) + 1 - q ∨ (q < c ∧ (q : Int) - 1 = b.toInt)) → wX_lineCost_42 post (nI p) (nI q) x W E (nI c) b a1 a2 a3 a4 a5 a6 := by
    intro hn
    have e2 : ¬ pb_dd W.toInt a1 p q < (p : Int) + 1 - q := fun z => hn (Or.inl z)
    have s := pb_sq2 (d := pb_dd W.toInt a1 p q) (by omega) (by omega)
    rw [if_neg hn] at H
    have x2 : x.toInt * x.toInt = pb_dd W.toInt a1 p q * pb_dd W.toInt a1 p q := by rw [hxd]
    have m1 : (x * x).toInt = pb_dd W.toInt a1 p q * pb_dd W.toInt a1 p q := by
      rw [pb_ml (by omega) (by omega), x2]
    have m3 : (3 * x).toInt = 3 * pb_dd W.toInt a1 p q := by
      rw [pb_ml (by rw [show (3 : Int32).toInt = 3 from by decide, hxd]; omega) (by rw [show (3 : Int32).toInt = 3 from by decide, hxd]; omega), hxd, show (3 : Int32).toInt = 3 from by decide]
    have m4 : pb_dd W.toInt a1 p q < 0 → ((3 * x) * x).toInt = 3 * pb_dd W.toInt a1 p q * pb_dd W.toInt a1 p q := by
      intro z
      have := s.2.2 z
      rw [pb_ml (by rw [m3, hxd]; omega) (by rw [m3, hxd]; omega), m3, hxd]
    unfold wX_lineCost_42
    refine pk_eq q c (fun e => ?_) (fun e => ?_)
    · rw [if_pos e] at H
      refine pb_blt _ 0 hxd pb_i0 (fun z => H _ ?_) (fun z => H _ ?_)
      · rw [m4 z, if_pos z]
      · rw [if_neg (by omega), pb_i0]
    · rw [if_neg e] at H
      unfold pb_bd at H
      refine pb_blt _ 0 hxd pb_i0 (fun z => ?_) (fun z => ?_)
      · rw [if_pos z] at H
        have := s.2.2 z
        exact pb_79 h (by omega) (m4 z) (by omega) (by omega) ⟨k3, k4⟩ k7' H
      · rw [if_neg (show ¬ pb_dd W.toInt a1 p q < 0 by omega)] at H
        exact pb_79 h (by omega) m1 (by omega) (by omega) ⟨k3, k4⟩ k7' H
  refine pb_blt _ _ hxd hpq (fun z => ?_) (fun z => ?_)
  · rw [if_pos (Or.inl z)] at H
    exact H _ pb_far
  · refine pk_le c q (fun y => main (fun t => by rcases t with t | ⟨t, _⟩ <;> omega)) (fun y => ?_)
    have hq1 : (nI q - 1).toInt = (q : Int) - 1 := by
      rw [pb_sb (by rw [nI_toInt (by omega), pb_i1]; omega) (by rw [nI_toInt (by omega), pb_i1]; omega), nI_toInt (by omega), pb_i1]
    refine pb_beq _ _ hq1 rfl (fun t => ?_) (fun t => main (fun u => by rcases u with u | ⟨_, u⟩ <;> omega))
    rw [if_pos (Or.inr ⟨y, t⟩)] at H
    exact H _ pb_far
/-- the walk of lineCost, the state's other places free -/
def pb_LC (W E : Int32) (c : Nat) (b : Int32) (a1 a2 : Nat → Int32) (L : Nat → Nat → Int) : Prop :=
  ∀ (post : Int32 → Prop) (p q : Nat) (a3 a4 a5 a6 : Nat → Int32), p < q → q ≤ c → (∀ r : Int32, r.toInt = L p q → post r) → wpX_lineCost post (W, E, nI c, b, a1, a2, a3, a4, a5, a6) (nI p) (nI q)
theorem pb_LC_ok {W E b : Int32} {c : Nat} {a1 a2 : Nat → Int32} (hk : pb_ok W E c a1 a2) : pb_LC W E c b a1 a2 (pb_L W.toInt E.toInt c a1 a2 b.toInt) :=
  fun _ _ _ _ _ _ _ h hq H => pb_lc hk h hq H
end
section
/-! leastOnward -/
theorem pb_ix (n i : Nat) : ((nI (n + 1) - 1) * 11) + nI i = nI (n * 11 + i) := by
  rw [nI_pred]
  show nI n * nI 11 + nI i = _
  rw [pk_mul, nI_add]
theorem pb_ix2 (n i : Nat) : (nI n * 11) + nI i = nI (n * 11 + i) := by
  show nI n * nI 11 + nI i = _
  rw [pk_mul, nI_add]
theorem pb_lo {post : Int32 → Prop} {W E b : Int32} {c : Nat} {a1 a2 a3 a4 a5 a6 : Nat → Int32} {L : Nat → Nat → Int} {n p : Nat} (hw : pb_LC W E c b a1 a2 L) (hL : pb_LB L c) (hc : c ≤ 10) (hn : n < 10) (hp : p ≤ 10)
    (h3 : ∀ q, q ≤ c → pb_LS (pb_pt L n q c) (a3 (n * 11 + q)).toInt) (H : ∀ r : Int32, pb_LS (pb_pt L (n + 1) p c) r.toInt → post r) : wpX_leastOnward post (W, E, nI c, b, a1, a2, a3, a4, a5, a6) (nI (n + 1)) (nI p) := by
  unfold wpX_leastOnward
  refine nm_r (nI_1 p) ?_
  refine pk_loop (σ := Int32) (fun f i s => wX_leastOnward_8 post (nI (n + 1)) (nI p) W E (nI c) b a1 a2 a3 a4 a5 a6 f s (nI i)) (fun i s => p < i ∧ pb_LS (pb_PS L p (fun r y => pb_pt L n r c y) i) s.toInt) (max (c + 1) (p + 1)) (p + 1) _ (by omega) ⟨by omega, ?_⟩ ?_ ?_
  · rw [pb_far]
    exact pb_ls_0 (pb_PS_0 (Nat.le_refl _))
  · intro f s hs
    refine pk_lt c _ (fun z => H s (pb_ls_c (fun x => pb_PS_pt z x) hs.2)) (fun z => absurd z (by omega))
  · intro f i s hi hs hk
    obtain ⟨hpi, hs⟩ := hs
    have hic : i ≤ c := by omega
    refine pk_lt c i (fun z => absurd z (by omega)) (fun _ => ?_)
    refine hw _ p i a3 a4 a5 a6 hpi hic (fun r hr => ?_)
    have e3 := h3 i hic
    have es := fun x => pb_PS_s (L := L) (R := fun r y => pb_pt L n r c y) hpi x
    rw [pb_ix, nI_clamp (by omega)]
    refine ⟨pk_in (n * 11 + i) 121 (by omega), nm_e ?_⟩
    refine pb_ble 1000000 (L p i) pb_far hr (fun z => nm_r (nI_1 i) (hk _ ⟨by omega, pb_ls_s1 hs z es⟩)) (fun z => ?_)
    refine pb_ble 1000000 _ pb_far rfl (fun z2 => nm_r (nI_1 i) (hk _ ⟨by omega, pb_ls_s2 hs e3 z2 es⟩)) (fun z2 => ?_)
    have bl := hL p i hpi hic z
    have br := pb_pt_b10 hL hc (Nat.le_refl c) (pb_ls_p e3 z2)
    have sum : (r + a3 (n * 11 + i)).toInt = L p i + (a3 (n * 11 + i)).toInt := by
      rw [pb_ad (by omega) (by omega), hr]
    refine pb_ble _ _ rfl sum (fun z3 => nm_r (nI_1 i) (hk _ ⟨by omega, pb_ls_s3 hs e3 z z2 z3 (by omega) es⟩)) (fun z3 => ?_)
    refine nm_e (nm_r (nI_1 i) (hk _ ⟨by omega, ?_⟩))
    rw [sum]
    exact pb_ls_s4 hs e3 z z2 z3 es
/-! findBest -/
def pb_T (c q : Nat) : Int := ((2 ^ (c + 1 - q) : Nat) : Int)
theorem pb_T_s {c q : Nat} (h : q ≤ c) : pb_T c q = 2 * pb_T c (q + 1) := by
  unfold pb_T
  rw [show c + 1 - q = (c + 1 - (q + 1)) + 1 by omega, Nat.pow_succ]
  omega
theorem pb_T_b {c : Nat} (hc : c ≤ 10) (q : Nat) : 1 ≤ pb_T c q ∧ pb_T c q ≤ 2048 := by
  unfold pb_T
  have a : 2 ^ (c + 1 - q) ≤ 2 ^ 11 := Nat.pow_le_pow_right (by decide) (by omega)
  have b := Nat.two_pow_pos (c + 1 - q)
  omega
/-- ways: what is known at a break that is done -/
def pb_Wy (c q : Nat) (v : Int) (w : Int) : Prop := 0 ≤ w ∧ w ≤ pb_T c (q + 1) ∧ (v < 1000000 → 1 ≤ w)
theorem pb_72 {post : St1 → Prop} {J4 : Int32 → (Nat → Int32) → (Nat → Int32) → (Nat → Int32) → (Nat → Int32) → (Nat → Int32) → (Nat → Int32) → Prop} {W E C b x4 : Int32} {a1 a2 a3 a4 a5 a6 : Nat → Int32} {p i : Nat} (hp : p ≤ 10) (hi : i ≤ 10)
    (H1 : x4 = a5 p → J4 (nI (i + 1)) a1 a2 a3 a4 a5 (upd a6 p (a6 p + a6 i))) (H2 : ¬ x4 = a5 p → J4 (nI (i + 1)) a1 a2 a3 a4 a5 (upd a6 p (a6 p + 0))) : wX_findBest_72 post J4 (nI p) (nI i) x4 W E C b a1 a2 a3 a4 a5 a6 := by
  unfold wX_findBest_72
  rw [nI_clamp (show p < 2 ^ 31 by omega), nI_clamp (show i < 2 ^ 31 by omega)]
  exact ⟨pk_in p 11 (by omega), pk_in p 11 (by omega), br_c (fun z => ⟨pk_in i 11 (by omega), pk_in p 11 (by omega), nm_e (nm_r (nI_1 i) (H1 z))⟩) (fun z => ⟨pk_in p 11 (by omega), nm_e (nm_r (nI_1 i) (H2 z))⟩)⟩
theorem pb_fb {post : St1 → Prop} {W E b : Int32} {c : Nat} {a1 a2 a3 a4 a5 a6 : Nat → Int32} {L : Nat → Nat → Int} {p : Nat} (hw : pb_LC W E c b a1 a2 L) (hL : pb_LB L c) (hc : c ≤ 10) (hp : p < c)
    (h5 : ∀ q, p < q → q ≤ c → pb_LS (pb_pa L q c) (a5 q).toInt ∧ pb_Wy c q (a5 q).toInt (a6 q).toInt) (h5p : (a5 p).toInt = 1000000) (h6p : (a6 p).toInt = 0)
    (H : ∀ a5' a6' : Nat → Int32, (∀ j, j ≠ p → a5' j = a5 j) → (∀ j, j ≠ p → a6' j = a6 j) → pb_LS (pb_pa L p c) (a5' p).toInt → pb_Wy c p (a5' p).toInt (a6' p).toInt → post (W, E, nI c, b, a1, a2, a3, a4, a5', a6')) : wpX_findBest post (W, E, nI c, b, a1, a2, a3, a4, a5, a6) (nI p) := by
  unfold wpX_findBest
  refine nm_r (nI_1 p) ?_
  refine pk_loop (σ := (Nat → Int32) × (Nat → Int32)) (fun f i s => wX_findBest_4 post (nI p) W E (nI c) b f (nI i) a1 a2 a3 a4 s.1 s.2)
    (fun i s => p < i ∧ (∀ j, j ≠ p → s.1 j = a5 j) ∧ (∀ j, j ≠ p → s.2 j = a6 j) ∧ pb_LS (pb_PS L p (fun r y => pb_pa L r c y) i) (s.1 p).toInt ∧ 0 ≤ (s.2 p).toInt ∧ (s.2 p).toInt + pb_T c i ≤ pb_T c (p + 1) ∧ ((s.1 p).toInt < 1000000 → 1 ≤ (s.2 p).toInt)) (c + 1) (p + 1) (a5, a6) (by omega) ⟨by omega, fun _ _ => rfl, fun _ _ => rfl, ?_, ?_, ?_, ?_⟩ ?_ ?_
  · show pb_LS _ (a5 p).toInt
    rw [h5p]
    exact pb_ls_0 (pb_PS_0 (Nat.le_refl _))
  · show 0 ≤ (a6 p).toInt
    omega
  · show (a6 p).toInt + _ ≤ _
    omega
  · show (a5 p).toInt < _ → _
    omega
  · rintro f ⟨b5, b6⟩ ⟨_, k1, k2, k3, k4, k5, k6⟩
    have T1 := pb_T_b hc (c + 1)
    refine pk_lt c (c + 1) (fun _ => H b5 b6 k1 k2 (pb_ls_c (fun x => pb_PS_pa hp x) k3) ⟨k4, ?_, k6⟩) (fun z => absurd z (by omega))
    have k5' : (b6 p).toInt + pb_T c (c + 1) ≤ pb_T c (p + 1) := k5
    omega
  · rintro f i ⟨b5, b6⟩ hi ⟨hpi, k1, k2, k3, k4, k5, k6⟩ hk
    dsimp only at k1 k2 k3 k4 k5 k6
    have hic : i ≤ c := by omega
    have Ti := pb_T_s hic
    have Tb := pb_T_b hc (i + 1)
    have Tp := pb_T_b hc (p + 1)
    have e5 : b5 i = a5 i := k1 i (by omega)
    have e6 : b6 i = a6 i := k2 i (by omega)
    obtain ⟨g5, g6, g7, g8⟩ := h5 i hpi hic
    rw [← e5] at g5 g8
    rw [← e6] at g6 g7 g8
    have es := fun x => pb_PS_s (L := L) (R := fun r y => pb_pa L r c y) hpi x
    refine pk_lt c i (fun z => absurd z (by omega)) (fun _ => ?_)
    refine hw _ p i a3 a4 b5 b6 hpi hic (fun r hr => ?_)
    rw [nI_clamp (show p < 2 ^ 31 by omega), nI_clamp (show i < 2 ^ 31 by omega)]
    refine pb_ble 1000000 (L p i) pb_far hr (fun z => nm_r (nI_1 i) (hk (b5, b6) ⟨by omega, k1, k2, pb_ls_s1 k3 z es, k4, ?_, k6⟩)) (fun z => ⟨pk_in i 11 (by omega), ?_⟩)
    · show (b6 p).toInt + pb_T c (i + 1) ≤ pb_T c (p + 1)
      omega
    refine pb_ble 1000000 _ pb_far rfl (fun z2 => nm_r (nI_1 i) (hk (b5, b6) ⟨by omega, k1, k2, pb_ls_s2 k3 g5 z2 es, k4, ?_, k6⟩)) (fun z2 => ⟨pk_in i 11 (by omega), nm_e ⟨pk_in p 11 (by omega), ?_⟩⟩)
    · show (b6 p).toInt + pb_T c (i + 1) ≤ pb_T c (p + 1)
      omega
    have bl := hL p i hpi hic z
    have br := pb_pa_b hL hc (Nat.le_refl c) (pb_ls_p g5 z2)
    have g8' := g8 z2
    have sum : (r + b5 i).toInt = L p i + (b5 i).toInt := by
      rw [pb_ad (by omega) (by omega), hr]
    have wsum : (b6 p + b6 i).toInt = (b6 p).toInt + (b6 i).toInt := pb_ad (by omega) (by omega)
    have wsum0 : (b6 p + 0).toInt = (b6 p).toInt := by rw [Int32.add_zero]
    refine pb_ble _ _ rfl sum (fun z3 => ?_) (fun z3 => ?_)
    · have s3 := pb_ls_s3 k3 g5 z z2 z3 (by omega) es
      refine pb_72 (by omega) (by omega) (fun y => ?_) (fun y => ?_)
      · refine hk (b5, upd b6 p (b6 p + b6 i)) ⟨by omega, k1, fun j hj => ?_, s3, ?_, ?_, ?_⟩
        · show upd b6 p _ j = a6 j
          rw [pk_un hj]
          exact k2 j hj
        · show 0 ≤ (upd b6 p _ p).toInt
          rw [pk_us, wsum]
          omega
        · show (upd b6 p _ p).toInt + _ ≤ _
          rw [pk_us, wsum]
          omega
        · show _ → 1 ≤ (upd b6 p _ p).toInt
          rw [pk_us, wsum]
          omega
      · refine hk (b5, upd b6 p (b6 p + 0)) ⟨by omega, k1, fun j hj => ?_, s3, ?_, ?_, ?_⟩
        · show upd b6 p _ j = a6 j
          rw [pk_un hj]
          exact k2 j hj
        · show 0 ≤ (upd b6 p _ p).toInt
          rw [pk_us, wsum0]
          omega
        · show (upd b6 p _ p).toInt + _ ≤ _
          rw [pk_us, wsum0]
          omega
        · show _ → 1 ≤ (upd b6 p _ p).toInt
          rw [pk_us, wsum0]
          exact k6
    · have s4 := pb_ls_s4 k3 g5 z z2 z3 es
      refine ⟨pk_in p 11 (by omega), nm_e ⟨pk_in p 11 (by omega), nm_e ?_⟩⟩
      refine pb_72 (by omega) (by omega) (fun y => ?_) (fun y => absurd pk_us.symm y)
      have u1 : upd b6 p 0 p = 0 := pk_us
      have u2 : upd b6 p 0 i = b6 i := pk_un (by omega)
      rw [u1, u2]
      refine hk (upd b5 p (r + b5 i), upd (upd b6 p 0) p (0 + b6 i)) ⟨by omega, fun j hj => ?_, fun j hj => ?_, ?_, ?_, ?_, ?_⟩
      · show upd b5 p _ j = a5 j
        rw [pk_un hj]
        exact k1 j hj
      · show upd (upd b6 p 0) p _ j = a6 j
        rw [pk_un hj, pk_un hj]
        exact k2 j hj
      · show pb_LS _ (upd b5 p _ p).toInt
        rw [pk_us, sum]
        exact s4
      · show 0 ≤ (upd _ p _ p).toInt
        rw [pk_us, Int32.zero_add]
        omega
      · show (upd _ p _ p).toInt + _ ≤ _
        rw [pk_us, Int32.zero_add]
        omega
      · show _ → 1 ≤ (upd _ p _ p).toInt
        rw [pk_us, Int32.zero_add]
        omega
end
section
/-! learn: what is known behind it -/
def pb_Kn (L : Nat → Nat → Int) (c : Nat) (a3 a5 a6 : Nat → Int32) : Prop :=
  (∀ n p, n ≤ 10 → p ≤ 10 → pb_LS (pb_pt L n p c) (a3 (n * 11 + p)).toInt) ∧ (∀ p, p ≤ c → pb_LS (pb_pa L p c) (a5 p).toInt ∧ pb_Wy c p (a5 p).toInt (a6 p).toInt)
theorem pb_121 {post : St1 → Prop} {W E b : Int32} {c : Nat} {a1 a2 a3 a4 a5 a6 : Nat → Int32} {L : Nat → Nat → Int} (hw : pb_LC W E c b a1 a2 L) (hL : pb_LB L c) (hc : c ≤ 10)
    (h5 : (∀ j, j < c → (a5 j).toInt = 1000000) ∧ (a5 c).toInt = 0) (h6 : (∀ j, j < c → (a6 j).toInt = 0) ∧ (a6 c).toInt = 1)
    (H : ∀ a5' a6' : Nat → Int32, (∀ p, p ≤ c → pb_LS (pb_pa L p c) (a5' p).toInt ∧ pb_Wy c p (a5' p).toInt (a6' p).toInt) → post (W, E, nI c, b, a1, a2, a3, a4, a5', a6')) : ∃ n, wX_learn_121 post n (nI c - 1) W E (nI c) b a1 a2 a3 a4 a5 a6 := by
  have key := pk_loopD (σ := (Nat → Int32) × (Nat → Int32)) (fun n i s => wX_learn_121 post n (nI i - 1) W E (nI c) b a1 a2 a3 a4 s.1 s.2)
    (fun i s => i ≤ c ∧ (∀ j, j < i → (s.1 j).toInt = 1000000 ∧ (s.2 j).toInt = 0) ∧ (∀ p, i ≤ p → p ≤ c → pb_LS (pb_pa L p c) (s.1 p).toInt ∧ pb_Wy c p (s.1 p).toInt (s.2 p).toInt)) ?_ ?_ c (a5, a6) ⟨Nat.le_refl c, fun j hj => ⟨h5.1 j hj, h6.1 j hj⟩, fun p h1 h2 => ?_⟩
  · exact ⟨_, key⟩
  · rintro n ⟨b5, b6⟩ ⟨_, _, k⟩
    exact br_t (by decide) (H b5 b6 (fun p hp => k p (Nat.zero_le p) hp))
  · rintro n i ⟨b5, b6⟩ ⟨hi, k1, k2⟩ hk
    show wX_learn_121 post (n + 1) (nI (i + 1) - 1) W E (nI c) b a1 a2 a3 a4 b5 b6
    rw [nI_pred]
    refine br_f (nI_pos (by omega)) ?_
    refine pb_fb hw hL hc (by omega) (fun q g1 g2 => k2 q (by omega) g2) (k1 i (by omega)).1 (k1 i (by omega)).2 (fun b5' b6' g1 g2 g3 g4 => ?_)
    refine nm_r (show nI i + (-1) = nI i - 1 from (Int32.sub_eq_add_neg _ _).symm) (hk (b5', b6') ⟨by omega, fun j hj => ?_, fun p h1 h2 => ?_⟩)
    · show (b5' j).toInt = _ ∧ (b6' j).toInt = _
      rw [g1 j (by omega), g2 j (by omega)]
      exact k1 j (by omega)
    · show pb_LS _ (b5' p).toInt ∧ pb_Wy c p (b5' p).toInt (b6' p).toInt
      by_cases e : p = i
      · subst e
        exact ⟨g3, g4⟩
      · rw [g1 p e, g2 p e]
        exact k2 p (by omega) h2
  · obtain rfl : p = c := by omega
    show pb_LS _ (a5 p).toInt ∧ pb_Wy p p (a5 p).toInt (a6 p).toInt
    rw [h5.2, h6.2]
    refine ⟨pb_ls_1 (fun x => pb_pa_self x), by omega, ?_, fun _ => by omega⟩
    exact (pb_T_b hc (p + 1)).1
theorem pb_l79 {post : St1 → Prop} {J : Int32 → (Nat → Int32) → (Nat → Int32) → (Nat → Int32) → (Nat → Int32) → (Nat → Int32) → (Nat → Int32) → Prop} {W E b : Int32} {c : Nat} {a1 a2 a3 a4 a5 a6 : Nat → Int32} {L : Nat → Nat → Int} {n : Nat} (hw : pb_LC W E c b a1 a2 L) (hL : pb_LB L c) (hc : c ≤ 10) (hn : n < 10)
    (h3 : ∀ m p, m < n + 1 → p ≤ 10 → pb_LS (pb_pt L m p c) (a3 (m * 11 + p)).toInt)
    (H : ∀ a3' : Nat → Int32, (∀ m p, m < n + 2 → p ≤ 10 → pb_LS (pb_pt L m p c) (a3' (m * 11 + p)).toInt) → J (nI (n + 2)) a1 a2 a3' a4 a5 a6) : ∃ f, wX_learn_79 post J (nI (n + 1)) W E (nI c) b f 0 a1 a2 a3 a4 a5 a6 := by
  refine pk_loop (σ := Nat → Int32) (fun f i s => wX_learn_79 post J (nI (n + 1)) W E (nI c) b f (nI i) a1 a2 s a4 a5 a6)
    (fun i s => (∀ m p, m < n + 1 → p ≤ 10 → pb_LS (pb_pt L m p c) (s (m * 11 + p)).toInt) ∧ (∀ p, p < i → pb_LS (pb_pt L (n + 1) p c) (s ((n + 1) * 11 + p)).toInt)) 11 0 a3 (by omega) ⟨h3, fun p hp => absurd hp (by omega)⟩ ?_ ?_
  · rintro f s ⟨k1, k2⟩
    refine pk_lt 10 11 (fun _ => nm_r (nI_1 (n + 1)) (H s (fun m p hm hp => ?_))) (fun z => absurd z (by omega))
    by_cases e : m = n + 1
    · subst e
      exact k2 p (by omega)
    · exact k1 m p (by omega) hp
  · rintro f i s hi ⟨k1, k2⟩ hk
    refine pk_lt 10 i (fun z => absurd z (by omega)) (fun _ => ?_)
    refine pb_lo hw hL hc hn (by omega) (fun q hq => k1 n q (by omega) (by omega)) (fun r hr => ?_)
    rw [pb_ix2, nI_clamp (by omega)]
    refine ⟨pk_in ((n + 1) * 11 + i) 121 (by omega), nm_e (nm_r (nI_1 i) (hk _ ⟨fun m p hm hp => ?_, fun p hp => ?_⟩))⟩
    · rw [pk_un (by omega)]
      exact k1 m p hm hp
    · by_cases e : p = i
      · subst e
        rw [pk_us]
        exact hr
      · rw [pk_un (by omega)]
        exact k2 p (by omega)
theorem pb_l71 {post : St1 → Prop} {W E b : Int32} {c : Nat} {a1 a2 a3 a4 a5 a6 : Nat → Int32} {L : Nat → Nat → Int} (hw : pb_LC W E c b a1 a2 L) (hL : pb_LB L c) (hc : c ≤ 10)
    (h3 : ∀ p, p ≤ 10 → pb_LS (pb_pt L 0 p c) (a3 p).toInt)
    (h5 : (∀ j, j < c → (a5 j).toInt = 1000000) ∧ (a5 c).toInt = 0) (h6 : (∀ j, j < c → (a6 j).toInt = 0) ∧ (a6 c).toInt = 1)
    (H : ∀ a3' a5' a6' : Nat → Int32, pb_Kn L c a3' a5' a6' → post (W, E, nI c, b, a1, a2, a3', a4, a5', a6')) : ∃ f, wX_learn_71 post W E (nI c) b f 1 a1 a2 a3 a4 a5 a6 := by
  refine pk_loop (σ := Nat → Int32) (fun f i s => wX_learn_71 post W E (nI c) b f (nI i) a1 a2 s a4 a5 a6)
    (fun i s => 1 ≤ i ∧ (∀ m p, m < i → p ≤ 10 → pb_LS (pb_pt L m p c) (s (m * 11 + p)).toInt)) 11 1 a3 (by omega) ⟨by omega, fun m p hm hp => ?_⟩ ?_ ?_
  · obtain rfl : m = 0 := by omega
    rw [show 0 * 11 + p = p by omega]
    exact h3 p hp
  · rintro f s ⟨_, k1⟩
    refine pk_lt 10 11 (fun _ => nm_e (pb_121 hw hL hc h5 h6 (fun a5' a6' g => H s a5' a6' ⟨fun n p hn hp => k1 n p (by omega) hp, g⟩))) (fun z => absurd z (by omega))
  · rintro f i s hi ⟨hi1, k1⟩ hk
    obtain ⟨n, rfl⟩ : ∃ n, i = n + 1 := ⟨i - 1, by omega⟩
    refine pk_lt 10 (n + 1) (fun z => absurd z (by omega)) (fun _ => ?_)
    exact pb_l79 hw hL hc (by omega) k1 (fun a3' g => hk a3' ⟨by omega, g⟩)
theorem pb_learn {post : St1 → Prop} {W E b : Int32} {c : Nat} {a1 a2 a3 a4 a5 a6 : Nat → Int32} {L : Nat → Nat → Int} (hw : pb_LC W E c b a1 a2 L) (hL : pb_LB L c) (hc : c ≤ 10)
    (H : ∀ a3' a5' a6' : Nat → Int32, pb_Kn L c a3' a5' a6' → post (W, E, nI c, b, a1, a2, a3', a4, a5', a6')) : wpX_learn post (W, E, nI c, b, a1, a2, a3, a4, a5, a6) := by
  unfold wpX_learn
  refine pk_loop (σ := (Nat → Int32) × (Nat → Int32) × (Nat → Int32)) (fun f i s => wX_learn_2 post W E (nI c) b f (nI i) a1 a2 s.1 a4 s.2.1 s.2.2)
    (fun i s => ∀ j, j < i → (s.1 j = if j = c then 0 else 1000000) ∧ s.2.1 j = 1000000 ∧ s.2.2 j = 0) 11 0 (a3, a5, a6) (by omega) (fun j hj => absurd hj (by omega)) ?_ ?_
  · rintro f ⟨b3, b5, b6⟩ k
    dsimp only at k
    refine pk_lt 10 11 (fun _ => ?_) (fun z => absurd z (by omega))
    rw [nI_clamp (show c < 2 ^ 31 by omega)]
    refine ⟨pk_in c 11 (by omega), nm_e ⟨pk_in c 11 (by omega), nm_e ?_⟩⟩
    refine pb_l71 hw hL hc (fun p hp => ?_) ⟨fun j hj => ?_, ?_⟩ ⟨fun j hj => ?_, ?_⟩ H
    · have e := (k p (by omega)).1
      by_cases g : p = c
      · rw [if_pos g] at e
        show pb_LS _ (b3 p).toInt
        rw [e, pb_i0]
        exact pb_ls_1 (fun x => ⟨fun z => z.2, fun z => ⟨g, z⟩⟩)
      · rw [if_neg g] at e
        show pb_LS _ (b3 p).toInt
        rw [e, pb_far]
        exact pb_ls_0 (fun x z => g z.1)
    · rw [pk_un (by omega)]
      show (b5 j).toInt = _
      rw [(k j (by omega)).2.1, pb_far]
    · rw [pk_us, pb_i0]
    · rw [pk_un (by omega)]
      show (b6 j).toInt = _
      rw [(k j (by omega)).2.2, pb_i0]
    · rw [pk_us, pb_i1]
  · rintro f i ⟨b3, b5, b6⟩ hi k hk
    dsimp only at k
    have step : ∀ v : Int32, v = (if i = c then 0 else 1000000) → wX_learn_27 post (wX_learn_2 post W E (nI c) b f) (nI i) v (nI i) W E (nI c) b a1 a2 b3 a4 b5 b6 := by
      intro v hv
      unfold wX_learn_27
      rw [nI_clamp (show i < 2 ^ 31 by omega)]
      refine ⟨pk_in i 121 (by omega), nm_e ⟨pk_in i 11 (by omega), nm_e ⟨pk_in i 11 (by omega), nm_e (nm_r (nI_1 i) (hk (_, _, _) (fun j hj => ?_)))⟩⟩⟩
      show upd b3 i v j = _ ∧ upd b5 i _ j = _ ∧ upd b6 i _ j = _
      by_cases e : j = i
      · subst e
        rw [pk_us, pk_us, pk_us]
        exact ⟨hv, rfl, rfl⟩
      · rw [pk_un e, pk_un e, pk_un e]
        exact k j (by omega)
    refine pk_lt 10 i (fun z => absurd z (by omega)) (fun _ => ?_)
    exact pk_eq i c (fun e => step 0 (by rw [if_pos e])) (fun e => step 1000000 (by rw [if_neg e]))
/-! the state's places that the law's answers don't rest on -/
theorem pb_start {post : St1 → Prop} {W E b : Int32} {c : Nat} {a1 a2 a3 a4 a5 a6 : Nat → Int32} (hk : pb_ok W E c a1 a2)
    (H : ∀ a3' a5' a6' : Nat → Int32, pb_Kn (pb_L W.toInt E.toInt c a1 a2 (-1)) c a3' a5' a6' → post (W, E, nI c, -1, a1, a2, a3', a4, a5', a6')) : wpX_start post (W, E, nI c, b, a1, a2, a3, a4, a5, a6) := by
  unfold wpX_start
  have w := pb_LC_ok (b := -1) hk
  rw [pb_im1] at w
  exact pb_learn w (pb_L_b hk) hk.2.2.2.2.1 (fun a3' a5' a6' h => H a3' a5' a6' h)
end
section
/-! the fewest lines, and the ends of the lines -/
def pb_Nm (L : Nat → Nat → Int) (c N : Nat) : Prop := 1 ≤ N ∧ N ≤ c ∧ ∃ v, v < 1000000 ∧ pb_LS (pb_pa L 0 c) v ∧ pb_LS (pb_pt L N 0 c) v ∧ ∀ n, n < N → ¬ pb_LS (pb_pt L n 0 c) v
def pb_Fe (L : Nat → Nat → Int) (c n p q : Nat) : Prop := p < q ∧ q ≤ c ∧ L p q < 1000000 ∧ ∃ a d, pb_LS (pb_pt L (n + 1) p c) a ∧ pb_LS (pb_pt L n q c) d ∧ d < 1000000 ∧ L p q + d = a ∧ ∀ q', p < q' → q' < q → ∀ d', L p q' < 1000000 → pb_LS (pb_pt L n q' c) d' → d' < 1000000 → L p q' + d' ≠ a
def pb_En (L : Nat → Nat → Int) (c N : Nat) (e : Nat → Nat) : Prop := e 0 = 0 ∧ e N = c ∧ (∀ k, k < N → pb_Fe L c (N - 1 - k) (e k) (e (k + 1))) ∧ ∀ k, k ≤ N → ∃ y z v, pb_pa L 0 (e k) y ∧ pb_pa L (e k) c z ∧ pb_LS (pb_pa L 0 c) v ∧ y + z = v
theorem pb_pt_ex {L : Nat → Nat → Int} {c : Nat} (hL : pb_LB L c) (hc : c ≤ 10) (n p q : Nat) (hq : q ≤ c) : ∃ v, pb_LS (pb_pt L n p q) v :=
  pb_ls_ex (fun x hx => by have := pb_pt_b10 hL hc hq hx; omega)
theorem pb_pa_ex {L : Nat → Nat → Int} {c : Nat} (hL : pb_LB L c) (hc : c ≤ 10) (p q : Nat) (hq : q ≤ c) : ∃ v, pb_LS (pb_pa L p q) v :=
  pb_ls_ex (fun x hx => by have := pb_pa_b hL hc hq hx; omega)
theorem pb_Nm_ex {L : Nat → Nat → Int} {c : Nat} (hL : pb_LB L c) (hc : c ≤ 10) (h0 : 0 < c) (hs : ∀ p, p < c → L p (p + 1) < 1000000) : ∃ N, pb_Nm L c N := by
  obtain ⟨v, hv⟩ := pb_pa_ex hL hc 0 c (Nat.le_refl c)
  obtain ⟨x, hx⟩ := pb_feas hs c 0 (by omega)
  rw [Nat.zero_add] at hx
  have bx := pb_pa_b hL hc (Nat.le_refl c) hx
  have hvx := hv.1 x hx
  obtain ⟨n, hn⟩ := pb_ls_p hv (by omega)
  have hn' : pb_LS (pb_pt L n 0 c) v := ⟨fun y hy => hv.1 y ⟨n, hy⟩, Or.inl ⟨by omega, hn⟩⟩
  obtain ⟨N, h1, h2⟩ := pk_least (fun n => pb_LS (pb_pt L n 0 c) v) ⟨n, hn'⟩
  have h3 := pb_ls_p h1 (by omega)
  have h4 := pb_pt_le N 0 c v h3
  refine ⟨N, ?_, by omega, v, by omega, hv, h1, h2⟩
  cases N with
  | zero => have := h3.1; omega
  | succ N => omega
theorem pb_Fe_ex {L : Nat → Nat → Int} {c n p : Nat} {a : Int} (hL : pb_LB L c) (hc : c ≤ 10) (h : pb_LS (pb_pt L (n + 1) p c) a) (ha : a < 1000000) : ∃ q, pb_Fe L c n p q := by
  obtain ⟨r, h1, h2, h3⟩ := pb_ls_p h ha
  have key : ∃ q, p < q ∧ L p q < 1000000 ∧ ∃ d, pb_LS (pb_pt L n q c) d ∧ d < 1000000 ∧ L p q + d = a := by
    obtain ⟨d, hd⟩ := pb_pt_ex hL hc n r c (Nat.le_refl c)
    have b := pb_pt_b10 hL hc (Nat.le_refl c) h3
    have d1 := hd.1 _ h3
    have d2 : pb_pt L (n + 1) p c (L p r + d) := ⟨r, h1, h2, by
      rw [show L p r + d - L p r = d by omega]
      exact pb_ls_p hd (by omega)⟩
    have d3 := h.1 _ d2
    exact ⟨r, h1, h2, d, hd, by omega, by omega⟩
  obtain ⟨q, ⟨q1, q2, d, q3, q4, q5⟩, q6⟩ := pk_least _ key
  have q7 := pb_pt_le n q c d (pb_ls_p q3 q4)
  refine ⟨q, q1, by omega, q2, a, d, h, q3, q4, q5, fun q' g1 g2 d' g3 g4 g5 g6 => ?_⟩
  exact q6 q' g2 ⟨g1, g3, d', g4, g5, g6⟩
noncomputable def pb_e (f : Nat → Nat → Nat) (N : Nat) : Nat → Nat
  | 0 => 0
  | k + 1 => f (N - 1 - k) (pb_e f N k)
theorem pb_En_ex {L : Nat → Nat → Int} {c N : Nat} (hL : pb_LB L c) (hc : c ≤ 10) (hN : pb_Nm L c N) : ∃ e, pb_En L c N e := by
  obtain ⟨f, hf⟩ : ∃ f : Nat → Nat → Nat, ∀ n p, (∃ q, pb_Fe L c n p q) → pb_Fe L c n p (f n p) := by
    refine ⟨fun n p => Classical.epsilon (fun q => pb_Fe L c n p q), fun n p h => Classical.epsilon_spec h⟩
  obtain ⟨N1, N2, v, v1, v2, v3, v4⟩ := hN
  have inv : ∀ k, k ≤ N → ∃ y a, pb_pt L k 0 (pb_e f N k) y ∧ pb_LS (pb_pt L (N - k) (pb_e f N k) c) a ∧ a < 1000000 ∧ y + a = v := by
    intro k
    induction k with
    | zero => exact fun _ => ⟨0, v, ⟨rfl, rfl⟩, v3, v1, by omega⟩
    | succ k ih =>
      intro hk
      obtain ⟨y, a, h1, h2, h3, h4⟩ := ih (by omega)
      rw [show N - k = (N - 1 - k) + 1 by omega] at h2
      have fe := hf _ _ (pb_Fe_ex hL hc h2 h3)
      obtain ⟨g1, g2, g3, a', d, g4, g5, g6, g7, _⟩ := fe
      have ea := pb_ls_u h2 g4
      refine ⟨y + L (pb_e f N k) (pb_e f N (k + 1)), d, ?_, ?_, g6, ?_⟩
      · exact pb_pt_cat (pb_pt_one g1 g3) k 0 y h1
      · rw [show N - (k + 1) = N - 1 - k by omega]
        exact g5
      · have g7' : L (pb_e f N k) (pb_e f N (k + 1)) + d = a' := g7
        omega
  refine ⟨pb_e f N, rfl, ?_, fun k hk => ?_, fun k hk => ?_⟩
  · obtain ⟨y, a, h1, h2, h3, h4⟩ := inv N (Nat.le_refl N)
    rw [Nat.sub_self] at h2
    exact (pb_ls_p h2 h3).1
  · obtain ⟨y, a, h1, h2, h3, h4⟩ := inv k (by omega)
    rw [show N - k = (N - 1 - k) + 1 by omega] at h2
    exact hf _ _ (pb_Fe_ex hL hc h2 h3)
  · obtain ⟨y, a, h1, h2, h3, h4⟩ := inv k hk
    exact ⟨y, a, v, ⟨k, h1⟩, ⟨_, pb_ls_p h2 h3⟩, v2, h4⟩
theorem pb_En_lt {L : Nat → Nat → Int} {c N : Nat} {e : Nat → Nat} (h : pb_En L c N e) {k : Nat} (hk : k < N) : e k < e (k + 1) := (h.2.2.1 k hk).1
theorem pb_En_mono {L : Nat → Nat → Int} {c N : Nat} {e : Nat → Nat} (h : pb_En L c N e) : ∀ d k, k + d ≤ N → e k ≤ e (k + d) := by
  intro d
  induction d with
  | zero => intro k _; exact Nat.le_refl _
  | succ d ih =>
    intro k hk
    have a := ih k (by omega)
    have b := pb_En_lt h (k := k + d) (by omega)
    rw [← Nat.add_assoc]
    omega
theorem pb_En_mono2 {L : Nat → Nat → Int} {c N : Nat} {e : Nat → Nat} (h : pb_En L c N e) {k j : Nat} (hk : k ≤ j) (hj : j ≤ N) : e k ≤ e j := by
  have := pb_En_mono h (j - k) k (by omega)
  rw [show k + (j - k) = j by omega] at this
  exact this
/-- the line of a word -/
theorem pb_En_line {L : Nat → Nat → Int} {c N : Nat} {e : Nat → Nat} (h : pb_En L c N e) {i : Nat} (hi : i < c) : ∃ t, t < N ∧ e t ≤ i ∧ i < e (t + 1) := by
  obtain ⟨k, h1, h2⟩ := pk_least (fun k => i < e k) ⟨N, by show i < e N; rw [h.2.1]; exact hi⟩
  have h0 := h.1
  have hk : k ≠ 0 := by
    intro z
    subst z
    have h1' : i < e 0 := h1
    omega
  obtain ⟨t, rfl⟩ : ∃ t, k = t + 1 := ⟨k - 1, by omega⟩
  have h3 : ¬ i < e t := h2 t (by omega)
  have h4 : ¬ N < t + 1 := by
    intro z
    have h5 : ¬ i < e N := h2 N z
    rw [h.2.1] at h5
    omega
  exact ⟨t, by omega, by omega, h1⟩
/-- the least cost by way of a break of the best breaking -/
theorem pb_via {L : Nat → Nat → Int} {c N k : Nat} {e : Nat → Nat} {C u w : Int} (h : pb_En L c N e) (hk : k ≤ N) (hC : pb_LS (pb_pa L 0 c) C) (hu : pb_LS (pb_pa L 0 (e k)) u) (hw : pb_LS (pb_pa L (e k) c) w) (u1 : u < 1000000) (w1 : w < 1000000) : u + w = C := by
  obtain ⟨y, z, v, h1, h2, h3, h4⟩ := h.2.2.2 k hk
  have e1 := pb_ls_u hC h3
  have a := hu.1 y h1
  have b := hw.1 z h2
  have d := hC.1 _ (pb_pa_cat (pb_ls_p hu u1) (pb_ls_p hw w1))
  omega
/-- breaking at w or keeping it -/
theorem pb_both {L L' : Nat → Nat → Int} {c w : Nat} {C u v t : Int} (hL1 : ∀ p r, p < r → r ≠ w → L' p r = L p r) (hL2 : ∀ p, L' p w = 1000000) (hC : pb_LS (pb_pa L 0 c) C) (C1 : C < 1000000) (hu : pb_LS (pb_pa L 0 w) u) (hv : pb_LS (pb_pa L w c) v) (ht : pb_LS (pb_pa L' 0 c) t) (u1 : u < 1000000) (v1 : v < 1000000) : C ≤ u + v ∧ C ≤ t ∧ (u + v = C ∨ t = C) := by
  have d := hC.1 _ (pb_pa_cat (pb_ls_p hu u1) (pb_ls_p hv v1))
  have d2 : C ≤ t := by
    rcases Int.lt_or_le t 1000000 with z | z
    · obtain ⟨n, hn⟩ := pb_ls_p ht z
      refine hC.1 _ ⟨n, pb_weak (fun p r hp hr => ?_) n 0 c t hn⟩
      by_cases e : r = w
      · subst e
        rw [hL2] at hr
        omega
      · exact hL1 p r hp e
    · omega
  refine ⟨d, d2, ?_⟩
  obtain ⟨n, hn⟩ := pb_ls_p hC C1
  rcases pb_split hL1 n 0 C hn with ⟨y, z, a1, a2, a3⟩ | a
  · have b1 := hu.1 y a1
    have b2 := hv.1 z a2
    omega
  · have b := ht.1 C ⟨n, a⟩
    omega
end
section
/-! the state's places that no answer rests on: barred, onward, upTo, best, ways -/
abbrev pb_S : Type := Int32 × (Nat → Int32) × (Nat → Int32) × (Nat → Int32) × (Nat → Int32)
abbrev pb_st (W E : Int32) (c : Nat) (a1 a2 : Nat → Int32) (s : pb_S) : St1 := (W, E, nI c, s.1, a1, a2, s.2.1, s.2.2.1, s.2.2.2.1, s.2.2.2.2)
/-- the costs of the lines, no break barred -/
abbrev pb_M (W E : Int32) (c : Nat) (a1 a2 : Nat → Int32) : Nat → Nat → Int := pb_L W.toInt E.toInt c a1 a2 (-1)
theorem pb_feas2 {W E : Int32} {c : Nat} {a1 a2 : Nat → Int32} (hk : pb_ok W E c a1 a2) {p q : Nat} {v : Int} (hp : p ≤ q) (hq : q ≤ c) (h : pb_LS (pb_pa (pb_M W E c a1 a2) p q) v) : -400 ≤ v ∧ v ≤ 40000 := by
  have hc := hk.2.2.2.2.1
  have hL := pb_L_b (b := -1) hk
  obtain ⟨x, hx⟩ := pb_feas (pb_L_1 hk) (q - p) p (by omega)
  rw [show p + (q - p) = q by omega] at hx
  have b := pb_pa_b hL hc hq hx
  have g := h.1 x hx
  exact pb_pa_b hL hc hq (pb_ls_p h (by omega))
theorem pb_cost {post : Int32 → St1 → Prop} {W E : Int32} {c : Nat} {a1 a2 : Nat → Int32} (hk : pb_ok W E c a1 a2) (s : pb_S)
    (H : ∀ (r : Int32) (s' : pb_S), pb_LS (pb_pa (pb_M W E c a1 a2) 0 c) r.toInt → post r (pb_st W E c a1 a2 s')) : wpX_cost post (pb_st W E c a1 a2 s) := by
  obtain ⟨b, a3, a4, a5, a6⟩ := s
  unfold wpX_cost
  refine pb_start hk (fun a3' a5' a6' h => ?_)
  have h0 := (h.2 0 (Nat.zero_le c)).1
  have f0 := pb_feas2 hk (Nat.zero_le c) (Nat.le_refl c) h0
  exact pb_ble 1000000 _ pb_far rfl (fun z => absurd z (by omega)) (fun _ => H (a5' 0) (-1, a3', a4, a5', a6') h0)
theorem pb_choices {post : Int32 → St1 → Prop} {W E : Int32} {c : Nat} {a1 a2 : Nat → Int32} (hk : pb_ok W E c a1 a2) (s : pb_S)
    (H : ∀ (r : Int32) (s' : pb_S), 1 ≤ r.toInt → post r (pb_st W E c a1 a2 s')) : wpX_choices post (pb_st W E c a1 a2 s) := by
  obtain ⟨b, a3, a4, a5, a6⟩ := s
  unfold wpX_choices
  refine pb_start hk (fun a3' a5' a6' h => ?_)
  have h0 := h.2 0 (Nat.zero_le c)
  have f0 := pb_feas2 hk (Nat.zero_le c) (Nat.le_refl c) h0.1
  exact H (a6' 0) (-1, a3', a4, a5', a6') (h0.2.2.2 (by omega))
/-- an answer: NONE where there is no way -/
def pb_nn (v : Int) : Int := if v < 1000000 then v else -1000000
theorem pb_cw {post : Int32 → St1 → Prop} {W E : Int32} {c k : Nat} {a1 a2 : Nat → Int32} (hk : pb_ok W E c a1 a2) (s : pb_S) (hk10 : k ≤ 10)
    (H : ∀ (r : Int32) (s' : pb_S) (v : Int), pb_LS (pb_pt (pb_M W E c a1 a2) k 0 c) v → r.toInt = pb_nn v → post r (pb_st W E c a1 a2 s')) : wpX_costWith post (pb_st W E c a1 a2 s) (nI k) := by
  obtain ⟨b, a3, a4, a5, a6⟩ := s
  unfold wpX_costWith
  refine br_f (nI_pos (by omega)) (pk_le k 10 (fun _ => ?_) (fun z => absurd z (by omega)))
  refine pb_start hk (fun a3' a5' a6' h => ?_)
  have h0 : pb_LS (pb_pt (pb_M W E c a1 a2) k 0 c) (a3' (k * 11)).toInt := h.1 k 0 hk10 (by omega)
  have e : nI k * 11 = nI (k * 11) := pk_mul k 11
  rw [e, nI_clamp (by omega)]
  refine ⟨pk_in (k * 11) 121 (by omega), pb_ble 1000000 _ pb_far rfl (fun z => H _ (-1, a3', a4, a5', a6') _ h0 ?_) (fun z => ⟨pk_in (k * 11) 121 (by omega), H _ (-1, a3', a4, a5', a6') _ h0 ?_⟩)⟩
  · unfold pb_nn
    rw [if_neg (by omega), pb_none]
  · unfold pb_nn
    rw [if_pos z]
theorem pb_few {post : Int32 → Prop} {W E C b : Int32} {c N : Nat} {a1 a2 a3 a4 a5 a6 : Nat → Int32} {L : Nat → Nat → Int} (hc : c ≤ 10) (kn : pb_Kn L c a3 a5 a6) (hN : pb_Nm L c N) (H : post (nI N)) : wpX_fewestLines post (W, E, C, b, a1, a2, a3, a4, a5, a6) := by
  obtain ⟨N1, N2, v, v1, v2, v3, v4⟩ := hN
  have e5 : (a5 0).toInt = v := pb_ls_u (kn.2 0 (Nat.zero_le c)).1 v2
  have e3 : ∀ i, i ≤ 10 → pb_LS (pb_pt L i 0 c) (a3 (i * 11)).toInt := fun i hi => kn.1 i 0 hi (by omega)
  unfold wpX_fewestLines
  refine pk_loop (σ := Unit) (fun f i _ => wX_fewestLines_2 post W E C b a1 a2 a3 a4 a5 a6 f (nI i)) (fun _ _ => True) N 0 () (by omega) trivial ?_ ?_
  · intro f _ _
    refine pk_lt 10 N (fun z => absurd z (by omega)) (fun _ => ?_)
    have e : nI N * 11 = nI (N * 11) := pk_mul N 11
    rw [e, nI_clamp (by omega)]
    have g := pb_ls_u (e3 N (by omega)) v3
    exact ⟨pk_in (N * 11) 121 (by omega), pb_ble 1000000 _ pb_far g (fun z => absurd z (by omega)) (fun _ => ⟨pk_in (N * 11) 121 (by omega), pb_beq _ _ g e5 (fun _ => H) (fun z => absurd rfl z)⟩)⟩
  · intro f i _ hi _ hk
    refine pk_lt 10 i (fun z => absurd z (by omega)) (fun _ => ?_)
    have e : nI i * 11 = nI (i * 11) := pk_mul i 11
    rw [e, nI_clamp (by omega)]
    have g := e3 i (by omega)
    exact ⟨pk_in (i * 11) 121 (by omega), br_c (fun _ => nm_r (nI_1 i) (hk () trivial)) (fun _ => ⟨pk_in (i * 11) 121 (by omega), pb_beq _ _ rfl e5 (fun z => absurd (z ▸ g) (v4 i hi)) (fun _ => nm_r (nI_1 i) (hk () trivial))⟩)⟩
theorem pb_lines {post : Int32 → St1 → Prop} {W E : Int32} {c N : Nat} {a1 a2 : Nat → Int32} (hk : pb_ok W E c a1 a2) (hN : pb_Nm (pb_M W E c a1 a2) c N) (s : pb_S)
    (H : ∀ (s' : pb_S), post (nI N) (pb_st W E c a1 a2 s')) : wpX_lines post (pb_st W E c a1 a2 s) := by
  obtain ⟨b, a3, a4, a5, a6⟩ := s
  have hc := hk.2.2.2.2.1
  have hN2 := hN.2.1
  unfold wpX_lines
  refine pb_start hk (fun a3' a5' a6' h => pb_few hc h hN ?_)
  exact br_t (nI_pos' (by omega)) (H (-1, a3', a4, a5', a6'))
theorem pb_fe {post : Int32 → Prop} {W E b : Int32} {c n p q : Nat} {a1 a2 a3 a4 a5 a6 : Nat → Int32} {L : Nat → Nat → Int} (hw : pb_LC W E c b a1 a2 L) (hL : pb_LB L c) (hc : c ≤ 10) (kn : pb_Kn L c a3 a5 a6) (hn : n < 10) (fe : pb_Fe L c n p q) (H : post (nI q)) : wpX_firstEnd post (W, E, nI c, b, a1, a2, a3, a4, a5, a6) (nI (n + 1)) (nI p) := by
  obtain ⟨h1, h2, h3, a, d, h4, h5, h6, h7, h8⟩ := fe
  have ea : (a3 ((n + 1) * 11 + p)).toInt = a := pb_ls_u (kn.1 (n + 1) p (by omega) (by omega)) h4
  unfold wpX_firstEnd
  dsimp only
  rw [pb_ix2, nI_clamp (by omega)]
  refine ⟨pk_in ((n + 1) * 11 + p) 121 (by omega), nm_e (nm_r (nI_1 p) ?_)⟩
  refine pk_loop (σ := Unit) (fun f i _ => wX_firstEnd_17 post (nI (n + 1)) (nI p) (a3 ((n + 1) * 11 + p)) W E (nI c) b a1 a2 a3 a4 a5 a6 f (nI i)) (fun i _ => p < i) q (p + 1) () (by omega) (by omega) ?_ ?_
  · intro f _ _
    refine pk_lt c q (fun z => absurd z (by omega)) (fun _ => hw _ p q a3 a4 a5 a6 h1 h2 (fun r hr => ?_))
    rw [pb_ix, nI_clamp (by omega)]
    have e3 : (a3 (n * 11 + q)).toInt = d := pb_ls_u (kn.1 n q (by omega) (by omega)) h5
    have bl := hL p q h1 h2 h3
    have br := pb_pt_b10 hL hc (Nat.le_refl c) (pb_ls_p h5 h6)
    refine ⟨pk_in (n * 11 + q) 121 (by omega), nm_e (pb_ble 1000000 _ pb_far hr (fun z => absurd z (by omega)) (fun _ => pb_ble 1000000 _ pb_far e3 (fun z => absurd z (by omega)) (fun _ => pb_beq _ a ?_ ea (fun _ => H) (fun z => absurd h7 z))))⟩
    rw [pb_ad (by omega) (by omega), hr, e3]
  · intro f i _ hi hpi hk
    have hpi' : p < i := hpi
    refine pk_lt c i (fun z => absurd z (by omega)) (fun _ => hw _ p i a3 a4 a5 a6 hpi' (by omega) (fun r hr => ?_))
    rw [pb_ix, nI_clamp (by omega)]
    have e3 := kn.1 n i (by omega) (by omega)
    have go : wX_firstEnd_17 post (nI (n + 1)) (nI p) (a3 ((n + 1) * 11 + p)) W E (nI c) b a1 a2 a3 a4 a5 a6 f (nI (i + 1)) := hk () (by omega)
    refine ⟨pk_in (n * 11 + i) 121 (by omega), nm_e (pb_ble 1000000 _ pb_far hr (fun z => nm_r (nI_1 i) go) (fun z => pb_ble 1000000 _ pb_far rfl (fun z2 => nm_r (nI_1 i) go) (fun z2 => ?_)))⟩
    have bl := hL p i hpi' (by omega) z
    have br := pb_pt_b10 hL hc (Nat.le_refl c) (pb_ls_p e3 z2)
    refine pb_beq (L p i + (a3 (n * 11 + i)).toInt) a ?_ ea (fun y => absurd y (h8 i hpi' hi _ z e3 z2)) (fun _ => nm_r (nI_1 i) go)
    rw [pb_ad (by omega) (by omega), hr]
theorem pb_eol {post : Int32 → St1 → Prop} {W E : Int32} {c N k : Nat} {a1 a2 : Nat → Int32} {e : Nat → Nat} (hk : pb_ok W E c a1 a2) (hN : pb_Nm (pb_M W E c a1 a2) c N) (he : pb_En (pb_M W E c a1 a2) c N e) (s : pb_S) (hk10 : k ≤ 10)
    (H1 : k < N → ∀ s' : pb_S, post (nI (e (k + 1))) (pb_st W E c a1 a2 s')) (H2 : N ≤ k → ∀ s' : pb_S, post (-1) (pb_st W E c a1 a2 s')) : wpX_endOfLine post (pb_st W E c a1 a2 s) (nI k) := by
  obtain ⟨b, a3, a4, a5, a6⟩ := s
  have hc := hk.2.2.2.2.1
  have hN2 := hN.2.1
  have w := pb_LC_ok (b := -1) hk
  rw [pb_im1] at w
  have hL := pb_L_b (b := -1) hk
  unfold wpX_endOfLine
  refine pb_start hk (fun a3' a5' a6' h => pb_few hc h hN ?_)
  refine br_f (nI_pos (by omega)) (pk_lt k N (fun z => ?_) (fun z => H2 z (-1, a3', a4, a5', a6')))
  obtain ⟨f, hf⟩ := pk_loop (σ := Unit) (fun f i _ => wX_endOfLine_25 post (nI k) (nI N) W E (nI c) (-1) a1 a2 a3' a4 a5' a6' f (nI (e i)) (nI i)) (fun _ _ => True) (k + 1) 0 () (by omega) trivial
    (by
      intro f _ _
      exact pk_lt k (k + 1) (fun _ => H1 z (-1, a3', a4, a5', a6')) (fun z => absurd z (by omega)))
    (by
      intro f i _ hi _ go
      refine pk_lt k i (fun z => absurd z (by omega)) (fun _ => ?_)
      have ei : nI N - nI i = nI ((N - 1 - i) + 1) := by
        rw [pk_sub (by omega), show N - i = (N - 1 - i) + 1 by omega]
      rw [ei]
      exact pb_fe w hL hc h (by omega) (he.2.2.1 i (by omega)) (nm_r (nI_1 i) (go () trivial)))
  have hf' : wX_endOfLine_25 post (nI k) (nI N) W E (nI c) (-1) a1 a2 a3' a4 a5' a6' f (nI (e 0)) (nI 0) := hf
  rw [he.1] at hf'
  exact ⟨f, hf'⟩
theorem pb_eo {post : Int32 → St1 → Prop} {W E : Int32} {c N k : Nat} {a1 a2 : Nat → Int32} {e : Nat → Nat} (hk : pb_ok W E c a1 a2) (hN : pb_Nm (pb_M W E c a1 a2) c N) (he : pb_En (pb_M W E c a1 a2) c N e) (s : pb_S) (hk10 : k ≤ 10)
    (H1 : k < N → ∀ s' : pb_S, post (nI (e (k + 1) - 1)) (pb_st W E c a1 a2 s')) (H2 : N ≤ k → ∀ s' : pb_S, post (-1) (pb_st W E c a1 a2 s')) : wpX_endOf post (pb_st W E c a1 a2 s) (nI k) := by
  obtain ⟨b, a3, a4, a5, a6⟩ := s
  have hc := hk.2.2.2.2.1
  unfold wpX_endOf
  refine pb_eol hk hN he (b, a3, a4, a5, a6) hk10 (fun z s' => ?_) (fun z s' => ?_)
  · have f := he.2.2.1 k z
    have f1 := f.1
    have f2 := f.2.1
    refine br_t (nI_pos' (by omega)) ?_
    obtain ⟨j, hj⟩ : ∃ j, e (k + 1) = j + 1 := ⟨e (k + 1) - 1, by omega⟩
    have g := H1 z s'
    rw [hj, Nat.add_sub_cancel] at g
    rw [hj, nI_pred]
    exact g
  · exact br_f (by decide) (H2 z s')
theorem pb_lof {post : Int32 → St1 → Prop} {W E : Int32} {c N i t : Nat} {a1 a2 : Nat → Int32} {e : Nat → Nat} (hk : pb_ok W E c a1 a2) (hN : pb_Nm (pb_M W E c a1 a2) c N) (he : pb_En (pb_M W E c a1 a2) c N e) (s : pb_S) (hi : i < c) (ht : t < N) (t1 : e t ≤ i) (t2 : i < e (t + 1))
    (H : ∀ s' : pb_S, post (nI t) (pb_st W E c a1 a2 s')) : wpX_lineOf post (pb_st W E c a1 a2 s) (nI i) := by
  have hc := hk.2.2.2.2.1
  have hN2 := hN.2.1
  have hec : ∀ k, k ≤ N → e k ≤ c := fun k h => by have := pb_En_mono2 he h (Nat.le_refl N); rw [he.2.1] at this; exact this
  have hs : pb_st W E c a1 a2 s = (W, E, nI c, s.1, a1, a2, s.2.1, s.2.2.1, s.2.2.2.1, s.2.2.2.2) := rfl
  unfold wpX_lineOf
  refine br_f (nI_pos (by omega)) (pk_lt i c (fun _ => ?_) (fun z => absurd z (by omega)))
  refine pb_lines hk hN s (fun s' => ?_)
  refine pk_loop (σ := pb_S) (fun f k s => wX_lineOf_21 post (nI i) (nI N) f (nI k) W E (nI c) s.1 a1 a2 s.2.1 s.2.2.1 s.2.2.2.1 s.2.2.2.2) (fun _ _ => True) t 0 s' (by omega) trivial ?_ ?_
  · intro f s _
    refine pk_le N t (fun z => absurd z (by omega)) (fun _ => ?_)
    refine pb_eol hk hN he s (by omega) (fun z s'' => ?_) (fun z => absurd z (by omega))
    have := hec (t + 1) (by omega)
    exact pk_le (e (t + 1)) i (fun z => absurd z (by omega)) (fun _ => H s'')
  · intro f k s hkt _ go
    refine pk_le N k (fun z => absurd z (by omega)) (fun _ => ?_)
    refine pb_eol hk hN he s (by omega) (fun z s'' => ?_) (fun z => absurd z (by omega))
    have g := pb_En_mono2 he (show k + 1 ≤ t by omega) (by omega)
    exact pk_le (e (k + 1)) i (fun _ => nm_r (nI_1 k) (go s'' trivial)) (fun z => absurd z (by omega))
end
section
/-! the law's lines -/
theorem pb_l79b {post : Int32 → St1 → Prop} {J : Int32 → Int32 → Int32 → Int32 → Int32 → Int32 → (Nat → Int32) → (Nat → Int32) → (Nat → Int32) → (Nat → Int32) → (Nat → Int32) → (Nat → Int32) → Prop} {W E : Int32} {c N i : Nat} {a1 a2 : Nat → Int32} {e : Nat → Nat} (hk : pb_ok W E c a1 a2) (hN : pb_Nm (pb_M W E c a1 a2) c N) (he : pb_En (pb_M W E c a1 a2) c N e) (s : pb_S) (hi : i < c)
    (H : ∀ s : pb_S, J 1 (nI (i + 1)) W E (nI c) s.1 a1 a2 s.2.1 s.2.2.1 s.2.2.2.1 s.2.2.2.2) : ∃ f, wL_lines_79 post J (nI c) (nI N) 1 (nI i) f 0 0 W E (nI c) s.1 a1 a2 s.2.1 s.2.2.1 s.2.2.2.1 s.2.2.2.2 := by
  have hc := hk.2.2.2.2.1
  have hN2 := hN.2.1
  obtain ⟨t, t0, t1, t2⟩ := pb_En_line he hi
  have hec : ∀ k, k ≤ N → e k ≤ c := fun k h => by have := pb_En_mono2 he h (Nat.le_refl N); rw [he.2.1] at this; exact this
  obtain ⟨f, hf⟩ := pk_loop (σ := pb_S) (fun f k s => wL_lines_79 post J (nI c) (nI N) 1 (nI i) f (nI (min k t)) (nI k) W E (nI c) s.1 a1 a2 s.2.1 s.2.2.1 s.2.2.2.1 s.2.2.2.2) (fun _ _ => True) N 0 s (by omega) trivial
    (by
      intro f s _
      refine pk_le N N (fun _ => br_f (by decide) ?_) (fun z => absurd z (by omega))
      refine pb_lof hk hN he s hi t0 t1 t2 (fun s' => ?_)
      exact pk_eq t (min N t) (fun _ => nm_r (nI_1 i) (H s')) (fun z => absurd z (by omega)))
    (by
      intro f k s hkN _ go
      refine pk_le N k (fun z => absurd z (by omega)) (fun _ => ?_)
      refine pb_eo hk hN he s (by omega) (fun z s' => ?_) (fun z => absurd z (by omega))
      have b := hec (k + 1) (by omega)
      have g : wL_lines_79 post J (nI c) (nI N) 1 (nI i) f (nI (min (k + 1) t)) (nI (k + 1)) W E (nI c) s'.1 a1 a2 s'.2.1 s'.2.2.1 s'.2.2.2.1 s'.2.2.2.2 := go s' trivial
      have l1 := pb_En_lt he hkN
      by_cases kt : k < t
      · have m := pb_En_mono2 he (show k + 1 ≤ t by omega) (by omega)
        rw [show min (k + 1) t = min k t + 1 by omega] at g
        exact pk_le i (e (k + 1) - 1) (fun y => absurd y (by omega)) (fun y => nm_r (nI_1 _) (nm_r (nI_1 k) g))
      · have m := pb_En_mono2 he (show t + 1 ≤ k + 1 by omega) (by omega)
        rw [show min (k + 1) t = min k t by omega] at g
        exact pk_le i (e (k + 1) - 1) (fun y => nm_r (nI_1 k) g) (fun y => absurd y (by omega)))
  have hf' : wL_lines_79 post J (nI c) (nI N) 1 (nI i) f (nI (min 0 t)) (nI 0) W E (nI c) s.1 a1 a2 s.2.1 s.2.2.1 s.2.2.2.1 s.2.2.2.2 := hf
  rw [Nat.zero_min] at hf'
  exact ⟨f, hf'⟩
theorem pb_l67 {post : Int32 → St1 → Prop} {W E : Int32} {c N : Nat} {a1 a2 : Nat → Int32} {e : Nat → Nat} (hk : pb_ok W E c a1 a2) (hN : pb_Nm (pb_M W E c a1 a2) c N) (he : pb_En (pb_M W E c a1 a2) c N e) (s : pb_S)
    (H : ∀ s : pb_S, post 1 (pb_st W E c a1 a2 s)) : ∃ f, wL_lines_67 post (nI c) (nI N) f 1 0 W E (nI c) s.1 a1 a2 s.2.1 s.2.2.1 s.2.2.2.1 s.2.2.2.2 := by
  have hc := hk.2.2.2.2.1
  refine pk_loop (σ := pb_S) (fun f i s => wL_lines_67 post (nI c) (nI N) f 1 (nI i) W E (nI c) s.1 a1 a2 s.2.1 s.2.2.1 s.2.2.2.1 s.2.2.2.2) (fun _ _ => True) c 0 s (by omega) trivial ?_ ?_
  · intro f s _
    exact pk_le c c (fun _ => ⟨rfl, H s⟩) (fun z => absurd z (by omega))
  · intro f i s hi _ go
    exact pk_le c i (fun z => absurd z (by omega)) (fun _ => pb_l79b hk hN he s hi (fun s' => go s' trivial))
theorem pb_lawLines {post : Int32 → St1 → Prop} {W E : Int32} {c N : Nat} {a1 a2 : Nat → Int32} {e : Nat → Nat} (hk : pb_ok W E c a1 a2) (hN : pb_Nm (pb_M W E c a1 a2) c N) (he : pb_En (pb_M W E c a1 a2) c N e) (s : pb_S)
    (H : ∀ s : pb_S, post 1 (pb_st W E c a1 a2 s)) : wpL_lines post (pb_st W E c a1 a2 s) (nI c) := by
  have hc := hk.2.2.2.2.1
  have hN1 := hN.1
  have hN2 := hN.2.1
  have hec : ∀ k, k ≤ N → e k ≤ c := fun k h => by have := pb_En_mono2 he h (Nat.le_refl N); rw [he.2.1] at this; exact this
  unfold wpL_lines
  refine pb_lines hk hN s (fun s' => ?_)
  have tI : ∀ j : Nat, j ≤ 10 → (nI j - 1).toInt = (j : Int) - 1 := fun j hj => by
    rw [pb_sb (by rw [nI_toInt (by omega), pb_i1]; omega) (by rw [nI_toInt (by omega), pb_i1]; omega), nI_toInt (by omega), pb_i1]
  obtain ⟨f, hf⟩ := pk_loop (σ := pb_S) (fun f k s => wL_lines_10 post (nI c) (nI N) f (nI (e k) - 1) (nI k) W E (nI c) s.1 a1 a2 s.2.1 s.2.2.1 s.2.2.2.1 s.2.2.2.2) (fun _ _ => True) N 0 s' (by omega) trivial
    (by
      intro f s _
      refine pk_le N N (fun _ => ?_) (fun z => absurd z (by omega))
      refine br_t (by rw [he.2.1]) ?_
      refine pb_eo hk hN he s (by omega) (fun z => absurd z (by omega)) (fun _ s'' => ?_)
      exact br_t rfl (pb_l67 hk hN he s'' H))
    (by
      intro f k s hkN _ go
      refine pk_le N k (fun z => absurd z (by omega)) (fun _ => ?_)
      refine pb_eo hk hN he s (by omega) (fun z s'' => ?_) (fun z => absurd z (by omega))
      have l1 := pb_En_lt he hkN
      have b := hec (k + 1) (by omega)
      have g : wL_lines_10 post (nI c) (nI N) f (nI (e (k + 1)) - 1) (nI (k + 1)) W E (nI c) s''.1 a1 a2 s''.2.1 s''.2.2.1 s''.2.2.2.1 s''.2.2.2.2 := go s'' trivial
      have ej : nI (e (k + 1)) - 1 = nI (e (k + 1) - 1) := by
        obtain ⟨j, hj⟩ : ∃ j, e (k + 1) = j + 1 := ⟨e (k + 1) - 1, by omega⟩
        rw [hj, nI_pred, Nat.add_sub_cancel]
      rw [ej] at g
      refine pb_blt _ _ (tI (e k) (by omega)) (nI_toInt (n := e (k + 1) - 1) (by omega)) (fun _ => nm_r (nI_1 k) g) (fun y => absurd y (by omega)))
  have hf' : wL_lines_10 post (nI c) (nI N) f (nI (e 0) - 1) (nI 0) W E (nI c) s'.1 a1 a2 s'.2.1 s'.2.2.1 s'.2.2.2.1 s'.2.2.2.2 := hf
  rw [he.1, show nI 0 - 1 = -1 from by decide] at hf'
  exact ⟨f, hf'⟩
end
section
/-! findUpTo -/
theorem pb_u27 {post : St1 → Prop} {J : Int32 → (Nat → Int32) → (Nat → Int32) → (Nat → Int32) → (Nat → Int32) → (Nat → Int32) → (Nat → Int32) → Prop} {W E b : Int32} {c q : Nat} {a1 a2 a3 a4 a5 a6 : Nat → Int32} {L : Nat → Nat → Int} (hw : pb_LC W E c b a1 a2 L) (hL : pb_LB L c) (hc : c ≤ 10) (hq : q < c) (h0 : 0 < q)
    (h4 : ∀ p, p < q → pb_LS (pb_pa L 0 p) (a4 p).toInt) (h4q : (a4 q).toInt = 1000000)
    (H : ∀ a4' : Nat → Int32, (∀ p, p < q + 1 → pb_LS (pb_pa L 0 p) (a4' p).toInt) → J (nI (q + 1)) a1 a2 a3 a4' a5 a6) : ∃ f, wX_findUpTo_27 post J (nI q) W E (nI c) b f 0 a1 a2 a3 a4 a5 a6 := by
  refine pk_loop (σ := Nat → Int32) (fun f i s => wX_findUpTo_27 post J (nI q) W E (nI c) b f (nI i) a1 a2 a3 s a5 a6)
    (fun i s => (∀ p, p < q → pb_LS (pb_pa L 0 p) (s p).toInt) ∧ pb_LS (pb_PU L q i) (s q).toInt) q 0 a4 (by omega) ⟨h4, ?_⟩ ?_ ?_
  · rw [h4q]
    exact pb_ls_0 pb_PU_0
  · rintro f s ⟨k1, k2⟩
    refine pk_le q q (fun _ => nm_r (nI_1 q) (H s (fun p hp => ?_))) (fun z => absurd z (by omega))
    by_cases e : p = q
    · subst e
      exact pb_ls_c (fun x => pb_PU_pa h0 x) k2
    · exact k1 p (by omega)
  · rintro f i s hi ⟨k1, k2⟩ hk
    have es := fun x => pb_PU_s (L := L) (q := q) (i := i) x
    have g := k1 i hi
    refine pk_le q i (fun z => absurd z (by omega)) (fun _ => ?_)
    refine hw _ i q a3 s a5 a6 hi (by omega) (fun r hr => ?_)
    rw [nI_clamp (show q < 2 ^ 31 by omega), nI_clamp (show i < 2 ^ 31 by omega)]
    refine pb_ble 1000000 _ pb_far hr (fun z => nm_r (nI_1 i) (hk s ⟨k1, pb_ls_s1 k2 z es⟩)) (fun z => ⟨pk_in i 11 (by omega), ?_⟩)
    refine pb_ble 1000000 _ pb_far rfl (fun z2 => nm_r (nI_1 i) (hk s ⟨k1, pb_ls_s2 k2 g z2 es⟩)) (fun z2 => ⟨pk_in i 11 (by omega), pk_in q 11 (by omega), ?_⟩)
    have bl := hL i q hi (by omega) z
    have br := pb_pa_b hL hc (by omega) (pb_ls_p g z2)
    have sum : (s i + r).toInt = L i q + (s i).toInt := by
      rw [pb_ad (by omega) (by omega), hr]
      omega
    refine pb_ble _ _ rfl sum (fun z3 => nm_r (nI_1 i) (hk s ⟨k1, pb_ls_s3 k2 g z z2 z3 (by omega) es⟩)) (fun z3 => ⟨pk_in i 11 (by omega), pk_in q 11 (by omega), nm_e (nm_r (nI_1 i) (hk _ ⟨fun p hp => ?_, ?_⟩))⟩)
    · rw [pk_un (by omega)]
      exact k1 p hp
    · rw [pk_us, sum]
      exact pb_ls_s4 k2 g z z2 z3 es
theorem pb_upTo {post : St1 → Prop} {W E b : Int32} {c : Nat} {a1 a2 a3 a4 a5 a6 : Nat → Int32} {L : Nat → Nat → Int} (hw : pb_LC W E c b a1 a2 L) (hL : pb_LB L c) (hc : c ≤ 10) (h0 : 0 < c)
    (H : ∀ a4' : Nat → Int32, (∀ p, p < c → pb_LS (pb_pa L 0 p) (a4' p).toInt) → post (W, E, nI c, b, a1, a2, a3, a4', a5, a6)) : wpX_findUpTo post (W, E, nI c, b, a1, a2, a3, a4, a5, a6) := by
  unfold wpX_findUpTo
  refine nm_e ?_
  refine pk_loop (σ := Nat → Int32) (fun f i s => wX_findUpTo_9 post W E (nI c) b f (nI i) a1 a2 a3 s a5 a6)
    (fun i s => 0 < i ∧ ∀ p, p < i → pb_LS (pb_pa L 0 p) (s p).toInt) c 1 _ (by omega) ⟨by omega, fun p hp => ?_⟩ ?_ ?_
  · obtain rfl : p = 0 := by omega
    rw [pk_us, pb_i0]
    exact pb_ls_1 (fun x => pb_pa_self x)
  · rintro f s ⟨_, k1⟩
    exact pk_le c c (fun _ => H s k1) (fun z => absurd z (by omega))
  · rintro f i s hi ⟨hi0, k1⟩ hk
    refine pk_le c i (fun z => absurd z (by omega)) (fun _ => ?_)
    rw [nI_clamp (show i < 2 ^ 31 by omega)]
    refine ⟨pk_in i 11 (by omega), nm_e ?_⟩
    refine pb_u27 hw hL hc hi hi0 (fun p hp => ?_) ?_ (fun a4' g => hk a4' ⟨by omega, g⟩)
    · rw [pk_un (by omega)]
      exact k1 p hp
    · rw [pk_us, pb_far]
theorem pb_cb {post : Int32 → St1 → Prop} {W E : Int32} {c i : Nat} {a1 a2 : Nat → Int32} (hk : pb_ok W E c a1 a2) (s : pb_S) (hi : i + 1 < c)
    (H : ∀ (r : Int32) (s' : pb_S) (u v : Int), pb_LS (pb_pa (pb_M W E c a1 a2) 0 (i + 1)) u → pb_LS (pb_pa (pb_M W E c a1 a2) (i + 1) c) v → r.toInt = u + v → post r (pb_st W E c a1 a2 s')) : wpX_costBreaking post (pb_st W E c a1 a2 s) (nI i) := by
  obtain ⟨b, a3, a4, a5, a6⟩ := s
  have hc := hk.2.2.2.2.1
  have w := pb_LC_ok (b := -1) hk
  rw [pb_im1] at w
  have hL := pb_L_b (b := -1) hk
  have ec : nI c - 1 = nI (c - 1) := by
    obtain ⟨j, hj⟩ : ∃ j, c = j + 1 := ⟨c - 1, by omega⟩
    rw [hj, nI_pred, Nat.add_sub_cancel]
  unfold wpX_costBreaking
  refine br_f (nI_pos (by omega)) ?_
  refine pk_lt i (c - 1) (fun _ => ?_) (fun z => absurd z (by omega)) rfl ec
  refine pb_start hk (fun a3' a5' a6' h => ?_)
  refine pb_upTo w hL hc (by omega) (fun a4' g => ?_)
  have g1 := g (i + 1) hi
  have g2 := (h.2 (i + 1) (by omega)).1
  have f1 := pb_feas2 hk (Nat.zero_le (i + 1)) (by omega) g1
  have f2 := pb_feas2 hk (show i + 1 ≤ c by omega) (Nat.le_refl c) g2
  refine nm_r (nI_1 i) ?_
  rw [nI_clamp (show i + 1 < 2 ^ 31 by omega)]
  refine ⟨pk_in (i + 1) 11 (by omega), pb_ble 1000000 _ pb_far rfl (fun z => absurd z (by omega)) (fun _ => ⟨pk_in (i + 1) 11 (by omega), pb_ble 1000000 _ pb_far rfl (fun z => absurd z (by omega)) (fun _ => ⟨pk_in (i + 1) 11 (by omega), pk_in (i + 1) 11 (by omega), H _ (-1, a3', a4', a5', a6') _ _ g1 g2 ?_⟩)⟩)⟩
  exact pb_ad (by omega) (by omega)
theorem pb_ck {post : Int32 → St1 → Prop} {W E : Int32} {c i : Nat} {a1 a2 : Nat → Int32} (hk : pb_ok W E c a1 a2) (s : pb_S) (hi : i + 1 < c)
    (H : ∀ (r : Int32) (s' : pb_S) (v : Int), pb_LS (pb_pa (pb_L W.toInt E.toInt c a1 a2 i) 0 c) v → r.toInt = pb_nn v → post r (pb_st W E c a1 a2 s')) : wpX_costKeeping post (pb_st W E c a1 a2 s) (nI i) := by
  obtain ⟨b, a3, a4, a5, a6⟩ := s
  have hc := hk.2.2.2.2.1
  have w := pb_LC_ok (b := nI i) hk
  rw [nI_toInt (by omega)] at w
  have hL := pb_L_b (b := i) hk
  have ec : nI c - 1 = nI (c - 1) := by
    obtain ⟨j, hj⟩ : ∃ j, c = j + 1 := ⟨c - 1, by omega⟩
    rw [hj, nI_pred, Nat.add_sub_cancel]
  unfold wpX_costKeeping
  refine br_f (nI_pos (by omega)) ?_
  refine pk_lt i (c - 1) (fun _ => ?_) (fun z => absurd z (by omega)) rfl ec
  refine pb_learn w hL hc (fun a3' a5' a6' h => ?_)
  have h0 := (h.2 0 (Nat.zero_le c)).1
  refine pb_ble 1000000 _ pb_far rfl (fun z => H _ (nI i, a3', a4, a5', a6') _ h0 ?_) (fun z => H _ (nI i, a3', a4, a5', a6') _ h0 ?_)
  · unfold pb_nn
    rw [if_neg (by omega), pb_none]
  · unfold pb_nn
    rw [if_pos z]
end
section
/-! the law's costs -/
theorem pb_c204 {post : Int32 → St1 → Prop} {W E C : Int32} {c N : Nat} {a1 a2 : Nat → Int32} {e : Nat → Nat} (hk : pb_ok W E c a1 a2) (hN : pb_Nm (pb_M W E c a1 a2) c N) (he : pb_En (pb_M W E c a1 a2) c N e) (hC : pb_LS (pb_pa (pb_M W E c a1 a2) 0 c) C.toInt) (s : pb_S)
    (H : ∀ s : pb_S, post 1 (pb_st W E c a1 a2 s)) : ∃ f, wL_costs_204 post C (nI N) f 1 0 W E (nI c) s.1 a1 a2 s.2.1 s.2.2.1 s.2.2.2.1 s.2.2.2.2 := by
  have hc := hk.2.2.2.2.1
  have hN1 := hN.1
  have hN2 := hN.2.1
  have hec : ∀ k, k ≤ N → e k ≤ c := fun k h => by have := pb_En_mono2 he h (Nat.le_refl N); rw [he.2.1] at this; exact this
  refine pk_loop (σ := pb_S) (fun f k s => wL_costs_204 post C (nI N) f 1 (nI k) W E (nI c) s.1 a1 a2 s.2.1 s.2.2.1 s.2.2.2.1 s.2.2.2.2) (fun _ _ => True) (N - 1) 0 s (by omega) trivial ?_ ?_
  · intro f s _
    exact pk_le N (N - 1 + 1) (fun _ => ⟨rfl, H s⟩) (fun z => absurd z (by omega)) rfl (nI_1 _)
  · intro f k s hkN _ go
    refine pk_le N (k + 1) (fun z => absurd z (by omega)) (fun _ => ?_) rfl (nI_1 _)
    refine pb_eo hk hN he s (by omega) (fun z s' => ?_) (fun z => absurd z (by omega))
    have l1 := pb_En_lt he (k := k) (by omega)
    have l2 := pb_En_lt he (k := k + 1) (by omega)
    have b := hec (k + 1 + 1) (by omega)
    have ee : e (k + 1) - 1 + 1 = e (k + 1) := by omega
    refine br_f (by decide) (pb_cb hk s' (by omega) (fun r s'' u v hu hv hr => ?_))
    rw [ee] at hu hv
    have f1 := pb_feas2 hk (Nat.zero_le _) (by omega) hu
    have f2 := pb_feas2 hk (show e (k + 1) ≤ c by omega) (Nat.le_refl c) hv
    have uv := pb_via he (show k + 1 ≤ N by omega) hC hu hv (by omega) (by omega)
    exact pb_beq _ _ hr rfl (fun _ => nm_r (nI_1 k) (go s'' trivial)) (fun z => absurd uv z)
theorem pb_c175 {post : Int32 → St1 → Prop} {J : Int32 → Int32 → Int32 → Int32 → Int32 → Int32 → (Nat → Int32) → (Nat → Int32) → (Nat → Int32) → (Nat → Int32) → (Nat → Int32) → (Nat → Int32) → Prop} {x1 x2 x4 z0 W E C b : Int32} {i : Nat} {a1 a2 a3 a4 a5 a6 : Nat → Int32} (hz : z0.toInt = x2.toInt)
    (H : J 1 (nI (i + 1)) W E C b a1 a2 a3 a4 a5 a6) : wL_costs_175 post J x1 x2 x4 1 (nI i) z0 W E C b a1 a2 a3 a4 a5 a6 := by
  unfold wL_costs_175
  exact br_f (by decide) (br_t (Int32.toInt_inj.mp hz) (nm_r (nI_1 i) H))
theorem pb_c118 {post : Int32 → St1 → Prop} {W E C : Int32} {c N : Nat} {a1 a2 : Nat → Int32} {e : Nat → Nat} (hk : pb_ok W E c a1 a2) (hN : pb_Nm (pb_M W E c a1 a2) c N) (he : pb_En (pb_M W E c a1 a2) c N e) (hC : pb_LS (pb_pa (pb_M W E c a1 a2) 0 c) C.toInt) (s : pb_S)
    (H : ∀ s : pb_S, post 1 (pb_st W E c a1 a2 s)) : ∃ f, wL_costs_118 post (nI c) C (nI N) f 1 0 W E (nI c) s.1 a1 a2 s.2.1 s.2.2.1 s.2.2.2.1 s.2.2.2.2 := by
  have hc := hk.2.2.2.2.1
  have hN1 := hN.1
  have hN2 := hN.2.1
  have fC := pb_feas2 hk (Nat.zero_le c) (Nat.le_refl c) hC
  refine pk_loop (σ := pb_S) (fun f i s => wL_costs_118 post (nI c) C (nI N) f 1 (nI i) W E (nI c) s.1 a1 a2 s.2.1 s.2.2.1 s.2.2.2.1 s.2.2.2.2) (fun _ _ => True) (c - 1) 0 s (by omega) trivial ?_ ?_
  · intro f s _
    exact pk_le c (c - 1 + 1) (fun _ => pb_c204 hk hN he hC s H) (fun z => absurd z (by omega)) rfl (nI_1 _)
  · intro f i s hi _ go
    refine pk_le c (i + 1) (fun z => absurd z (by omega)) (fun _ => ?_) rfl (nI_1 _)
    refine pb_cb hk s (by omega) (fun r s' u v hu hv hr => ?_)
    refine pb_ck hk s' (by omega) (fun r2 s'' t ht hr2 => ?_)
    have f1 := pb_feas2 hk (Nat.zero_le _) (by omega) hu
    have f2 := pb_feas2 hk (show i + 1 ≤ c by omega) (Nat.le_refl c) hv
    obtain ⟨g1, g2, g3⟩ := pb_both (fun p r hp h => pb_L_bar p r hp h) (fun p => pb_L_bar2 (by omega) p) hC (by omega) hu hv ht (by omega) (by omega)
    have next : wL_costs_118 post (nI c) C (nI N) f 1 (nI (i + 1)) W E (nI c) s''.1 a1 a2 s''.2.1 s''.2.2.1 s''.2.2.2.1 s''.2.2.2.2 := go s'' trivial
    have nn1 : t < 1000000 → r2.toInt = t := fun z => by
      rw [hr2]
      exact if_pos z
    have nn2 : ¬ t < 1000000 → r2.toInt = -1000000 := fun z => by
      rw [hr2]
      exact if_neg z
    refine pb_beq _ _ hr pb_none (fun z => absurd z (by omega)) (fun _ => ?_)
    refine pb_beq _ _ rfl pb_none (fun z => ?_) (fun z => ?_)
    · unfold wL_costs_168
      refine pb_c175 ?_ next
      by_cases y : t < 1000000
      · have := nn1 y
        omega
      · omega
    · have y : t < 1000000 := by
        by_cases y : t < 1000000
        · exact y
        · exact absurd (nn2 y) z
      have y2 := nn1 y
      refine pb_ble _ _ y2 hr (fun q => pb_c175 (by omega) next) (fun q => ?_)
      unfold wL_costs_168
      exact pb_c175 (by omega) next
theorem pb_c51 {post : Int32 → St1 → Prop} {J : Int32 → Int32 → Int32 → Int32 → Int32 → Int32 → Int32 → (Nat → Int32) → (Nat → Int32) → (Nat → Int32) → (Nat → Int32) → (Nat → Int32) → (Nat → Int32) → Prop} {x1 x2 x3 x4 x6 W E C b : Int32} {k : Nat} {a1 a2 a3 a4 a5 a6 : Nat → Int32}
    (H : J x3 x4 (nI (k + 1)) W E C b a1 a2 a3 a4 a5 a6) : wL_costs_51 post J x1 x2 x3 x4 (nI k) x6 W E C b a1 a2 a3 a4 a5 a6 := by
  unfold wL_costs_51 wL_costs_52 wL_costs_65
  exact br_t rfl (br_t rfl (nm_r (nI_1 k) H))
theorem pb_c47 {post : Int32 → St1 → Prop} {J : Int32 → Int32 → Int32 → Int32 → Int32 → Int32 → Int32 → (Nat → Int32) → (Nat → Int32) → (Nat → Int32) → (Nat → Int32) → (Nat → Int32) → (Nat → Int32) → Prop} {x1 x2 x3 x4 x6 W E C b : Int32} {k : Nat} {a1 a2 a3 a4 a5 a6 : Nat → Int32}
    (H : J x6 (nI k) (nI (k + 1)) W E C b a1 a2 a3 a4 a5 a6) : wL_costs_47 post J x1 x2 x3 x4 (nI k) x6 W E C b a1 a2 a3 a4 a5 a6 := by
  unfold wL_costs_47 wL_costs_52 wL_costs_65
  exact br_f (by decide) (br_f (by decide) (nm_r (nI_1 k) H))
/-- the least over the numbers of lines below k, and the first that has it -/
def pb_min (f : Nat → Int) (k : Nat) (x3 x4 : Int32) : Prop := (x3.toInt = -1000000 ∧ x4 = nI 0 ∧ ∀ j, 1 ≤ j → j < k → f j = 1000000) ∨ (∃ j, 1 ≤ j ∧ j < k ∧ x4 = nI j ∧ x3.toInt = f j ∧ f j < 1000000 ∧ (∀ i, 1 ≤ i → i < k → f j ≤ f i) ∧ (∀ i, 1 ≤ i → i < j → f j < f i))
theorem pb_min_s1 {f : Nat → Int} {k : Nat} {x3 x4 : Int32} (h : pb_min f k x3 x4) (hf : f k = 1000000) : pb_min f (k + 1) x3 x4 := by
  rcases h with ⟨h1, h2, h3⟩ | ⟨j, h1, h2, h3, h4, h5, h6, h7⟩
  · refine Or.inl ⟨h1, h2, fun j g1 g2 => ?_⟩
    by_cases e : j = k
    · rw [e, hf]
    · exact h3 j g1 (by omega)
  · refine Or.inr ⟨j, h1, by omega, h3, h4, h5, fun i g1 g2 => ?_, h7⟩
    by_cases e : i = k
    · rw [e, hf]
      omega
    · exact h6 i g1 (by omega)
theorem pb_min_s2 {f : Nat → Int} {k : Nat} {x3 x4 : Int32} (h : pb_min f k x3 x4) (hx : ¬ x3.toInt = -1000000) (hf : x3.toInt ≤ f k) : pb_min f (k + 1) x3 x4 := by
  rcases h with ⟨h1, h2, h3⟩ | ⟨j, h1, h2, h3, h4, h5, h6, h7⟩
  · exact absurd h1 hx
  · refine Or.inr ⟨j, h1, by omega, h3, h4, h5, fun i g1 g2 => ?_, h7⟩
    by_cases e : i = k
    · rw [e]
      omega
    · exact h6 i g1 (by omega)
theorem pb_min_s3 {f : Nat → Int} {k : Nat} {x3 x4 r : Int32} (h : pb_min f k x3 x4) (hk : 1 ≤ k) (hr : r.toInt = f k) (hf : f k < 1000000) (hx : x3.toInt = -1000000 ∨ f k < x3.toInt) (hb : ∀ j, -400 ≤ f j) : pb_min f (k + 1) r (nI k) := by
  have all : ∀ i, 1 ≤ i → i < k → f k < f i := by
    intro i g1 g2
    rcases h with ⟨h1, h2, h3⟩ | ⟨j, h1, h2, h3, h4, h5, h6, h7⟩
    · rw [h3 i g1 g2]
      exact hf
    · have a := h6 i g1 g2
      have b := hb j
      rcases hx with hx | hx
      · omega
      · omega
  refine Or.inr ⟨k, hk, by omega, rfl, hr, hf, fun i g1 g2 => ?_, all⟩
  by_cases e : i = k
  · rw [e]
    exact Int.le_refl _
  · have := all i g1 (by omega)
    omega
theorem pb_lawCosts {post : Int32 → St1 → Prop} {W E : Int32} {c N : Nat} {a1 a2 : Nat → Int32} {e : Nat → Nat} (hk : pb_ok W E c a1 a2) (hN : pb_Nm (pb_M W E c a1 a2) c N) (he : pb_En (pb_M W E c a1 a2) c N e) (s : pb_S)
    (H : ∀ s : pb_S, post 1 (pb_st W E c a1 a2 s)) : wpL_costs post (pb_st W E c a1 a2 s) (nI c) := by
  have hc := hk.2.2.2.2.1
  have hN1 := hN.1
  have hN2 := hN.2.1
  have hL := pb_L_b (b := -1) hk
  unfold wpL_costs
  refine pb_cost hk s (fun C s' hC => ?_)
  have fC := pb_feas2 hk (Nat.zero_le c) (Nat.le_refl c) hC
  obtain ⟨f, hf⟩ : ∃ f : Nat → Int, ∀ k, pb_LS (pb_pt (pb_M W E c a1 a2) k 0 c) (f k) := ⟨fun k => (pb_pt_ex hL hc k 0 c (Nat.le_refl c)).choose, fun k => (pb_pt_ex hL hc k 0 c (Nat.le_refl c)).choose_spec⟩
  have hb : ∀ j, -400 ≤ f j := fun j => by
    rcases Int.lt_or_le (f j) 1000000 with z | z
    · exact (pb_pt_b10 hL hc (Nat.le_refl c) (pb_ls_p (hf j) z)).1
    · omega
  have hCf : ∀ j, C.toInt ≤ f j := fun j => by
    rcases Int.lt_or_le (f j) 1000000 with z | z
    · exact hC.1 _ ⟨j, pb_ls_p (hf j) z⟩
    · omega
  have hfN : f N = C.toInt := by
    obtain ⟨_, _, v, v1, v2, v3, v4⟩ := hN
    rw [pb_ls_u hC v2]
    exact pb_ls_u (hf N) v3
  have hfn : ∀ n, n < N → f n ≠ C.toInt := by
    obtain ⟨_, _, v, v1, v2, v3, v4⟩ := hN
    intro n hn z
    rw [pb_ls_u hC v2] at z
    have g := hf n
    rw [z] at g
    exact v4 n hn g
  refine pk_loop (σ := Int32 × Int32 × pb_S) (fun g k s => wL_costs_14 post (nI c) C g s.1 s.2.1 (nI k) W E (nI c) s.2.2.1 a1 a2 s.2.2.2.1 s.2.2.2.2.1 s.2.2.2.2.2.1 s.2.2.2.2.2.2) (fun k s => 1 ≤ k ∧ pb_min f k s.1 s.2.1) (c + 1) 1 (-1000000, 0, s') (by omega) ⟨by omega, Or.inl ⟨pb_none, rfl, fun j h1 h2 => absurd h2 (by omega)⟩⟩ ?_ ?_
  · rintro g ⟨x3, x4, s⟩ ⟨_, h⟩
    have h' : pb_min f (c + 1) x3 x4 := h
    have key : x3.toInt = C.toInt ∧ x4 = nI N := by
      rcases h' with ⟨h1, h2, h3⟩ | ⟨j, h1, h2, h3, h4, h5, h6, h7⟩
      · have := h3 N hN1 (by omega)
        omega
      · have a := h6 N hN1 (by omega)
        have b := hCf j
        have d : N = j := by
          rcases Nat.lt_trichotomy N j with z | z | z
          · have := h7 N hN1 z
            omega
          · exact z
          · exact absurd (show f j = C.toInt by omega) (hfn j z)
        rw [d]
        exact ⟨by rw [h4]; omega, h3⟩
    obtain ⟨k1, k2⟩ := key
    subst k2
    refine pk_lt c (c + 1) (fun _ => br_t (Int32.toInt_inj.mp k1) ?_) (fun z => absurd z (by omega))
    refine pb_lines hk hN s (fun s1 => br_t rfl ?_)
    refine pb_choices hk s1 (fun r s2 hr => ?_)
    exact pb_blt _ 1 rfl pb_i1 (fun z => absurd z (by omega)) (fun _ => pb_c118 hk hN he hC s2 H)
  · rintro g k ⟨x3, x4, s⟩ hkc ⟨hk1, h⟩ go
    have h' : pb_min f k x3 x4 := h
    refine pk_lt c k (fun z => absurd z (by omega)) (fun _ => ?_)
    refine pb_cw hk s (by omega) (fun r s1 v hv hr => ?_)
    have ev : v = f k := pb_ls_u hv (hf k)
    subst ev
    have fle := pb_ls_le hv
    have fge := hb k
    have nn1 : f k < 1000000 → r.toInt = f k := fun z => by
      rw [hr]
      exact if_pos z
    have nn2 : ¬ f k < 1000000 → r.toInt = -1000000 := fun z => by
      rw [hr]
      exact if_neg z
    refine pb_beq _ _ rfl pb_none (fun z => pb_c51 (go (x3, x4, s1) ⟨by omega, pb_min_s1 h' ?_⟩)) (fun z => ?_)
    · by_cases y : f k < 1000000
      · have := nn1 y
        omega
      · omega
    · have y : f k < 1000000 := by
        by_cases y : f k < 1000000
        · exact y
        · exact absurd (nn2 y) z
      have rk := nn1 y
      refine pb_beq _ _ rfl pb_none (fun z2 => pb_c47 (go (r, nI k, s1) ⟨by omega, pb_min_s3 h' hk1 rk y (Or.inl z2) hb⟩)) (fun z2 => ?_)
      refine pb_ble _ _ rfl rk (fun z3 => pb_c51 (go (x3, x4, s1) ⟨by omega, pb_min_s2 h' z2 z3⟩)) (fun z3 => ?_)
      exact pb_c47 (go (r, nI k, s1) ⟨by omega, pb_min_s3 h' hk1 rk y (Or.inr z3) hb⟩)
end
section
/-! the law's call -/
theorem pb_wordOk {post : Int32 → Prop} {x y : Int32} (hx : 1 ≤ x.toInt ∧ x.toInt ≤ 12) (hy : -40 ≤ y.toInt ∧ y.toInt ≤ 40) (H : post 1) : wpX_wordOk post () x y := by
  unfold wpX_wordOk
  exact pb_blt _ 1 rfl pb_i1 (fun z => absurd z (by omega)) (fun _ => pb_blt 12 _ (by decide) rfl (fun z => absurd z (by omega)) (fun _ => pb_blt _ (-40) rfl (by decide) (fun z => absurd z (by omega)) (fun _ => pb_blt 40 _ (by decide) rfl (fun z => absurd z (by omega)) (fun _ => H))))
theorem pb_word {post : Int32 → St1 → Prop} {W E x y : Int32} {c : Nat} {a1 a2 : Nat → Int32} (hk : pb_ok W E c a1 a2) (s : pb_S) (hx : 1 ≤ x.toInt ∧ x.toInt ≤ 12) (hy : -40 ≤ y.toInt ∧ y.toInt ≤ 40)
    (H : ∀ (r : Int32) (c' : Nat) (a1' a2' : Nat → Int32), pb_ok W E c' a1' a2' → post r (pb_st W E c' a1' a2' s)) : wpX_word post (pb_st W E c a1 a2 s) x y := by
  obtain ⟨b, a3, a4, a5, a6⟩ := s
  obtain ⟨k1, k2, k3, k4, k5, k6, k7⟩ := hk
  unfold wpX_word
  refine pb_wordOk hx hy (br_f (by decide) ?_)
  refine pk_lt c 10 (fun z => ?_) (fun z => H _ c a1 a2 ⟨k1, k2, k3, k4, k5, k6, k7⟩)
  rw [nI_clamp (show c < 2 ^ 31 by omega), pb_byte (x := x) (by omega) (by omega), pb_byte (x := y) (by omega) (by omega)]
  refine ⟨pk_in c 10 z, nm_e ⟨pk_in c 10 z, nm_e (nm_r (nI_1 c) (H _ (c + 1) _ _ ⟨k1, k2, k3, k4, by omega, fun i hi => ?_, fun i hi => ?_⟩))⟩⟩
  · by_cases e : i = c
    · rw [e, pk_us]
      exact hx
    · rw [pk_un e]
      exact k6 i (by omega)
  · by_cases e : i = c
    · rw [e, pk_us]
      exact hy
    · rw [pk_un e]
      exact k7 i (by omega)
theorem pb_change {post : Int32 → St1 → Prop} {W E x y : Int32} {c j : Nat} {a1 a2 : Nat → Int32} (hk : pb_ok W E c a1 a2) (s : pb_S) (hj : j < 10) (hx : 1 ≤ x.toInt ∧ x.toInt ≤ 12) (hy : -40 ≤ y.toInt ∧ y.toInt ≤ 40)
    (H : ∀ (r : Int32) (a1' a2' : Nat → Int32), pb_ok W E c a1' a2' → post r (pb_st W E c a1' a2' s)) : wpX_change post (pb_st W E c a1 a2 s) (nI j) x y := by
  obtain ⟨b, a3, a4, a5, a6⟩ := s
  obtain ⟨k1, k2, k3, k4, k5, k6, k7⟩ := hk
  unfold wpX_change
  refine br_f (nI_pos (by omega)) (pk_le c j (fun z => H _ a1 a2 ⟨k1, k2, k3, k4, k5, k6, k7⟩) (fun z => ?_))
  refine pb_wordOk hx hy (br_f (by decide) ?_)
  rw [nI_clamp (show j < 2 ^ 31 by omega), pb_byte (x := x) (by omega) (by omega), pb_byte (x := y) (by omega) (by omega)]
  refine ⟨pk_in j 10 hj, nm_e ⟨pk_in j 10 hj, nm_e (H _ _ _ ⟨k1, k2, k3, k4, by omega, fun i hi => ?_, fun i hi => ?_⟩)⟩⟩
  · by_cases e : i = j
    · rw [e, pk_us]
      exact hx
    · rw [pk_un e]
      exact k6 i (by omega)
  · by_cases e : i = j
    · rw [e, pk_us]
      exact hy
    · rw [pk_un e]
      exact k7 i (by omega)
theorem pb_back {post : Int32 → St1 → Prop} {W E : Int32} {c : Nat} {a1 a2 : Nat → Int32} (hk : pb_ok W E c a1 a2) (s : pb_S)
    (H : ∀ (r : Int32) (c' : Nat), pb_ok W E c' a1 a2 → post r (pb_st W E c' a1 a2 s)) : wpX_back post (pb_st W E c a1 a2 s) := by
  obtain ⟨b, a3, a4, a5, a6⟩ := s
  obtain ⟨k1, k2, k3, k4, k5, k6, k7⟩ := hk
  unfold wpX_back
  refine pk_eq c 0 (fun z => H _ c ⟨k1, k2, k3, k4, k5, k6, k7⟩) (fun z => ?_)
  obtain ⟨d, rfl⟩ : ∃ d, c = d + 1 := ⟨c - 1, by omega⟩
  refine nm_r (nI_pred d) (H _ d ⟨k1, k2, k3, k4, by omega, fun i hi => k6 i (by omega), fun i hi => k7 i (by omega)⟩)
theorem pb_width {post : Int32 → St1 → Prop} {W E : Int32} {c j : Nat} {a1 a2 : Nat → Int32} (hk : pb_ok W E c a1 a2) (s : pb_S) (hj : 12 ≤ j ∧ j ≤ 60)
    (H : ∀ (r W' : Int32), pb_ok W' E c a1 a2 → post r (pb_st W' E c a1 a2 s)) : wpX_setWidth post (pb_st W E c a1 a2 s) (nI j) := by
  obtain ⟨b, a3, a4, a5, a6⟩ := s
  obtain ⟨k1, k2, k3, k4, k5, k6, k7⟩ := hk
  unfold wpX_setWidth
  refine pk_lt j 5 (fun z => absurd z (by omega)) (fun _ => pk_le j 60 (fun _ => H _ _ ⟨?_, ?_, k3, k4, k5, k6, k7⟩) (fun z => absurd z (by omega)))
  · rw [nI_toInt (by omega)]
    omega
  · rw [nI_toInt (by omega)]
    omega
theorem pb_c42 {post : St1 → Prop} {W E x1 x2 x y : Int32} {c : Nat} {a1 a2 : Nat → Int32} (hk : pb_ok W E c a1 a2) (s : pb_S) (hx : 1 ≤ x.toInt ∧ x.toInt ≤ 12) (hy : -40 ≤ y.toInt ∧ y.toInt ≤ 40)
    (H : ∀ (W' : Int32) (c' : Nat) (a1' a2' : Nat → Int32) (s' : pb_S), pb_ok W' E c' a1' a2' → post (pb_st W' E c' a1' a2' s')) : wL_call_42 post x1 x2 x y W E (nI c) s.1 a1 a2 s.2.1 s.2.2.1 s.2.2.2.1 s.2.2.2.2 := by
  unfold wL_call_42
  refine br_c (fun _ => br_c (fun _ => br_c (fun _ => ?_) (fun _ => ⟨by decide, ?_⟩)) (fun _ => ?_)) (fun _ => ?_)
  · obtain ⟨j, hj, e⟩ := pk_andE (x2 >>> ((17 : Int32) &&& 31)) (m := 31) 5 (by decide)
    have e2 : (12 : Int32) + ((x2 >>> ((17 : Int32) &&& 31)) &&& 31) = nI (12 + j) := by
      rw [e]
      exact nI_add 12 j
    rw [e2]
    exact pb_width hk s (by omega) (fun r W' h => H W' c a1 a2 s h)
  · obtain ⟨j, hj, e⟩ := pk_andE (x2 >>> ((17 : Int32) &&& 31)) (m := 255) 8 (by decide)
    have e2 : ((x2 >>> ((17 : Int32) &&& 31)) &&& 255) - ((x2 >>> ((17 : Int32) &&& 31)) &&& 255) / 10 * 10 = nI (j % 10) := by
      rw [e]
      exact pk_rem (d := 10) (by omega) (by omega) (by omega)
    rw [e2]
    exact pb_change hk s (by omega) hx hy (fun r a1' a2' h => H W c a1' a2' s h)
  · exact pb_back hk s (fun r c' h => H W c' a1 a2 s h)
  · exact pb_word hk s hx hy (fun r c' a1' a2' h => H W c' a1' a2' s h)
theorem pb_call {post : St1 → Prop} {W E x1 x2 : Int32} {c : Nat} {a1 a2 : Nat → Int32} (hk : pb_ok W E c a1 a2) (s : pb_S)
    (H : ∀ (W' : Int32) (c' : Nat) (a1' a2' : Nat → Int32) (s' : pb_S), pb_ok W' E c' a1' a2' → post (pb_st W' E c' a1' a2' s')) : wpL_call post (pb_st W E c a1 a2 s) x1 x2 := by
  unfold wpL_call
  obtain ⟨j, hj, e⟩ := pk_andE x2 (m := 255) 8 (by decide)
  obtain ⟨j2, hj2, e2⟩ := pk_andE (x2 >>> ((8 : Int32) &&& 31)) (m := 255) 8 (by decide)
  have f1 : (1 : Int32) + ((x2 &&& 255) - (x2 &&& 255) / 12 * 12) = nI (1 + j % 12) := by
    rw [e, show nI j - nI j / 12 * 12 = nI (j % 12) from pk_rem (d := 12) (by omega) (by omega) (by omega)]
    exact nI_add 1 _
  have f2 : (((x2 >>> ((8 : Int32) &&& 31)) &&& 255) - ((x2 >>> ((8 : Int32) &&& 31)) &&& 255) / 81 * 81) - 40 = nI (j2 % 81) - nI 40 := by
    rw [e2, show nI j2 - nI j2 / 81 * 81 = nI (j2 % 81) from pk_rem (d := 81) (by omega) (by omega) (by omega)]
    rfl
  have b1 : 1 ≤ (nI (1 + j % 12)).toInt ∧ (nI (1 + j % 12)).toInt ≤ 12 := by
    rw [nI_toInt (by omega)]
    omega
  have b2 : -40 ≤ (nI (j2 % 81) - nI 40).toInt ∧ (nI (j2 % 81) - nI 40).toInt ≤ 40 := by
    rw [pk_sub_toInt (by omega) (by omega)]
    omega
  refine ⟨by decide, nm_r f1 ⟨by decide, nm_r f2 (br_c (fun _ => ?_) (fun _ => ?_))⟩⟩
  · exact pb_c42 hk s b1 (by rw [pb_i0]; omega) H
  · exact pb_c42 hk s b1 b2 H
end
section
/-! the law -/
theorem pb_46 {E : Int32} (L : Nat) (xs : Nat → Int32) (hL : L ≤ 260) (kc ks : Nat) {W : Int32} {c : Nat} {a1 a2 : Nat → Int32} (hk : pb_ok W E c a1 a2) (s : pb_S) : ∃ f, wL_law_46 (fun r => r = 1) L xs kc ks f 2 W E (nI c) s.1 a1 a2 s.2.1 s.2.2.1 s.2.2.2.1 s.2.2.2.2 := by
  refine pk_loop (σ := Int32 × Nat × (Nat → Int32) × (Nat → Int32) × pb_S) (fun f i s => wL_law_46 (fun r => r = 1) L xs kc ks f (nI (2 + 2 * i)) s.1 E (nI s.2.1) s.2.2.2.2.1 s.2.2.1 s.2.2.2.1 s.2.2.2.2.2.1 s.2.2.2.2.2.2.1 s.2.2.2.2.2.2.2.1 s.2.2.2.2.2.2.2.2) (fun _ s => pb_ok s.1 E s.2.1 s.2.2.1 s.2.2.2.1) ((L - 2) / 2) 0 (W, c, a1, a2, s) (by omega) hk ?_ ?_
  · rintro f ⟨W, c, a1, a2, s⟩ _
    exact pk_le L (2 + 2 * ((L - 2) / 2) + 1) (fun _ => rfl) (fun z => absurd z (by omega)) rfl (nI_1 _)
  · rintro f i ⟨W, c, a1, a2, s⟩ hi hk go
    have hk : pb_ok W E c a1 a2 := hk
    have next : ∀ (W' : Int32) (c' : Nat) (a1' a2' : Nat → Int32) (s' : pb_S), pb_ok W' E c' a1' a2' → wL_law_46 (fun r => r = 1) L xs kc ks f (nI (2 + 2 * (i + 1))) W' E (nI c') s'.1 a1' a2' s'.2.1 s'.2.2.1 s'.2.2.2.1 s'.2.2.2.2 := fun W' c' a1' a2' s' h => go (W', c', a1', a2', s') h
    have e2 : nI (2 + 2 * i) + 2 = nI (2 + 2 * (i + 1)) := nI_add (2 + 2 * i) 2
    refine pk_le L (2 + 2 * i + 1) (fun z => absurd z (by omega)) (fun _ => ⟨pk_in (2 + 2 * i) L (by omega), pk_in (2 + 2 * i + 1) L (by omega) (nI_1 _), ?_⟩) rfl (nI_1 _)
    refine pb_call hk s (fun W' c' a1' a2' s' h => ?_)
    unfold wpX_words
    have hc := h.2.2.2.2.1
    refine pk_le c' 0 (fun _ => nm_r e2 (next W' c' a1' a2' s' h)) (fun hc0 => ?_)
    have hL := pb_L_b (b := -1) h
    obtain ⟨N, hN⟩ := pb_Nm_ex hL hc hc0 (pb_L_1 h)
    obtain ⟨e, he⟩ := pb_En_ex hL hc hN
    refine pb_cost h s' (fun r s1 hr => br_c (fun _ => nm_r e2 (next W' c' a1' a2' s1 h)) (fun _ => ?_))
    refine pb_lawLines h hN he s1 (fun s2 => br_f (by decide) ?_)
    exact pb_lawCosts h hN he s2 (fun s3 => br_f (by decide) (nm_r e2 (next W' c' a1' a2' s3 h)))
theorem pb_40 {z0 z1 : Int32} (L : Nat) (xs : Nat → Int32) (hL : L ≤ 260) (h1 : 12 ≤ z1.toInt ∧ z1.toInt ≤ 60) (h0 : 0 ≤ z0.toInt ∧ z0.toInt ≤ 100) : wL_law_40 (fun r => r = 1) L xs z0 z1 1 10 0 0 0 0 := by
  have ok : pb_ok z1 z0 0 (fun _ => 0) (fun _ => 0) := ⟨h1.1, h1.2, h0.1, h0.2, by omega, fun i hi => absurd hi (by omega), fun i hi => absurd hi (by omega)⟩
  unfold wL_law_40
  refine ⟨6, 174, by decide, by decide, ?_⟩
  unfold wpX_init
  refine ⟨by decide, by decide, by decide, by decide, by decide, by decide, by decide, by decide, by decide, by decide, by decide, by decide, ?_⟩
  refine pb_ble 5 _ (by decide) rfl (fun _ => pb_ble _ 60 rfl (by decide) (fun _ => ?_) (fun z => absurd z (by omega))) (fun z => absurd z (by omega))
  unfold wX_init_74
  refine pb_ble 0 _ (by decide) rfl (fun _ => pb_ble _ 100 rfl (by decide) (fun _ => ?_) (fun z => absurd z (by omega))) (fun z => absurd z (by omega))
  exact pb_46 L xs hL _ _ ok (0, fun _ => 0, fun _ => 0, fun _ => 0, fun _ => 0)
theorem pb_23 {z0 : Int32} (L : Nat) (xs : Nat → Int32) (hL : L ≤ 260) (h1 : 12 ≤ z0.toInt ∧ z0.toInt ≤ 60) : wL_law_23 (fun r => r = 1) L xs z0 1 10 0 0 0 0 := by
  unfold wL_law_23
  refine pk_le L 1 (fun _ => pb_40 L xs hL h1 (by decide)) (fun z => ⟨pk_in 1 L (by omega), ?_⟩)
  obtain ⟨j, hj, e⟩ := pk_andE (xs (1 : Int32).toNatClampNeg) (m := 63) 6 (by decide)
  rw [e]
  refine pb_40 L xs hL h1 ?_
  rw [nI_toInt (by omega)]
  omega
theorem i_vc (xs : Nat → Int32) (L : Nat) (hL : L ≤ 260) : wpL_law (fun r => r = 1) L xs := by
  unfold wpL_law
  refine pk_le L 0 (fun _ => pb_23 L xs hL (by decide)) (fun z => ⟨pk_in 0 L z, ?_⟩)
  obtain ⟨j, hj, e⟩ := pk_andE (xs (0 : Int32).toNatClampNeg) (m := 15) 4 (by decide)
  have e2 : (12 : Int32) + ((xs (0 : Int32).toNatClampNeg) &&& 15) = nI (12 + j) := by
    rw [e]
    exact nI_add 12 j
  rw [e2]
  refine pb_23 L xs hL ?_
  rw [nI_toInt (by omega)]
  omega
end
