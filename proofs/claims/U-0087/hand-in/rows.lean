section
/-! rows of the kit, to paste (kit/rows) -/
theorem pk_us {f : Nat → Int32} {k : Nat} {x : Int32} : upd f k x k = x := if_pos rfl
theorem pk_un {f : Nat → Int32} {k j : Nat} {x : Int32} (h : j ≠ k) : upd f k x j = f j := if_neg h
theorem pk_sub {a b : Nat} (h : b ≤ a) : nI a - nI b = nI (a - b) := by
  obtain ⟨c, rfl⟩ : ∃ c, a = c + b := ⟨a - b, by omega⟩
  rw [← nI_add, Int32.add_sub_cancel, Nat.add_sub_cancel]
theorem pk_m1 (n : Nat) : nI (n + 1) + (-1) = nI n := by
  rw [← nI_1, Int32.add_assoc, show (1 : Int32) + (-1) = 0 from rfl, Int32.add_zero]
theorem pk_ix (x : Int32) {n : Nat} (hn : n < 2 ^ 31) : x < 0 ∨ nI n ≤ x ∨ ∃ j : Nat, j < n ∧ x = nI j := by
  by_cases h : x < 0
  · exact Or.inl h
  · obtain ⟨j, hj, rfl⟩ := nI_of h
    by_cases h2 : j < n
    · exact Or.inr (Or.inr ⟨j, h2, rfl⟩)
    · exact Or.inr (Or.inl (nI_le (by omega) hj))
theorem pk_le {x y : Int32} {A B : Prop} (a b : Nat) (f : a ≤ b → A) (g : b < a → B) (hx : x = nI a := by rfl) (hy : y = nI b := by rfl) (ha : a < 2 ^ 31 := by omega) (hb : b < 2 ^ 31 := by omega) : (x ≤ y → A) ∧ (¬ x ≤ y → B) := by
  subst hx hy
  rw [nI_leI ha hb]
  exact ⟨f, fun z => g (by omega)⟩
theorem pk_lt {x y : Int32} {A B : Prop} (a b : Nat) (f : a < b → A) (g : b ≤ a → B) (hx : x = nI a := by rfl) (hy : y = nI b := by rfl) (ha : a < 2 ^ 31 := by omega) (hb : b < 2 ^ 31 := by omega) : (x < y → A) ∧ (¬ x < y → B) := by
  subst hx hy
  rw [nI_ltI ha hb]
  exact ⟨f, fun z => g (by omega)⟩
theorem pk_eq {x y : Int32} {A B : Prop} (a b : Nat) (f : a = b → A) (g : a ≠ b → B) (hx : x = nI a := by rfl) (hy : y = nI b := by rfl) (ha : a < 2 ^ 31 := by omega) (hb : b < 2 ^ 31 := by omega) : (x = y → A) ∧ (¬ x = y → B) := by
  subst hx hy
  rw [nI_eq ha hb]
  exact ⟨f, g⟩
theorem pk_in {x : Int32} (n N : Nat) (h : n < N) (hx : x = nI n := by rfl) (hN : N < 2 ^ 31 := by omega) : vp_in x N := by
  subst hx
  exact vp_in_nI h hN
theorem pk_cl {x : Int32} (n : Nat) (hx : x = nI n := by rfl) (h : n < 2 ^ 31 := by omega) : x.toNatClampNeg = n := by
  subst hx
  exact nI_clamp h
theorem pk_tn {n : Nat} (h : n < 2 ^ 32) : (nI n).toBitVec.toNat = n := Nat.mod_eq_of_lt h
theorem pk_and (x : Int32) {m : Int32} (k : Nat) (hm : m.toBitVec.toNat = 2 ^ k - 1) : x &&& m = nI (x.toBitVec.toNat % 2 ^ k) := by
  apply Int32.toBitVec_inj.mp
  apply BitVec.eq_of_toNat_eq
  rw [Int32.toBitVec_and, BitVec.toNat_and, hm, Nat.and_two_pow_sub_one_eq_mod]
  show _ = (BitVec.ofNat 32 _).toNat
  rw [BitVec.toNat_ofNat]
  exact (Nat.mod_eq_of_lt (Nat.lt_of_le_of_lt (Nat.mod_le _ _) x.toBitVec.isLt)).symm
theorem pk_andN {n : Nat} (h : n < 2 ^ 32) {m : Int32} (k : Nat) (hm : m.toBitVec.toNat = 2 ^ k - 1) : nI n &&& m = nI (n % 2 ^ k) := by
  rw [pk_and _ k hm, pk_tn h]
theorem pk_shl (a s : Int32) (k : Nat) (hs : (s.toBitVec.smod 32).toNat = k) : (a <<< s).toBitVec.toNat = a.toBitVec.toNat * 2 ^ k % 2 ^ 32 := by
  show (a.toBitVec <<< (s.toBitVec.smod 32).toNat).toNat = _
  rw [hs, BitVec.toNat_shiftLeft, Nat.shiftLeft_eq]
theorem pk_shlN {n : Nat} (s : Int32) (k : Nat) (hs : (s.toBitVec.smod 32).toNat = k) (h : n * 2 ^ k < 2 ^ 32) : nI n <<< s = nI (n * 2 ^ k) := by
  apply Int32.toBitVec_inj.mp
  apply BitVec.eq_of_toNat_eq
  have hn : n < 2 ^ 32 := Nat.lt_of_le_of_lt (Nat.le_mul_of_pos_right n (Nat.two_pow_pos k)) h
  rw [pk_shl _ _ k hs, pk_tn hn, pk_tn h, Nat.mod_eq_of_lt h]
theorem pk_shr (a s : Int32) (k : Nat) (hs : (s.toBitVec.smod 32).toNat = k) : (a >>> s).toInt = a.toInt >>> k := by
  show (a.toBitVec.sshiftRight (s.toBitVec.smod 32).toNat).toInt = _
  rw [hs, BitVec.toInt_sshiftRight]
  rfl
theorem pk_shrN {n : Nat} (h : n < 2 ^ 31) (s : Int32) (k : Nat) (hs : (s.toBitVec.smod 32).toNat = k) : nI n >>> s = nI (n / 2 ^ k) := by
  apply Int32.toInt_inj.mp
  have h2 : n / 2 ^ k ≤ n := Nat.div_le_self _ _
  rw [pk_shr _ _ k hs, nI_toInt h, nI_toInt (by omega), Int.shiftRight_eq_div_pow]
  rfl
theorem pk_charN {q : Nat} (hq : q < 65536) : narrow .char (.int (nI q)) = .int (nI q) ∧ fits .char (.int (nI q)) = true := by
  constructor
  · have e : (nI q).toUInt32.toUInt16.toUInt32.toInt32 = nI q := by
      apply Int32.toBitVec_inj.mp
      apply BitVec.eq_of_toNat_eq
      show (nI q).toUInt32.toUInt16.toUInt32.toNat = q % 2 ^ 32
      rw [UInt16.toNat_toUInt32, UInt32.toNat_toUInt16, show (nI q).toUInt32.toNat = q % 2 ^ 32 from rfl]
      omega
    exact congrArg Value.int e
  · have a : (0 : Int32) ≤ nI q := nI_pos' (by omega)
    have b : nI q ≤ 65535 := nI_le (b := 65535) (by omega) (by decide)
    show (decide ((0 : Int32) ≤ nI q) && decide (nI q ≤ 65535)) = true
    rw [decide_eq_true a, decide_eq_true b]
    rfl
theorem pk_char (x : Int32) : (x.toUInt32 % 65536).toInt32 = nI (x.toBitVec.toNat % 65536) := by
  apply Int32.toBitVec_inj.mp
  apply BitVec.eq_of_toNat_eq
  rw [pk_tn (by omega)]
  show (x.toUInt32 % 65536).toNat = _
  rw [UInt32.toNat_mod]
  rfl
theorem pk_nc (x : Int32) : narrow .char (.int (x.toUInt32 % 65536).toInt32) = .int (x.toUInt32 % 65536).toInt32 := by
  rw [pk_char]
  exact (pk_charN (Nat.mod_lt _ (by decide))).1
end
section
/-! graphs as edge predicates: connection, bridges, adding an edge, labels, counting -/
def dr_C (F : Nat → Nat → Prop) (p q : Nat) : Prop := ∀ S : Nat → Prop, (∀ x y, F x y → (S x ↔ S y)) → S p → S q
theorem dr_Cr {F : Nat → Nat → Prop} (p : Nat) : dr_C F p p := fun _ _ h => h
theorem dr_Ct {F : Nat → Nat → Prop} {p q r : Nat} (h : dr_C F p q) (k : dr_C F q r) : dr_C F p r := fun S hS z => k S hS (h S hS z)
theorem dr_Cs {F : Nat → Nat → Prop} {p q : Nat} (h : dr_C F p q) : dr_C F q p := by
  intro S hS hq
  exact Classical.byContradiction fun hp => h (fun z => ¬ S z) (fun x y e => not_congr (hS x y e)) hp hq
theorem dr_Ce {F : Nat → Nat → Prop} {x y : Nat} (h : F x y) : dr_C F x y := fun S hS z => (hS x y h).mp z
theorem dr_Cm {F G : Nat → Nat → Prop} (m : ∀ x y, F x y → G x y) {p q : Nat} (h : dr_C F p q) : dr_C G p q :=
  fun S hS z => h S (fun x y e => hS x y (m x y e)) z
def dr_M (F : Nat → Nat → Prop) (a b : Nat) : Nat → Nat → Prop := fun x y => F x y ∧ ¬ (x = a ∧ y = b)
def dr_P (F : Nat → Nat → Prop) (a b : Nat) : Nat → Nat → Prop := fun x y => F x y ∨ (x = a ∧ y = b)
def dr_A (F : Nat → Nat → Prop) : Prop := ∀ x y, F x y → ¬ dr_C (dr_M F x y) x y
theorem dr_Cp {F : Nat → Nat → Prop} {u v p q : Nat} (h : dr_C (dr_P F u v) p q) : dr_C F p q ∨ (dr_C F p u ∧ dr_C F v q) ∨ (dr_C F p v ∧ dr_C F u q) := by
  refine h (fun z => dr_C F p z ∨ (dr_C F p u ∧ dr_C F v z) ∨ (dr_C F p v ∧ dr_C F u z)) ?_ (Or.inl (dr_Cr p))
  intro x y e
  rcases e with e | ⟨rfl, rfl⟩
  · have k := dr_Ce e
    have k' := dr_Cs k
    constructor
    · rintro (a | ⟨a, b⟩ | ⟨a, b⟩)
      · exact Or.inl (dr_Ct a k)
      · exact Or.inr (Or.inl ⟨a, dr_Ct b k⟩)
      · exact Or.inr (Or.inr ⟨a, dr_Ct b k⟩)
    · rintro (a | ⟨a, b⟩ | ⟨a, b⟩)
      · exact Or.inl (dr_Ct a k')
      · exact Or.inr (Or.inl ⟨a, dr_Ct b k'⟩)
      · exact Or.inr (Or.inr ⟨a, dr_Ct b k'⟩)
  · constructor
    · rintro (a | ⟨a, b⟩ | ⟨a, b⟩)
      · exact Or.inr (Or.inl ⟨a, dr_Cr _⟩)
      · exact Or.inr (Or.inl ⟨a, dr_Cr _⟩)
      · exact Or.inl a
    · rintro (a | ⟨a, b⟩ | ⟨a, b⟩)
      · exact Or.inr (Or.inr ⟨a, dr_Cr _⟩)
      · exact Or.inl a
      · exact Or.inr (Or.inr ⟨a, dr_Cr _⟩)
theorem dr_AP {F : Nat → Nat → Prop} {u v : Nat} (hA : dr_A F) (hn : ¬ dr_C F u v) : dr_A (dr_P F u v) := by
  intro x y e hc
  by_cases hxy : x = u ∧ y = v
  · obtain ⟨rfl, rfl⟩ := hxy
    refine hn (dr_Cm ?_ hc)
    intro a b ⟨z, w⟩
    exact z.resolve_right w
  · have e' : F x y := e.resolve_right hxy
    have hc' : dr_C (dr_P (dr_M F x y) u v) x y := by
      refine dr_Cm ?_ hc
      rintro a b ⟨z | z, w⟩
      · exact Or.inl ⟨z, w⟩
      · exact Or.inr z
    have up : ∀ {p q : Nat}, dr_C (dr_M F x y) p q → dr_C F p q := fun h => dr_Cm (fun a b z => z.1) h
    rcases dr_Cp hc' with h | ⟨h1, h2⟩ | ⟨h1, h2⟩
    · exact hA x y e' h
    · exact hn (dr_Ct (dr_Cs (up h1)) (dr_Ct (dr_Ce e') (dr_Cs (up h2))))
    · exact hn (dr_Ct (up h2) (dr_Ct (dr_Cs (dr_Ce e')) (up h1)))
/-- labels tell the parts -/
def dr_L (F : Nat → Nat → Prop) (g : Nat → Nat) : Prop := ∀ p q, dr_C F p q ↔ g p = g q
theorem dr_LP {F : Nat → Nat → Prop} {g : Nat → Nat} (h : dr_L F g) (u v : Nat) : dr_L (dr_P F u v) (fun p => if g p = g v then g u else g p) := by
  intro p q
  have m : ∀ {p q : Nat}, dr_C F p q → dr_C (dr_P F u v) p q := fun h => dr_Cm (fun a b z => Or.inl z) h
  have uv : dr_C (dr_P F u v) u v := dr_Ce (Or.inr ⟨rfl, rfl⟩)
  constructor
  · intro hc
    rcases dr_Cp hc with k | ⟨k1, k2⟩ | ⟨k1, k2⟩
    · have := (h _ _).mp k
      dsimp only
      rw [this]
    · have e1 := (h _ _).mp k1
      have e2 := (h _ _).mp k2
      dsimp only
      rw [e1, ← e2, if_pos rfl]
      split <;> rfl
    · have e1 := (h _ _).mp k1
      have e2 := (h _ _).mp k2
      dsimp only
      rw [e1, ← e2, if_pos rfl]
      split <;> rfl
  · intro e
    dsimp only at e
    by_cases hp : g p = g v
    · rw [if_pos hp] at e
      by_cases hq : g q = g v
      · exact m ((h _ _).mpr (hp.trans hq.symm))
      · rw [if_neg hq] at e
        exact dr_Ct (m ((h _ _).mpr hp)) (dr_Ct (dr_Cs uv) (m ((h _ _).mpr e)))
    · rw [if_neg hp] at e
      by_cases hq : g q = g v
      · rw [if_pos hq] at e
        exact dr_Ct (m ((h _ _).mpr e)) (dr_Ct uv (m ((h _ _).mpr hq.symm)))
      · rw [if_neg hq] at e
        exact m ((h _ _).mpr e)
theorem dr_Lc {F : Nat → Nat → Prop} {g g' : Nat → Nat} (h : dr_L F g) (e : ∀ p q, g p = g q ↔ g' p = g' q) : dr_L F g' := fun p q => (h p q).trans (e p q)
theorem dr_L0 {F : Nat → Nat → Prop} (h0 : ∀ x y, ¬ F x y) (g : Nat → Nat) (hg : ∀ p q, g p = g q → p = q) : dr_L F g := by
  intro p q
  constructor
  · intro hc
    have : q = p := hc (fun z => z = p) (fun x y e => absurd e (h0 x y)) rfl
    rw [this]
  · intro e
    rw [hg p q e]
    exact dr_Cr q
/-- counting -/
noncomputable def dr_b (P : Prop) : Nat := @ite Nat P (Classical.propDecidable P) 1 0
theorem dr_b1 {P : Prop} (h : P) : dr_b P = 1 := by unfold dr_b; exact if_pos h
theorem dr_b0 {P : Prop} (h : ¬ P) : dr_b P = 0 := by unfold dr_b; exact if_neg h
theorem dr_bm {P Q : Prop} (h : P → Q) : dr_b P ≤ dr_b Q := by
  by_cases p : P
  · rw [dr_b1 p, dr_b1 (h p)]; exact Nat.le_refl _
  · rw [dr_b0 p]; exact Nat.zero_le _
noncomputable def dr_n (P : Nat → Prop) : Nat → Nat
  | 0 => 0
  | n + 1 => dr_n P n + dr_b (P n)
theorem dr_n_le {P Q : Nat → Prop} : ∀ n, (∀ j, j < n → P j → Q j) → dr_n P n ≤ dr_n Q n := by
  intro n
  induction n with
  | zero => intro _; exact Nat.le_refl _
  | succ n ih =>
    intro h
    have a := ih (fun j hj => h j (by omega))
    have b : dr_b (P n) ≤ dr_b (Q n) := dr_bm (h n (by omega))
    show dr_n P n + dr_b (P n) ≤ dr_n Q n + dr_b (Q n)
    omega
theorem dr_n_lt {P Q : Nat → Prop} {z : Nat} (hz : Q z) (hn : ¬ P z) : ∀ n, (∀ j, j < n → P j → Q j) → z < n → dr_n P n < dr_n Q n := by
  intro n
  induction n with
  | zero => intro _ h; exact absurd h (by omega)
  | succ n ih =>
    intro h hlt
    have b : dr_b (P n) ≤ dr_b (Q n) := dr_bm (h n (by omega))
    show dr_n P n + dr_b (P n) < dr_n Q n + dr_b (Q n)
    by_cases e : z = n
    · subst e
      have a := dr_n_le z (fun j hj => h j (by omega))
      rw [dr_b0 hn, dr_b1 hz]
      omega
    · have a := ih (fun j hj => h j (by omega)) (by omega)
      omega
theorem dr_n_eq {P Q : Nat → Prop} (n : Nat) (h : ∀ j, j < n → (P j ↔ Q j)) : dr_n P n = dr_n Q n :=
  Nat.le_antisymm (dr_n_le n fun j hj => (h j hj).mp) (dr_n_le n fun j hj => (h j hj).mpr)
theorem dr_n_s {P Q : Nat → Prop} {z : Nat} (hz : Q z) (hn : ¬ P z) : ∀ n, (∀ j, j < n → (Q j ↔ P j ∨ j = z)) → z < n → dr_n Q n = dr_n P n + 1 := by
  intro n
  induction n with
  | zero => intro _ h; exact absurd h (by omega)
  | succ n ih =>
    intro h hlt
    show dr_n Q n + dr_b (Q n) = dr_n P n + dr_b (P n) + 1
    by_cases e : z = n
    · subst e
      have a : dr_n Q z = dr_n P z := dr_n_eq z fun j hj => by
        rw [h j (by omega)]
        exact ⟨fun k => k.resolve_right (by omega), Or.inl⟩
      rw [dr_b0 hn, dr_b1 hz, a]
    · have a := ih (fun j hj => h j (by omega)) (by omega)
      have b : dr_b (Q n) = dr_b (P n) := by
        have k : Q n ↔ P n := by
          rw [h n (by omega)]
          exact ⟨fun k => k.resolve_right (by omega), Or.inl⟩
        rw [propext k]
      omega
theorem dr_n_top (P : Nat → Prop) : ∀ n, dr_n P n ≤ n := by
  intro n
  induction n with
  | zero => exact Nat.le_refl _
  | succ n ih =>
    show dr_n P n + dr_b (P n) ≤ n + 1
    have : dr_b (P n) ≤ 1 := by
      by_cases h : P n
      · rw [dr_b1 h]; exact Nat.le_refl _
      · rw [dr_b0 h]; exact Nat.zero_le _
    omega
theorem dr_n_or {P Q : Nat → Prop} : ∀ n, (∀ j, j < n → ¬ (P j ∧ Q j)) → dr_n (fun j => P j ∨ Q j) n = dr_n P n + dr_n Q n := by
  intro n
  induction n with
  | zero => intro _; rfl
  | succ n ih =>
    intro h
    have a := ih (fun j hj => h j (by omega))
    show dr_n (fun j => P j ∨ Q j) n + dr_b (P n ∨ Q n) = dr_n P n + dr_b (P n) + (dr_n Q n + dr_b (Q n))
    have b : dr_b (P n ∨ Q n) = dr_b (P n) + dr_b (Q n) := by
      by_cases p : P n
      · have q : ¬ Q n := fun q => h n (by omega) ⟨p, q⟩
        rw [dr_b1 p, dr_b0 q, dr_b1 (Or.inl p)]
      · by_cases q : Q n
        · rw [dr_b0 p, dr_b1 q, dr_b1 (Or.inr q)]
        · rw [dr_b0 p, dr_b0 q, dr_b0 (fun z => z.elim p q)]
    omega
theorem dr_min {α : Type} (f : α → Nat) (a : α) : ∃ s, ∀ t, f s ≤ f t := by
  have : ∀ k, (∃ s, f s ≤ k) → ∃ s, ∀ t, f s ≤ f t := by
    intro k
    induction k with
    | zero => rintro ⟨s, hs⟩; exact ⟨s, fun t => by omega⟩
    | succ k ih =>
      rintro ⟨s, hs⟩
      by_cases h : ∃ t, f t ≤ k
      · exact ih h
      · refine ⟨s, fun t => ?_⟩
        have : ¬ f t ≤ k := fun z => h ⟨t, z⟩
        omega
  exact this (f a) ⟨a, Nat.le_refl _⟩
theorem dr_max {P : Nat → Prop} : ∀ b, (∀ y, P y → y < b) → ∀ z, P z → ∃ x, P x ∧ ∀ y, P y → y ≤ x := by
  intro b
  induction b with
  | zero => intro h z hz; exact absurd (h z hz) (by omega)
  | succ b ih =>
    intro h z hz
    by_cases k : P b
    · exact ⟨b, k, fun y hy => by have := h y hy; omega⟩
    · refine ih (fun y hy => ?_) z hz
      have := h y hy
      have : y ≠ b := fun e => k (e ▸ hy)
      omega
end
section
/-! the net: cells, links, switchings; a replay state c (24: not placed; else the smallest cell of the derivation) -/
def pn_IN (n : Nat) (K : Nat → Nat) (j : Nat) : Prop := j < n ∧ K j ≠ 0 ∧ K j ≠ 6
def pn_N (n : Nat) (K A B : Nat → Nat) : Prop := ∀ j, pn_IN n K j →
  K j ≤ 5 ∧ (K j = 1 → pn_IN n K (A j) ∧ K (A j) = 2 ∧ A (A j) = j) ∧ (K j = 2 → pn_IN n K (A j) ∧ K (A j) = 1 ∧ A (A j) = j) ∧
  (3 ≤ K j → pn_IN n K (A j) ∧ pn_IN n K (B j) ∧ A j < j ∧ B j < j ∧ A j ≠ B j)
def pn_E (n : Nat) (K A B : Nat → Nat) (s : Nat → Bool) (x y : Nat) : Prop :=
  pn_IN n K x ∧ ((K x = 1 ∧ y = A x) ∨ ((K x = 3 ∨ K x = 5) ∧ (y = A x ∨ y = B x)) ∨ (K x = 4 ∧ y = if s x = true then B x else A x))
def pn_lab (c : Nat → Nat) (p : Nat) : Nat := if c p = 24 then 24 + p else c p
def pn_Ep (n : Nat) (K A B c : Nat → Nat) (s : Nat → Bool) (x y : Nat) : Prop := pn_E n K A B s x y ∧ c x ≠ 24
def pn_V1 (n : Nat) (K c : Nat → Nat) : Prop := ∀ j, c j = 24 ∨ (c j ≤ j ∧ c (c j) = c j ∧ pn_IN n K j)
def pn_V2 (K A B c : Nat → Nat) : Prop := ∀ j, c j ≠ 24 → (K j ≤ 2 → c (A j) = c j) ∧ (3 ≤ K j → c (A j) = c j ∧ c (B j) = c j)
def pn_V3 (n : Nat) (K A B c : Nat → Nat) : Prop := ∀ s, dr_A (pn_Ep n K A B c s) ∧ dr_L (pn_Ep n K A B c s) (pn_lab c)
def pn_V (n : Nat) (K A B c : Nat → Nat) : Prop := pn_V1 n K c ∧ pn_V2 K A B c ∧ pn_V3 n K A B c
def pn_rd (n : Nat) (K A B c : Nat → Nat) (x : Nat) : Prop :=
  pn_IN n K x ∧ K x ≠ 2 ∧ c x = 24 ∧ (K x = 1 ∨ (c (A x) ≠ 24 ∧ c (B x) ≠ 24 ∧ (K x = 4 ↔ c (A x) = c (B x))))
def pn_pl (K A B c : Nat → Nat) (x : Nat) : Nat → Nat := fun j =>
  if K x = 1 then (if j = x ∨ j = A x then min x (A x) else c j)
  else if j = x ∨ c j = c (A x) ∨ c j = c (B x) then min (c (A x)) (c (B x)) else c j
section
variable {n : Nat} {K A B c : Nat → Nat}
theorem pn_V0 : pn_V n K A B (fun _ => 24) := by
  refine ⟨fun _ => Or.inl rfl, fun j h => absurd rfl h, fun s => ⟨fun x y e => absurd rfl e.2, ?_⟩⟩
  refine dr_L0 (fun x y e => e.2 rfl) _ ?_
  intro p q e
  simp only [pn_lab, if_pos] at e
  omega
theorem pn_pl1 {x : Nat} (h : K x = 1) (j : Nat) : pn_pl K A B c x j = if j = x ∨ j = A x then min x (A x) else c j := if_pos h
theorem pn_pl2 {x : Nat} (h : K x ≠ 1) (j : Nat) : pn_pl K A B c x j = if j = x ∨ c j = c (A x) ∨ c j = c (B x) then min (c (A x)) (c (B x)) else c j := if_neg h
/-- the mate of a cell that is not placed is not placed -/
theorem pn_mate (N : pn_N n K A B) (V : pn_V2 K A B c) {x : Nat} (hx : pn_IN n K x) (k : K x = 1) (hc : c x = 24) : c (A x) = 24 := by
  have ⟨h1, h2, h3⟩ := (N x hx).2.1 k
  refine Classical.byContradiction fun z => ?_
  have := (V (A x) z).1 (by omega)
  rw [h3] at this
  exact z (this ▸ hc)
theorem pn_V1_pl (hn : n ≤ 24) (N : pn_N n K A B) (V1 : pn_V1 n K c) (V2 : pn_V2 K A B c) {x : Nat} (r : pn_rd n K A B c x) : pn_V1 n K (pn_pl K A B c x) := by
  obtain ⟨hx, hk2, hc, h⟩ := r
  have hx24 : x < 24 := Nat.lt_of_lt_of_le hx.1 hn
  intro j
  by_cases k : K x = 1
  · have ⟨m1, m2, m3⟩ := (N x hx).2.1 k
    have ma := pn_mate N V2 hx k hc
    rw [pn_pl1 k]
    by_cases e : j = x ∨ j = A x
    · rw [if_pos e]
      refine Or.inr ⟨by omega, ?_, ?_⟩
      · rw [pn_pl1 k, if_pos (by omega)]
      · rcases e with rfl | rfl
        · exact hx
        · exact m1
    · rw [if_neg e]
      rcases V1 j with q | ⟨q1, q2, q3⟩
      · exact Or.inl q
      · refine Or.inr ⟨q1, ?_, q3⟩
        have : c (c j) ≠ 24 := by have := q3.1; omega
        rw [pn_pl1 k, if_neg, q2]
        rintro (z | z)
        · rw [z] at this; exact this hc
        · rw [z] at this; exact this ma
  · have ⟨ha, hb, hab⟩ := h.resolve_left k
    have k3 : 3 ≤ K x := by
      have := hx.2
      omega
    have ⟨i1, i2, i3, i4, i5⟩ := (N x hx).2.2.2 k3
    have ⟨a1, a2, _⟩ := (V1 (A x)).resolve_left ha
    have ⟨b1, b2, _⟩ := (V1 (B x)).resolve_left hb
    have hm : pn_pl K A B c x (min (c (A x)) (c (B x))) = min (c (A x)) (c (B x)) := by
      rw [pn_pl2 k, if_pos]
      rcases Nat.le_total (c (A x)) (c (B x)) with z | z
      · rw [Nat.min_eq_left z]; exact Or.inr (Or.inl a2)
      · rw [Nat.min_eq_right z]; exact Or.inr (Or.inr b2)
    rw [pn_pl2 k]
    by_cases e : j = x ∨ c j = c (A x) ∨ c j = c (B x)
    · rw [if_pos e]
      refine Or.inr ⟨?_, hm, ?_⟩
      · rcases e with rfl | e | e
        · omega
        · have := (V1 j).resolve_left (by omega); omega
        · have := (V1 j).resolve_left (by omega); omega
      · rcases e with rfl | e | e
        · exact hx
        · exact ((V1 j).resolve_left (by omega)).2.2
        · exact ((V1 j).resolve_left (by omega)).2.2
    · rw [if_neg e]
      rcases V1 j with q | ⟨q1, q2, q3⟩
      · exact Or.inl q
      · refine Or.inr ⟨q1, ?_, q3⟩
        have : c (c j) ≠ 24 := by have := q3.1; omega
        rw [pn_pl2 k, if_neg, q2]
        rw [q2]
        rintro (z | z)
        · rw [z, hc] at this; exact this rfl
        · exact e (Or.inr z)
theorem pn_V2_pl (N : pn_N n K A B) (V1 : pn_V1 n K c) (V2 : pn_V2 K A B c) {x : Nat} (r : pn_rd n K A B c x) : pn_V2 K A B (pn_pl K A B c x) := by
  obtain ⟨hx, hk2, hc, h⟩ := r
  intro j hj
  by_cases k : K x = 1
  · have ⟨m1, m2, m3⟩ := (N x hx).2.1 k
    have ma := pn_mate N V2 hx k hc
    rw [pn_pl1 k] at hj
    simp only [pn_pl1 k]
    by_cases e : j = x ∨ j = A x
    · rw [if_pos e]
      have kj : K j ≤ 2 := by rcases e with rfl | rfl <;> omega
      refine ⟨fun _ => ?_, fun z => absurd z (by omega)⟩
      rw [if_pos]
      rcases e with rfl | rfl
      · exact Or.inr rfl
      · exact Or.inl m3
    · rw [if_neg e] at hj ⊢
      have ⟨p, q⟩ := V2 j hj
      have ne : ∀ y, c y = c j → ¬ (y = x ∨ y = A x) := by
        rintro y ey (rfl | rfl)
        · exact hj (ey ▸ hc)
        · exact hj (ey ▸ ma)
      refine ⟨fun z => ?_, fun z => ⟨?_, ?_⟩⟩
      · rw [if_neg (ne _ (p z))]; exact p z
      · rw [if_neg (ne _ (q z).1)]; exact (q z).1
      · rw [if_neg (ne _ (q z).2)]; exact (q z).2
  · have ⟨ha, hb, hab⟩ := h.resolve_left k
    have k3 : 3 ≤ K x := by
      have := hx.2
      omega
    rw [pn_pl2 k] at hj
    simp only [pn_pl2 k]
    by_cases ej : j = x
    · subst ej
      refine ⟨fun z => absurd z (by omega), fun _ => ⟨?_, ?_⟩⟩
      · rw [if_pos (Or.inr (Or.inl rfl)), if_pos (Or.inl rfl)]
      · rw [if_pos (Or.inr (Or.inr rfl)), if_pos (Or.inl rfl)]
    · have cj : c j ≠ 24 := by
        intro z
        rw [if_neg] at hj
        · exact hj z
        · rintro (y | y | y)
          · exact ej y
          · exact ha (y ▸ z)
          · exact hb (y ▸ z)
      have ⟨p, q⟩ := V2 j cj
      have go : ∀ y, c y = c j → (if y = x ∨ c y = c (A x) ∨ c y = c (B x) then min (c (A x)) (c (B x)) else c y) = (if j = x ∨ c j = c (A x) ∨ c j = c (B x) then min (c (A x)) (c (B x)) else c j) := by
        intro y ey
        have : y ≠ x := by rintro rfl; exact cj (ey ▸ hc)
        rw [ey]
        by_cases w : c j = c (A x) ∨ c j = c (B x)
        · rw [if_pos (Or.inr w), if_pos (Or.inr w)]
        · rw [if_neg (fun z => z.elim this w), if_neg (fun z => z.elim ej w)]
      exact ⟨fun z => go _ (p z), fun z => ⟨go _ (q z).1, go _ (q z).2⟩⟩
theorem pn_V3_pl (hn : n ≤ 24) (N : pn_N n K A B) (V1 : pn_V1 n K c) (V2 : pn_V2 K A B c) (V3 : pn_V3 n K A B c) {x : Nat} (r : pn_rd n K A B c x) : pn_V3 n K A B (pn_pl K A B c x) := by
  obtain ⟨hx, hk2, hc, h⟩ := r
  have hx24 : x < 24 := Nat.lt_of_lt_of_le hx.1 hn
  intro s
  have ⟨hA, hL⟩ := V3 s
  have lx : pn_lab c x = 24 + x := if_pos hc
  have lp : ∀ p, (c p = 24 ∧ pn_lab c p = 24 + p) ∨ (c p ≠ 24 ∧ pn_lab c p = c p ∧ c p < 24 ∧ c (c p) = c p) := by
    intro p
    by_cases z : c p = 24
    · exact Or.inl ⟨z, if_pos z⟩
    · have ⟨q1, q2, q3⟩ := (V1 p).resolve_left z
      have := q3.1
      exact Or.inr ⟨z, if_neg z, by omega, q2⟩
  by_cases k : K x = 1
  · have ⟨m1, m2, m3⟩ := (N x hx).2.1 k
    have ma := pn_mate N V2 hx k hc
    have la : pn_lab c (A x) = 24 + A x := if_pos ma
    have hax : A x ≠ x := fun z => by rw [z] at m2; omega
    have e : pn_Ep n K A B (pn_pl K A B c x) s = dr_P (pn_Ep n K A B c s) x (A x) := by
      funext u v
      apply propext
      unfold pn_Ep dr_P
      rw [pn_pl1 k]
      constructor
      · rintro ⟨q1, q2⟩
        by_cases e : u = x ∨ u = A x
        · rcases e with rfl | rfl
          · refine Or.inr ⟨rfl, ?_⟩
            rcases q1.2 with z | z | z
            · exact z.2
            · omega
            · omega
          · exact absurd q1.2 (by omega)
        · rw [if_neg e] at q2
          exact Or.inl ⟨q1, q2⟩
      · rintro (⟨q1, q2⟩ | ⟨rfl, rfl⟩)
        · refine ⟨q1, ?_⟩
          split
          · have := hx.1; omega
          · exact q2
        · refine ⟨⟨hx, Or.inl ⟨k, rfl⟩⟩, ?_⟩
          rw [if_pos (Or.inl rfl)]
          omega
    rw [e]
    constructor
    · refine dr_AP hA ?_
      rw [hL, lx, la]
      omega
    · refine dr_Lc (dr_LP hL x (A x)) ?_
      intro p q
      rw [lx, la]
      have tp : ∀ p, (p = x ∨ p = A x) ∧ pn_lab (pn_pl K A B c x) p = min x (A x) ∧ (if pn_lab c p = 24 + A x then 24 + x else pn_lab c p) = 24 + x ∨ (p ≠ x ∧ p ≠ A x) ∧ pn_lab (pn_pl K A B c x) p = pn_lab c p ∧ (if pn_lab c p = 24 + A x then 24 + x else pn_lab c p) = pn_lab c p ∧ pn_lab c p ≠ min x (A x) ∧ pn_lab c p ≠ 24 + x := by
        intro p
        by_cases e : p = x ∨ p = A x
        · refine Or.inl ⟨e, ?_, ?_⟩
          · have : pn_pl K A B c x p = min x (A x) := by rw [pn_pl1 k, if_pos e]
            unfold pn_lab
            rw [this, if_neg (by omega)]
          · rcases e with rfl | rfl
            · rw [lx]; split <;> rfl
            · rw [la, if_pos rfl]
        · refine Or.inr ⟨by omega, ?_, ?_, ?_⟩
          · have : pn_pl K A B c x p = c p := by rw [pn_pl1 k, if_neg e]
            unfold pn_lab
            rw [this]
          · rcases lp p with w | w
            · rw [if_neg (by omega)]
            · rw [if_neg (by omega)]
          · rcases lp p with w | ⟨w1, w2, w3, w4⟩
            · have := m1.1; omega
            · refine ⟨?_, by omega⟩
              rw [w2]
              intro z
              rcases Nat.le_total x (A x) with y | y
              · rw [Nat.min_eq_left y] at z; rw [z] at w4; omega
              · rw [Nat.min_eq_right y] at z; rw [z] at w4; omega
      rcases tp p with ⟨p1, p2, p3⟩ | ⟨p1, p2, p3, p4, p5⟩ <;> rcases tp q with ⟨q1, q2, q3⟩ | ⟨q1, q2, q3, q4, q5⟩ <;> rw [p2, p3, q2, q3] <;> omega
  · have ⟨ha, hb, hab⟩ := h.resolve_left k
    have k3 : 3 ≤ K x := by
      have := hx.2
      omega
    have k5 := (N x hx).1
    have ⟨i1, i2, i3, i4, i5⟩ := (N x hx).2.2.2 k3
    have la : pn_lab c (A x) = c (A x) := if_neg ha
    have lb : pn_lab c (B x) = c (B x) := if_neg hb
    have ca : c (A x) < 24 := by have := (lp (A x)).resolve_left (fun z => ha z.1); exact this.2.2.1
    have cb : c (B x) < 24 := by have := (lp (B x)).resolve_left (fun z => hb z.1); exact this.2.2.1
    have pl : ∀ p, pn_lab (pn_pl K A B c x) p = if p = x ∨ c p = c (A x) ∨ c p = c (B x) then min (c (A x)) (c (B x)) else pn_lab c p := by
      intro p
      unfold pn_lab
      rw [pn_pl2 k]
      by_cases w : p = x ∨ c p = c (A x) ∨ c p = c (B x)
      · rw [if_pos w, if_pos w, if_neg (by omega)]
      · rw [if_neg w, if_neg w]
    have pp : ∀ u, pn_pl K A B c x u ≠ 24 ↔ (c u ≠ 24 ∨ u = x) := by
      intro u
      rw [pn_pl2 k]
      split
      · rename_i w
        refine ⟨fun _ => ?_, fun _ => by omega⟩
        rcases w with w | w | w
        · exact Or.inr w
        · exact Or.inl (by omega)
        · exact Or.inl (by omega)
      · rename_i w
        exact ⟨Or.inl, fun z => z.elim id fun y => absurd (Or.inl y) w⟩
    by_cases k4 : K x = 4
    · have hcc : c (A x) = c (B x) := hab.mp k4
      have key : ∀ y, (y = A x ∨ y = B x) → (∀ v, pn_E n K A B s x v ↔ v = y) → dr_A (pn_Ep n K A B (pn_pl K A B c x) s) ∧ dr_L (pn_Ep n K A B (pn_pl K A B c x) s) (pn_lab (pn_pl K A B c x)) := by
        intro y hy hE
        have ly : pn_lab c y = c (A x) := by rcases hy with rfl | rfl <;> omega
        have e : pn_Ep n K A B (pn_pl K A B c x) s = dr_P (pn_Ep n K A B c s) x y := by
          funext u v
          apply propext
          unfold pn_Ep dr_P
          rw [pp]
          constructor
          · rintro ⟨q1, q2 | rfl⟩
            · exact Or.inl ⟨q1, q2⟩
            · exact Or.inr ⟨rfl, (hE v).mp q1⟩
          · rintro (⟨q1, q2⟩ | ⟨rfl, rfl⟩)
            · exact ⟨q1, Or.inl q2⟩
            · exact ⟨(hE _).mpr rfl, Or.inr rfl⟩
        rw [e]
        constructor
        · refine dr_AP hA ?_
          rw [hL, lx, ly]
          omega
        · refine dr_Lc (dr_LP hL x y) ?_
          intro p q
          rw [lx, ly, pl, pl, ← hcc]
          have tp : ∀ p, (p = x ∨ c p = c (A x) ∨ c p = c (A x)) ∧ (if pn_lab c p = c (A x) then 24 + x else pn_lab c p) = 24 + x ∨ ¬ (p = x ∨ c p = c (A x) ∨ c p = c (A x)) ∧ (if pn_lab c p = c (A x) then 24 + x else pn_lab c p) = pn_lab c p ∧ pn_lab c p ≠ c (A x) ∧ pn_lab c p ≠ 24 + x := by
            intro p
            by_cases w : p = x ∨ c p = c (A x) ∨ c p = c (A x)
            · refine Or.inl ⟨w, ?_⟩
              rcases w with rfl | w | w
              · rw [lx]; split <;> rfl
              · rw [if_pos]; rcases lp p with t | t <;> omega
              · rw [if_pos]; rcases lp p with t | t <;> omega
            · refine Or.inr ⟨w, ?_, ?_⟩
              · rw [if_neg]; rcases lp p with t | t <;> omega
              · rcases lp p with t | t <;> omega
          rcases tp p with ⟨p1, p2⟩ | ⟨p1, p2, p3⟩ <;> rcases tp q with ⟨q1, q2⟩ | ⟨q1, q2, q3⟩
          · rw [p2, q2, if_pos p1, if_pos q1]; omega
          · rw [p2, q2, if_pos p1, if_neg q1]; omega
          · rw [p2, q2, if_neg p1, if_pos q1]; omega
          · rw [p2, q2, if_neg p1, if_neg q1]
      refine key (if s x = true then B x else A x) ?_ ?_
      · split
        · exact Or.inr rfl
        · exact Or.inl rfl
      · intro v
        unfold pn_E
        constructor
        · rintro ⟨_, z | z | z⟩
          · omega
          · omega
          · exact z.2
        · intro z
          exact ⟨hx, Or.inr (Or.inr ⟨k4, z⟩)⟩
    · have hcc : c (A x) ≠ c (B x) := fun z => k4 (hab.mpr z)
      have k35 : K x = 3 ∨ K x = 5 := by omega
      have e : pn_Ep n K A B (pn_pl K A B c x) s = dr_P (dr_P (pn_Ep n K A B c s) x (A x)) x (B x) := by
        funext u v
        apply propext
        unfold pn_Ep dr_P
        rw [pp]
        constructor
        · rintro ⟨q1, q2 | rfl⟩
          · exact Or.inl (Or.inl ⟨q1, q2⟩)
          · rcases q1.2 with z | z | z
            · omega
            · rcases z.2 with y | y
              · exact Or.inl (Or.inr ⟨rfl, y⟩)
              · exact Or.inr ⟨rfl, y⟩
            · omega
        · rintro ((⟨q1, q2⟩ | ⟨rfl, rfl⟩) | ⟨rfl, rfl⟩)
          · exact ⟨q1, Or.inl q2⟩
          · exact ⟨⟨hx, Or.inr (Or.inl ⟨k35, Or.inl rfl⟩)⟩, Or.inr rfl⟩
          · exact ⟨⟨hx, Or.inr (Or.inl ⟨k35, Or.inr rfl⟩)⟩, Or.inr rfl⟩
      rw [e]
      have hL1 := dr_LP hL x (A x)
      rw [lx, la] at hL1
      have gb : (if pn_lab c (B x) = c (A x) then 24 + x else pn_lab c (B x)) = c (B x) := by rw [lb, if_neg (Ne.symm hcc)]
      have gx : (if pn_lab c x = c (A x) then 24 + x else pn_lab c x) = 24 + x := by rw [lx]; split <;> rfl
      constructor
      · refine dr_AP (dr_AP hA ?_) ?_
        · rw [hL, lx, la]
          omega
        · rw [hL1]
          dsimp only
          rw [gb, gx]
          omega
      · have hL2 := dr_LP hL1 x (B x)
        rw [gb, gx] at hL2
        refine dr_Lc hL2 ?_
        intro p q
        rw [pl, pl]
        have tp : ∀ p, (p = x ∨ c p = c (A x) ∨ c p = c (B x)) ∧ (if (if pn_lab c p = c (A x) then 24 + x else pn_lab c p) = c (B x) then 24 + x else (if pn_lab c p = c (A x) then 24 + x else pn_lab c p)) = 24 + x ∨ ¬ (p = x ∨ c p = c (A x) ∨ c p = c (B x)) ∧ (if (if pn_lab c p = c (A x) then 24 + x else pn_lab c p) = c (B x) then 24 + x else (if pn_lab c p = c (A x) then 24 + x else pn_lab c p)) = pn_lab c p ∧ pn_lab c p ≠ c (A x) ∧ pn_lab c p ≠ c (B x) ∧ pn_lab c p ≠ 24 + x := by
          intro p
          by_cases w : p = x ∨ c p = c (A x) ∨ c p = c (B x)
          · refine Or.inl ⟨w, ?_⟩
            rcases w with rfl | w | w
            · rw [gx]; split <;> rfl
            · have t : pn_lab c p = c (A x) := by rcases lp p with t | t <;> omega
              rw [if_pos t]; split <;> rfl
            · have t : pn_lab c p = c (B x) := by rcases lp p with t | t <;> omega
              rw [t, if_neg (Ne.symm hcc), if_pos rfl]
          · have t : pn_lab c p ≠ c (A x) ∧ pn_lab c p ≠ c (B x) ∧ pn_lab c p ≠ 24 + x := by rcases lp p with t | t <;> omega
            refine Or.inr ⟨w, ?_, t⟩
            rw [if_neg t.1, if_neg t.2.1]
        rcases tp p with ⟨p1, p2⟩ | ⟨p1, p2, p3⟩ <;> rcases tp q with ⟨q1, q2⟩ | ⟨q1, q2, q3⟩
        · rw [p2, q2, if_pos p1, if_pos q1]; omega
        · rw [p2, q2, if_pos p1, if_neg q1]; omega
        · rw [p2, q2, if_neg p1, if_pos q1]; omega
        · rw [p2, q2, if_neg p1, if_neg q1]
theorem pn_V_pl (hn : n ≤ 24) (N : pn_N n K A B) (V : pn_V n K A B c) {x : Nat} (r : pn_rd n K A B c x) : pn_V n K A B (pn_pl K A B c x) :=
  ⟨pn_V1_pl hn N V.1 V.2.1 r, pn_V2_pl N V.1 V.2.1 r, pn_V3_pl hn N V.1 V.2.1 V.2.2 r⟩
/-- a switching gives a tree; the criterion -/
def pn_T (n : Nat) (K A B : Nat → Nat) (s : Nat → Bool) : Prop := dr_A (pn_E n K A B s) ∧ ∀ p q, pn_IN n K p → pn_IN n K q → dr_C (pn_E n K A B s) p q
def pn_W (n : Nat) (K c : Nat → Nat) : Prop := ∀ p q, pn_IN n K p → pn_IN n K q → c p ≠ 24 ∧ c p = c q
theorem pn_sound (V : pn_V n K A B c) (W : pn_W n K c) (s : Nat → Bool) : pn_T n K A B s := by
  have ⟨hA, hL⟩ := V.2.2 s
  have e : pn_Ep n K A B c s = pn_E n K A B s := by
    funext u v
    exact propext ⟨fun z => z.1, fun z => ⟨z, (W u u z.1 z.1).1⟩⟩
  rw [e] at hA hL
  refine ⟨hA, fun p q hp hq => (hL p q).mpr ?_⟩
  have ⟨w1, w2⟩ := W p q hp hq
  unfold pn_lab
  rw [if_neg w1, if_neg (w2 ▸ w1), w2]
end
end
section
/-! a stuck replay of a net that meets the criterion has used everything -/
def pn_U (n : Nat) (K A B c : Nat → Nat) (U : Nat → Prop) : Prop :=
  (∀ x, U x → pn_IN n K x) ∧ (∀ x y, U x → c x ≠ 24 → c y = c x → U y) ∧ (∀ x, U x → c x = 24 → U (A x) ∧ U (B x)) ∧
  (∀ s p q, U p → U q → dr_C (fun x y => pn_E n K A B s x y ∧ U x) p q)
section
variable {n : Nat} {K A B c : Nat → Nat}
theorem pn_Ey {s : Nat → Bool} {x y : Nat} (e : pn_E n K A B s x y) : (K x = 1 ∧ y = A x) ∨ (3 ≤ K x ∧ (y = A x ∨ y = B x)) := by
  rcases e.2 with z | z | z
  · exact Or.inl z
  · exact Or.inr ⟨by omega, z.2⟩
  · refine Or.inr ⟨by omega, ?_⟩
    have := z.2
    split at this
    · exact Or.inr this
    · exact Or.inl this
theorem pn_Ec (V2 : pn_V2 K A B c) {s : Nat → Bool} {x y : Nat} (e : pn_E n K A B s x y) (h : c x ≠ 24) : c y = c x := by
  have ⟨v1, v2⟩ := V2 x h
  rcases pn_Ey e with ⟨z, rfl⟩ | ⟨z, rfl | rfl⟩
  · exact v1 (by omega)
  · exact (v2 z).1
  · exact (v2 z).2
theorem pn_Es {s s' : Nat → Bool} {x y : Nat} (h : s x = s' x) (e : pn_E n K A B s x y) : pn_E n K A B s' x y := by
  unfold pn_E at e ⊢
  rw [← h]
  exact e
theorem pn_Uc (V2 : pn_V2 K A B c) {U : Nat → Prop} (hU2 : ∀ x y, U x → c x ≠ 24 → c y = c x → U y) (hU3 : ∀ x, U x → c x = 24 → U (A x) ∧ U (B x)) {s : Nat → Bool} {x y : Nat} (e : pn_E n K A B s x y) (hx : U x) : U y := by
  by_cases h : c x = 24
  · rcases pn_Ey e with ⟨z, rfl⟩ | ⟨z, rfl | rfl⟩
    · exact (hU3 x hx h).1
    · exact (hU3 x hx h).1
    · exact (hU3 x hx h).2
  · exact hU2 x y hx h (pn_Ec V2 e h)
/-- inside a subnet, beside a link x that keeps both premises, there is a smaller subnet around each premise a of x -/
theorem pn_emp (hn : n ≤ 24) (V : pn_V n K A B c) (st : ∀ x, pn_IN n K x → c x = 24 → 3 ≤ K x ∧ K x ≤ 5) (ac : ∀ s, dr_A (pn_E n K A B s))
    {U : Nat → Prop} (hU : pn_U n K A B c U) {x a : Nat} (ux : U x) (cx : c x = 24) (ea : ∀ s, pn_E n K A B s x a) :
    ∃ E : Nat → Prop, pn_U n K A B c E ∧ E a ∧ ¬ E x ∧ ∀ z, E z → U z := by
  obtain ⟨U1, U2, U3, U4⟩ := hU
  have ua : U a := pn_Uc V.2.1 U2 U3 (ea fun _ => true) ux
  let EU : (Nat → Bool) → Nat → Nat → Prop := fun s => dr_M (fun x y => pn_E n K A B s x y ∧ U x) x a
  obtain ⟨s, hs⟩ := dr_min (fun s => dr_n (fun z => U z ∧ dr_C (EU s) a z) 24) (fun _ => true)
  let E : Nat → Prop := fun z => U z ∧ dr_C (EU s) a z
  have Ea : E a := ⟨ua, dr_Cr a⟩
  have nEx : ¬ E x := by
    intro z
    refine ac s x a (ea s) (dr_Cs (dr_Cm ?_ z.2))
    intro u v w
    exact ⟨w.1.1, w.2⟩
  have Ecl : ∀ u v, EU s u v → (E u ↔ E v) := by
    intro u v w
    have uv : U v := pn_Uc V.2.1 U2 U3 w.1.1 w.1.2
    exact ⟨fun z => ⟨uv, dr_Ct z.2 (dr_Ce w)⟩, fun z => ⟨w.1.2, dr_Ct z.2 (dr_Cs (dr_Ce w))⟩⟩
  have E2 : ∀ z y, E z → c z ≠ 24 → c y = c z → E y := by
    intro z y hz cz e
    refine ⟨U2 z y hz.1 cz e, dr_Ct hz.2 ?_⟩
    intro S hS Sz
    have k : dr_C (pn_Ep n K A B c s) z y := by
      rw [(V.2.2 s).2]
      unfold pn_lab
      rw [if_neg cz, if_neg (by rw [e]; exact cz), e]
    have := k (fun w => c w = c z → S w) ?_ (fun _ => Sz)
    · exact this e
    · intro u v w
      have cv := pn_Ec V.2.1 w.1 w.2
      rw [cv]
      by_cases q : c u = c z
      · have uu : U u := U2 z u hz.1 cz q
        have := hS u v ⟨⟨w.1, uu⟩, fun t => w.2 (t.1 ▸ cx)⟩
        exact ⟨fun t h => this.mp (t h), fun t h => this.mpr (t h)⟩
      · exact ⟨fun _ h => absurd h q, fun _ h => absurd h q⟩
  have E3 : ∀ z, E z → c z = 24 → E (A z) ∧ E (B z) := by
    intro z hz cz
    have zx : z ≠ x := fun e => nEx (e ▸ hz)
    have ⟨uA, uB⟩ := U3 z hz.1 cz
    have ⟨k3, k5⟩ := st z (U1 z hz.1) cz
    have go : ∀ y, pn_E n K A B s z y → E y := fun y e => (Ecl z y ⟨⟨e, hz.1⟩, fun t => zx t.1⟩).mp hz
    by_cases k4 : K z = 4
    · -- a par: its chosen premise p, the other one q
      have key : ∀ p q, U p → U q → (∀ v, pn_E n K A B s z v ↔ v = p) → (∃ s', (∀ w, w ≠ z → s' w = s w) ∧ ∀ v, pn_E n K A B s' z v ↔ v = q) → E q := by
        intro p q up uq hp ⟨s', hs', hq⟩
        have ep : pn_E n K A B s z p := (hp p).mpr rfl
        have Epp : E p := go p ep
        refine Classical.byContradiction fun nq => ?_
        let G : Nat → Nat → Prop := dr_M (EU s) z p
        have GE : ∀ u v, dr_C G u v → dr_C (EU s) u v := fun u v h => dr_Cm (fun _ _ w => w.1) h
        have Gcl : ∀ {u v : Nat}, U u → dr_C G u v → U v := by
          intro u v hu h
          refine h U (fun b d w => ?_) hu
          exact ⟨fun _ => pn_Uc V.2.1 U2 U3 w.1.1.1 w.1.1.2, fun _ => w.1.1.2⟩
        by_cases hN : dr_C G a z
        · -- p hangs on z alone: it would be cut off under s'
          have nap : ¬ dr_C G a p := by
            intro h
            refine ac s z p ep (dr_Cm ?_ (dr_Ct (dr_Cs hN) h))
            intro u v w
            exact ⟨w.1.1.1, w.2⟩
          have FE : ∀ w, dr_C G p w → E w := fun w h => ⟨Gcl up h, dr_Ct Epp.2 (GE _ _ h)⟩
          have := U4 s' p a up ua (fun w => dr_C G p w) ?_ (dr_Cr p)
          · exact nap (dr_Cs this)
          · intro u v w
            by_cases uz : u = z
            · subst uz
              have vq := (hq v).mp w.1
              subst vq
              exact ⟨fun h => absurd (dr_Ct hN (dr_Cs h)) nap, fun h => absurd (FE _ h) nq⟩
            · have e : pn_E n K A B s u v := pn_Es (hs' u uz) w.1
              by_cases xa : u = x ∧ v = a
              · obtain ⟨rfl, rfl⟩ := xa
                exact ⟨fun h => absurd (FE _ h) nEx, fun h => absurd (dr_Cs h) nap⟩
              · have g : G u v := ⟨⟨⟨e, w.2⟩, xa⟩, fun t => uz t.1⟩
                exact ⟨fun h => dr_Ct h (dr_Ce g), fun h => dr_Ct h (dr_Cs (dr_Ce g))⟩
        · -- s' gives a smaller one
          have sub : ∀ w, U w ∧ dr_C (EU s') a w → dr_C G a w := by
            intro w hw
            refine hw.2 (fun w => dr_C G a w) ?_ (dr_Cr a)
            intro u v e
            by_cases uz : u = z
            · subst uz
              have vq := (hq v).mp e.1.1
              subst vq
              exact ⟨fun h => absurd h hN, fun h => absurd ⟨uq, GE _ _ h⟩ nq⟩
            · have e' : pn_E n K A B s u v := pn_Es (hs' u uz) e.1.1
              have g : G u v := ⟨⟨⟨e', e.1.2⟩, e.2⟩, fun t => uz t.1⟩
              exact ⟨fun h => dr_Ct h (dr_Ce g), fun h => dr_Ct h (dr_Cs (dr_Ce g))⟩
          have lt : dr_n (fun w => U w ∧ dr_C (EU s') a w) 24 < dr_n (fun w => U w ∧ dr_C (EU s) a w) 24 := by
            refine dr_n_lt (z := z) hz (fun h => hN (sub z h)) 24 (fun w _ h => ⟨h.1, GE _ _ (sub w h)⟩) ?_
            have := (U1 z hz.1).1
            omega
          have := hs s'
          omega
      have iz := U1 z hz.1
      have par : ∀ (s : Nat → Bool) v, pn_E n K A B s z v ↔ v = if s z = true then B z else A z := by
        intro s v
        constructor
        · rintro ⟨_, t | t | t⟩
          · omega
          · omega
          · exact t.2
        · intro t
          exact ⟨iz, Or.inr (Or.inr ⟨k4, t⟩)⟩
      by_cases sz : s z = true
      · have h1 : ∀ v, pn_E n K A B s z v ↔ v = B z := fun v => by rw [par, if_pos sz]
        refine ⟨key (B z) (A z) uB uA h1 ⟨fun w => if w = z then false else s w, fun w hw => if_neg hw, fun v => ?_⟩, go _ ((h1 _).mpr rfl)⟩
        rw [par, if_pos rfl, if_neg (by decide)]
      · have h1 : ∀ v, pn_E n K A B s z v ↔ v = A z := fun v => by rw [par, if_neg sz]
        refine ⟨go _ ((h1 _).mpr rfl), key (A z) (B z) uA uB h1 ⟨fun w => if w = z then true else s w, fun w hw => if_neg hw, fun v => ?_⟩⟩
        rw [par, if_pos rfl, if_pos rfl]
    · have k35 : K z = 3 ∨ K z = 5 := by omega
      exact ⟨go _ ⟨U1 z hz.1, Or.inr (Or.inl ⟨k35, Or.inl rfl⟩)⟩, go _ ⟨U1 z hz.1, Or.inr (Or.inl ⟨k35, Or.inr rfl⟩)⟩⟩
  refine ⟨E, ⟨fun z hz => U1 z hz.1, E2, E3, ?_⟩, Ea, nEx, fun z hz => hz.1⟩
  intro s' p q hp hq S hS Sp
  -- the switching that is s' inside and s outside
  let s2 : Nat → Bool := fun w => @ite Bool (E w) (Classical.propDecidable _) (s' w) (s w)
  have s2i : ∀ w, E w → s2 w = s' w := fun w h => if_pos h
  have s2o : ∀ w, ¬ E w → s2 w = s w := fun w h => if_neg h
  have := U4 s2 p q hp.1 hq.1 (fun w => (E w ∧ S w) ∨ (¬ E w ∧ S a)) ?_ (Or.inl ⟨hp, Sp⟩)
  · rcases this with t | t
    · exact t.2
    · exact absurd hq t.1
  · intro u v w
    by_cases eu : E u
    · have e : pn_E n K A B s' u v := pn_Es (s2i u eu) w.1
      have ev : E v := pn_Uc V.2.1 E2 E3 e eu
      have := hS u v ⟨e, eu⟩
      exact ⟨fun t => t.elim (fun t => Or.inl ⟨ev, this.mp t.2⟩) fun t => absurd eu t.1, fun t => t.elim (fun t => Or.inl ⟨eu, this.mpr t.2⟩) fun t => absurd ev t.1⟩
    · have e : pn_E n K A B s u v := pn_Es (s2o u eu) w.1
      by_cases xa : u = x ∧ v = a
      · obtain ⟨rfl, rfl⟩ := xa
        exact ⟨fun t => t.elim (fun t => absurd t.1 eu) fun t => Or.inl ⟨Ea, t.2⟩, fun t => t.elim (fun t => Or.inr ⟨eu, t.2⟩) fun t => absurd Ea t.1⟩
      · have ev : ¬ E v := fun t => eu ((Ecl u v ⟨⟨e, w.2⟩, xa⟩).mpr t)
        exact ⟨fun t => t.elim (fun t => absurd t.1 eu) fun t => Or.inr ⟨ev, t.2⟩, fun t => t.elim (fun t => absurd t.1 ev) fun t => Or.inr ⟨eu, t.2⟩⟩
theorem pn_all (hn : n ≤ 24) (N : pn_N n K A B) (V : pn_V n K A B c) (hs : ∀ x, ¬ pn_rd n K A B c x) (st : ∀ x, pn_IN n K x → c x = 24 → 3 ≤ K x ∧ K x ≤ 5) (ac : ∀ s, dr_A (pn_E n K A B s)) :
    ∀ m (U : Nat → Prop), pn_U n K A B c U → dr_n U 24 < m → ∀ z, U z → c z ≠ 24 := by
  intro m
  induction m with
  | zero => intro U _ h; exact absurd h (by omega)
  | succ m ih =>
    intro U hU hm z hz cz
    have U1 := hU.1
    obtain ⟨x, ⟨ux, cx⟩, mx⟩ := dr_max (P := fun y => U y ∧ c y = 24) 24 (fun y hy => by have := (U1 y hy.1).1; omega) z ⟨hz, cz⟩
    have ix := U1 x ux
    have x24 : x < 24 := Nat.lt_of_lt_of_le ix.1 hn
    have ⟨k3, k5⟩ := st x ix cx
    have ⟨i1, i2, i3, i4, i5⟩ := (N x ix).2.2.2 k3
    have ⟨uA, uB⟩ := hU.2.2.1 x ux cx
    by_cases k4 : K x = 4
    · have hU' : pn_U n K A B c (fun w => U w ∧ w ≠ x) := by
        refine ⟨fun w hw => U1 w hw.1, fun w y hw cw e => ⟨hU.2.1 w y hw.1 cw e, ?_⟩, fun w hw cw => ?_, ?_⟩
        · rintro rfl
          exact cw (e ▸ cx)
        · have ⟨a1, a2⟩ := hU.2.2.1 w hw.1 cw
          have ⟨j1, j2, j3, j4, j5⟩ := (N w (U1 w hw.1)).2.2.2 (st w (U1 w hw.1) cw).1
          have := mx w ⟨hw.1, cw⟩
          exact ⟨⟨a1, by omega⟩, ⟨a2, by omega⟩⟩
        · intro s p q hp hq S hS Sp
          have sel : ∀ v, pn_E n K A B s x v → v = if s x = true then B x else A x := by
            rintro v ⟨_, t | t | t⟩
            · omega
            · omega
            · exact t.2
          have selx : (if s x = true then B x else A x) ≠ x := by split <;> omega
          have := hU.2.2.2 s p q hp.1 hq.1 (fun w => (w ≠ x ∧ S w) ∨ (w = x ∧ S (if s x = true then B x else A x))) ?_ (Or.inl ⟨hp.2, Sp⟩)
          · rcases this with t | t
            · exact t.2
            · exact absurd t.1 hq.2
          · intro u v w
            by_cases e : u = x
            · subst e
              have ev := sel v w.1
              subst ev
              exact ⟨fun t => t.elim (fun t => absurd rfl t.1) fun t => Or.inl ⟨selx, t.2⟩, fun t => t.elim (fun t => Or.inr ⟨rfl, t.2⟩) fun t => absurd t.1 selx⟩
            · have vx : v ≠ x := by
                rintro rfl
                by_cases cu : c u = 24
                · have ⟨j1, j2, j3, j4, j5⟩ := (N u (U1 u w.2)).2.2.2 (st u (U1 u w.2) cu).1
                  have := mx u ⟨w.2, cu⟩
                  have ku := (st u (U1 u w.2) cu).1
                  rcases pn_Ey w.1 with t | ⟨_, t | t⟩ <;> omega
                · have := pn_Ec V.2.1 w.1 cu
                  exact cu (this ▸ cx)
              have := hS u v ⟨w.1, w.2, e⟩
              exact ⟨fun t => t.elim (fun t => Or.inl ⟨vx, this.mp t.2⟩) fun t => absurd t.1 e, fun t => t.elim (fun t => Or.inl ⟨e, this.mpr t.2⟩) fun t => absurd t.1 vx⟩
      have lt : dr_n (fun w => U w ∧ w ≠ x) 24 < dr_n U 24 := dr_n_lt (z := x) ux (fun t => t.2 rfl) 24 (fun w _ t => t.1) x24
      have all := ih _ hU' (by omega)
      have pA := all (A x) ⟨uA, by omega⟩
      have pB := all (B x) ⟨uB, by omega⟩
      have cc : c (B x) = c (A x) := by
        refine hU'.2.2.2 (fun _ => true) (A x) (B x) ⟨uA, by omega⟩ ⟨uB, by omega⟩ (fun w => c w = c (A x)) ?_ rfl
        intro u v w
        have := pn_Ec V.2.1 w.1 (all u w.2)
        rw [this]
      exact hs x ⟨ix, by omega, cx, Or.inr ⟨pA, pB, ⟨fun _ => cc.symm, fun _ => k4⟩⟩⟩
    · have k35 : K x = 3 ∨ K x = 5 := by omega
      have eA : ∀ s, pn_E n K A B s x (A x) := fun s => ⟨ix, Or.inr (Or.inl ⟨k35, Or.inl rfl⟩)⟩
      have eB : ∀ s, pn_E n K A B s x (B x) := fun s => ⟨ix, Or.inr (Or.inl ⟨k35, Or.inr rfl⟩)⟩
      have go : ∀ a, (∀ s, pn_E n K A B s x a) → c a ≠ 24 := by
        intro a ea
        obtain ⟨E, hE, Ea, nEx, sub⟩ := pn_emp hn V st ac hU ux cx ea
        have lt : dr_n E 24 < dr_n U 24 := dr_n_lt (z := x) ux nEx 24 (fun w _ t => sub w t) x24
        exact ih E hE (by omega) a Ea
      have pA := go _ eA
      have pB := go _ eB
      by_cases cc : c (A x) = c (B x)
      · refine ac (fun _ => true) x (A x) (eA _) (dr_Ct (dr_Ce (y := B x) ⟨eB _, fun t => i5 t.2.symm⟩) (dr_Cm (F := pn_Ep n K A B c fun _ => true) ?_ ?_))
        · intro u v w
          exact ⟨w.1, fun t => w.2 (t.1 ▸ cx)⟩
        · rw [(V.2.2 _).2]
          unfold pn_lab
          rw [if_neg pA, if_neg pB, cc]
      · exact hs x ⟨ix, by omega, cx, Or.inr ⟨pA, pB, ⟨fun t => absurd t k4, fun t => absurd t cc⟩⟩⟩
/-- stuck and correct: one derivation -/
theorem pn_compl (hn : n ≤ 24) (N : pn_N n K A B) (V : pn_V n K A B c) (hs : ∀ x, ¬ pn_rd n K A B c x) (T : ∀ s, pn_T n K A B s) : pn_W n K c := by
  have p1 : ∀ x, pn_IN n K x → K x = 1 → c x ≠ 24 := by
    intro x ix k h
    exact hs x ⟨ix, by omega, h, Or.inl k⟩
  have st : ∀ x, pn_IN n K x → c x = 24 → 3 ≤ K x ∧ K x ≤ 5 := by
    intro x ix h
    have k5 := (N x ix).1
    have k0 := ix.2.1
    refine ⟨?_, k5⟩
    have n1 : K x ≠ 1 := fun k => p1 x ix k h
    have n2 : K x ≠ 2 := by
      intro k
      have ⟨m1, m2, m3⟩ := (N x ix).2.2.1 k
      have q := p1 (A x) m1 m2
      have := (V.2.1 (A x) q).1 (by omega)
      rw [m3] at this
      exact q (this ▸ h)
    omega
  have hU : pn_U n K A B c (pn_IN n K) := by
    refine ⟨fun _ h => h, fun x y _ cx e => ?_, fun x ix cx => ?_, fun s p q hp hq => ?_⟩
    · exact ((V.1 y).resolve_left (by rw [e]; exact cx)).2.2
    · have ⟨i1, i2, _⟩ := (N x ix).2.2.2 (st x ix cx).1
      exact ⟨i1, i2⟩
    · exact dr_Cm (fun u v w => ⟨w, w.1⟩) ((T s).2 p q hp hq)
  have all := pn_all hn N V hs st (fun s => (T s).1) (dr_n (pn_IN n K) 24 + 1) _ hU (by omega)
  intro p q hp hq
  refine ⟨all p hp, ?_⟩
  have := (T fun _ => true).2 p q hp hq (fun w => c w = c p) ?_ rfl
  · exact this.symm
  · intro u v w
    have := pn_Ec V.2.1 w (all u w.1)
    rw [this]
end
end
section
/-! the greedy replay as a pure iteration -/
def pn_vd (n : Nat) (K A B c : Nat → Nat) (x : Nat) : Int32 :=
  if x < n ∧ K x ≠ 0 ∧ K x ≠ 6 ∧ K x ≠ 2 then
    (if c x ≠ 24 then -11 else if K x = 1 then 0 else if c (A x) = 24 then -12 else if c (B x) = 24 then -12
     else if K x = 4 then (if c (A x) = c (B x) then 0 else -14) else (if c (A x) = c (B x) then -13 else 0))
  else -5
def pn_f (P : Nat → Bool) : Nat → Nat → Nat
  | 0, i => i
  | d + 1, i => if P i = true then i else pn_f P d (i + 1)
theorem pn_f_spec (P : Nat → Bool) : ∀ d i, (pn_f P d i = i + d ∧ ∀ x, i ≤ x → x < i + d → P x = false) ∨ (i ≤ pn_f P d i ∧ pn_f P d i < i + d ∧ P (pn_f P d i) = true ∧ ∀ x, i ≤ x → x < pn_f P d i → P x = false) := by
  intro d
  induction d with
  | zero => intro i; exact Or.inl ⟨rfl, fun x h1 h2 => absurd h2 (by omega)⟩
  | succ d ih =>
    intro i
    by_cases h : P i = true
    · have e : pn_f P (d + 1) i = i := if_pos h
      rw [e]
      exact Or.inr ⟨Nat.le_refl _, by omega, h, fun x h1 h2 => absurd h2 (by omega)⟩
    · have e : pn_f P (d + 1) i = pn_f P d (i + 1) := if_neg h
      have h' : P i = false := by revert h; cases P i <;> decide
      rw [e]
      rcases ih (i + 1) with ⟨a, b⟩ | ⟨a1, a2, a3, a4⟩
      · refine Or.inl ⟨by omega, fun x h1 h2 => ?_⟩
        by_cases q : x = i
        · rw [q]; exact h'
        · exact b x (by omega) (by omega)
      · refine Or.inr ⟨by omega, by omega, a3, fun x h1 h2 => ?_⟩
        by_cases q : x = i
        · rw [q]; exact h'
        · exact a4 x (by omega) h2
def pn_nx (n : Nat) (K A B : Nat → Nat) (sk : Int32) (c : Nat → Nat) : Nat := pn_f (fun x => !(decide (nI x = sk)) && decide (pn_vd n K A B c x = 0)) n 0
def pn_st (n : Nat) (K A B : Nat → Nat) (sk : Int32) (c : Nat → Nat) : Nat → Nat :=
  if pn_nx n K A B sk c = n then c else pn_pl K A B c (pn_nx n K A B sk c)
def pn_it (n : Nat) (K A B : Nat → Nat) (sk : Int32) : Nat → Nat → Nat
  | 0 => fun _ => 24
  | i + 1 => pn_st n K A B sk (pn_it n K A B sk i)
section
variable {n : Nat} {K A B : Nat → Nat} {sk : Int32}
theorem pn_vd0 {c : Nat → Nat} {x : Nat} : pn_vd n K A B c x = 0 ↔ pn_rd n K A B c x := by
  unfold pn_vd pn_rd pn_IN
  constructor
  · intro h
    split at h
    · rename_i h1
      split at h
      · exact absurd h (by decide)
      · rename_i h2
        refine ⟨⟨h1.1, h1.2.1, h1.2.2.1⟩, h1.2.2.2, Classical.not_not.mp h2, ?_⟩
        split at h
        · rename_i h3; exact Or.inl h3
        · split at h
          · exact absurd h (by decide)
          · rename_i h4
            split at h
            · exact absurd h (by decide)
            · rename_i h5
              refine Or.inr ⟨h4, h5, ?_⟩
              split at h
              · rename_i h6
                split at h
                · rename_i h7; exact ⟨fun _ => h7, fun _ => h6⟩
                · exact absurd h (by decide)
              · rename_i h6
                split at h
                · exact absurd h (by decide)
                · rename_i h7; exact ⟨fun z => absurd z h6, fun z => absurd z h7⟩
    · exact absurd h (by decide)
  · rintro ⟨⟨a1, a2, a3⟩, a4, a5, h⟩
    rw [if_pos ⟨a1, a2, a3, a4⟩, if_neg (fun z => z a5)]
    by_cases k : K x = 1
    · rw [if_pos k]
    · have ⟨b1, b2, b3⟩ := h.resolve_left k
      rw [if_neg k, if_neg b1, if_neg b2]
      by_cases k4 : K x = 4
      · rw [if_pos k4, if_pos (b3.mp k4)]
      · rw [if_neg k4, if_neg (fun z => k4 (b3.mpr z))]
theorem pn_nx_spec (c : Nat → Nat) : (pn_nx n K A B sk c = n ∧ ∀ x, pn_rd n K A B c x → nI x = sk) ∨ (pn_nx n K A B sk c < n ∧ nI (pn_nx n K A B sk c) ≠ sk ∧ pn_rd n K A B c (pn_nx n K A B sk c)) := by
  have h := pn_f_spec (fun x => !(decide (nI x = sk)) && decide (pn_vd n K A B c x = 0)) n 0
  rw [Nat.zero_add] at h
  rcases h with ⟨a, b⟩ | ⟨a1, a2, a3, a4⟩
  · refine Or.inl ⟨a, fun x r => ?_⟩
    have := b x (Nat.zero_le _) r.1.1
    refine Classical.byContradiction fun z => ?_
    rw [decide_eq_false z, decide_eq_true (pn_vd0.mpr r)] at this
    exact absurd this (by decide)
  · refine Or.inr ⟨a2, ?_⟩
    rw [Bool.and_eq_true, Bool.not_eq_true', decide_eq_false_iff_not, decide_eq_true_eq] at a3
    exact ⟨a3.1, pn_vd0.mp a3.2⟩
theorem pn_it_V (hn : n ≤ 24) (N : pn_N n K A B) : ∀ i, pn_V n K A B (pn_it n K A B sk i) := by
  intro i
  induction i with
  | zero => exact pn_V0
  | succ i ih =>
    show pn_V n K A B (pn_st n K A B sk (pn_it n K A B sk i))
    unfold pn_st
    rcases pn_nx_spec (n := n) (K := K) (A := A) (B := B) (sk := sk) (pn_it n K A B sk i) with ⟨a, _⟩ | ⟨a, _, b⟩
    · rw [if_pos a]; exact ih
    · rw [if_neg (by omega)]; exact pn_V_pl hn N ih b
theorem pn_it_stop {m : Nat} (h : pn_nx n K A B sk (pn_it n K A B sk m) = n) : ∀ d, pn_it n K A B sk (m + d) = pn_it n K A B sk m := by
  intro d
  induction d with
  | zero => rfl
  | succ d ih =>
    show pn_st n K A B sk (pn_it n K A B sk (m + d)) = _
    rw [ih]
    exact if_pos h
def pn_lk (n : Nat) (K : Nat → Nat) (j : Nat) : Prop := pn_IN n K j ∧ K j ≠ 2
/-- placing a ready link places one link -/
theorem pn_pl_lk (hn : n ≤ 24) (N : pn_N n K A B) {c : Nat → Nat} (V : pn_V n K A B c) {x : Nat} (r : pn_rd n K A B c x) (j : Nat) :
    (pn_lk n K j ∧ pn_pl K A B c x j ≠ 24) ↔ (pn_lk n K j ∧ c j ≠ 24) ∨ j = x := by
  obtain ⟨hx, hk2, hc, h⟩ := r
  have hx24 : x < 24 := Nat.lt_of_lt_of_le hx.1 hn
  by_cases k : K x = 1
  · have ⟨m1, m2, m3⟩ := (N x hx).2.1 k
    rw [pn_pl1 k]
    constructor
    · rintro ⟨a, b⟩
      by_cases e : j = x ∨ j = A x
      · rcases e with e | e
        · exact Or.inr e
        · exact absurd (e ▸ m2) a.2
      · rw [if_neg e] at b
        exact Or.inl ⟨a, b⟩
    · rintro (⟨a, b⟩ | rfl)
      · refine ⟨a, ?_⟩
        split
        · omega
        · exact b
      · refine ⟨⟨hx, hk2⟩, ?_⟩
        rw [if_pos (Or.inl rfl)]
        omega
  · have ⟨ha, hb, hab⟩ := h.resolve_left k
    have ⟨a1, a2, a3⟩ := (V.1 (A x)).resolve_left ha
    have := a3.1
    rw [pn_pl2 k]
    constructor
    · rintro ⟨a, b⟩
      by_cases e : j = x
      · exact Or.inr e
      · refine Or.inl ⟨a, fun z => ?_⟩
        rw [if_neg] at b
        · exact b z
        · rintro (y | y | y)
          · exact e y
          · exact ha (y ▸ z)
          · exact hb (y ▸ z)
    · rintro (⟨a, b⟩ | rfl)
      · refine ⟨a, ?_⟩
        split
        · omega
        · exact b
      · refine ⟨⟨hx, hk2⟩, ?_⟩
        rw [if_pos (Or.inl rfl)]
        omega
/-- as many links are placed as rounds were run -/
theorem pn_it_cnt (hn : n ≤ 24) (N : pn_N n K A B) : ∀ i, (∀ k, k < i → pn_nx n K A B sk (pn_it n K A B sk k) ≠ n) → dr_n (fun j => pn_lk n K j ∧ pn_it n K A B sk i j ≠ 24) 24 = i := by
  intro i
  induction i with
  | zero =>
    intro _
    have : dr_n (fun j => pn_lk n K j ∧ pn_it n K A B sk 0 j ≠ 24) 24 = dr_n (fun _ => False) 24 := dr_n_eq 24 fun j _ => ⟨fun z => z.2 rfl, fun z => z.elim⟩
    rw [this]
    have z : ∀ m, dr_n (fun _ => False) m = 0 := by
      intro m
      induction m with
      | zero => rfl
      | succ m im =>
        show dr_n (fun _ => False) m + dr_b False = 0
        rw [im, dr_b0 id]
    exact z 24
  | succ i ih =>
    intro h
    have e := ih (fun k hk => h k (by omega))
    have V := pn_it_V (sk := sk) hn N i
    rcases pn_nx_spec (n := n) (K := K) (A := A) (B := B) (sk := sk) (pn_it n K A B sk i) with ⟨a, _⟩ | ⟨a, _, r⟩
    · exact absurd a (h i (by omega))
    · have st : pn_it n K A B sk (i + 1) = pn_pl K A B (pn_it n K A B sk i) (pn_nx n K A B sk (pn_it n K A B sk i)) := if_neg (by omega)
      rw [st]
      rw [dr_n_s (P := fun j => pn_lk n K j ∧ pn_it n K A B sk i j ≠ 24) (z := pn_nx n K A B sk (pn_it n K A B sk i)) ?_ ?_ 24 ?_ (by omega), e]
      · exact (pn_pl_lk hn N V r _).mpr (Or.inr rfl)
      · exact fun z => z.2 r.2.2.1
      · intro j _
        exact pn_pl_lk hn N V r j
/-- the rounds that a replay runs: m of them -/
def pn_m (n : Nat) (K A B : Nat → Nat) (sk : Int32) (m : Nat) : Prop :=
  m ≤ 24 ∧ (∀ k, k < m → pn_nx n K A B sk (pn_it n K A B sk k) ≠ n) ∧ (m = 24 ∨ pn_nx n K A B sk (pn_it n K A B sk m) = n)
theorem pn_m_it {m : Nat} (h : pn_m n K A B sk m) : pn_it n K A B sk 24 = pn_it n K A B sk m := by
  rcases h.2.2 with e | e
  · rw [e]
  · have := pn_it_stop e (24 - m)
    rw [show m + (24 - m) = 24 from by have := h.1; omega] at this
    exact this
theorem pn_m_cnt (hn : n ≤ 24) (N : pn_N n K A B) {m : Nat} (h : pn_m n K A B sk m) : dr_n (fun j => pn_lk n K j ∧ pn_it n K A B sk 24 j ≠ 24) 24 = m := by
  rw [pn_m_it h]
  exact pn_it_cnt hn N m h.2.1
theorem pn_m_stuck (hn : n ≤ 24) (N : pn_N n K A B) {m : Nat} (h : pn_m n K A B sk m) : ∀ x, pn_rd n K A B (pn_it n K A B sk 24) x → nI x = sk := by
  intro x r
  rcases h.2.2 with e | e
  · have c := pn_m_cnt hn N h
    subst e
    have : dr_n (fun j => pn_lk n K j ∧ pn_it n K A B sk 24 j ≠ 24) 24 < dr_n (fun _ => True) 24 :=
      dr_n_lt (z := x) trivial (fun z => z.2 r.2.2.1) 24 (fun _ _ _ => trivial) (by have := r.1.1; omega)
    have t := dr_n_top (fun _ => True) 24
    omega
  · rw [pn_m_it h] at r
    rcases pn_nx_spec (n := n) (K := K) (A := A) (B := B) (sk := sk) (pn_it n K A B sk m) with ⟨_, b⟩ | ⟨a, _⟩
    · exact b x r
    · omega
theorem pn_nIm1 {x : Nat} (h : x < 24) : nI x ≠ -1 := by
  intro e
  have := nI_pos (n := x) (by omega)
  rw [e] at this
  exact this (by decide)
/-- the greedy replay closes if and only if every switching is a tree -/
theorem pn_cor (hn : n ≤ 24) (N : pn_N n K A B) {m : Nat} (h : pn_m n K A B (-1) m) : pn_W n K (pn_it n K A B (-1) 24) ↔ ∀ s, pn_T n K A B s := by
  have V := pn_it_V (sk := -1) hn N 24
  constructor
  · exact fun W s => pn_sound V W s
  · intro T
    refine pn_compl hn N V (fun x r => ?_) T
    exact pn_nIm1 (by have := r.1.1; omega) (pn_m_stuck hn N h x r)
/-- a replay that closes has used every link -/
theorem pn_use (hn : n ≤ 24) (N : pn_N n K A B) {m : Nat} (h : pn_m n K A B sk m) (W : pn_W n K (pn_it n K A B sk 24)) : m = dr_n (pn_lk n K) 24 := by
  rw [← pn_m_cnt hn N h]
  exact dr_n_eq 24 fun j _ => ⟨fun z => z.1, fun z => ⟨z, (W j j z.1 z.1).1⟩⟩
/-- the skipped link is never placed -/
theorem pn_skip (hn : n ≤ 24) (N : pn_N n K A B) {q : Nat} (hq : pn_lk n K q) : ∀ i, pn_it n K A B (nI q) i q = 24 := by
  intro i
  induction i with
  | zero => rfl
  | succ i ih =>
    have V := pn_it_V (sk := nI q) hn N i
    rcases pn_nx_spec (n := n) (K := K) (A := A) (B := B) (sk := nI q) (pn_it n K A B (nI q) i) with ⟨a, _⟩ | ⟨a, b, r⟩
    · have st : pn_it n K A B (nI q) (i + 1) = pn_it n K A B (nI q) i := if_pos a
      rw [st]; exact ih
    · have st : pn_it n K A B (nI q) (i + 1) = pn_pl K A B (pn_it n K A B (nI q) i) (pn_nx n K A B (nI q) (pn_it n K A B (nI q) i)) := if_neg (by omega)
      rw [st]
      refine Classical.byContradiction fun z => ?_
      rcases (pn_pl_lk hn N V r q).mp ⟨hq, z⟩ with y | y
      · exact y.2 ih
      · exact b (by rw [← y])
theorem pn_last (hn : n ≤ 24) (N : pn_N n K A B) {q m : Nat} (hq : pn_lk n K q) (h : pn_m n K A B (nI q) m) :
    m + 1 = dr_n (pn_lk n K) 24 ↔ ∀ j, pn_lk n K j → j ≠ q → pn_it n K A B (nI q) 24 j ≠ 24 := by
  have c := pn_m_cnt hn N h
  have sq := pn_skip (A := A) (B := B) hn N hq 24
  have q24 : q < 24 := by have := hq.1.1; omega
  have e : dr_n (pn_lk n K) 24 = dr_n (fun j => pn_lk n K j ∧ j ≠ q) 24 + 1 := by
    refine dr_n_s (z := q) hq (fun z => z.2 rfl) 24 (fun j _ => ?_) q24
    by_cases w : j = q
    · subst w; exact ⟨fun _ => Or.inr rfl, fun _ => hq⟩
    · exact ⟨fun z => Or.inl ⟨z, w⟩, fun z => z.elim (fun y => y.1) fun y => absurd y w⟩
  constructor
  · intro hm j hj jq z
    have : dr_n (fun j => pn_lk n K j ∧ pn_it n K A B (nI q) 24 j ≠ 24) 24 < dr_n (fun j => pn_lk n K j ∧ j ≠ q) 24 :=
      dr_n_lt (z := j) ⟨hj, jq⟩ (fun y => y.2 z) 24 (fun i _ y => ⟨y.1, fun w => y.2 (w ▸ sq)⟩) (by have := hj.1.1; omega)
    omega
  · intro hall
    have : dr_n (fun j => pn_lk n K j ∧ pn_it n K A B (nI q) 24 j ≠ 24) 24 = dr_n (fun j => pn_lk n K j ∧ j ≠ q) 24 :=
      dr_n_eq 24 fun i _ => ⟨fun y => ⟨y.1, fun w => y.2 (w ▸ sq)⟩, fun y => ⟨y.1, hall i y.1 y.2⟩⟩
    omega
end
end
section
/-! the small questions of both sides -/
def re_K (K : Nat → Nat) (ck : Nat → Int32) : Prop := ∀ j, ck j = nI (K j) ∧ K j ≤ 6
def re_F (n : Nat) (K F : Nat → Nat) (cf : Nat → Int32) : Prop := ∀ j, pn_IN n K j → cf j = nI (F j)
theorem re_k {K : Nat → Nat} {ck : Nat → Int32} (hK : re_K K ck) {j : Nat} (hj : j < 24) (t : Nat) (ht : t ≤ 6) {P Q : Prop} (f : K j = t → P) (g : K j ≠ t → Q) :
    (ck (nI j).toNatClampNeg = nI t → P) ∧ (¬ ck (nI j).toNatClampNeg = nI t → Q) := by
  have h := hK j
  rw [nI_clamp (by omega), h.1]
  exact pk_eq (K j) t f g
theorem re_in {j : Nat} (hj : j < 24) : vp_in (nI j) 24 := vp_in_nI hj (by decide)
theorem re_out {n : Nat} (hn : n ≤ 24) {p : Int32} (h : p < 0 ∨ nI n ≤ p) : ∀ i, i < n → p ≠ nI i := by
  rintro i hi rfl
  rcases h with h | h
  · exact nI_pos (by omega) h
  · exact nI_ge hi (by omega) h
section
variable {n : Nat} {K A B : Nat → Nat} {f0 f1 f3 f4 f5 : Int32} {ck cf cs ct cp co sA sB : Nat → Int32} {post : Int32 → Prop}
theorem ux_inRange (hn : n ≤ 24) (p : Int32) (h1 : ∀ i, i < n → p = nI i → post 1) (h0 : (∀ i, i < n → p ≠ nI i) → post 0) :
    wpX_inRange post (f0, f1, nI n, f3, f4, f5, ck, cf, cs, ct, cp, co, sA, sB) p := by
  unfold wpX_inRange
  dsimp only
  rcases pk_ix p (n := n) (by omega) with h | h | ⟨j, hj, rfl⟩
  · exact br_t h (h0 (re_out hn (Or.inl h)))
  · have h2 : ¬ p < 0 := fun z => by
      have := Int32.lt_of_le_of_lt h z
      exact nI_pos (by omega) this
    exact br_f h2 (br_t h (h0 (re_out hn (Or.inr h))))
  · exact br_f (nI_pos (by omega)) (br_f (nI_ge hj (by omega)) (h1 j hj rfl))
theorem ux_inNet (hn : n ≤ 24) (hK : re_K K ck) (p : Int32) (h1 : ∀ i, i < n → p = nI i → pn_IN n K i → post 1) (h0 : (∀ i, i < n → p = nI i → ¬ pn_IN n K i) → post 0) :
    wpX_inNet post (f0, f1, nI n, f3, f4, f5, ck, cf, cs, ct, cp, co, sA, sB) p := by
  unfold wpX_inNet
  dsimp only
  refine ux_inRange hn p ?_ ?_
  · rintro i hi rfl
    have un : ∀ j, j < n → nI i = nI j → j = i := fun j hj e => ((nI_eq (by omega) (by omega)).mp e).symm
    refine br_f (by decide) ⟨re_in (by omega), re_k hK (by omega) 0 (by omega) (fun e => h0 ?_) (fun e => ⟨re_in (by omega), re_k hK (by omega) 6 (by omega) (fun e2 => h0 ?_) (fun e2 => h1 i hi rfl ⟨hi, e, e2⟩)⟩)⟩
    · intro j hj ej z
      exact z.2.1 (un j hj ej ▸ e)
    · intro j hj ej z
      exact z.2.2 (un j hj ej ▸ e2)
  · intro h
    exact br_t rfl (h0 fun i hi e => absurd e (h i hi))
theorem ux_isFormula (hn : n ≤ 24) (hK : re_K K ck) (p : Int32) (h1 : ∀ i, i < n → p = nI i → pn_IN n K i → K i ≠ 5 → post 1) (h0 : (∀ i, i < n → p = nI i → ¬ (pn_IN n K i ∧ K i ≠ 5)) → post 0) :
    wpX_isFormula post (f0, f1, nI n, f3, f4, f5, ck, cf, cs, ct, cp, co, sA, sB) p := by
  unfold wpX_isFormula
  dsimp only
  refine ux_inNet hn hK p ?_ ?_
  · rintro i hi rfl hin
    have un : ∀ j, j < n → nI i = nI j → j = i := fun j hj e => ((nI_eq (by omega) (by omega)).mp e).symm
    refine br_f (by decide) ⟨re_in (by omega), re_k hK (by omega) 5 (by omega) (fun e => h0 ?_) (fun e => h1 i hi rfl hin e)⟩
    intro j hj ej z
    exact z.2 (un j hj ej ▸ e)
  · intro h
    exact br_t rfl (h0 fun i hi e z => h i hi e z.1)
theorem ux_isLink (hn : n ≤ 24) (hK : re_K K ck) (p : Int32) (h1 : ∀ i, i < n → p = nI i → pn_lk n K i → post 1) (h0 : (∀ i, i < n → p = nI i → ¬ pn_lk n K i) → post 0) :
    wpX_isLink post (f0, f1, nI n, f3, f4, f5, ck, cf, cs, ct, cp, co, sA, sB) p := by
  unfold wpX_isLink
  dsimp only
  refine ux_inNet hn hK p ?_ ?_
  · rintro i hi rfl hin
    have un : ∀ j, j < n → nI i = nI j → j = i := fun j hj e => ((nI_eq (by omega) (by omega)).mp e).symm
    refine br_f (by decide) ⟨re_in (by omega), re_k hK (by omega) 2 (by omega) (fun e => h0 ?_) (fun e => h1 i hi rfl ⟨hin, e⟩)⟩
    intro j hj ej z
    exact z.2 (un j hj ej ▸ e)
  · intro h
    exact br_t rfl (h0 fun i hi e z => h i hi e z.1)
theorem ux_isAtom (hK : re_K K ck) {i : Nat} (hi : i < 24) {f2 : Int32} (h1 : K i = 1 ∨ K i = 2 → post 1) (h0 : K i ≠ 1 → K i ≠ 2 → post 0) :
    wpX_isAtom post (f0, f1, f2, f3, f4, f5, ck, cf, cs, ct, cp, co, sA, sB) (nI i) := by
  unfold wpX_isAtom
  dsimp only
  exact ⟨re_in hi, re_k hK hi 1 (by omega) (fun e => h1 (Or.inl e)) (fun e => ⟨re_in hi, re_k hK hi 2 (by omega) (fun e2 => h1 (Or.inr e2)) (fun e2 => h0 e e2)⟩)⟩
end
section
variable {n : Nat} {K A B : Nat → Nat} {g1 : Int32} {yk yl yr yw yg ys : Nat → Int32} {post : Int32 → Prop}
theorem uy_inside (hn : n ≤ 24) (p : Int32) (h1 : ∀ i, i < n → p = nI i → post 1) (h0 : (∀ i, i < n → p ≠ nI i) → post 0) :
    wpY_inside post (nI n, g1, yk, yl, yr, yw, yg, ys) p := by
  unfold wpY_inside
  dsimp only
  rcases pk_ix p (n := n) (by omega) with h | h | ⟨j, hj, rfl⟩
  · exact br_t h (h0 (re_out hn (Or.inl h)))
  · have h2 : ¬ p < 0 := fun z => by
      have := Int32.lt_of_le_of_lt h z
      exact nI_pos (by omega) this
    exact br_f h2 (br_t h (h0 (re_out hn (Or.inr h))))
  · exact br_f (nI_pos (by omega)) (br_f (nI_ge hj (by omega)) (h1 j hj rfl))
theorem uy_inNet (hn : n ≤ 24) (hK : re_K K yk) (p : Int32) (h1 : ∀ i, i < n → p = nI i → pn_IN n K i → post 1) (h0 : (∀ i, i < n → p = nI i → ¬ pn_IN n K i) → post 0) :
    wpY_inNet post (nI n, g1, yk, yl, yr, yw, yg, ys) p := by
  unfold wpY_inNet
  dsimp only
  refine uy_inside hn p ?_ ?_
  · rintro i hi rfl
    have un : ∀ j, j < n → nI i = nI j → j = i := fun j hj e => ((nI_eq (by omega) (by omega)).mp e).symm
    refine br_f (by decide) ⟨re_in (by omega), re_k hK (by omega) 0 (by omega) (fun e => h0 ?_) (fun e => ⟨re_in (by omega), re_k hK (by omega) 6 (by omega) (fun e2 => h0 ?_) (fun e2 => h1 i hi rfl ⟨hi, e, e2⟩)⟩)⟩
    · intro j hj ej z
      exact z.2.1 (un j hj ej ▸ e)
    · intro j hj ej z
      exact z.2.2 (un j hj ej ▸ e2)
  · intro h
    exact br_t rfl (h0 fun i hi e => absurd e (h i hi))
theorem uy_isFormula (hn : n ≤ 24) (hK : re_K K yk) (p : Int32) (h1 : ∀ i, i < n → p = nI i → pn_IN n K i → K i ≠ 5 → post 1) (h0 : (∀ i, i < n → p = nI i → ¬ (pn_IN n K i ∧ K i ≠ 5)) → post 0) :
    wpY_isFormula post (nI n, g1, yk, yl, yr, yw, yg, ys) p := by
  unfold wpY_isFormula
  dsimp only
  refine uy_inNet hn hK p ?_ ?_
  · rintro i hi rfl hin
    have un : ∀ j, j < n → nI i = nI j → j = i := fun j hj e => ((nI_eq (by omega) (by omega)).mp e).symm
    refine br_f (by decide) ⟨re_in (by omega), re_k hK (by omega) 5 (by omega) (fun e => h0 ?_) (fun e => h1 i hi rfl hin e)⟩
    intro j hj ej z
    exact z.2 (un j hj ej ▸ e)
  · intro h
    exact br_t rfl (h0 fun i hi e z => h i hi e z.1)
theorem uy_isLink (hn : n ≤ 24) (hK : re_K K yk) (p : Int32) (h1 : ∀ i, i < n → p = nI i → pn_lk n K i → post 1) (h0 : (∀ i, i < n → p = nI i → ¬ pn_lk n K i) → post 0) :
    wpY_isLink post (nI n, g1, yk, yl, yr, yw, yg, ys) p := by
  unfold wpY_isLink
  dsimp only
  refine uy_inNet hn hK p ?_ ?_
  · rintro i hi rfl hin
    have un : ∀ j, j < n → nI i = nI j → j = i := fun j hj e => ((nI_eq (by omega) (by omega)).mp e).symm
    refine br_f (by decide) ⟨re_in (by omega), re_k hK (by omega) 2 (by omega) (fun e => h0 ?_) (fun e => h1 i hi rfl ⟨hin, e⟩)⟩
    intro j hj ej z
    exact z.2 (un j hj ej ▸ e)
  · intro h
    exact br_t rfl (h0 fun i hi e z => h i hi e z.1)
end
end
section
/-! the component's union-find against a replay state c -/
def ux_R (b : Nat) (c : Nat → Nat) (p : Nat → Int32) : Prop := ∀ j, j < 24 → (c j = 24 ∧ p (b + j) = -1) ∨ (c j ≤ j ∧ ∃ i, i ≤ j ∧ p (b + j) = nI i ∧ c i = c j ∧ (i = j → c j = j))
def re_fr (b : Nat) (p p' : Nat → Int32) : Prop := ∀ k, (k < b ∨ b + 24 ≤ k) → p' k = p k
def pn_fd (c : Nat → Nat) (j : Nat) : Int32 := if c j = 24 then -1 else nI (c j)
def ux_mg (c : Nat → Nat) (p q : Nat) : Nat → Nat := fun j => if c j = p ∨ c j = q then min p q else c j
theorem ux_R_id {b : Nat} {c : Nat → Nat} {p : Nat → Int32} (R : ux_R b c p) : ∀ j, j < 24 → c j ≠ 24 → c j ≤ j ∧ c (c j) = c j := by
  intro j
  induction j using Nat.strongRecOn with
  | _ j ih =>
    intro hj hc
    rcases R j hj with ⟨q, _⟩ | ⟨q1, i, q2, q3, q4, q5⟩
    · exact absurd q hc
    · refine ⟨q1, ?_⟩
      by_cases e : i = j
      · rw [q5 e, q5 e]
      · have := ih i (by omega) (by omega) (by rw [q4]; exact hc)
        rw [q4] at this
        exact this.2
theorem ux_R_congr {b : Nat} {c c' : Nat → Nat} {p : Nat → Int32} (R : ux_R b c p) (e : ∀ j, j < 24 → c j = c' j) : ux_R b c' p := by
  intro j hj
  rcases R j hj with ⟨q, w⟩ | ⟨q1, i, q2, q3, q4, q5⟩
  · exact Or.inl ⟨by rw [← e j hj]; exact q, w⟩
  · refine Or.inr ⟨by rw [← e j hj]; exact q1, i, q2, q3, ?_, ?_⟩
    · rw [← e j hj, ← e i (by omega)]; exact q4
    · rw [← e j hj]; exact q5
def ux_nw (c : Nat → Nat) (x : Nat) : Nat → Nat := fun j => if j = x then x else c j
theorem ux_nw_s {c : Nat → Nat} {x : Nat} : ux_nw c x x = x := if_pos rfl
theorem ux_nw_n {c : Nat → Nat} {x j : Nat} (h : j ≠ x) : ux_nw c x j = c j := if_neg h
theorem ux_mg_i {c : Nat → Nat} {p q j : Nat} (h : c j = p ∨ c j = q) : ux_mg c p q j = min p q := if_pos h
theorem ux_mg_o {c : Nat → Nat} {p q j : Nat} (h : ¬ (c j = p ∨ c j = q)) : ux_mg c p q j = c j := if_neg h
theorem ux_R_new {b : Nat} {c : Nat → Nat} {p : Nat → Int32} (R : ux_R b c p) {x : Nat} (hx : x < 24) (hc : c x = 24) : ux_R b (ux_nw c x) (upd p (b + x) (nI x)) := by
  intro j hj
  by_cases e : j = x
  · subst e
    exact Or.inr ⟨by rw [ux_nw_s]; exact Nat.le_refl _, j, Nat.le_refl _, pk_us, rfl, fun _ => ux_nw_s⟩
  · have w : upd p (b + x) (nI x) (b + j) = p (b + j) := pk_un (by omega)
    rw [w, ux_nw_n e]
    rcases R j hj with q | ⟨q1, i, q2, q3, q4, q5⟩
    · exact Or.inl q
    · refine Or.inr ⟨q1, i, q2, q3, ?_, q5⟩
      rw [ux_nw_n]
      · exact q4
      · rintro rfl; omega
theorem ux_R_mg {b : Nat} {c : Nat → Nat} {p : Nat → Int32} (R : ux_R b c p) {u v : Nat} (hu : u < 24) (hv : v < 24) (ru : c u = u) (rv : c v = v) (h : v ≤ u) : ux_R b (ux_mg c u v) (upd p (b + u) (nI v)) := by
  intro j hj
  unfold ux_mg
  by_cases e : j = u
  · subst e
    refine Or.inr ⟨?_, v, h, pk_us, ?_, ?_⟩
    · rw [if_pos (Or.inl ru)]; omega
    · rw [if_pos (Or.inl ru), if_pos (Or.inr rv)]
    · intro z
      rw [if_pos (Or.inl ru)]
      omega
  · have w : upd p (b + u) (nI v) (b + j) = p (b + j) := pk_un (by omega)
    rw [w]
    rcases R j hj with ⟨q, w⟩ | ⟨q1, i, q2, q3, q4, q5⟩
    · refine Or.inl ⟨?_, w⟩
      rw [if_neg (by omega)]
      exact q
    · refine Or.inr ⟨?_, i, q2, q3, ?_, ?_⟩
      · split <;> omega
      · rw [q4]
      · intro z
        have := q5 z
        rw [this]
        split <;> omega
theorem ux_mg_comm (c : Nat → Nat) (p q : Nat) : ux_mg c p q = ux_mg c q p := by
  funext j
  unfold ux_mg
  rw [Nat.min_comm p q]
  by_cases h : c j = p ∨ c j = q
  · rw [if_pos h, if_pos h.symm]
  · rw [if_neg h, if_neg (fun z => h z.symm)]
section
variable {n : Nat} {K A B : Nat → Nat} {c : Nat → Nat} {b : Nat} {f0 f1 f2 f3 f4 f5 : Int32} {ck cf cs ct cp co sA sB : Nat → Int32}
theorem ux_find_5 {post : Int32 → Prop} (hb : b ≤ 24) (R : ux_R b c cp) : ∀ d z h, z < 24 → c z ≠ 24 → z + h ≤ 23 → z < d → post (nI (c z)) →
    wX_find_5 post (nI b) f0 f1 f2 f3 f4 f5 ck cf cs ct cp co sA sB d (nI z) (nI h) := by
  intro d
  induction d with
  | zero => intro z h _ _ _ hd; exact absurd hd (by omega)
  | succ d ih =>
    intro z h hz cz zh hd hp
    refine br_f (nI_ge (b := 24) (by omega) (by decide)) (br_f (nI_pos (by omega)) ⟨?_, ?_⟩)
    · rw [nI_add]; exact vp_in_nI (by omega) (by decide)
    · rw [nI_add, nI_clamp (by omega)]
      rcases R z hz with ⟨q, _⟩ | ⟨q1, i, q2, q3, q4, q5⟩
      · exact absurd q cz
      · refine nm_r q3 ?_
        by_cases e : i = z
        · subst e
          rw [q5 rfl] at hp
          exact br_t rfl hp
        · refine br_f (fun w => e ((nI_eq (by omega) (by omega)).mp w)) (nm_r (nI_1 h) ?_)
          exact ih i (h + 1) (by omega) (by omega) (by omega) (by omega) (by rw [q4]; exact hp)
theorem ux_find {post : Int32 → Prop} (hb : b ≤ 24) (R : ux_R b c cp) {z : Nat} (hz : z < 24) (hp : post (pn_fd c z)) :
    wpX_find post (f0, f1, f2, f3, f4, f5, ck, cf, cs, ct, cp, co, sA, sB) (nI b) (nI z) := by
  unfold wpX_find
  dsimp only
  unfold pn_fd at hp
  by_cases e : c z = 24
  · rw [if_pos e] at hp
    refine ⟨2, br_f (by decide) (br_f (nI_pos (by omega)) ⟨?_, ?_⟩)⟩
    · rw [nI_add]; exact vp_in_nI (by omega) (by decide)
    · rw [nI_add, nI_clamp (by omega)]
      rcases R z hz with ⟨_, q⟩ | ⟨q1, _⟩
      · refine nm_r q (br_f (fun w => pn_nIm1 hz w.symm) (nm_e (br_f (by decide) (br_t (by decide) hp))))
      · omega
  · rw [if_neg e] at hp
    exact ⟨24, ux_find_5 hb R 24 z 0 hz e (by omega) (by omega) hp⟩
theorem ux_verdict {post : Int32 → Prop} (hn : n ≤ 24) (hb : b ≤ 24) (hK : re_K K ck) (hA : re_F n K A cf) (hB : re_F n K B cs) (N : pn_N n K A B) (R : ux_R b c cp) (p : Int32)
    (h1 : ∀ i, i < n → p = nI i → post (pn_vd n K A B c i)) (h0 : (∀ i, i < n → p ≠ nI i) → post (-5)) :
    wpX_verdict post (f0, f1, nI n, f3, f4, f5, ck, cf, cs, ct, cp, co, sA, sB) (nI b) p := by
  unfold wpX_verdict
  dsimp only
  refine ux_isLink hn hK p ?_ ?_
  · rintro i hi rfl hl
    have hp := h1 i hi rfl
    unfold pn_vd at hp
    rw [if_pos ⟨hi, hl.1.2.1, hl.1.2.2, hl.2⟩] at hp
    refine br_f (by decide) ⟨?_, ?_⟩
    · rw [nI_add]; exact vp_in_nI (by omega) (by decide)
    rw [nI_add, nI_clamp (by omega)]
    rcases R i (by omega) with ⟨q1, q2⟩ | ⟨q1, i', q2, q3, q4, q5⟩
    · rw [q2]
      rw [if_neg (fun z => z q1)] at hp
      refine br_t (by decide) ⟨re_in (by omega), re_k hK (by omega) 1 (by omega) (fun e => ?_) (fun e => ⟨re_in (by omega), ?_⟩)⟩
      · rw [if_pos e] at hp; exact hp
      · rw [if_neg e] at hp
        have k3 : 3 ≤ K i := by
          have := hl.1.2
          have := hl.2
          omega
        have ⟨i1, i2, i3, i4, i5⟩ := (N i hl.1).2.2.2 k3
        have e1 : cf (nI i).toNatClampNeg = nI (A i) := by rw [nI_clamp (by omega)]; exact hA i hl.1
        have e2 : cs (nI i).toNatClampNeg = nI (B i) := by rw [nI_clamp (by omega)]; exact hB i hl.1
        rw [e1, e2]
        refine ux_find hb R (by omega) ⟨re_in (by omega), ux_find hb R (by omega) ?_⟩
        unfold pn_fd
        by_cases ca : c (A i) = 24
        · rw [if_pos ca] at hp ⊢
          exact br_t (by decide) hp
        · rw [if_neg ca] at hp ⊢
          have la := (ux_R_id R (A i) (by omega) ca).1
          refine br_f (nI_pos (by omega)) ?_
          by_cases cb : c (B i) = 24
          · rw [if_pos cb] at hp ⊢
            exact br_f (by decide) hp
          · rw [if_neg cb] at hp ⊢
            have lb := (ux_R_id R (B i) (by omega) cb).1
            refine br_t (nI_pos' (by omega)) ⟨re_in (by omega), re_k hK (by omega) 4 (by omega) (fun e => ?_) (fun e => ?_)⟩
            · rw [if_pos e] at hp
              refine pk_eq (c (A i)) (c (B i)) (fun w => ?_) (fun w => ?_)
              · rw [if_pos w] at hp; exact hp
              · rw [if_neg w] at hp; exact hp
            · rw [if_neg e] at hp
              refine pk_eq (c (A i)) (c (B i)) (fun w => ?_) (fun w => ?_)
              · rw [if_pos w] at hp; exact hp
              · rw [if_neg w] at hp; exact hp
    · rw [q3]
      rw [if_pos (by omega)] at hp
      exact br_f (nI_pos (by omega)) hp
  · intro h
    refine br_t rfl ?_
    by_cases z : ∃ i, i < n ∧ p = nI i
    · obtain ⟨i, hi, e⟩ := z
      have hp := h1 i hi e
      unfold pn_vd at hp
      rw [if_neg] at hp
      · exact hp
      · intro w
        exact h i hi e ⟨⟨w.1, w.2.1, w.2.2.1⟩, w.2.2.2⟩
    · exact h0 fun i hi e => z ⟨i, hi, e⟩
theorem ux_unite {post : SX → Prop} (hb : b ≤ 24) (R : ux_R b c cp) {u v : Nat} (hu : u < 24) (hv : v < 24) (cu : c u ≠ 24) (cv : c v ≠ 24)
    (hp : ∀ cp', re_fr b cp cp' → ux_R b (ux_mg c (c u) (c v)) cp' → post (f0, f1, f2, f3, f4, f5, ck, cf, cs, ct, cp', co, sA, sB)) :
    wpX_unite post (f0, f1, f2, f3, f4, f5, ck, cf, cs, ct, cp, co, sA, sB) (nI b) (nI u) (nI v) := by
  unfold wpX_unite
  dsimp only
  have ⟨u1, u2⟩ := ux_R_id R u hu cu
  have ⟨v1, v2⟩ := ux_R_id R v hv cv
  refine ux_find hb R hu (ux_find hb R hv ?_)
  unfold pn_fd
  rw [if_neg cu, if_neg cv]
  have fr : ∀ k x, k < 24 → re_fr b cp (upd cp (b + k) x) := fun k x hk j hj => pk_un (by omega)
  refine pk_le (c v) (c u) (fun w => ⟨?_, ?_⟩) (fun w => ⟨?_, ?_⟩)
  · rw [nI_add]; exact vp_in_nI (by omega) (by decide)
  · rw [nI_add, nI_clamp (by omega)]
    exact nm_e (hp _ (fr _ _ (by omega)) (ux_R_mg R (by omega) (by omega) u2 v2 w))
  · rw [nI_add]; exact vp_in_nI (by omega) (by decide)
  · rw [nI_add, nI_clamp (by omega)]
    refine nm_e (hp _ (fr _ _ (by omega)) ?_)
    rw [ux_mg_comm]
    exact ux_R_mg R (by omega) (by omega) v2 u2 (by omega)
theorem re_fr_t {p p1 p2 : Nat → Int32} (h : re_fr b p p1) (k : re_fr b p1 p2) : re_fr b p p2 := fun j hj => (k j hj).trans (h j hj)
theorem re_fr_u (p : Nat → Int32) {k : Nat} (hk : k < 24) (x : Int32) : re_fr b p (upd p (b + k) x) := fun j hj => pk_un (by omega)
theorem ux_place {post : SX → Prop} (hn : n ≤ 24) (hb : b ≤ 24) (hK : re_K K ck) (hA : re_F n K A cf) (hB : re_F n K B cs) (N : pn_N n K A B) (V1 : pn_V1 n K c) (V2 : pn_V2 K A B c) (R : ux_R b c cp) {x : Nat} (r : pn_rd n K A B c x)
    (hp : ∀ cp', re_fr b cp cp' → ux_R b (pn_pl K A B c x) cp' → post (f0, f1, f2, f3, f4, f5, ck, cf, cs, ct, cp', co, sA, sB)) :
    wpX_place post (f0, f1, f2, f3, f4, f5, ck, cf, cs, ct, cp, co, sA, sB) (nI b) (nI x) := by
  unfold wpX_place
  dsimp only
  obtain ⟨hx, hk2, hc, h⟩ := r
  have x24 : x < 24 := Nat.lt_of_lt_of_le hx.1 hn
  have e1 : cf (nI x).toNatClampNeg = nI (A x) := by rw [nI_clamp (by omega)]; exact hA x hx
  have R1 := ux_R_new R x24 hc
  have ne : ∀ y, c y = 24 → ∀ j, c j ≠ 24 → c j ≠ y := by
    intro y cy j hj e
    have := ((V1 j).resolve_left hj).2.1
    rw [e, cy] at this
    rw [← e] at this
    exact hj this.symm
  refine ⟨re_in x24, nm_r e1 ⟨?_, ?_⟩⟩
  · rw [nI_add]; exact vp_in_nI (by omega) (by decide)
  rw [nI_add, nI_clamp (by omega)]
  refine nm_e ⟨re_in x24, ?_⟩
  refine re_k hK x24 1 (by omega) (fun k => ⟨?_, ?_⟩) (fun k => ⟨re_in x24, ?_⟩)
  · have a24 : A x < 24 := by have := ((N x hx).2.1 k).1.1; omega
    rw [nI_add]; exact vp_in_nI (by omega) (by decide)
  · have ⟨m1, m2, m3⟩ := (N x hx).2.1 k
    have a24 : A x < 24 := by have := m1.1; omega
    have ma := pn_mate N V2 hx k hc
    have hax : A x ≠ x := fun z => by rw [z] at m2; omega
    rw [nI_add, nI_clamp (by omega)]
    refine nm_e ?_
    have R2 := ux_R_new R1 a24 (by rw [ux_nw_n hax]; exact ma)
    unfold wX_place_50
    refine ux_unite hb R2 a24 x24 (by rw [ux_nw_s]; omega) (by rw [ux_nw_n (Ne.symm hax), ux_nw_s]; omega) ?_
    intro cp' fr R3
    refine hp cp' (re_fr_t (re_fr_t (re_fr_u cp x24 _) (re_fr_u _ a24 _)) fr) (ux_R_congr R3 ?_)
    intro j hj
    rw [pn_pl1 k, ux_nw_s, ux_nw_n (Ne.symm hax), ux_nw_s]
    by_cases e : j = x ∨ j = A x
    · rw [if_pos e, ux_mg_i, Nat.min_comm]
      rcases e with rfl | rfl
      · rw [ux_nw_n (Ne.symm hax), ux_nw_s]; exact Or.inr rfl
      · rw [ux_nw_s]; exact Or.inl rfl
    · have q : ux_nw (ux_nw c x) (A x) j = c j := by rw [ux_nw_n (fun z => e (Or.inr z)), ux_nw_n (fun z => e (Or.inl z))]
      rw [if_neg e, ux_mg_o, q]
      rw [q]
      by_cases z : c j = 24
      · omega
      · exact fun w => w.elim (ne _ ma j z) (ne _ hc j z)
  · have ⟨ha, hb', hab⟩ := h.resolve_left k
    have k3 : 3 ≤ K x := by
      have := hx.2
      omega
    have ⟨i1, i2, i3, i4, i5⟩ := (N x hx).2.2.2 k3
    have e2 : cs (nI x).toNatClampNeg = nI (B x) := by rw [nI_clamp (by omega)]; exact hB x hx
    have ⟨a1, a2, _⟩ := (V1 (A x)).resolve_left ha
    have ⟨b1, b2, _⟩ := (V1 (B x)).resolve_left hb'
    rw [e2]
    have hax : A x ≠ x := by omega
    have hbx : B x ≠ x := by omega
    have xa := ne x hc (A x) ha
    have xb := ne x hc (B x) hb'
    refine ux_unite hb R1 (u := A x) (v := B x) (by omega) (by omega) (by rw [ux_nw_n hax]; exact ha) (by rw [ux_nw_n hbx]; exact hb') ?_
    intro cp1 fr1 R2
    rw [ux_nw_n hax, ux_nw_n hbx] at R2
    unfold wX_place_50
    have c2a : ux_mg (ux_nw c x) (c (A x)) (c (B x)) (A x) = min (c (A x)) (c (B x)) := ux_mg_i (Or.inl (ux_nw_n hax))
    have c2x : ux_mg (ux_nw c x) (c (A x)) (c (B x)) x = x := by
      rw [ux_mg_o, ux_nw_s]
      rw [ux_nw_s]
      omega
    refine ux_unite hb R2 (u := A x) (v := x) (by omega) x24 (by rw [c2a]; omega) (by rw [c2x]; omega) ?_
    intro cp' fr R3
    refine hp cp' (re_fr_t (re_fr_t (re_fr_u cp x24 _) fr1) fr) (ux_R_congr R3 ?_)
    intro j hj
    rw [c2a, c2x, pn_pl2 k]
    by_cases e : j = x
    · rw [if_pos (Or.inl e), e, ux_mg_i (Or.inr c2x)]
      omega
    · by_cases w : c j = c (A x) ∨ c j = c (B x)
      · have q : ux_mg (ux_nw c x) (c (A x)) (c (B x)) j = min (c (A x)) (c (B x)) := ux_mg_i (by rw [ux_nw_n e]; exact w)
        rw [if_pos (Or.inr w), ux_mg_i (Or.inl q)]
        omega
      · have q : ux_mg (ux_nw c x) (c (A x)) (c (B x)) j = c j := by
          rw [ux_mg_o, ux_nw_n e]
          rw [ux_nw_n e]; exact w
        have : c j ≠ x := by
          by_cases z : c j = 24
          · omega
          · exact ne x hc j z
        rw [if_neg (fun z => z.elim e w), ux_mg_o, q]
        rw [q]
        omega
def pn_rr (n v : Nat) : Int32 := if v = n then -1 else nI v
theorem ux_sr {post : Int32 → Prop} (hn : n ≤ 24) (hK : re_K K ck) (hA : re_F n K A cf) (hB : re_F n K B cs) (N : pn_N n K A B) (R : ux_R 24 c cp) (sk : Int32) : ∀ d i, i + d = n →
    post (pn_rr n (pn_f (fun x => !(decide (nI x = sk)) && decide (pn_vd n K A B c x = 0)) d i)) → wX_smallestReady_2 post sk f0 f1 (nI n) f3 f4 f5 ck cf cs ct cp co sA sB (d + 1) (nI i) := by
  intro d
  induction d with
  | zero =>
    intro i hi hp
    have e : i = n := by omega
    subst e
    unfold pn_rr pn_f at hp
    rw [if_pos rfl] at hp
    exact br_t (nI_le (Nat.le_refl _) (by omega)) hp
  | succ d ih =>
    intro i hi hp
    refine br_f (nI_ge (by omega) (by omega)) ?_
    by_cases e : nI i = sk
    · have pe : pn_f (fun x => !(decide (nI x = sk)) && decide (pn_vd n K A B c x = 0)) (d + 1) i = pn_f (fun x => !(decide (nI x = sk)) && decide (pn_vd n K A B c x = 0)) d (i + 1) := by
        refine if_neg ?_
        dsimp only
        rw [decide_eq_true e, Bool.not_true, Bool.false_and]
        decide
      rw [pe] at hp
      exact br_t e (nm_r (nI_1 i) (ih (i + 1) (by omega) hp))
    · refine br_f e (ux_verdict (b := 24) hn (by omega) hK hA hB N R (nI i) ?_ ?_)
      · intro j hj ej
        have ej' : i = j := (nI_eq (by omega) (by omega)).mp ej
        subst ej'
        by_cases z : pn_vd n K A B c i = 0
        · refine br_t z ?_
          have pe : pn_f (fun x => !(decide (nI x = sk)) && decide (pn_vd n K A B c x = 0)) (d + 1) i = i := by
            refine if_pos ?_
            dsimp only
            rw [decide_eq_false e, decide_eq_true z]
            rfl
          rw [pe] at hp
          unfold pn_rr at hp
          rw [if_neg (by omega)] at hp
          exact hp
        · refine br_f z ?_
          have pe : pn_f (fun x => !(decide (nI x = sk)) && decide (pn_vd n K A B c x = 0)) (d + 1) i = pn_f (fun x => !(decide (nI x = sk)) && decide (pn_vd n K A B c x = 0)) d (i + 1) := by
            refine if_neg ?_
            dsimp only
            rw [decide_eq_false z, Bool.and_false]
            decide
          rw [pe] at hp
          exact nm_r (nI_1 i) (ih (i + 1) (by omega) hp)
      · intro h
        exact absurd rfl (h i (by omega))
theorem ux_smallest {post : Int32 → Prop} (hn : n ≤ 24) (hK : re_K K ck) (hA : re_F n K A cf) (hB : re_F n K B cs) (N : pn_N n K A B) (R : ux_R 24 c cp) (sk : Int32) (hp : post (pn_rr n (pn_nx n K A B sk c))) :
    wpX_smallestReady post (f0, f1, nI n, f3, f4, f5, ck, cf, cs, ct, cp, co, sA, sB) sk := by
  unfold wpX_smallestReady
  dsimp only
  exact ⟨n + 1, ux_sr hn hK hA hB N R sk n 0 (by omega) hp⟩
theorem ux_un_2 {post : SX → Prop} (hb : b ≤ 24) : ∀ d i (p : Nat → Int32), i + d = 24 → re_fr b cp p → (∀ j, j < i → p (b + j) = -1) → (∀ cp', re_fr b cp cp' → (∀ j, j < 24 → cp' (b + j) = -1) → post (f0, f1, f2, f3, f4, f5, ck, cf, cs, ct, cp', co, sA, sB)) →
    wX_unplaceAll_2 post (nI b) f0 f1 f2 f3 f4 f5 (d + 1) (nI i) ck cf cs ct p co sA sB := by
  intro d
  induction d with
  | zero =>
    intro i p hi fr hj hp
    have e : i = 24 := by omega
    subst e
    exact br_t (nI_le (a := 24) (b := 24) (Nat.le_refl _) (by decide)) (hp p fr hj)
  | succ d ih =>
    intro i p hi fr hj hp
    refine br_f (nI_ge (b := 24) (by omega) (by decide)) ⟨?_, ?_⟩
    · rw [nI_add]; exact vp_in_nI (by omega) (by decide)
    · rw [nI_add, nI_clamp (by omega)]
      refine nm_e (nm_r (nI_1 i) (ih (i + 1) _ (by omega) (re_fr_t fr (re_fr_u _ (by omega) _)) ?_ hp))
      intro j hj2
      by_cases e : j = i
      · rw [e]; exact pk_us
      · rw [pk_un (by omega)]; exact hj j (by omega)
theorem ux_un {post : SX → Prop} (hb : b ≤ 24) (hp : ∀ cp', re_fr b cp cp' → ux_R b (fun _ => 24) cp' → post (f0, f1, f2, f3, f4, f5, ck, cf, cs, ct, cp', co, sA, sB)) :
    wpX_unplaceAll post (f0, f1, f2, f3, f4, f5, ck, cf, cs, ct, cp, co, sA, sB) (nI b) := by
  unfold wpX_unplaceAll
  dsimp only
  exact ⟨25, ux_un_2 hb 24 0 cp (by omega) (fun _ _ => rfl) (fun j h => absurd h (by omega)) fun cp' fr h => hp cp' fr fun j hj => Or.inl ⟨rfl, h j hj⟩⟩
end
end
section
/-! the reference's labels against a replay state c -/
def uy_R (b : Nat) (c : Nat → Nat) (w : Nat → Int32) : Prop :=
  (∀ j, j < 24 → (c j = 24 ∧ w (b + j) = -1) ∨ (c j ≠ 24 ∧ ∃ l, l < 24 ∧ w (b + j) = nI l ∧ c l = c j)) ∧ ∀ i j, i < 24 → j < 24 → c i = c j → w (b + i) = w (b + j)
theorem uy_R_eq {b : Nat} {c : Nat → Nat} {w : Nat → Int32} (R : uy_R b c w) {i j : Nat} (hi : i < 24) (hj : j < 24) : w (b + i) = w (b + j) ↔ c i = c j := by
  refine ⟨fun e => ?_, R.2 i j hi hj⟩
  rcases R.1 i hi with ⟨p, q⟩ | ⟨p, l, l1, l2, l3⟩
  · rcases R.1 j hj with ⟨p', q'⟩ | ⟨p', l', l1', l2', l3'⟩
    · omega
    · rw [q, l2'] at e
      exact absurd e.symm (pn_nIm1 l1')
  · rcases R.1 j hj with ⟨p', q'⟩ | ⟨p', l', l1', l2', l3'⟩
    · rw [q', l2] at e
      exact absurd e (pn_nIm1 l1)
    · rw [l2, l2'] at e
      have := (nI_eq (by omega) (by omega)).mp e
      subst this
      omega
theorem uy_R_m1 {b : Nat} {c : Nat → Nat} {w : Nat → Int32} (R : uy_R b c w) {i : Nat} (hi : i < 24) : w (b + i) = -1 ↔ c i = 24 := by
  rcases R.1 i hi with ⟨p, q⟩ | ⟨p, l, l1, l2, l3⟩
  · exact ⟨fun _ => p, fun _ => q⟩
  · rw [l2]
    exact ⟨fun e => absurd e (pn_nIm1 l1), fun e => absurd e p⟩
theorem uy_R_pos {n : Nat} {K A B c : Nat → Nat} {b : Nat} {w : Nat → Int32} (hn : n ≤ 24) (N : pn_N n K A B) (V1 : pn_V1 n K c) (V2 : pn_V2 K A B c) (R : uy_R b c w) {x : Nat} (hx : pn_IN n K x) (hc : c x = 24) (k : K x = 1) :
    uy_R b (pn_pl K A B c x) (upd (upd w (b + x) (nI x)) (b + A x) (nI x)) := by
  have ⟨m1, m2, m3⟩ := (N x hx).2.1 k
  have x24 : x < 24 := Nat.lt_of_lt_of_le hx.1 hn
  have a24 : A x < 24 := Nat.lt_of_lt_of_le m1.1 hn
  have ma := pn_mate N V2 hx k hc
  have ne : ∀ y, c y = 24 → ∀ j, c j ≠ 24 → c j ≠ y := by
    intro y cy j hj e
    have := ((V1 j).resolve_left hj).2.1
    rw [e, cy] at this
    rw [← e] at this
    exact hj this.symm
  have wi : ∀ j, (j = x ∨ j = A x) → upd (upd w (b + x) (nI x)) (b + A x) (nI x) (b + j) = nI x := by
    intro j hj
    by_cases e : j = A x
    · rw [e]; exact pk_us
    · rw [pk_un (by omega), hj.resolve_right e]; exact pk_us
  have wo : ∀ j, ¬ (j = x ∨ j = A x) → upd (upd w (b + x) (nI x)) (b + A x) (nI x) (b + j) = w (b + j) := by
    intro j hj
    rw [pk_un (by omega), pk_un (by omega)]
  have ci : ∀ j, (j = x ∨ j = A x) → pn_pl K A B c x j = min x (A x) := fun j hj => by rw [pn_pl1 k, if_pos hj]
  have cO : ∀ j, ¬ (j = x ∨ j = A x) → pn_pl K A B c x j = c j := fun j hj => by rw [pn_pl1 k, if_neg hj]
  have cm : ∀ j, c j ≠ min x (A x) := by
    intro j
    by_cases z : c j = 24
    · omega
    · have := ne _ hc j z
      have := ne _ ma j z
      omega
  constructor
  · intro j hj
    by_cases e : j = x ∨ j = A x
    · refine Or.inr ⟨by rw [ci j e]; omega, x, x24, wi j e, ?_⟩
      rw [ci j e, ci x (Or.inl rfl)]
    · rw [wo j e, cO j e]
      rcases R.1 j hj with q | ⟨p, l, l1, l2, l3⟩
      · exact Or.inl q
      · refine Or.inr ⟨p, l, l1, l2, ?_⟩
        rw [cO l, l3]
        rintro (rfl | rfl) <;> omega
  · intro i j hi hj e
    by_cases ei : i = x ∨ i = A x
    · by_cases ej : j = x ∨ j = A x
      · rw [wi i ei, wi j ej]
      · rw [ci i ei, cO j ej] at e
        exact absurd e.symm (cm j)
    · by_cases ej : j = x ∨ j = A x
      · rw [ci j ej, cO i ei] at e
        exact absurd e (cm i)
      · rw [wo i ei, wo j ej]
        rw [cO i ei, cO j ej] at e
        exact R.2 i j hi hj e
theorem uy_R_link {n : Nat} {K A B c : Nat → Nat} {b : Nat} {w w' : Nat → Int32} (hn : n ≤ 24) (N : pn_N n K A B) (V1 : pn_V1 n K c) (R : uy_R b c w) {x : Nat} (hx : pn_IN n K x) (hc : c x = 24) (k3 : 3 ≤ K x) (ha : c (A x) ≠ 24) (hb : c (B x) ≠ 24)
    (hw : ∀ j, j < 24 → j ≠ x → w' (b + j) = if w (b + j) = w (b + B x) then w (b + A x) else w (b + j)) (hwx : w' (b + x) = w (b + A x)) : uy_R b (pn_pl K A B c x) w' := by
  have ⟨i1, i2, i3, i4, i5⟩ := (N x hx).2.2.2 k3
  have x24 : x < 24 := Nat.lt_of_lt_of_le hx.1 hn
  have k : K x ≠ 1 := by omega
  have ci : ∀ j, (j = x ∨ c j = c (A x) ∨ c j = c (B x)) → pn_pl K A B c x j = min (c (A x)) (c (B x)) := fun j hj => by rw [pn_pl2 k, if_pos hj]
  have cO : ∀ j, ¬ (j = x ∨ c j = c (A x) ∨ c j = c (B x)) → pn_pl K A B c x j = c j := fun j hj => by rw [pn_pl2 k, if_neg hj]
  have wi : ∀ j, j < 24 → (j = x ∨ c j = c (A x) ∨ c j = c (B x)) → w' (b + j) = w (b + A x) := by
    intro j hj e
    by_cases ex : j = x
    · rw [ex]; exact hwx
    · rw [hw j hj ex]
      rcases e.resolve_left ex with e | e
      · rw [R.2 j (A x) hj (by omega) e]
        split <;> rfl
      · rw [if_pos (R.2 j (B x) hj (by omega) e)]
  have wo : ∀ j, j < 24 → ¬ (j = x ∨ c j = c (A x) ∨ c j = c (B x)) → w' (b + j) = w (b + j) := by
    intro j hj e
    rw [hw j hj (fun z => e (Or.inl z)), if_neg]
    intro z
    exact e (Or.inr (Or.inr ((uy_R_eq R hj (by omega)).mp z)))
  have am : min (c (A x)) (c (B x)) ≠ 24 := by omega
  constructor
  · intro j hj
    by_cases e : j = x ∨ c j = c (A x) ∨ c j = c (B x)
    · rcases R.1 (A x) (by omega) with q | ⟨p, l, l1, l2, l3⟩
      · exact absurd q.1 ha
      · refine Or.inr ⟨by rw [ci j e]; exact am, l, l1, by rw [wi j hj e]; exact l2, ?_⟩
        rw [ci j e, ci l (Or.inr (Or.inl l3))]
    · rw [wo j hj e, cO j e]
      rcases R.1 j hj with q | ⟨p, l, l1, l2, l3⟩
      · exact Or.inl q
      · refine Or.inr ⟨p, l, l1, l2, ?_⟩
        rw [cO l, l3]
        rw [l3]
        rintro (rfl | z)
        · omega
        · exact e (Or.inr z)
  · intro i j hi hj e
    by_cases ei : i = x ∨ c i = c (A x) ∨ c i = c (B x)
    · by_cases ej : j = x ∨ c j = c (A x) ∨ c j = c (B x)
      · rw [wi i hi ei, wi j hj ej]
      · rw [ci i ei, cO j ej] at e
        omega
    · by_cases ej : j = x ∨ c j = c (A x) ∨ c j = c (B x)
      · rw [ci j ej, cO i ei] at e
        omega
      · rw [wo i hi ei, wo j hj ej]
        rw [cO i ei, cO j ej] at e
        exact R.2 i j hi hj e
section
variable {n : Nat} {K A B : Nat → Nat} {c : Nat → Nat} {b : Nat} {g0 g1 : Int32} {yk yl yr yw yg ys : Nat → Int32}
theorem uy_answer {post : Int32 → Prop} (hn : n ≤ 24) (hb : b ≤ 24) (hK : re_K K yk) (hA : re_F n K A yl) (hB : re_F n K B yr) (N : pn_N n K A B) (R : uy_R b c yw) (p : Int32)
    (h1 : ∀ i, i < n → p = nI i → post (pn_vd n K A B c i)) (h0 : (∀ i, i < n → p ≠ nI i) → post (-5)) :
    wpY_answer post (nI n, g1, yk, yl, yr, yw, yg, ys) (nI b) p := by
  unfold wpY_answer
  dsimp only
  refine uy_isLink hn hK p ?_ ?_
  · rintro i hi rfl hl
    have hp := h1 i hi rfl
    unfold pn_vd at hp
    rw [if_pos ⟨hi, hl.1.2.1, hl.1.2.2, hl.2⟩] at hp
    refine br_f (by decide) ⟨?_, ?_⟩
    · rw [nI_add]; exact vp_in_nI (by omega) (by decide)
    rw [nI_add, nI_clamp (by omega)]
    by_cases ci : c i = 24
    · rw [if_neg (fun z => z ci)] at hp
      refine br_t ((uy_R_m1 R (by omega)).mpr ci) ⟨re_in (by omega), re_k hK (by omega) 1 (by omega) (fun e => ?_) (fun e => ⟨re_in (by omega), ?_⟩)⟩
      · rw [if_pos e] at hp; exact hp
      · rw [if_neg e] at hp
        have k3 : 3 ≤ K i := by
          have := hl.1.2
          have := hl.2
          omega
        have ⟨i1, i2, i3, i4, i5⟩ := (N i hl.1).2.2.2 k3
        have e1 : yl (nI i).toNatClampNeg = nI (A i) := by rw [nI_clamp (by omega)]; exact hA i hl.1
        have e2 : yr (nI i).toNatClampNeg = nI (B i) := by rw [nI_clamp (by omega)]; exact hB i hl.1
        rw [e1, e2, nI_add, nI_add, nI_clamp (by omega), nI_clamp (by omega)]
        have eq := uy_R_eq R (i := A i) (j := B i) (by omega) (by omega)
        have ea := uy_R_m1 R (i := A i) (by omega)
        have eb := uy_R_m1 R (i := B i) (by omega)
        refine ⟨vp_in_nI (by omega) (by decide), nm_e ⟨re_in (by omega), vp_in_nI (by omega) (by decide), nm_e ?_⟩⟩
        by_cases ca : c (A i) = 24
        · rw [if_pos ca] at hp
          exact br_t (ea.mpr ca) hp
        · rw [if_neg ca] at hp
          refine br_f (fun z => ca (ea.mp z)) ?_
          by_cases cb : c (B i) = 24
          · rw [if_pos cb] at hp
            exact br_t (eb.mpr cb) hp
          · rw [if_neg cb] at hp
            refine br_f (fun z => cb (eb.mp z)) ⟨re_in (by omega), re_k hK (by omega) 4 (by omega) (fun e => ?_) (fun e => ?_)⟩
            · rw [if_pos e] at hp
              unfold wY_answer_100
              refine ⟨re_in (by omega), re_k hK (by omega) 4 (by omega) (fun _ => ?_) (fun z => absurd e z)⟩
              by_cases w : c (A i) = c (B i)
              · rw [if_pos w] at hp; exact br_t (eq.mpr w) hp
              · rw [if_neg w] at hp; exact br_f (fun z => w (eq.mp z)) hp
            · rw [if_neg e] at hp
              by_cases w : c (A i) = c (B i)
              · rw [if_pos w] at hp; exact br_t (eq.mpr w) hp
              · rw [if_neg w] at hp
                refine br_f (fun z => w (eq.mp z)) ?_
                unfold wY_answer_100
                exact ⟨re_in (by omega), re_k hK (by omega) 4 (by omega) (fun z => absurd z e) (fun _ => hp)⟩
    · rw [if_pos ci] at hp
      exact br_f (fun z => ci ((uy_R_m1 R (by omega)).mp z)) hp
  · intro h
    refine br_t rfl ?_
    by_cases z : ∃ i, i < n ∧ p = nI i
    · obtain ⟨i, hi, e⟩ := z
      have hp := h1 i hi e
      unfold pn_vd at hp
      rw [if_neg] at hp
      · exact hp
      · intro w
        exact h i hi e ⟨⟨w.1, w.2.1, w.2.2.1⟩, w.2.2.2⟩
    · exact h0 fun i hi e => z ⟨i, hi, e⟩
theorem uy_place_66 {post : SY → Prop} (hb : b ≤ 24) {x : Nat} (hx : x < 24) {la lb : Int32} : ∀ d i (w : Nat → Int32), i + d = 24 → re_fr b yw w → (∀ j, j < i → w (b + j) = if yw (b + j) = lb then la else yw (b + j)) → (∀ j, i ≤ j → w (b + j) = yw (b + j)) →
    (∀ w', re_fr b yw w' → (∀ j, j < 24 → j ≠ x → w' (b + j) = if yw (b + j) = lb then la else yw (b + j)) → w' (b + x) = la → post (g0, g1, yk, yl, yr, w', yg, ys)) →
    wY_place_66 post (nI b) (nI x) la lb g0 g1 (d + 1) (nI i) yk yl yr w yg ys := by
  intro d
  induction d with
  | zero =>
    intro i w hi fr h1 h2 hp
    have e : i = 24 := by omega
    subst e
    refine br_t (nI_le (a := 24) (b := 24) (Nat.le_refl _) (by decide)) ⟨?_, ?_⟩
    · rw [nI_add]; exact vp_in_nI (by omega) (by decide)
    · rw [nI_add, nI_clamp (by omega)]
      refine nm_e (hp _ (re_fr_t fr (re_fr_u _ hx _)) ?_ pk_us)
      intro j hj ne
      rw [pk_un (by omega)]
      exact h1 j hj
  | succ d ih =>
    intro i w hi fr h1 h2 hp
    refine br_f (nI_ge (b := 24) (by omega) (by decide)) ⟨?_, ?_⟩
    · rw [nI_add]; exact vp_in_nI (by omega) (by decide)
    rw [nI_add, nI_clamp (by omega), h2 i (Nat.le_refl _)]
    refine br_c (fun e => ⟨vp_in_nI (by omega) (by decide), nm_e (nm_r (nI_1 i) (ih (i + 1) _ (by omega) (re_fr_t fr (re_fr_u _ (by omega) _)) ?_ ?_ hp))⟩) (fun e => nm_r (nI_1 i) (ih (i + 1) w (by omega) fr ?_ ?_ hp))
    · intro j hj
      by_cases q : j = i
      · rw [q, pk_us, if_pos e]
      · rw [pk_un (by omega)]; exact h1 j (by omega)
    · intro j hj
      rw [pk_un (by omega)]; exact h2 j (by omega)
    · intro j hj
      by_cases q : j = i
      · rw [q, if_neg e]; exact h2 i (Nat.le_refl _)
      · exact h1 j (by omega)
    · intro j hj
      exact h2 j (by omega)
theorem uy_place {post : SY → Prop} (hn : n ≤ 24) (hb : b ≤ 24) (hK : re_K K yk) (hA : re_F n K A yl) (hB : re_F n K B yr) (N : pn_N n K A B) (V1 : pn_V1 n K c) (V2 : pn_V2 K A B c) (R : uy_R b c yw) {x : Nat} (r : pn_rd n K A B c x)
    (hp : ∀ yw', re_fr b yw yw' → uy_R b (pn_pl K A B c x) yw' → post (g0, g1, yk, yl, yr, yw', yg, ys)) :
    wpY_place post (g0, g1, yk, yl, yr, yw, yg, ys) (nI b) (nI x) := by
  unfold wpY_place
  dsimp only
  obtain ⟨hx, hk2, hc, h⟩ := r
  have x24 : x < 24 := Nat.lt_of_lt_of_le hx.1 hn
  have e1 : yl (nI x).toNatClampNeg = nI (A x) := by rw [nI_clamp (by omega)]; exact hA x hx
  have e2 : yr (nI x).toNatClampNeg = nI (B x) := by rw [nI_clamp (by omega)]; exact hB x hx
  rw [e1, e2]
  refine ⟨re_in x24, re_k hK x24 1 (by omega) (fun k => ⟨?_, ?_⟩) (fun k => ⟨re_in x24, ?_, ?_⟩)⟩
  · rw [nI_add]; exact vp_in_nI (by omega) (by decide)
  · have ⟨m1, m2, m3⟩ := (N x hx).2.1 k
    have a24 : A x < 24 := by have := m1.1; omega
    rw [nI_add, nI_add, nI_clamp (by omega), nI_clamp (by omega)]
    exact nm_e ⟨re_in x24, vp_in_nI (by omega) (by decide), nm_e (hp _ (re_fr_t (re_fr_u _ x24 _) (re_fr_u _ a24 _)) (uy_R_pos hn N V1 V2 R hx hc k))⟩
  · have k3 : 3 ≤ K x := by
      have := hx.2
      omega
    have ⟨i1, i2, i3, i4, i5⟩ := (N x hx).2.2.2 k3
    rw [nI_add]; exact vp_in_nI (by omega) (by decide)
  · have ⟨ha, hb', hab⟩ := h.resolve_left k
    have k3 : 3 ≤ K x := by
      have := hx.2
      omega
    have ⟨i1, i2, i3, i4, i5⟩ := (N x hx).2.2.2 k3
    rw [nI_add, nI_add, nI_clamp (by omega), nI_clamp (by omega)]
    refine nm_e ⟨re_in x24, vp_in_nI (by omega) (by decide), nm_e ⟨25, uy_place_66 hb x24 24 0 yw (by omega) (fun _ _ => rfl) (fun j h => absurd h (by omega)) (fun _ _ => rfl) ?_⟩⟩
    intro w' fr h1 h2
    exact hp w' fr (uy_R_link hn N V1 R hx hc k3 ha hb' h1 h2)
theorem uy_fu {post : Int32 → Prop} (hn : n ≤ 24) (hK : re_K K yk) (hA : re_F n K A yl) (hB : re_F n K B yr) (N : pn_N n K A B) (R : uy_R 24 c yw) (sk : Int32) : ∀ d i, i + d = n →
    post (pn_rr n (pn_f (fun x => !(decide (nI x = sk)) && decide (pn_vd n K A B c x = 0)) d i)) → wY_firstUsable_2 post sk (nI n) g1 yk yl yr yw yg ys (d + 1) (nI i) := by
  intro d
  induction d with
  | zero =>
    intro i hi hp
    have e : i = n := by omega
    subst e
    unfold pn_rr pn_f at hp
    rw [if_pos rfl] at hp
    exact br_t (nI_le (Nat.le_refl _) (by omega)) hp
  | succ d ih =>
    intro i hi hp
    refine br_f (nI_ge (by omega) (by omega)) ?_
    by_cases e : nI i = sk
    · have pe : pn_f (fun x => !(decide (nI x = sk)) && decide (pn_vd n K A B c x = 0)) (d + 1) i = pn_f (fun x => !(decide (nI x = sk)) && decide (pn_vd n K A B c x = 0)) d (i + 1) := by
        refine if_neg ?_
        dsimp only
        rw [decide_eq_true e, Bool.not_true, Bool.false_and]
        decide
      rw [pe] at hp
      exact br_t e (nm_r (nI_1 i) (ih (i + 1) (by omega) hp))
    · refine br_f e (uy_answer (b := 24) hn (by omega) hK hA hB N R (nI i) ?_ ?_)
      · intro j hj ej
        have ej' : i = j := (nI_eq (by omega) (by omega)).mp ej
        subst ej'
        by_cases z : pn_vd n K A B c i = 0
        · refine br_t z ?_
          have pe : pn_f (fun x => !(decide (nI x = sk)) && decide (pn_vd n K A B c x = 0)) (d + 1) i = i := by
            refine if_pos ?_
            dsimp only
            rw [decide_eq_false e, decide_eq_true z]
            rfl
          rw [pe] at hp
          unfold pn_rr at hp
          rw [if_neg (by omega)] at hp
          exact hp
        · refine br_f z ?_
          have pe : pn_f (fun x => !(decide (nI x = sk)) && decide (pn_vd n K A B c x = 0)) (d + 1) i = pn_f (fun x => !(decide (nI x = sk)) && decide (pn_vd n K A B c x = 0)) d (i + 1) := by
            refine if_neg ?_
            dsimp only
            rw [decide_eq_false z, Bool.and_false]
            decide
          rw [pe] at hp
          exact nm_r (nI_1 i) (ih (i + 1) (by omega) hp)
      · intro h
        exact absurd rfl (h i (by omega))
theorem uy_first {post : Int32 → Prop} (hn : n ≤ 24) (hK : re_K K yk) (hA : re_F n K A yl) (hB : re_F n K B yr) (N : pn_N n K A B) (R : uy_R 24 c yw) (sk : Int32) (hp : post (pn_rr n (pn_nx n K A B sk c))) :
    wpY_firstUsable post (nI n, g1, yk, yl, yr, yw, yg, ys) sk := by
  unfold wpY_firstUsable
  dsimp only
  exact ⟨n + 1, uy_fu hn hK hA hB N R sk n 0 (by omega) hp⟩
theorem uy_fr_2 {post : SY → Prop} (hb : b ≤ 24) : ∀ d i (p : Nat → Int32), i + d = 24 → re_fr b yw p → (∀ j, j < i → p (b + j) = -1) → (∀ yw', re_fr b yw yw' → (∀ j, j < 24 → yw' (b + j) = -1) → post (g0, g1, yk, yl, yr, yw', yg, ys)) →
    wY_fresh_2 post (nI b) g0 g1 (d + 1) (nI i) yk yl yr p yg ys := by
  intro d
  induction d with
  | zero =>
    intro i p hi fr hj hp
    have e : i = 24 := by omega
    subst e
    exact br_t (nI_le (a := 24) (b := 24) (Nat.le_refl _) (by decide)) (hp p fr hj)
  | succ d ih =>
    intro i p hi fr hj hp
    refine br_f (nI_ge (b := 24) (by omega) (by decide)) ⟨?_, ?_⟩
    · rw [nI_add]; exact vp_in_nI (by omega) (by decide)
    · rw [nI_add, nI_clamp (by omega)]
      refine nm_e (nm_r (nI_1 i) (ih (i + 1) _ (by omega) (re_fr_t fr (re_fr_u _ (by omega) _)) ?_ hp))
      intro j hj2
      by_cases e : j = i
      · rw [e]; exact pk_us
      · rw [pk_un (by omega)]; exact hj j (by omega)
theorem uy_fr {post : SY → Prop} (hb : b ≤ 24) (hp : ∀ yw', re_fr b yw yw' → uy_R b (fun _ => 24) yw' → post (g0, g1, yk, yl, yr, yw', yg, ys)) :
    wpY_fresh post (g0, g1, yk, yl, yr, yw, yg, ys) (nI b) := by
  unfold wpY_fresh
  dsimp only
  exact ⟨25, uy_fr_2 hb 24 0 yw (by omega) (fun _ _ => rfl) (fun j h => absurd h (by omega)) fun yw' fr h => hp yw' fr ⟨fun j hj => Or.inl ⟨rfl, h j hj⟩, fun i j hi hj _ => by rw [h i hi, h j hj]⟩⟩
end
end
section
/-! the component's greedy replay and its verdict on the whole net -/
theorem pn_m_ex (n : Nat) (K A B : Nat → Nat) (sk : Int32) : ∃ m, pn_m n K A B sk m := by
  have : ∀ d i, i + d = 24 → (∀ k, k < i → pn_nx n K A B sk (pn_it n K A B sk k) ≠ n) → ∃ m, pn_m n K A B sk m := by
    intro d
    induction d with
    | zero => intro i hi h; exact ⟨i, by omega, h, Or.inl (by omega)⟩
    | succ d ih =>
      intro i hi h
      by_cases e : pn_nx n K A B sk (pn_it n K A B sk i) = n
      · exact ⟨i, by omega, h, Or.inr e⟩
      · refine ih (i + 1) (by omega) fun k hk => ?_
        by_cases q : k = i
        · rw [q]; exact e
        · exact h k (by omega)
  exact this 24 0 (by omega) fun k hk => absurd hk (by omega)
def pn_wh (n : Nat) (K c : Nat → Nat) : Prop := (∃ p, pn_IN n K p) ∧ pn_W n K c
section
variable {n : Nat} {K A B : Nat → Nat} {c : Nat → Nat} {b m : Nat} {sk : Int32} {f0 f1 f2 f3 f4 f5 : Int32} {ck cf cs ct cp co sA sB : Nat → Int32}
theorem ux_parse_13 {post : SX → Prop} (hn : n ≤ 24) (hK : re_K K ck) (hA : re_F n K A cf) (hB : re_F n K B cs) (N : pn_N n K A B) (hm : pn_m n K A B sk m) :
    ∀ d i (p o : Nat → Int32), i + d = m → ux_R 24 (pn_it n K A B sk i) p → re_fr 24 cp p → (∀ k, k < i → o k = nI (pn_nx n K A B sk (pn_it n K A B sk k))) →
    (∀ cp' co', re_fr 24 cp cp' → ux_R 24 (pn_it n K A B sk 24) cp' → (∀ k, k < m → co' k = nI (pn_nx n K A B sk (pn_it n K A B sk k))) → post (f0, f1, nI n, f3, f4, nI m, ck, cf, cs, ct, cp', co', sA, sB)) →
    wX_parse_13 post sk (d + 1) (nI i) f0 f1 (nI n) f3 f4 (nI i) ck cf cs ct p o sA sB := by
  intro d
  induction d with
  | zero =>
    intro i p o hi R fr ho hp
    have e : i = m := by omega
    subst e
    have fin := hp p o fr (by rw [pn_m_it hm]; exact R) ho
    by_cases e : i = 24
    · subst e
      exact br_t (nI_le (a := 24) (b := 24) (Nat.le_refl _) (by decide)) fin
    · have h24 := hm.1
      refine br_f (nI_ge (b := 24) (by omega) (by decide)) (ux_smallest hn hK hA hB N R sk ?_)
      have z := hm.2.2.resolve_left e
      unfold pn_rr
      rw [if_pos z]
      exact br_f (by decide) fin
  | succ d ih =>
    intro i p o hi R fr ho hp
    have h24 := hm.1
    have V := pn_it_V (sk := sk) hn N i
    have ne := hm.2.1 i (by omega)
    refine br_f (nI_ge (b := 24) (by omega) (by decide)) (ux_smallest hn hK hA hB N R sk ?_)
    unfold pn_rr
    rw [if_neg ne]
    rcases pn_nx_spec (n := n) (K := K) (A := A) (B := B) (sk := sk) (pn_it n K A B sk i) with ⟨a, _⟩ | ⟨a, _, r⟩
    · exact absurd a ne
    · refine br_t (nI_pos' (by omega)) (ux_place (b := 24) hn (by omega) hK hA hB N V.1 V.2.1 R r ?_)
      intro p' fr' R'
      refine ⟨re_in (by omega), nm_e (nm_r (nI_1 i) (nm_r (nI_1 i) ?_))⟩
      have st : pn_it n K A B sk (i + 1) = pn_pl K A B (pn_it n K A B sk i) (pn_nx n K A B sk (pn_it n K A B sk i)) := if_neg ne
      refine ih (i + 1) p' _ (by omega) (by rw [st]; exact R') (re_fr_t fr fr') ?_ hp
      intro k hk
      rw [nI_clamp (by omega)]
      by_cases e : k = i
      · rw [e]; exact pk_us
      · rw [pk_un e]; exact ho k (by omega)
theorem ux_parse {post : SX → Prop} (hn : n ≤ 24) (hK : re_K K ck) (hA : re_F n K A cf) (hB : re_F n K B cs) (N : pn_N n K A B) (hm : pn_m n K A B sk m)
    (hp : ∀ cp' co', re_fr 24 cp cp' → ux_R 24 (pn_it n K A B sk 24) cp' → (∀ k, k < m → co' k = nI (pn_nx n K A B sk (pn_it n K A B sk k))) → post (f0, f1, nI n, f3, f4, nI m, ck, cf, cs, ct, cp', co', sA, sB)) :
    wpX_parse post (f0, f1, nI n, f3, f4, f5, ck, cf, cs, ct, cp, co, sA, sB) sk := by
  unfold wpX_parse
  refine ux_un (b := 24) (by omega) ?_
  intro p fr R
  exact ⟨m + 1, ux_parse_13 hn hK hA hB N hm m 0 p co (by omega) R fr (fun k h => absurd h (by omega)) hp⟩
theorem ux_wh {post : Int32 → Prop} (hn : n ≤ 24) (hb : b ≤ 24) (hK : re_K K ck) (R : ux_R b c cp) (h1 : pn_wh n K c → post 1) (h0 : ¬ pn_wh n K c → post 0) :
    ∀ d i rt, i + d = n → ((rt = -1 ∧ ∀ j, j < i → ¬ pn_IN n K j) ∨ ∃ r, r < 24 ∧ rt = nI r ∧ (∃ j, j < i ∧ pn_IN n K j) ∧ ∀ j, j < i → pn_IN n K j → c j = r) →
    wX_whole_4 post (nI b) f0 f1 (nI n) f3 f4 f5 ck cf cs ct cp co sA sB (d + 1) rt (nI i) := by
  intro d
  induction d with
  | zero =>
    intro i rt hi hr
    have e : i = n := by omega
    subst e
    refine br_t (nI_le (Nat.le_refl _) (by omega)) ?_
    rcases hr with ⟨rfl, h⟩ | ⟨r, r24, rfl, ⟨j, hj, hin⟩, h⟩
    · refine br_t (by decide) (h0 ?_)
      rintro ⟨⟨p, hp⟩, _⟩
      exact h p hp.1 hp
    · refine br_f (nI_pos (by omega)) (h1 ⟨⟨j, hin⟩, ?_⟩)
      intro p q hp hq
      have e1 := h p hp.1 hp
      have e2 := h q hq.1 hq
      omega
  | succ d ih =>
    intro i rt hi hr
    refine br_f (nI_ge (by omega) (by omega)) (ux_inNet hn hK (nI i) ?_ ?_)
    · intro j hj ej hin
      have ej' : i = j := (nI_eq (by omega) (by omega)).mp ej
      subst ej'
      refine br_f (by decide) (ux_find hb R (by omega) ?_)
      unfold pn_fd
      by_cases ci : c i = 24
      · rw [if_pos ci]
        exact br_t (by decide) (h0 fun z => (z.2 i i hin hin).1 ci)
      · rw [if_neg ci]
        have cl := (ux_R_id R i (by omega) ci).1
        refine br_f (nI_pos (by omega)) ?_
        rcases hr with ⟨rfl, h⟩ | ⟨r, r24, rfl, ⟨j, hj, hjn⟩, h⟩
        · refine br_t (by decide) (nm_r (nI_1 i) (ih (i + 1) _ (by omega) (Or.inr ⟨c i, by omega, rfl, ⟨i, by omega, hin⟩, ?_⟩)))
          intro j hj hjn
          by_cases e : j = i
          · rw [e]
          · exact absurd hjn (h j (by omega))
        · refine br_f (nI_pos (by omega)) (pk_eq (c i) r (fun e => nm_r (nI_1 i) (ih (i + 1) _ (by omega) (Or.inr ⟨c i, by omega, rfl, ⟨i, by omega, hin⟩, ?_⟩))) (fun e => h0 ?_))
          · intro k hk hkn
            by_cases e2 : k = i
            · rw [e2]
            · rw [e]; exact h k (by omega) hkn
          · intro z
            have := (z.2 i j hin hjn).2
            have := h j hj hjn
            omega
    · intro hno
      have hi' : ¬ pn_IN n K i := hno i (by omega) rfl
      refine br_t rfl (nm_r (nI_1 i) (ih (i + 1) rt (by omega) ?_))
      rcases hr with ⟨e, h⟩ | ⟨r, r24, e, ⟨j, hj, hjn⟩, h⟩
      · refine Or.inl ⟨e, fun j hj => ?_⟩
        by_cases q : j = i
        · rw [q]; exact hi'
        · exact h j (by omega)
      · refine Or.inr ⟨r, r24, e, ⟨j, by omega, hjn⟩, fun k hk hkn => ?_⟩
        by_cases q : k = i
        · rw [q] at hkn; exact absurd hkn hi'
        · exact h k (by omega) hkn
theorem ux_whole {post : Int32 → Prop} (hn : n ≤ 24) (hb : b ≤ 24) (hK : re_K K ck) (R : ux_R b c cp) (h1 : pn_wh n K c → post 1) (h0 : ¬ pn_wh n K c → post 0) :
    wpX_whole post (f0, f1, nI n, f3, f4, f5, ck, cf, cs, ct, cp, co, sA, sB) (nI b) := by
  unfold wpX_whole
  dsimp only
  exact ⟨n + 1, ux_wh hn hb hK R h1 h0 n 0 (-1) (by omega) (Or.inl ⟨rfl, fun j hj => absurd hj (by omega)⟩)⟩
theorem ux_correct {post : Int32 → SX → Prop} (hn : n ≤ 24) (hK : re_K K ck) (hA : re_F n K A cf) (hB : re_F n K B cs) (N : pn_N n K A B) (hm : pn_m n K A B (-1) m)
    (hp : ∀ cp' co', re_fr 24 cp cp' → ux_R 24 (pn_it n K A B (-1) 24) cp' → (∀ k, k < m → co' k = nI (pn_nx n K A B (-1) (pn_it n K A B (-1) k))) →
      (pn_wh n K (pn_it n K A B (-1) 24) → post 1 (f0, f1, nI n, f3, f4, nI m, ck, cf, cs, ct, cp', co', sA, sB)) ∧ (¬ pn_wh n K (pn_it n K A B (-1) 24) → post 0 (f0, f1, nI n, f3, f4, nI m, ck, cf, cs, ct, cp', co', sA, sB))) :
    wpX_correct post (f0, f1, nI n, f3, f4, f5, ck, cf, cs, ct, cp, co, sA, sB) := by
  unfold wpX_correct
  refine ux_parse hn hK hA hB N hm ?_
  intro cp' co' fr R ho
  have ⟨p1, p0⟩ := hp cp' co' fr R ho
  exact ux_whole (b := 24) hn (by omega) hK R (fun w => ⟨narrow_b1, p1 w⟩) (fun w => ⟨narrow_b0, p0 w⟩)
end
end
section
/-! the reference's switchings -/
theorem dr_n_mo (P : Nat → Prop) (i : Nat) : ∀ d, dr_n P i ≤ dr_n P (i + d) := by
  intro d
  induction d with
  | zero => exact Nat.le_refl _
  | succ d ih =>
    show dr_n P i ≤ dr_n P (i + d) + dr_b (P (i + d))
    omega
theorem dr_n_full {P : Nat → Prop} : ∀ n, dr_n P n = n ↔ ∀ j, j < n → P j := by
  intro n
  induction n with
  | zero => exact ⟨fun _ j hj => absurd hj (by omega), fun _ => rfl⟩
  | succ n ih =>
    have t := dr_n_top P n
    have e : dr_n P (n + 1) = dr_n P n + dr_b (P n) := rfl
    rw [e]
    by_cases h : P n
    · rw [dr_b1 h]
      constructor
      · intro z j hj
        by_cases q : j = n
        · rw [q]; exact h
        · exact ih.mp (by omega) j (by omega)
      · intro z
        have := ih.mpr fun j hj => z j (by omega)
        omega
    · rw [dr_b0 h]
      exact ⟨fun z => absurd z (by omega), fun z => absurd (z n (by omega)) h⟩
noncomputable def pn_pc (K : Nat → Nat) (i : Nat) : Nat := dr_n (fun j => K j = 4) i
theorem pn_pc1 {K : Nat → Nat} {i : Nat} (h : K i = 4) : pn_pc K (i + 1) = pn_pc K i + 1 := by
  show dr_n (fun j => K j = 4) i + dr_b (K i = 4) = _
  rw [dr_b1 h]; rfl
theorem pn_pc0 {K : Nat → Nat} {i : Nat} (h : K i ≠ 4) : pn_pc K (i + 1) = pn_pc K i := by
  show dr_n (fun j => K j = 4) i + dr_b (K i = 4) = _
  rw [dr_b0 h]; rfl
noncomputable def pn_sd (K : Nat → Nat) (sw : Nat) : Nat → Bool := fun i => decide (sw / 2 ^ pn_pc K i % 2 = 1)
theorem pn_enc (K : Nat → Nat) (s : Nat → Bool) : ∀ i, ∃ sw, sw < 2 ^ pn_pc K i ∧ ∀ j, j < i → K j = 4 → pn_sd K sw j = s j := by
  intro i
  induction i with
  | zero => exact ⟨0, Nat.two_pow_pos _, fun j hj => absurd hj (by omega)⟩
  | succ i ih =>
    obtain ⟨sw, h1, h2⟩ := ih
    by_cases k : K i = 4
    · rw [pn_pc1 k]
      have key : ∀ t, t < 2 → (decide (t = 1) = s i) → ∃ sw, sw < 2 ^ (pn_pc K i + 1) ∧ ∀ j, j < i + 1 → K j = 4 → pn_sd K sw j = s j := by
        intro t ht hs
        refine ⟨sw + t * 2 ^ pn_pc K i, ?_, ?_⟩
        · have hp : 2 ^ (pn_pc K i + 1) = 2 ^ pn_pc K i + 2 ^ pn_pc K i := by rw [Nat.pow_succ]; omega
          rw [hp]
          have : t * 2 ^ pn_pc K i ≤ 1 * 2 ^ pn_pc K i := Nat.mul_le_mul_right _ (by omega)
          omega
        · intro j hj kj
          by_cases e : j = i
          · subst e
            unfold pn_sd
            rw [Nat.add_mul_div_right _ _ (Nat.two_pow_pos _), Nat.div_eq_of_lt h1, Nat.zero_add, Nat.mod_eq_of_lt ht]
            exact hs
          · rw [← h2 j (by omega) kj]
            unfold pn_sd
            have mo : pn_pc K (j + 1) ≤ pn_pc K i := by
              have := dr_n_mo (fun j => K j = 4) (j + 1) (i - (j + 1))
              rw [show j + 1 + (i - (j + 1)) = i from by omega] at this
              exact this
            rw [pn_pc1 kj] at mo
            have e2 : t * 2 ^ pn_pc K i = (t * 2 ^ (pn_pc K i - pn_pc K j - 1) * 2) * 2 ^ pn_pc K j := by
              rw [Nat.mul_assoc, Nat.mul_assoc, ← Nat.pow_succ', ← Nat.pow_add]
              congr 2
              omega
            rw [e2, Nat.add_mul_div_right _ _ (Nat.two_pow_pos _), Nat.add_mul_mod_self_right]
      by_cases hs : s i = true
      · exact key 1 (by omega) (by rw [hs]; rfl)
      · have hs' : s i = false := by revert hs; cases s i <;> decide
        exact key 0 (by omega) (by rw [hs']; rfl)
    · rw [pn_pc0 k]
      refine ⟨sw, h1, fun j hj kj => h2 j ?_ kj⟩
      have : j ≠ i := fun e => k (e ▸ kj)
      omega
theorem pn_Ts {n : Nat} {K A B : Nat → Nat} {s s' : Nat → Bool} (h : ∀ j, j < n → K j = 4 → s j = s' j) : pn_T n K A B s → pn_T n K A B s' := by
  have e : pn_E n K A B s = pn_E n K A B s' := by
    funext x y
    apply propext
    unfold pn_E
    constructor
    · rintro ⟨a, z | z | z⟩
      · exact ⟨a, Or.inl z⟩
      · exact ⟨a, Or.inr (Or.inl z)⟩
      · exact ⟨a, Or.inr (Or.inr ⟨z.1, by rw [← h x a.1 z.1]; exact z.2⟩)⟩
    · rintro ⟨a, z | z | z⟩
      · exact ⟨a, Or.inl z⟩
      · exact ⟨a, Or.inr (Or.inl z)⟩
      · exact ⟨a, Or.inr (Or.inr ⟨z.1, by rw [h x a.1 z.1]; exact z.2⟩)⟩
  unfold pn_T
  rw [e]
  exact id
theorem pn_allT {n : Nat} {K A B : Nat → Nat} : (∀ s, pn_T n K A B s) ↔ ∀ sw, sw < 2 ^ pn_pc K n → pn_T n K A B (pn_sd K sw) := by
  constructor
  · exact fun h sw _ => h _
  · intro h s
    obtain ⟨sw, h1, h2⟩ := pn_enc K s n
    exact pn_Ts h2 (h sw h1)
/-- the edges of the links below i -/
def pn_Ei (n : Nat) (K A B : Nat → Nat) (s : Nat → Bool) (i : Nat) (x y : Nat) : Prop := pn_E n K A B s x y ∧ x < i
def uy_Q (n : Nat) (K A B : Nat → Nat) (s : Nat → Bool) (F : Nat → Nat → Prop) (yg : Nat → Int32) : Prop :=
  dr_A F ∧ (∀ x y, F x y → pn_E n K A B s x y) ∧ ∃ g : Nat → Nat, dr_L F g ∧ ∀ j, j < 24 → yg j = nI (g j) ∧ g j < 24
section
variable {n : Nat} {K A B : Nat → Nat} {s : Nat → Bool} {g0 g1 : Int32} {yk yl yr yw yg ys : Nat → Int32}
theorem uy_count {post : Int32 → Prop} (hn : n ≤ 24) (hK : re_K K yk) (t : Nat) (ht : t ≤ 6) (hp : post (nI (dr_n (fun j => K j = t) n))) :
    wpY_count post (nI n, g1, yk, yl, yr, yw, yg, ys) (nI t) := by
  unfold wpY_count
  dsimp only
  have L : ∀ d i, i + d = n → wY_count_4 post (nI t) (nI n) g1 yk yl yr yw yg ys (d + 1) (nI (dr_n (fun j => K j = t) i)) (nI i) := by
    intro d
    induction d with
    | zero =>
      intro i hi
      have e : i = n := by omega
      subst e
      exact br_t (nI_le (Nat.le_refl _) (by omega)) hp
    | succ d ih =>
      intro i hi
      have q := ih (i + 1) (by omega)
      have e : dr_n (fun j => K j = t) (i + 1) = dr_n (fun j => K j = t) i + dr_b (K i = t) := rfl
      rw [e] at q
      refine br_f (nI_ge (by omega) (by omega)) ⟨re_in (by omega), re_k hK (by omega) t ht (fun k => ?_) (fun k => ?_)⟩
      · rw [dr_b1 k] at q
        exact nm_r (nI_1 _) (nm_r (nI_1 _) q)
      · rw [dr_b0 k] at q
        exact nm_r (nI_1 _) q
  exact ⟨n + 1, L n 0 (by omega)⟩
theorem uy_edge_26 {post : Int32 → SY → Prop} {g : Nat → Nat} {u v : Nat} (hu : g u < 24) (hg : ∀ j, j < 24 → g j < 24) (hv : g v < 24) : ∀ d i (w : Nat → Int32), i + d = 24 → (∀ j, j < i → w j = nI (if g j = g v then g u else g j)) → (∀ j, i ≤ j → j < 24 → w j = nI (g j)) →
    (∀ w', (∀ j, j < 24 → w' j = nI (if g j = g v then g u else g j)) → post 1 (g0, g1, yk, yl, yr, yw, w', ys)) →
    wY_edge_26 post (nI (g v)) (nI (g u)) g0 g1 (d + 1) (nI i) yk yl yr yw w ys := by
  intro d
  induction d with
  | zero =>
    intro i w hi h1 h2 hp
    have e : i = 24 := by omega
    subst e
    exact br_t (nI_le (a := 24) (b := 24) (Nat.le_refl _) (by decide)) (hp w h1)
  | succ d ih =>
    intro i w hi h1 h2 hp
    have gi := hg i (by omega)
    refine br_f (nI_ge (b := 24) (by omega) (by decide)) ⟨re_in (by omega), ?_⟩
    rw [nI_clamp (by omega), h2 i (Nat.le_refl _) (by omega)]
    refine pk_eq (g i) (g v) (fun e => ⟨re_in (by omega), nm_e (nm_r (nI_1 i) (ih (i + 1) _ (by omega) ?_ ?_ hp))⟩) (fun e => nm_r (nI_1 i) (ih (i + 1) w (by omega) ?_ ?_ hp))
    · intro j hj
      by_cases q : j = i
      · rw [q, pk_us, if_pos e]
      · rw [pk_un q]; exact h1 j (by omega)
    · intro j hj hj2
      rw [pk_un (by omega)]; exact h2 j (by omega) hj2
    · intro j hj
      by_cases q : j = i
      · rw [q, if_neg e]; exact h2 i (Nat.le_refl _) (by omega)
      · exact h1 j (by omega)
    · intro j hj hj2
      exact h2 j (by omega) hj2
theorem uy_ed {post : Int32 → SY → Prop} {F : Nat → Nat → Prop} (Q : uy_Q n K A B s F yg) {x y : Nat} (hx : x < 24) (hy : y < 24) (e : pn_E n K A B s x y) (nf : ¬ F x y)
    (h0 : ¬ pn_T n K A B s → post 0 (g0, g1, yk, yl, yr, yw, yg, ys)) (h1 : ∀ yg', uy_Q n K A B s (dr_P F x y) yg' → post 1 (g0, g1, yk, yl, yr, yw, yg', ys)) :
    wpY_edge post (g0, g1, yk, yl, yr, yw, yg, ys) (nI x) (nI y) := by
  unfold wpY_edge
  dsimp only
  obtain ⟨qa, qs, g, ql, qg⟩ := Q
  have gx := qg x hx
  have gy := qg y hy
  rw [nI_clamp (by omega), nI_clamp (by omega)]
  refine ⟨re_in hy, nm_r gy.1 ⟨re_in hx, nm_r gx.1 (pk_eq (g y) (g x) (fun z => h0 ?_) (fun z => ⟨25, uy_edge_26 gx.2 (fun j hj => (qg j hj).2) gy.2 24 0 yg (by omega) (fun j hj => absurd hj (by omega)) (fun j _ hj => (qg j hj).1) ?_⟩))⟩⟩
  · intro T
    refine T.1 x y e (dr_Cm ?_ ((ql x y).mpr z.symm))
    intro u v w
    exact ⟨qs u v w, fun t => nf (t.1 ▸ t.2 ▸ w)⟩
  · intro w' hw
    refine h1 w' ⟨dr_AP qa fun t => z ((ql x y).mp t).symm, ?_, _, dr_LP ql x y, ?_⟩
    · rintro u v (t | ⟨rfl, rfl⟩)
      · exact qs u v t
      · exact e
    · intro j hj
      refine ⟨hw j hj, ?_⟩
      have := (qg j hj).2
      split
      · exact gx.2
      · exact this
theorem uy_Qe {F F' : Nat → Nat → Prop} (e : ∀ x y, F x y ↔ F' x y) (Q : uy_Q n K A B s F yg) : uy_Q n K A B s F' yg := by
  have : F = F' := by
    funext x y
    exact propext (e x y)
  rw [← this]
  exact Q
/-- one cell of the tree loop: its two possible edges -/
theorem uy_t120 {post : Int32 → SY → Prop} {J : Int32 → Int32 → Int32 → Int32 → (Nat → Int32) → (Nat → Int32) → (Nat → Int32) → (Nat → Int32) → (Nat → Int32) → (Nat → Int32) → Prop} (hn : n ≤ 24) (hA : re_F n K A yl) (hB : re_F n K B yr) (N : pn_N n K A B)
    {i : Nat} (hi : i < n) {bits : Int32} (l r : Bool)
    (hl : l = true → pn_E n K A B s i (A i)) (hr : r = true → pn_E n K A B s i (B i) ∧ A i ≠ B i)
    (hE : ∀ y, pn_E n K A B s i y → (l = true ∧ y = A i) ∨ (r = true ∧ y = B i))
    (Q : uy_Q n K A B s (pn_Ei n K A B s i) yg)
    (h0 : ¬ pn_T n K A B s → ∀ yg', post 0 (nI n, g1, yk, yl, yr, yw, yg', ys))
    (hJ : ∀ yg', uy_Q n K A B s (pn_Ei n K A B s (i + 1)) yg' → J bits (nI (i + 1)) (nI n) g1 yk yl yr yw yg' ys) :
    wY_tree_120 post J bits (nI i) (if l = true then 1 else 0) (if r = true then 1 else 0) (nI n) g1 yk yl yr yw yg ys := by
  have y24 : ∀ y, pn_E n K A B s i y → y < 24 ∧ y ≠ i := by
    intro y e
    have hin := e.1
    have k5 := (N i hin).1
    rcases pn_Ey e with ⟨z, rfl⟩ | ⟨z, rfl | rfl⟩
    · have ⟨m1, m2, m3⟩ := (N i hin).2.1 z
      refine ⟨by have := m1.1; omega, fun t => ?_⟩
      rw [t] at m2
      omega
    · have ⟨i1, i2, i3, i4, i5⟩ := (N i hin).2.2.2 z
      exact ⟨by omega, by omega⟩
    · have ⟨i1, i2, i3, i4, i5⟩ := (N i hin).2.2.2 z
      exact ⟨by omega, by omega⟩
  have e1 : pn_IN n K i → yl (nI i).toNatClampNeg = nI (A i) := fun h => by rw [nI_clamp (by omega)]; exact hA i h
  have e2 : pn_IN n K i → yr (nI i).toNatClampNeg = nI (B i) := fun h => by rw [nI_clamp (by omega)]; exact hB i h
  -- the second edge
  have S2 : ∀ (F : Nat → Nat → Prop) (yg1 : Nat → Int32), (∀ x y, F x y ↔ pn_Ei n K A B s i x y ∨ (l = true ∧ x = i ∧ y = A i)) → uy_Q n K A B s F yg1 → wY_tree_141 post J bits (nI i) (if r = true then 1 else 0) (nI n) g1 yk yl yr yw yg1 ys := by
    intro F yg1 hF Q1
    unfold wY_tree_141
    by_cases hr' : r = true
    · have ⟨er, ne⟩ := hr hr'
      rw [if_pos hr']
      refine br_f (by decide) ⟨re_in (by omega), ?_⟩
      rw [e2 er.1]
      refine uy_ed Q1 (by omega) (y24 _ er).1 er ?_ (fun t => br_t rfl (h0 t _)) (fun yg' Q' => br_f (by decide) (nm_r (nI_1 i) (hJ yg' (uy_Qe ?_ Q'))))
      · rw [hF]
        rintro (t | t)
        · exact absurd t.2 (by omega)
        · exact ne t.2.2.symm
      · intro x y
        unfold dr_P
        rw [hF]
        constructor
        · rintro ((t | ⟨t1, rfl, rfl⟩) | ⟨rfl, rfl⟩)
          · exact ⟨t.1, by have := t.2; omega⟩
          · exact ⟨hl t1, by omega⟩
          · exact ⟨er, by omega⟩
        · rintro ⟨t1, t2⟩
          by_cases q : x = i
          · subst q
            rcases hE y t1 with t | t
            · exact Or.inl (Or.inr ⟨t.1, rfl, t.2⟩)
            · exact Or.inr ⟨rfl, t.2⟩
          · exact Or.inl (Or.inl ⟨t1, by omega⟩)
    · rw [if_neg hr']
      refine br_t rfl (nm_r (nI_1 i) (hJ yg1 (uy_Qe ?_ Q1)))
      intro x y
      rw [hF]
      constructor
      · rintro (t | ⟨t1, rfl, rfl⟩)
        · exact ⟨t.1, by have := t.2; omega⟩
        · exact ⟨hl t1, by omega⟩
      · rintro ⟨t1, t2⟩
        by_cases q : x = i
        · subst q
          rcases hE y t1 with t | t
          · exact Or.inr ⟨t.1, rfl, t.2⟩
          · exact absurd t.1 hr'
        · exact Or.inl ⟨t1, by omega⟩
  unfold wY_tree_120
  by_cases hl' : l = true
  · have el := hl hl'
    rw [if_pos hl']
    refine br_f (by decide) ⟨re_in (by omega), ?_⟩
    rw [e1 el.1]
    refine uy_ed Q (by omega) (y24 _ el).1 el (fun t => absurd t.2 (by omega)) (fun t => br_t rfl (h0 t _)) (fun yg' Q' => br_f (by decide) (S2 _ yg' ?_ Q'))
    intro x y
    unfold dr_P
    constructor
    · rintro (t | t)
      · exact Or.inl t
      · exact Or.inr ⟨hl', t⟩
    · rintro (t | t)
      · exact Or.inl t
      · exact Or.inr t.2
  · rw [if_neg hl']
    refine br_t rfl (S2 _ yg ?_ Q)
    intro x y
    exact ⟨Or.inl, fun t => t.elim id fun z => absurd z.1 hl'⟩
end
end
section
/-! the reference's tree and correct -/
theorem re_sl : ∀ p, p < 7 → ((nI p &&& 31).toBitVec.smod 32).toNat = p := by decide
section
variable {n : Nat} {K A B : Nat → Nat} {s : Nat → Bool} {g0 g1 : Int32} {yk yl yr yw yg ys : Nat → Int32}
theorem uy_t173 {post : Int32 → SY → Prop} (hn : n ≤ 24) (hK : re_K K yk) {g : Nat → Nat} (hg : ∀ j, j < 24 → yg j = nI (g j) ∧ g j < 24)
    (h1 : (∀ p q, pn_IN n K p → pn_IN n K q → g p = g q) → post 1 (nI n, g1, yk, yl, yr, yw, yg, ys)) (h0 : ¬ (∀ p q, pn_IN n K p → pn_IN n K q → g p = g q) → post 0 (nI n, g1, yk, yl, yr, yw, yg, ys)) :
    ∀ d i one, i + d = n → ((one = -1 ∧ ∀ j, j < i → ¬ pn_IN n K j) ∨ ∃ r, r < 24 ∧ one = nI r ∧ (∃ j, j < i ∧ pn_IN n K j) ∧ ∀ j, j < i → pn_IN n K j → g j = r) →
    wY_tree_173 post (nI n) g1 yk yl yr yw yg ys (d + 1) one (nI i) := by
  intro d
  induction d with
  | zero =>
    intro i one hi hr
    have e : i = n := by omega
    subst e
    refine br_t (nI_le (Nat.le_refl _) (by omega)) (h1 ?_)
    intro p q hp hq
    rcases hr with ⟨_, h⟩ | ⟨r, r24, _, _, h⟩
    · exact absurd hp (h p hp.1)
    · have e1 := h p hp.1 hp
      have e2 := h q hq.1 hq
      omega
  | succ d ih =>
    intro i one hi hr
    have ⟨gi, gi24⟩ := hg i (by omega)
    have un : ∀ j, j < n → nI i = nI j → i = j := fun j hj ej => (nI_eq (by omega) (by omega)).mp ej
    refine br_f (nI_ge (by omega) (by omega)) (uy_inNet hn hK (nI i) ?_ ?_)
    · intro j hj ej hin
      have := un j hj ej
      subst this
      refine br_f (by decide) ?_
      rcases hr with ⟨rfl, h⟩ | ⟨r, r24, rfl, ⟨j, hj, hjn⟩, h⟩
      · refine br_t rfl ⟨re_in (by omega), ?_⟩
        rw [nI_clamp (by omega)]
        refine nm_r gi ?_
        unfold wY_tree_204
        refine uy_inNet hn hK (nI i) ?_ ?_
        · intro j hj ej hin'
          refine br_f (by decide) ⟨re_in (by omega), ?_⟩
          rw [nI_clamp (by omega)]
          refine br_t gi (nm_r (nI_1 i) (ih (i + 1) _ (by omega) (Or.inr ⟨g i, gi24, rfl, ⟨i, by omega, hin⟩, ?_⟩)))
          intro j hj hjn
          by_cases e : j = i
          · rw [e]
          · exact absurd hjn (h j (by omega))
        · intro hno
          exact absurd hin (hno i (by omega) rfl)
      · refine br_f (pn_nIm1 r24) ?_
        unfold wY_tree_204
        refine uy_inNet hn hK (nI i) ?_ ?_
        · intro j' hj' ej hin'
          refine br_f (by decide) ⟨re_in (by omega), ?_⟩
          rw [nI_clamp (by omega), gi]
          refine pk_eq (g i) r (fun e => nm_r (nI_1 i) (ih (i + 1) _ (by omega) (Or.inr ⟨r, r24, rfl, ⟨i, by omega, hin⟩, ?_⟩))) (fun e => h0 ?_)
          · intro k hk hkn
            by_cases e2 : k = i
            · rw [e2]; exact e
            · exact h k (by omega) hkn
          · intro z
            have := z i j hin hjn
            have := h j hj hjn
            omega
        · intro hno
          exact absurd hin (hno i (by omega) rfl)
    · intro hno
      have hi' : ¬ pn_IN n K i := hno i (by omega) rfl
      refine br_t rfl ?_
      unfold wY_tree_204
      refine uy_inNet hn hK (nI i) ?_ ?_
      · intro j hj ej hin
        have := un j hj ej
        subst this
        exact absurd hin hi'
      · intro _
        refine br_t rfl (nm_r (nI_1 i) (ih (i + 1) one (by omega) ?_))
        rcases hr with ⟨e, h⟩ | ⟨r, r24, e, ⟨j, hj, hjn⟩, h⟩
        · refine Or.inl ⟨e, fun j hj => ?_⟩
          by_cases q : j = i
          · rw [q]; exact hi'
          · exact h j (by omega)
        · refine Or.inr ⟨r, r24, e, ⟨j, by omega, hjn⟩, fun k hk hkn => ?_⟩
          by_cases q : k = i
          · rw [q] at hkn; exact absurd hkn hi'
          · exact h k (by omega) hkn
theorem uy_t25 {post : Int32 → SY → Prop} (hn : n ≤ 24) (hK : re_K K yk) (hA : re_F n K A yl) (hB : re_F n K B yr) (N : pn_N n K A B) {sw : Nat} (hsw : sw < 64)
    (h1 : pn_T n K A B (pn_sd K sw) → ∀ yg', post 1 (nI n, g1, yk, yl, yr, yw, yg', ys)) (h0 : ¬ pn_T n K A B (pn_sd K sw) → ∀ yg', post 0 (nI n, g1, yk, yl, yr, yw, yg', ys)) :
    ∀ d i yg, i + d = n → uy_Q n K A B (pn_sd K sw) (pn_Ei n K A B (pn_sd K sw) i) yg → wY_tree_25 post (d + 1) (nI (sw / 2 ^ pn_pc K i)) (nI i) (nI n) g1 yk yl yr yw yg ys := by
  intro d
  induction d with
  | zero =>
    intro i yg hi Q
    have e : i = n := by omega
    subst e
    refine br_t (nI_le (Nat.le_refl _) (by omega)) ?_
    have Q' := uy_Qe (F' := pn_E i K A B (pn_sd K sw)) (fun x y => ⟨fun t => t.1, fun t => ⟨t, t.1.1⟩⟩) Q
    obtain ⟨qa, qs, g, ql, qg⟩ := Q'
    refine ⟨i + 1, uy_t173 hn hK qg (fun z => h1 ⟨qa, fun p q hp hq => (ql p q).mpr (z p q hp hq)⟩ _) (fun z => h0 (fun T => z fun p q hp hq => (ql p q).mp (T.2 p q hp hq)) _) i 0 (-1) (by omega) (Or.inl ⟨rfl, fun j hj => absurd hj (by omega)⟩)⟩
  | succ d ih =>
    intro i yg hi Q
    have hi' : i < n := by omega
    have k6 := (hK i).2
    have ek : yk (nI i).toNatClampNeg = nI (K i) := by rw [nI_clamp (by omega)]; exact (hK i).1
    have bl : sw / 2 ^ pn_pc K i ≤ sw := Nat.div_le_self _ _
    have J : ∀ yg', uy_Q n K A B (pn_sd K sw) (pn_Ei n K A B (pn_sd K sw) (i + 1)) yg' → wY_tree_25 post (d + 1) (nI (sw / 2 ^ pn_pc K (i + 1))) (nI (i + 1)) (nI n) g1 yk yl yr yw yg' ys := fun yg' Q' => ih (i + 1) yg' (by omega) Q'
    have inK : K i ≠ 0 → K i ≠ 6 → pn_IN n K i := fun a b => ⟨hi', a, b⟩
    refine br_f (nI_ge (by omega) (by omega)) ⟨re_in (by omega), nm_r ek ?_⟩
    unfold wY_tree_71 wY_tree_75 wY_tree_76 wY_tree_103 wY_tree_107 wY_tree_108
    by_cases k4 : K i = 4
    · rw [pn_pc1 k4, Nat.pow_succ, ← Nat.div_div_eq_div_mul] at J
      have hin := inK (by omega) (by omega)
      have ⟨i1, i2, i3, i4, i5⟩ := (N i hin).2.2.2 (by omega)
      have sh : nI (sw / 2 ^ pn_pc K i) >>> ((1 : Int32) &&& 31) = nI (sw / 2 ^ pn_pc K i / 2) := pk_shrN (by omega) _ 1 (by decide)
      have an : nI (sw / 2 ^ pn_pc K i) &&& 1 = nI (sw / 2 ^ pn_pc K i % 2) := pk_andN (by omega) 1 (by decide)
      have hE : ∀ y, pn_E n K A B (pn_sd K sw) i y ↔ y = if pn_sd K sw i = true then B i else A i := by
        intro y
        constructor
        · rintro ⟨_, t | t | t⟩
          · omega
          · omega
          · exact t.2
        · intro t
          exact ⟨hin, Or.inr (Or.inr ⟨k4, t⟩)⟩
      rw [k4, an]
      by_cases bt : sw / 2 ^ pn_pc K i % 2 = 1
      · have sd : pn_sd K sw i = true := decide_eq_true bt
        rw [bt]
        refine br_f (by decide) (br_f (by decide) (br_f (by decide) (br_t (by decide) (br_f (by decide) (br_f (by decide) (br_f (by decide) (br_t (by decide) (br_t (by decide) (br_t (by decide) (nm_r sh ?_))))))))))
        refine uy_t120 hn hA hB N hi' false true (fun t => absurd t (by decide)) (fun _ => ⟨(hE _).mpr (by rw [if_pos sd]), i5⟩) ?_ Q h0 J
        intro y t
        rw [hE, if_pos sd] at t
        exact Or.inr ⟨rfl, t⟩
      · have b0 : sw / 2 ^ pn_pc K i % 2 = 0 := by omega
        have sd : ¬ pn_sd K sw i = true := fun z => bt (of_decide_eq_true z)
        rw [b0]
        refine br_f (by decide) (br_f (by decide) (br_f (by decide) (br_t (by decide) (br_t (by decide) (br_f (by decide) (br_f (by decide) (br_t (by decide) (br_f (by decide) (br_t (by decide) (nm_r sh ?_))))))))))
        refine uy_t120 hn hA hB N hi' true false (fun _ => (hE _).mpr (by rw [if_neg sd])) (fun t => absurd t (by decide)) ?_ Q h0 J
        intro y t
        rw [hE, if_neg sd] at t
        exact Or.inl ⟨rfl, t⟩
    · rw [pn_pc0 k4] at J
      by_cases k1 : K i = 1
      · have hin := inK (by omega) (by omega)
        rw [k1]
        refine br_t (by decide) (br_f (by decide) (br_f (by decide) (br_f (by decide) (br_f (by decide) ?_))))
        refine uy_t120 hn hA hB N hi' true false (fun _ => ⟨hin, Or.inl ⟨k1, rfl⟩⟩) (fun t => absurd t (by decide)) ?_ Q h0 J
        rintro y ⟨_, t | t | t⟩
        · exact Or.inl ⟨rfl, t.2⟩
        · omega
        · omega
      · by_cases k3 : K i = 3
        · have hin := inK (by omega) (by omega)
          have ⟨i1, i2, i3, i4, i5⟩ := (N i hin).2.2.2 (by omega)
          rw [k3]
          refine br_f (by decide) (br_t (by decide) (br_t (by decide) (br_f (by decide) ?_)))
          refine uy_t120 hn hA hB N hi' true true (fun _ => ⟨hin, Or.inr (Or.inl ⟨Or.inl k3, Or.inl rfl⟩)⟩) (fun _ => ⟨⟨hin, Or.inr (Or.inl ⟨Or.inl k3, Or.inr rfl⟩)⟩, i5⟩) ?_ Q h0 J
          rintro y ⟨_, t | t | t⟩
          · omega
          · exact t.2.elim (fun z => Or.inl ⟨rfl, z⟩) (fun z => Or.inr ⟨rfl, z⟩)
          · omega
        · by_cases k5 : K i = 5
          · have hin := inK (by omega) (by omega)
            have ⟨i1, i2, i3, i4, i5⟩ := (N i hin).2.2.2 (by omega)
            rw [k5]
            refine br_f (by decide) (br_f (by decide) (br_t (by decide) (br_f (by decide) (br_t (by decide) (br_f (by decide) ?_)))))
            refine uy_t120 hn hA hB N hi' true true (fun _ => ⟨hin, Or.inr (Or.inl ⟨Or.inr k5, Or.inl rfl⟩)⟩) (fun _ => ⟨⟨hin, Or.inr (Or.inl ⟨Or.inr k5, Or.inr rfl⟩)⟩, i5⟩) ?_ Q h0 J
            rintro y ⟨_, t | t | t⟩
            · omega
            · exact t.2.elim (fun z => Or.inl ⟨rfl, z⟩) (fun z => Or.inr ⟨rfl, z⟩)
            · omega
          · have F := uy_t120 (bits := nI (sw / 2 ^ pn_pc K i)) (post := post) (J := wY_tree_25 post (d + 1)) hn hA hB N hi' false false (fun t => absurd t (by decide)) (fun t => absurd t (by decide)) (fun y t => by
              rcases t.2 with t | t | t <;> omega) Q h0 J
            refine pk_eq (K i) 1 (fun t => absurd t k1) (fun _ => pk_eq (K i) 3 (fun t => absurd t k3) (fun _ => pk_eq (K i) 5 (fun t => absurd t k5) (fun _ => pk_eq (K i) 4 (fun t => absurd t k4) (fun _ => ?_))))
            exact pk_eq (K i) 3 (fun t => absurd t k3) (fun _ => pk_eq (K i) 5 (fun t => absurd t k5) (fun _ => pk_eq (K i) 4 (fun t => absurd t k4) (fun _ => pk_eq (K i) 4 (fun t => absurd t k4) (fun _ => F))))
theorem uy_tree {post : Int32 → SY → Prop} (hn : n ≤ 24) (hK : re_K K yk) (hA : re_F n K A yl) (hB : re_F n K B yr) (N : pn_N n K A B) {sw : Nat} (hsw : sw < 64)
    (h1 : pn_T n K A B (pn_sd K sw) → ∀ yg', post 1 (nI n, g1, yk, yl, yr, yw, yg', ys)) (h0 : ¬ pn_T n K A B (pn_sd K sw) → ∀ yg', post 0 (nI n, g1, yk, yl, yr, yw, yg', ys)) :
    wpY_tree post (nI n, g1, yk, yl, yr, yw, yg, ys) (nI sw) := by
  unfold wpY_tree
  dsimp only
  have L : ∀ d i (w : Nat → Int32), i + d = 24 → (∀ j, j < i → w j = nI j) → wY_tree_2 post (nI sw) (nI n) g1 (d + 1) (nI i) yk yl yr yw w ys := by
    intro d
    induction d with
    | zero =>
      intro i w hi hw
      have e : i = 24 := by omega
      subst e
      refine br_t (nI_le (a := 24) (b := 24) (Nat.le_refl _) (by decide)) ⟨n + 1, ?_⟩
      have := uy_t25 (g1 := g1) (yw := yw) (ys := ys) hn hK hA hB N hsw h1 h0 n 0 w (by omega) ⟨fun x y t => absurd t.2 (by omega), fun x y t => t.1, id, dr_L0 (fun x y t => absurd t.2 (by omega)) id (fun p q e => e), fun j hj => ⟨hw j hj, hj⟩⟩
      have e : sw / 2 ^ pn_pc K 0 = sw := by
        show sw / 2 ^ 0 = sw
        rw [Nat.pow_zero, Nat.div_one]
      rw [e] at this
      exact this
    | succ d ih =>
      intro i w hi hw
      refine br_f (nI_ge (b := 24) (by omega) (by decide)) ⟨re_in (by omega), ?_⟩
      rw [nI_clamp (by omega)]
      refine nm_e (nm_r (nI_1 i) (ih (i + 1) _ (by omega) ?_))
      intro j hj
      by_cases q : j = i
      · rw [q]; exact pk_us
      · rw [pk_un q]; exact hw j (by omega)
  exact ⟨25, L 24 0 yg (by omega) (fun j hj => absurd hj (by omega))⟩
def pn_ok (n : Nat) (K A B : Nat → Nat) : Prop := (∃ p, pn_IN n K p) ∧ ∀ s, pn_T n K A B s
theorem uy_correct {post : Int32 → SY → Prop} (hn : n ≤ 24) (hK : re_K K yk) (hA : re_F n K A yl) (hB : re_F n K B yr) (N : pn_N n K A B) (hpc : pn_pc K n ≤ 6)
    (h1 : pn_ok n K A B → ∀ yg', post 1 (nI n, g1, yk, yl, yr, yw, yg', ys)) (h0 : ¬ pn_ok n K A B → ∀ yg', post 0 (nI n, g1, yk, yl, yr, yw, yg', ys)) :
    wpY_correct post (nI n, g1, yk, yl, yr, yw, yg, ys) := by
  unfold wpY_correct
  dsimp only
  have em : dr_n (fun j => K j = 0) n + dr_n (fun j => K j = 6) n = n ↔ ¬ ∃ p, pn_IN n K p := by
    rw [← dr_n_or n (fun j _ z => by omega), dr_n_full]
    constructor
    · rintro h ⟨p, hp⟩
      exact (h p hp.1).elim hp.2.1 hp.2.2
    · intro h j hj
      by_cases a : K j = 0
      · exact Or.inl a
      · by_cases c : K j = 6
        · exact Or.inr c
        · exact absurd ⟨j, hj, a, c⟩ h
  have t0 := dr_n_top (fun j => K j = 0) n
  have t6 := dr_n_top (fun j => K j = 6) n
  refine uy_count hn hK 0 (by omega) (uy_count hn hK 6 (by omega) ?_)
  rw [nI_add]
  refine pk_eq (dr_n (fun j => K j = 0) n + dr_n (fun j => K j = 6) n) n (fun e => h0 (fun z => em.mp e z.1) _) (fun e => ?_)
  have ne : ∃ p, pn_IN n K p := Classical.byContradiction fun z => e (em.mpr z)
  refine uy_count hn hK 4 (by omega) ?_
  have sh : (1 : Int32) <<< (nI (dr_n (fun j => K j = 4) n) &&& 31) = nI (2 ^ pn_pc K n) := by
    have p64 : 2 ^ pn_pc K n ≤ 2 ^ 6 := Nat.pow_le_pow_right (by decide) hpc
    have := pk_shlN (n := 1) (nI (pn_pc K n) &&& 31) (pn_pc K n) (re_sl _ (by omega)) (by omega)
    rw [Nat.one_mul] at this
    exact this
  refine nm_r sh ?_
  have p64 : 2 ^ pn_pc K n ≤ 64 := Nat.pow_le_pow_right (n := 2) (by decide) hpc
  have L : ∀ d i yg, i + d = 2 ^ pn_pc K n → (∀ sw, sw < i → pn_T n K A B (pn_sd K sw)) → wY_correct_31 post (nI (2 ^ pn_pc K n)) (d + 1) (nI i) (nI n) g1 yk yl yr yw yg ys := by
    intro d
    induction d with
    | zero =>
      intro i yg hi hT
      have e : i = 2 ^ pn_pc K n := by omega
      subst e
      exact br_t (nI_le (Nat.le_refl _) (by omega)) (h1 ⟨ne, pn_allT.mpr hT⟩ _)
    | succ d ih =>
      intro i yg hi hT
      refine br_f (nI_ge (by omega) (by omega)) (br_f (nI_ge (b := 64) (by omega) (by decide)) (uy_tree hn hK hA hB N (by omega) ?_ ?_))
      · intro T yg'
        refine br_f (by decide) (nm_r (nI_1 i) (ih (i + 1) yg' (by omega) ?_))
        intro sw hs
        by_cases q : sw = i
        · rw [q]; exact T
        · exact hT sw (by omega)
      · intro T yg'
        exact br_t rfl (h0 (fun z => T (z.2 _)) _)
  exact ⟨2 ^ pn_pc K n + 1, L _ 0 yg (by omega) (fun sw h => absurd h (by omega))⟩
end
end
section
/-! the relation -/
def pn_dh (K B : Nat → Nat) (p q : Nat) : Prop := (K p = 1 ∧ K q = 2 ∧ B p = B q) ∨ (K p = 2 ∧ K q = 1 ∧ B p = B q) ∨ (K p = 3 ∧ K q = 4) ∨ (K p = 4 ∧ K q = 3)
def pn_i1 (nx : Nat) (K : Nat → Nat) : Prop := ∀ j, K j ≤ 6 ∧ (K j = 0 ↔ nx ≤ j)
def pn_i2 (K A B : Nat → Nat) : Prop := ∀ j, (K j = 1 → K (A j) = 2 ∧ A (A j) = j ∧ B j < 8) ∧ (K j = 2 → K (A j) = 1 ∧ A (A j) = j ∧ B j < 8)
def pn_i3 (K A B : Nat → Nat) : Prop := ∀ j, 3 ≤ K j → K j ≤ 5 → A j < j ∧ B j < j ∧ A j ≠ B j ∧ 1 ≤ K (A j) ∧ K (A j) ≤ 4 ∧ 1 ≤ K (B j) ∧ K (B j) ≤ 4
def pn_i4 (K A B : Nat → Nat) : Prop := ∀ i j, 3 ≤ K i → K i ≤ 5 → 3 ≤ K j → K j ≤ 5 → i ≠ j → A i ≠ A j ∧ A i ≠ B j ∧ B i ≠ A j ∧ B i ≠ B j
def pn_dc (K A B : Nat → Nat) (D : Nat → Nat → Prop) : Prop := ∀ p q, D p q → pn_dh K B p q ∧ (3 ≤ K p → D (A p) (A q) ∧ D (B p) (B q))
def pn_i5 (K A B : Nat → Nat) (D : Nat → Nat → Prop) : Prop := (∀ j, K j = 5 → D (A j) (B j)) ∧ pn_dc K A B D
def pn_I (n lim nx : Nat) (K A B : Nat → Nat) (D : Nat → Nat → Prop) : Prop :=
  (8 ≤ n ∧ n ≤ 24 ∧ 1 ≤ lim ∧ lim ≤ 6 ∧ nx ≤ n) ∧ pn_i1 nx K ∧ pn_i2 K A B ∧ pn_i3 K A B ∧ pn_i4 K A B ∧ pn_i5 K A B D ∧ pn_pc K n ≤ lim
def pn_tk (K A B : Nat → Nat) (j : Nat) : Prop := ∃ i, 3 ≤ K i ∧ K i ≤ 5 ∧ (A i = j ∨ B i = j)
def re_T (nx : Nat) (K A B : Nat → Nat) (ct : Nat → Int32) : Prop :=
  (∀ j, nx ≤ j → j < 24 → ct j = 0) ∧ ∀ j, 1 ≤ K j → K j ≤ 4 → (ct j = 0 ∧ ¬ pn_tk K A B j) ∨ (ct j = 1 ∧ pn_tk K A B j)
def re_X (n lim nx : Nat) (K A B c : Nat → Nat) : SX → Prop
  | (_, _, f2, f3, f4, _, ck, cf, cs, ct, cp, _, _, _) => f2 = nI n ∧ f3 = nI lim ∧ f4 = nI nx ∧ re_K K ck ∧ re_F n K A cf ∧ re_F n K B cs ∧ re_T nx K A B ct ∧ ux_R 0 c cp
def re_Y (n lim : Nat) (K A B c : Nat → Nat) : SY → Prop
  | (g0, g1, yk, yl, yr, yw, _, _) => g0 = nI n ∧ g1 = nI lim ∧ re_K K yk ∧ re_F n K A yl ∧ re_F n K B yr ∧ uy_R 0 c yw
/-- the two states show one net and one replay -/
def i_Rel (_ : Nat) (u : SX) (v : SY) : Prop :=
  ∃ (n lim nx : Nat) (K A B : Nat → Nat) (D : Nat → Nat → Prop) (c : Nat → Nat), pn_I n lim nx K A B D ∧ pn_V n K A B c ∧ re_X n lim nx K A B c u ∧ re_Y n lim K A B c v
theorem i_up {k : Nat} {u : SX} {v : SY} (h : i_Rel k u v) : i_Rel (k + 4) u v := h
theorem re_el {k : Nat} {P : SX → SY → Prop} {u : SX} {v : SY} (I : i_Rel k u v)
    (h : ∀ (n lim nx : Nat) (K A B : Nat → Nat) (D : Nat → Nat → Prop) (c : Nat → Nat) (f0 f1 f5 : Int32) (ck cf cs ct cp co sA sB yk yl yr yw yg ys : Nat → Int32),
      pn_I n lim nx K A B D → pn_V n K A B c → re_K K ck → re_F n K A cf → re_F n K B cs → re_T nx K A B ct → ux_R 0 c cp → re_K K yk → re_F n K A yl → re_F n K B yr → uy_R 0 c yw →
      P (f0, f1, nI n, nI lim, nI nx, f5, ck, cf, cs, ct, cp, co, sA, sB) (nI n, nI lim, yk, yl, yr, yw, yg, ys)) : P u v := by
  obtain ⟨n, lim, nx, K, A, B, D, c, hI, hV, hX, hY⟩ := I
  obtain ⟨f0, f1, f2, f3, f4, f5, ck, cf, cs, ct, cp, co, sA, sB⟩ := u
  obtain ⟨g0, g1, yk, yl, yr, yw, yg, ys⟩ := v
  obtain ⟨e2, e3, e4, x1, x2, x3, x4, x5⟩ := hX
  obtain ⟨d0, d1, y1, y2, y3, y4⟩ := hY
  subst e2 e3 e4 d0 d1
  exact h n lim nx K A B D c f0 f1 f5 ck cf cs ct cp co sA sB yk yl yr yw yg ys hI hV x1 x2 x3 x4 x5 y1 y2 y3 y4
theorem re_mk {k n lim nx : Nat} {K A B : Nat → Nat} {D : Nat → Nat → Prop} {c : Nat → Nat} {f0 f1 f5 : Int32} {ck cf cs ct cp co sA sB yk yl yr yw yg ys : Nat → Int32}
    (hI : pn_I n lim nx K A B D) (hV : pn_V n K A B c) (x1 : re_K K ck) (x2 : re_F n K A cf) (x3 : re_F n K B cs) (x4 : re_T nx K A B ct) (x5 : ux_R 0 c cp) (y1 : re_K K yk) (y2 : re_F n K A yl) (y3 : re_F n K B yr) (y4 : uy_R 0 c yw) :
    i_Rel k (f0, f1, nI n, nI lim, nI nx, f5, ck, cf, cs, ct, cp, co, sA, sB) (nI n, nI lim, yk, yl, yr, yw, yg, ys) :=
  ⟨n, lim, nx, K, A, B, D, c, hI, hV, ⟨rfl, rfl, rfl, x1, x2, x3, x4, x5⟩, ⟨rfl, rfl, y1, y2, y3, y4⟩⟩
theorem pn_INi {n lim nx : Nat} {K A B : Nat → Nat} {D : Nat → Nat → Prop} (I : pn_I n lim nx K A B D) (j : Nat) : pn_IN n K j ↔ 1 ≤ K j ∧ K j ≤ 5 := by
  have h := I.2.1 j
  have := I.1
  constructor
  · rintro ⟨a, b, c⟩
    omega
  · rintro ⟨a, b⟩
    exact ⟨by omega, by omega, by omega⟩
theorem pn_IN_N {n lim nx : Nat} {K A B : Nat → Nat} {D : Nat → Nat → Prop} (I : pn_I n lim nx K A B D) : pn_N n K A B := by
  intro j hj
  have kj := (pn_INi I j).mp hj
  refine ⟨kj.2, fun k => ?_, fun k => ?_, fun k => ?_⟩
  · have h := (I.2.2.1 j).1 k
    exact ⟨(pn_INi I _).mpr (by omega), h.1, h.2.1⟩
  · have h := (I.2.2.1 j).2 k
    exact ⟨(pn_INi I _).mpr (by omega), h.1, h.2.1⟩
  · have h := I.2.2.2.1 j k kj.2
    exact ⟨(pn_INi I _).mpr (by omega), (pn_INi I _).mpr (by omega), h.1, h.2.1, h.2.2.1⟩
theorem ux_R_fr {c : Nat → Nat} {p p' : Nat → Int32} (R : ux_R 0 c p) (f : re_fr 24 p p') : ux_R 0 c p' := by
  intro j hj
  rw [f (0 + j) (by omega)]
  exact R j hj
theorem uy_R_fr {c : Nat → Nat} {p p' : Nat → Int32} (R : uy_R 0 c p) (f : re_fr 24 p p') : uy_R 0 c p' := by
  constructor
  · intro j hj
    rw [f (0 + j) (by omega)]
    exact R.1 j hj
  · intro i j hi hj
    rw [f (0 + j) (by omega), f (0 + i) (by omega)]
    exact R.2 i j hi hj
end
section
/-! begin, use, derived, sequent, kind, part -/
theorem i_vc_begin {k : Nat} {u : SX} {v : SY} (I : i_Rel k u v) (hk : k + 4 ≤ 2050) : wpX_begin (fun u' => wpY_begin (fun v' => i_Rel (k + 4) u' v') v) u := by
  refine re_el (P := fun u v => wpX_begin (fun u' => wpY_begin (fun v' => i_Rel (k + 4) u' v') v) u) I ?_
  intro n lim nx K A B D c f0 f1 f5 ck cf cs ct cp co sA sB yk yl yr yw yg ys hI hV x1 x2 x3 x4 x5 y1 y2 y3 y4
  unfold wpX_begin wpY_begin
  refine ux_un (b := 0) (by omega) fun cp' _ R => uy_fr (b := 0) (by omega) fun yw' _ R' => ?_
  exact re_mk hI pn_V0 x1 x2 x3 x4 R y1 y2 y3 R'
theorem i_vc_use {k : Nat} {u : SX} {v : SY} (I : i_Rel k u v) (hk : k + 4 ≤ 2050) (v1 : Int32) : wpX_use (fun r u' => wpY_use (fun r' v' => r' = r ∧ i_Rel (k + 4) u' v') v v1) u v1 := by
  refine re_el (P := fun u v => wpX_use (fun r u' => wpY_use (fun r' v' => r' = r ∧ i_Rel (k + 4) u' v') v v1) u v1) I ?_
  intro n lim nx K A B D c f0 f1 f5 ck cf cs ct cp co sA sB yk yl yr yw yg ys hI hV x1 x2 x3 x4 x5 y1 y2 y3 y4
  have hn : n ≤ 24 := hI.1.2.1
  have N := pn_IN_N hI
  have un : ∀ i j, i < n → j < n → nI i = nI j → j = i := fun i j hi hj e => ((nI_eq (by omega) (by omega)).mp e).symm
  unfold wpX_use wpY_use
  refine ux_verdict (b := 0) hn (by omega) x1 x2 x3 N x5 v1 ?_ ?_
  · intro i hi e
    by_cases z : pn_vd n K A B c i = 0
    · subst e
      have r := pn_vd0.mp z
      refine br_t z (ux_place (b := 0) hn (by omega) x1 x2 x3 N hV.1 hV.2.1 x5 r fun cp' _ R => ?_)
      refine uy_answer (b := 0) hn (by omega) y1 y2 y3 N y4 (nI i) ?_ ?_
      · intro j hj ej
        rw [un i j hi hj ej]
        refine br_t z (uy_place (b := 0) hn (by omega) y1 y2 y3 N hV.1 hV.2.1 y4 r fun yw' _ R' => ?_)
        exact ⟨rfl, re_mk hI (pn_V_pl hn N hV r) x1 x2 x3 x4 R y1 y2 y3 R'⟩
      · intro h
        exact absurd rfl (h i hi)
    · subst e
      refine br_f z (uy_answer (b := 0) hn (by omega) y1 y2 y3 N y4 (nI i) ?_ ?_)
      · intro j hj ej
        rw [un i j hi hj ej]
        exact br_f z ⟨rfl, re_mk hI hV x1 x2 x3 x4 x5 y1 y2 y3 y4⟩
      · intro h
        exact absurd rfl (h i hi)
  · intro h
    refine br_f (by decide) (uy_answer (b := 0) hn (by omega) y1 y2 y3 N y4 v1 ?_ ?_)
    · intro i hi e
      exact absurd e (h i hi)
    · intro _
      exact br_f (by decide) ⟨rfl, re_mk hI hV x1 x2 x3 x4 x5 y1 y2 y3 y4⟩
theorem i_vc_kind {k : Nat} {u : SX} {v : SY} (I : i_Rel k u v) (hk : k + 4 ≤ 2050) (v1 : Int32) : wpX_kind (fun r => wpY_kind (fun r' => r' = r ∧ i_Rel (k + 4) u v) v v1) u v1 := by
  refine re_el (P := fun u v => wpX_kind (fun r => wpY_kind (fun r' => r' = r ∧ i_Rel (k + 4) u v) v v1) u v1) I ?_
  intro n lim nx K A B D c f0 f1 f5 ck cf cs ct cp co sA sB yk yl yr yw yg ys hI hV x1 x2 x3 x4 x5 y1 y2 y3 y4
  have hn : n ≤ 24 := hI.1.2.1
  have fin : ∀ k, i_Rel k (f0, f1, nI n, nI lim, nI nx, f5, ck, cf, cs, ct, cp, co, sA, sB) (nI n, nI lim, yk, yl, yr, yw, yg, ys) := fun k => re_mk hI hV x1 x2 x3 x4 x5 y1 y2 y3 y4
  unfold wpX_kind wpY_kind
  refine ux_inRange hn v1 ?_ ?_
  · rintro i hi rfl
    refine br_f (by decide) ⟨re_in (by omega), uy_inside hn (nI i) ?_ ?_⟩
    · intro _ _ _
      refine br_f (by decide) ⟨re_in (by omega), ?_, fin _⟩
      rw [(x1 _).1, (y1 _).1]
    · intro h
      exact absurd rfl (h i hi)
  · intro h
    refine br_t rfl (uy_inside hn v1 ?_ ?_)
    · intro i hi e
      exact absurd e (h i hi)
    · intro _
      exact br_t rfl ⟨rfl, fin _⟩
theorem i_vc_part {k : Nat} {u : SX} {v : SY} (I : i_Rel k u v) (hk : k + 4 ≤ 2050) (v1 : Int32) (v2 : Int32) : wpX_part (fun r => wpY_part (fun r' => r' = r ∧ i_Rel (k + 4) u v) v v1 v2) u v1 v2 := by
  refine re_el (P := fun u v => wpX_part (fun r => wpY_part (fun r' => r' = r ∧ i_Rel (k + 4) u v) v v1 v2) u v1 v2) I ?_
  intro n lim nx K A B D c f0 f1 f5 ck cf cs ct cp co sA sB yk yl yr yw yg ys hI hV x1 x2 x3 x4 x5 y1 y2 y3 y4
  have hn : n ≤ 24 := hI.1.2.1
  have fin : ∀ k, i_Rel k (f0, f1, nI n, nI lim, nI nx, f5, ck, cf, cs, ct, cp, co, sA, sB) (nI n, nI lim, yk, yl, yr, yw, yg, ys) := fun k => re_mk hI hV x1 x2 x3 x4 x5 y1 y2 y3 y4
  unfold wpX_part wpY_part wY_part_19
  refine ux_inNet hn x1 v1 ?_ ?_
  · rintro i hi rfl hin
    have cl : (nI i).toNatClampNeg = i := nI_clamp (by omega)
    refine br_f (by decide) (br_c (fun e => ⟨re_in (by omega), uy_inNet hn y1 (nI i) ?_ ?_⟩) (fun e => br_c (fun e2 => ⟨re_in (by omega), uy_inNet hn y1 (nI i) ?_ ?_⟩) (fun e2 => uy_inNet hn y1 (nI i) ?_ ?_)))
    · intro _ _ _ _
      exact br_f (by decide) (br_t e (br_t e ⟨re_in (by omega), by rw [cl, x2 i hin, y2 i hin], fin _⟩))
    · intro h
      exact absurd hin (h i hi rfl)
    · intro _ _ _ _
      exact br_f (by decide) (br_f e (br_t e2 (br_f e ⟨re_in (by omega), by rw [cl, x3 i hin, y3 i hin], fin _⟩)))
    · intro h
      exact absurd hin (h i hi rfl)
    · intro _ _ _ _
      exact br_f (by decide) (br_f e (br_f e2 ⟨rfl, fin _⟩))
    · intro h
      exact absurd hin (h i hi rfl)
  · intro h
    refine br_t rfl (uy_inNet hn y1 v1 ?_ ?_)
    · intro i hi e hin
      exact absurd hin (h i hi e)
    · intro _
      exact br_t rfl ⟨rfl, fin _⟩
theorem uy_seq {c : Nat → Nat} {g0 g1 : Int32} {yk yl yr yw yg ys : Nat → Int32} {post : Int32 → Prop} (R : uy_R 0 c yw) {j : Nat} (hj : j < 24) (hc : c j ≠ 24) (id1 : ∀ i, i < 24 → c i ≠ 24 → c i ≤ i ∧ c (c i) = c i) (hp : post (nI (c j))) :
    ∀ d i, i + d = c j → wY_sequent_22 post (nI j) g0 g1 yk yl yr yw yg ys (d + 1) (nI i) := by
  have ⟨cj, ccj⟩ := id1 j hj hc
  intro d
  induction d with
  | zero =>
    intro i hi
    have e : i = c j := by omega
    by_cases z : j ≤ i
    · have e2 : j = c j := by omega
      rw [← e2] at hp
      exact br_t (nI_le z (by omega)) hp
    · refine br_f (nI_ge (by omega) (by omega)) ⟨vp_in_nI (by omega) (by decide), vp_in_nI (by omega) (by decide), ?_⟩
      rw [nI_clamp (by omega), nI_clamp (by omega)]
      have := R.2 i j (by omega) hj (by rw [e]; exact ccj)
      rw [Nat.zero_add, Nat.zero_add] at this
      rw [← e] at hp
      exact br_t this hp
  | succ d ih =>
    intro i hi
    refine br_f (nI_ge (by omega) (by omega)) ⟨vp_in_nI (by omega) (by decide), vp_in_nI (by omega) (by decide), ?_⟩
    rw [nI_clamp (by omega), nI_clamp (by omega)]
    refine br_f (fun z => ?_) (nm_r (nI_1 i) (ih (i + 1) (by omega)))
    have := (uy_R_eq R (i := i) (j := j) (by omega) hj).mp (by rw [Nat.zero_add, Nat.zero_add]; exact z)
    have := (id1 i (by omega) (by omega)).1
    omega
theorem i_vc_sequent {k : Nat} {u : SX} {v : SY} (I : i_Rel k u v) (hk : k + 4 ≤ 2050) (v1 : Int32) : wpX_sequent (fun r => wpY_sequent (fun r' => r' = r ∧ i_Rel (k + 4) u v) v v1) u v1 := by
  refine re_el (P := fun u v => wpX_sequent (fun r => wpY_sequent (fun r' => r' = r ∧ i_Rel (k + 4) u v) v v1) u v1) I ?_
  intro n lim nx K A B D c f0 f1 f5 ck cf cs ct cp co sA sB yk yl yr yw yg ys hI hV x1 x2 x3 x4 x5 y1 y2 y3 y4
  have hn : n ≤ 24 := hI.1.2.1
  have fin : ∀ k, i_Rel k (f0, f1, nI n, nI lim, nI nx, f5, ck, cf, cs, ct, cp, co, sA, sB) (nI n, nI lim, yk, yl, yr, yw, yg, ys) := fun k => re_mk hI hV x1 x2 x3 x4 x5 y1 y2 y3 y4
  unfold wpX_sequent wpY_sequent
  refine ux_inRange hn v1 ?_ ?_
  · rintro i hi rfl
    refine br_f (by decide) (ux_find (b := 0) (by omega) x5 (by omega) ?_)
    unfold pn_fd
    by_cases ci : c i = 24
    · rw [if_pos ci]
      refine br_f (by decide) (uy_inside hn (nI i) ?_ ?_)
      · intro _ _ _
        refine br_f (by decide) ⟨vp_in_nI (by omega) (by decide), br_t ?_ ⟨rfl, fin _⟩⟩
        have := (uy_R_m1 y4 (i := i) (by omega)).mpr ci
        rw [Nat.zero_add] at this
        rw [nI_clamp (by omega)]
        exact this
      · intro h
        exact absurd rfl (h i hi)
    · rw [if_neg ci]
      have ⟨cl, _⟩ := ux_R_id x5 i (by omega) ci
      refine br_t (nI_pos' (by omega)) (uy_inside hn (nI i) ?_ ?_)
      · intro _ _ _
        refine br_f (by decide) ⟨vp_in_nI (by omega) (by decide), br_f ?_ ⟨c i + 1, uy_seq y4 (by omega) ci (ux_R_id x5) ⟨rfl, fin _⟩ (c i) 0 (by omega)⟩⟩
        intro z
        rw [nI_clamp (by omega)] at z
        exact ci ((uy_R_m1 y4 (i := i) (by omega)).mp (by rw [Nat.zero_add]; exact z))
      · intro h
        exact absurd rfl (h i hi)
  · intro h
    refine br_t rfl (uy_inside hn v1 ?_ ?_)
    · intro i hi e
      exact absurd e (h i hi)
    · intro _
      exact br_t rfl ⟨rfl, fin _⟩
/-- the reference's derived -/
theorem uy_der {n : Nat} {K A B c : Nat → Nat} {g1 : Int32} {yk yl yr yw yg ys : Nat → Int32} {post : Int32 → Prop} (hn : n ≤ 24) (hK : re_K K yk) (N : pn_N n K A B) (V1 : pn_V1 n K c) (V2 : pn_V2 K A B c) (R : uy_R 0 c yw)
    (h1 : pn_wh n K c → post 1) (h0 : ¬ pn_wh n K c → post 0) : ∀ d i one, i + d = n → (∀ j, j < i → pn_lk n K j → c j ≠ 24) →
    ((one = -1 ∧ ∀ j, j < i → c j = 24) ∨ ∃ r, r < i ∧ c r ≠ 24 ∧ one = yw r ∧ ∀ j, j < i → c j ≠ 24 → c j = c r) →
    wY_derived_4 post (nI n) g1 yk yl yr yw yg ys (d + 1) one (nI i) := by
  have pl : (∀ j, j < n → pn_lk n K j → c j ≠ 24) → ∀ p, pn_IN n K p → c p ≠ 24 := by
    intro h p hp
    by_cases k : K p = 2
    · have ⟨m1, m2, m3⟩ := (N p hp).2.2.1 k
      have q := h (A p) m1.1 ⟨m1, by omega⟩
      have := (V2 (A p) q).1 (by omega)
      rw [m3] at this
      omega
    · exact h p hp.1 ⟨hp, k⟩
  intro d
  induction d with
  | zero =>
    intro i one hi hl hr
    have e : i = n := by omega
    subst e
    have all := pl hl
    refine br_t (nI_le (Nat.le_refl _) (by omega)) ?_
    rcases hr with ⟨rfl, h⟩ | ⟨r, ri, rn, rfl, h⟩
    · refine br_t rfl (h0 ?_)
      rintro ⟨⟨p, hp⟩, _⟩
      exact all p hp (h p hp.1)
    · refine br_f ?_ (h1 ⟨⟨r, ((V1 r).resolve_left rn).2.2⟩, ?_⟩)
      · intro z
        exact rn ((uy_R_m1 R (i := r) (by omega)).mp (by rw [Nat.zero_add]; exact z))
      · intro p q hp hq
        have a := all p hp
        have e1 := h p hp.1 a
        have e2 := h q hq.1 (all q hq)
        exact ⟨a, by omega⟩
  | succ d ih =>
    intro i one hi hl hr
    have un : ∀ j, j < n → nI i = nI j → j = i := fun j hj e => ((nI_eq (by omega) (by omega)).mp e).symm
    have cl : (nI i).toNatClampNeg = i := nI_clamp (by omega)
    have m1 : yw i = -1 ↔ c i = 24 := by
      have := uy_R_m1 R (i := i) (by omega)
      rw [Nat.zero_add] at this
      exact this
    have vi : vp_in (nI i) 48 := vp_in_nI (by omega) (by decide)
    -- behind the first test
    have T : (pn_lk n K i → c i ≠ 24) → wY_derived_32 post (wY_derived_4 post (nI n) g1 yk yl yr yw yg ys (d + 1)) one (nI i) (nI n) g1 yk yl yr yw yg ys := by
      intro hli
      have hl' : ∀ j, j < i + 1 → pn_lk n K j → c j ≠ 24 := by
        intro j hj
        by_cases q : j = i
        · rw [q]; exact hli
        · exact hl j (by omega)
      unfold wY_derived_32 wY_derived_44
      rw [cl]
      rcases hr with ⟨rfl, h⟩ | ⟨r, ri, rn, rfl, h⟩
      · refine br_t rfl ⟨vi, nm_e ⟨vi, ?_⟩⟩
        by_cases ci : c i = 24
        · refine br_t (m1.mpr ci) (nm_r (nI_1 i) (ih (i + 1) _ (by omega) hl' (Or.inl ⟨m1.mpr ci, ?_⟩)))
          intro j hj
          by_cases q : j = i
          · rw [q]; exact ci
          · exact h j (by omega)
        · refine br_f (fun z => ci (m1.mp z)) ⟨vi, br_t rfl (nm_r (nI_1 i) (ih (i + 1) _ (by omega) hl' (Or.inr ⟨i, by omega, ci, rfl, ?_⟩)))⟩
          intro j hj cj
          by_cases q : j = i
          · rw [q]
          · exact absurd (h j (by omega)) cj
      · have nr : ¬ yw r = -1 := by
          intro z
          exact rn ((uy_R_m1 R (i := r) (by omega)).mp (by rw [Nat.zero_add]; exact z))
        refine br_f nr ⟨vi, ?_⟩
        by_cases ci : c i = 24
        · refine br_t (m1.mpr ci) (nm_r (nI_1 i) (ih (i + 1) _ (by omega) hl' (Or.inr ⟨r, by omega, rn, rfl, ?_⟩)))
          intro j hj cj
          by_cases q : j = i
          · rw [q] at cj; exact absurd ci cj
          · exact h j (by omega) cj
        · have eq := uy_R_eq R (i := i) (j := r) (by omega) (by omega)
          rw [Nat.zero_add, Nat.zero_add] at eq
          refine br_f (fun z => ci (m1.mp z)) ⟨vi, ?_⟩
          by_cases e : c i = c r
          · refine br_t (eq.mpr e) (nm_r (nI_1 i) (ih (i + 1) _ (by omega) hl' (Or.inr ⟨r, by omega, rn, rfl, ?_⟩)))
            intro j hj cj
            by_cases q : j = i
            · rw [q]; exact e
            · exact h j (by omega) cj
          · refine br_f (fun z => e (eq.mp z)) (h0 fun w => e ?_)
            exact (w.2 i r ((V1 i).resolve_left ci).2.2 ((V1 r).resolve_left rn).2.2).2
    refine br_f (nI_ge (by omega) (by omega)) (uy_isLink hn hK (nI i) ?_ ?_)
    · intro j hj ej hl2
      have := un j hj ej
      subst this
      refine br_f (by decide) ⟨vi, ?_⟩
      rw [cl]
      by_cases ci : c j = 24
      · exact br_t (m1.mpr ci) (h0 fun w => (w.2 j j hl2.1 hl2.1).1 ci)
      · exact br_f (fun z => ci (m1.mp z)) (T fun _ => ci)
    · intro h
      exact br_t rfl (T fun z => absurd z (h i (by omega) rfl))
theorem i_vc_derived {k : Nat} {u : SX} {v : SY} (I : i_Rel k u v) (hk : k + 4 ≤ 2050) : wpX_derived (fun r => wpY_derived (fun r' => r' = r ∧ i_Rel (k + 4) u v) v) u := by
  refine re_el (P := fun u v => wpX_derived (fun r => wpY_derived (fun r' => r' = r ∧ i_Rel (k + 4) u v) v) u) I ?_
  intro n lim nx K A B D c f0 f1 f5 ck cf cs ct cp co sA sB yk yl yr yw yg ys hI hV x1 x2 x3 x4 x5 y1 y2 y3 y4
  have hn : n ≤ 24 := hI.1.2.1
  have fin : ∀ k, i_Rel k (f0, f1, nI n, nI lim, nI nx, f5, ck, cf, cs, ct, cp, co, sA, sB) (nI n, nI lim, yk, yl, yr, yw, yg, ys) := fun k => re_mk hI hV x1 x2 x3 x4 x5 y1 y2 y3 y4
  have N := pn_IN_N hI
  unfold wpX_derived wpY_derived
  refine ux_whole (b := 0) hn (by omega) x1 x5 (fun w => ⟨narrow_b1, ?_⟩) (fun w => ⟨narrow_b0, ?_⟩)
  · exact ⟨n + 1, uy_der hn y1 N hV.1 hV.2.1 y4 (fun _ => ⟨rfl, fin _⟩) (fun z => absurd w z) n 0 (-1) (by omega) (fun j hj => absurd hj (by omega)) (Or.inl ⟨rfl, fun j hj => absurd hj (by omega)⟩)⟩
  · exact ⟨n + 1, uy_der hn y1 N hV.1 hV.2.1 y4 (fun z => absurd z w) (fun _ => ⟨rfl, fin _⟩) n 0 (-1) (by omega) (fun j hj => absurd hj (by omega)) (Or.inl ⟨rfl, fun j hj => absurd hj (by omega)⟩)⟩
end
section
/-! correct, last, rule -/
theorem dr_n_ext {P : Nat → Prop} {n : Nat} (h : ∀ j, n ≤ j → ¬ P j) : ∀ d, dr_n P (n + d) = dr_n P n := by
  intro d
  induction d with
  | zero => rfl
  | succ d ih =>
    show dr_n P (n + d) + dr_b (P (n + d)) = dr_n P n
    rw [ih, dr_b0 (h _ (by omega))]; rfl
theorem pn_links {n : Nat} {K : Nat → Nat} (hn : n ≤ 24) (k6 : ∀ j, K j ≤ 6) : dr_n (pn_lk n K) 24 = dr_n (fun j => K j = 1) n + dr_n (fun j => K j = 3) n + dr_n (fun j => K j = 4) n + dr_n (fun j => K j = 5) n := by
  have e := dr_n_ext (P := pn_lk n K) (n := n) (fun j hj z => by have := z.1.1; omega) (24 - n)
  rw [show n + (24 - n) = 24 from by omega] at e
  rw [e, ← dr_n_or n (fun j _ z => by omega), ← dr_n_or n (fun j _ z => by omega), ← dr_n_or n (fun j _ z => by omega)]
  refine dr_n_eq n fun j hj => ?_
  have := k6 j
  unfold pn_lk pn_IN
  constructor
  · rintro ⟨⟨a, b, c⟩, d⟩
    omega
  · intro z
    omega
theorem pn_wok {n m : Nat} {K A B : Nat → Nat} (hn : n ≤ 24) (N : pn_N n K A B) (hm : pn_m n K A B (-1) m) : pn_wh n K (pn_it n K A B (-1) 24) ↔ pn_ok n K A B := by
  unfold pn_wh pn_ok
  rw [pn_cor hn N hm]
theorem i_vc_correct {k : Nat} {u : SX} {v : SY} (I : i_Rel k u v) (hk : k + 4 ≤ 2050) : wpX_correct (fun r u' => wpY_correct (fun r' v' => r' = r ∧ i_Rel (k + 4) u' v') v) u := by
  refine re_el (P := fun u v => wpX_correct (fun r u' => wpY_correct (fun r' v' => r' = r ∧ i_Rel (k + 4) u' v') v) u) I ?_
  intro n lim nx K A B D c f0 f1 f5 ck cf cs ct cp co sA sB yk yl yr yw yg ys hI hV x1 x2 x3 x4 x5 y1 y2 y3 y4
  have hn : n ≤ 24 := hI.1.2.1
  have N := pn_IN_N hI
  have hpc : pn_pc K n ≤ 6 := Nat.le_trans hI.2.2.2.2.2.2 hI.1.2.2.2.1
  obtain ⟨m, hm⟩ := pn_m_ex n K A B (-1)
  have wok := pn_wok hn N hm
  refine ux_correct hn x1 x2 x3 N hm fun cp' co' fr R ho => ⟨fun w => ?_, fun w => ?_⟩
  · refine uy_correct hn y1 y2 y3 N hpc (fun _ yg' => ⟨rfl, ?_⟩) (fun z => absurd (wok.mp w) z)
    exact re_mk hI hV x1 x2 x3 x4 (ux_R_fr x5 fr) y1 y2 y3 y4
  · refine uy_correct hn y1 y2 y3 N hpc (fun z => absurd (wok.mpr z) w) (fun _ yg' => ⟨rfl, ?_⟩)
    exact re_mk hI hV x1 x2 x3 x4 (ux_R_fr x5 fr) y1 y2 y3 y4
section
variable {n : Nat} {K A B : Nat → Nat} {c : Nat → Nat} {g1 sk : Int32} {yk yl yr yw yg ys : Nat → Int32}
theorem uy_step {post : Int32 → Prop} (hn : n ≤ 24) (hK : re_K K yk) (hA : re_F n K A yl) (hB : re_F n K B yr) (N : pn_N n K A B) {i : Nat} {w : Nat → Int32} (R : uy_R 24 (pn_it n K A B sk i) w)
    (h0 : pn_nx n K A B sk (pn_it n K A B sk i) = n → uy_R 24 (pn_it n K A B sk (i + 1)) w → post (-1))
    (h1 : ∀ x, x < 24 → pn_nx n K A B sk (pn_it n K A B sk i) = x → x ≠ n → (∀ post' : SY → Prop, (∀ w', re_fr 24 w w' → uy_R 24 (pn_it n K A B sk (i + 1)) w' → post' (nI n, g1, yk, yl, yr, w', yg, ys)) → wpY_place post' (nI n, g1, yk, yl, yr, w, yg, ys) 24 (nI x)) → post (nI x)) :
    wpY_firstUsable post (nI n, g1, yk, yl, yr, w, yg, ys) sk := by
  refine uy_first hn hK hA hB N R sk ?_
  have V := pn_it_V (sk := sk) hn N i
  unfold pn_rr
  rcases pn_nx_spec (n := n) (K := K) (A := A) (B := B) (sk := sk) (pn_it n K A B sk i) with ⟨a, _⟩ | ⟨a, _, r⟩
  · rw [if_pos a]
    refine h0 a ?_
    have st : pn_it n K A B sk (i + 1) = pn_it n K A B sk i := if_pos a
    rw [st]; exact R
  · rw [if_neg (by omega)]
    refine h1 _ (by omega) rfl (by omega) ?_
    intro post' hp
    refine uy_place (b := 24) hn (by omega) hK hA hB N V.1 V.2.1 R r ?_
    intro w' fr R'
    have st : pn_it n K A B sk (i + 1) = pn_pl K A B (pn_it n K A B sk i) (pn_nx n K A B sk (pn_it n K A B sk i)) := if_neg (by omega)
    exact hp w' fr (by rw [st]; exact R')
theorem uy_l25 {post : Int32 → SY → Prop} (hn : n ≤ 24) (hK : re_K K yk) (hA : re_F n K A yl) (hB : re_F n K B yr) (N : pn_N n K A B)
    (hp : ∀ w', re_fr 24 yw w' → uy_R 24 (pn_it n K A B sk 24) w' → ∃ n57, wY_last_57 post sk (nI n) g1 yk yl yr w' yg ys n57 0) :
    ∀ d i (w : Nat → Int32), i + d = 24 → uy_R 24 (pn_it n K A B sk i) w → re_fr 24 yw w → wY_last_25 post sk (d + 1) (nI i) (nI n) g1 yk yl yr w yg ys := by
  intro d
  induction d with
  | zero =>
    intro i w hi R fr
    have e : i = 24 := by omega
    subst e
    exact br_t (nI_le (a := 24) (b := 24) (Nat.le_refl _) (by decide)) (hp w fr R)
  | succ d ih =>
    intro i w hi R fr
    refine br_f (nI_ge (b := 24) (by omega) (by decide)) (uy_step hn hK hA hB N R ?_ ?_)
    · intro _ R'
      exact br_t rfl (nm_r (nI_1 i) (ih (i + 1) w (by omega) R' fr))
    · intro x hx _ _ pl
      refine br_f (pn_nIm1 hx) (pl _ fun w' fr' R' => ?_)
      exact nm_r (nI_1 i) (ih (i + 1) w' (by omega) R' (re_fr_t fr fr'))
theorem uy_l57 {post : Int32 → SY → Prop} (hn : n ≤ 24) (hK : re_K K yk) (hA : re_F n K A yl) (hB : re_F n K B yr) (N : pn_N n K A B) (R : uy_R 24 c yw) {q : Nat} (hq : q < n)
    (h1 : (∀ j, pn_lk n K j → j ≠ q → c j ≠ 24) ∧ pn_vd n K A B c q = 0 → post 1 (nI n, g1, yk, yl, yr, yw, yg, ys)) (h0 : ¬ ((∀ j, pn_lk n K j → j ≠ q → c j ≠ 24) ∧ pn_vd n K A B c q = 0) → post 0 (nI n, g1, yk, yl, yr, yw, yg, ys)) :
    ∀ d i, i + d = n → (∀ j, j < i → pn_lk n K j → j ≠ q → c j ≠ 24) → wY_last_57 post (nI q) (nI n) g1 yk yl yr yw yg ys (d + 1) (nI i) := by
  intro d
  induction d with
  | zero =>
    intro i hi hl
    have e : i = n := by omega
    subst e
    refine br_t (nI_le (Nat.le_refl _) (by omega)) (uy_answer (b := 24) hn (by omega) hK hA hB N R (nI q) ?_ ?_)
    · intro j hj ej
      have : q = j := (nI_eq (by omega) (by omega)).mp ej
      subst this
      by_cases z : pn_vd i K A B c q = 0
      · exact br_t z (h1 ⟨fun j hj => hl j hj.1.1 hj, z⟩)
      · exact br_f z (h0 fun w => z w.2)
    · intro h
      exact absurd rfl (h q hq)
  | succ d ih =>
    intro i hi hl
    refine br_f (nI_ge (by omega) (by omega)) (pk_eq i q (fun e => nm_r (nI_1 i) (ih (i + 1) (by omega) ?_)) (fun e => uy_isLink hn hK (nI i) ?_ ?_))
    · intro j hj hj2 jq
      exact hl j (by omega) hj2 jq
    · intro j hj ej hlk
      have : i = j := (nI_eq (by omega) (by omega)).mp ej
      subst this
      have e24 : (24 : Int32) + nI i = nI (24 + i) := nI_add 24 i
      have m1 := uy_R_m1 R (i := i) (by omega)
      refine br_f (by decide) ⟨?_, ?_⟩
      · rw [e24]; exact vp_in_nI (by omega) (by decide)
      · rw [e24, nI_clamp (by omega)]
        by_cases ci : c i = 24
        · exact br_t (m1.mpr ci) (h0 fun w => w.1 i hlk e ci)
        · refine br_f (fun z => ci (m1.mp z)) (nm_r (nI_1 i) (ih (i + 1) (by omega) ?_))
          intro j hj hj2 jq
          by_cases w : j = i
          · rw [w]; exact ci
          · exact hl j (by omega) hj2 jq
    · intro h
      refine br_t rfl (nm_r (nI_1 i) (ih (i + 1) (by omega) ?_))
      intro j hj hj2 jq
      by_cases w : j = i
      · rw [w] at hj2; exact absurd hj2 (h i (by omega) rfl)
      · exact hl j (by omega) hj2 jq
theorem uy_r53 {post : Int32 → SY → Prop} (hn : n ≤ 24) (hK : re_K K yk) (hA : re_F n K A yl) (hB : re_F n K B yr) (N : pn_N n K A B) {q : Nat} (hq : q < 24) (hx : pn_nx n K A B (-1) (pn_it n K A B (-1) q) ≠ n)
    (hp : ∀ w', re_fr 24 yw w' → post (nI (pn_nx n K A B (-1) (pn_it n K A B (-1) q))) (nI n, g1, yk, yl, yr, w', yg, ys)) :
    ∀ d i u (w : Nat → Int32), i + d = q + 1 → uy_R 24 (pn_it n K A B (-1) i) w → re_fr 24 yw w → (i = q + 1 → u = nI (pn_nx n K A B (-1) (pn_it n K A B (-1) q))) →
    wY_rule_53 post (nI q) (d + 1) u (nI i) (nI n) g1 yk yl yr w yg ys := by
  intro d
  induction d with
  | zero =>
    intro i u w hi R fr hu
    have e : i = q + 1 := by omega
    rw [hu e]
    by_cases z : 24 ≤ i
    · exact br_t (nI_le (a := 24) z (by omega)) (hp w fr)
    · exact br_f (nI_ge (b := 24) (by omega) (by decide)) (br_t (nI_lt (by omega) (by omega)) (hp w fr))
  | succ d ih =>
    intro i u w hi R fr hu
    refine br_f (nI_ge (b := 24) (by omega) (by decide)) (br_f (nI_nlt (by omega) (by omega)) (uy_step hn hK hA hB N R ?_ ?_))
    · intro en R'
      refine br_t rfl (nm_r (nI_1 i) (ih (i + 1) _ w (by omega) R' fr ?_))
      intro e
      have : i = q := by omega
      rw [this] at en
      exact absurd en hx
    · intro x x24 ex _ pl
      refine br_f (pn_nIm1 x24) (pl _ fun w' fr' R' => ?_)
      refine nm_r (nI_1 i) (ih (i + 1) _ w' (by omega) R' (re_fr_t fr fr') ?_)
      intro e
      have : i = q := by omega
      rw [← ex, this]
end
theorem i_vc_last {k : Nat} {u : SX} {v : SY} (I : i_Rel k u v) (hk : k + 4 ≤ 2050) (v1 : Int32) : wpX_last (fun r u' => wpY_last (fun r' v' => r' = r ∧ i_Rel (k + 4) u' v') v v1) u v1 := by
  refine re_el (P := fun u v => wpX_last (fun r u' => wpY_last (fun r' v' => r' = r ∧ i_Rel (k + 4) u' v') v v1) u v1) I ?_
  intro n lim nx K A B D c f0 f1 f5 ck cf cs ct cp co sA sB yk yl yr yw yg ys hI hV x1 x2 x3 x4 x5 y1 y2 y3 y4
  have hn : n ≤ 24 := hI.1.2.1
  have N := pn_IN_N hI
  have hpc : pn_pc K n ≤ 6 := Nat.le_trans hI.2.2.2.2.2.2 hI.1.2.2.2.1
  obtain ⟨m, hm⟩ := pn_m_ex n K A B (-1)
  have wok := pn_wok hn N hm
  unfold wpX_last wpY_last
  refine ux_isLink hn x1 v1 ?_ ?_
  · rintro q hq rfl hl
    refine br_f (by decide) (ux_correct hn x1 x2 x3 N hm fun cp' co' fr R ho => ⟨fun w => ?_, fun w => ?_⟩)
    · refine br_f (by decide) ?_
      obtain ⟨m2, hm2⟩ := pn_m_ex n K A B (nI q)
      have mu : m = dr_n (pn_lk n K) 24 := pn_use hn N hm w.2
      have la := pn_last hn N hl hm2
      -- the reference's part, with the common answer
      have Y : ∀ (r : Int32) (u' : SX), ((∀ j, pn_lk n K j → j ≠ q → pn_it n K A B (nI q) 24 j ≠ 24) ∧ pn_vd n K A B (pn_it n K A B (nI q) 24) q = 0 → r = 1) → (¬ ((∀ j, pn_lk n K j → j ≠ q → pn_it n K A B (nI q) 24 j ≠ 24) ∧ pn_vd n K A B (pn_it n K A B (nI q) 24) q = 0) → r = 0) →
          (∀ yw' yg', re_fr 24 yw yw' → i_Rel (k + 4) u' (nI n, nI lim, yk, yl, yr, yw', yg', ys)) →
          wpY_isLink (fun r_1 => (r_1 = 0 → 0 = r ∧ i_Rel (k + 4) u' (nI n, nI lim, yk, yl, yr, yw, yg, ys)) ∧ (¬ r_1 = 0 → wpY_correct (fun r_11 u => match u with
            | (a0, a1, a2, a3, a4, a5, a6, a7) => (r_11 = 0 → 0 = r ∧ i_Rel (k + 4) u' (a0, a1, a2, a3, a4, a5, a6, a7)) ∧ (¬ r_11 = 0 → wpY_fresh (fun u => match u with
              | (b0, b1, b2, b3, b4, b5, b6, b7) => ∃ n25, wY_last_25 (fun r' v' => r' = r ∧ i_Rel (k + 4) u' v') (nI q) n25 0 b0 b1 b2 b3 b4 b5 b6 b7) (a0, a1, a2, a3, a4, a5, a6, a7) 24)) (nI n, nI lim, yk, yl, yr, yw, yg, ys))) (nI n, nI lim, yk, yl, yr, yw, yg, ys) (nI q) := by
        intro r u' r1 r0 hfin
        refine uy_isLink hn y1 (nI q) ?_ ?_
        · intro _ _ _ _
          refine br_f (by decide) (uy_correct hn y1 y2 y3 N hpc (fun _ yg' => br_f (by decide) ?_) (fun z => absurd (wok.mp w) z))
          refine uy_fr (b := 24) (by omega) fun yw' fr' R' => ⟨25, uy_l25 hn y1 y2 y3 N ?_ 24 0 yw' (by omega) R' (fun _ _ => rfl)⟩
          intro w' fr2 R2
          refine ⟨n + 1, uy_l57 hn y1 y2 y3 N R2 hq (fun z => ⟨(r1 z).symm, hfin _ _ (re_fr_t fr' fr2)⟩) (fun z => ⟨(r0 z).symm, hfin _ _ (re_fr_t fr' fr2)⟩) n 0 (by omega) (fun j hj => absurd hj (by omega))⟩
        · intro h
          exact absurd hl (h q hq rfl)
      refine ux_parse hn x1 x2 x3 N hm2 fun cp2 co2 fr2 R2 _ => ?_
      have fin : ∀ yw' yg', re_fr 24 yw yw' → i_Rel (k + 4) (f0, f1, nI n, nI lim, nI nx, nI m2, ck, cf, cs, ct, cp2, co2, sA, sB) (nI n, nI lim, yk, yl, yr, yw', yg', ys) :=
        fun yw' yg' fr => re_mk hI hV x1 x2 x3 x4 (ux_R_fr (ux_R_fr x5 (by assumption)) fr2) y1 y2 y3 (uy_R_fr y4 fr)
      have mp : 1 ≤ m := by
        rw [mu]
        have : dr_n (fun _ => False) 24 < dr_n (pn_lk n K) 24 := dr_n_lt (z := q) hl id 24 (fun _ _ z => z.elim) (by omega)
        omega
      have ms : nI m - 1 = nI (m - 1) := pk_sub (b := 1) mp
      have m24 := hm.1
      have m224 := hm2.1
      dsimp only
      rw [ms]
      refine pk_eq m2 (m - 1) (fun e => ?_) (fun e => ?_)
      · have hall := la.mp (by omega)
        refine ux_verdict (b := 24) hn (by omega) x1 x2 x3 N R2 (nI q) ?_ ?_
        · intro j hj ej
          have : q = j := (nI_eq (by omega) (by omega)).mp ej
          subst this
          refine br_c (fun z => ?_) (fun z => ?_)
          · exact Y 1 _ (fun _ => rfl) (fun t => absurd ⟨hall, z⟩ t) fin
          · exact Y 0 _ (fun t => absurd t.2 z) (fun _ => rfl) fin
        · intro h
          exact absurd rfl (h q hq)
      · exact Y 0 _ (fun t => absurd (la.mpr t.1) (by omega)) (fun _ => rfl) fin
    · refine br_t rfl (uy_isLink hn y1 (nI q) ?_ ?_)
      · intro _ _ _ _
        refine br_f (by decide) (uy_correct hn y1 y2 y3 N hpc (fun z => absurd (wok.mpr z) w) (fun _ yg' => br_t rfl ⟨rfl, ?_⟩))
        exact re_mk hI hV x1 x2 x3 x4 (ux_R_fr x5 fr) y1 y2 y3 y4
      · intro h
        exact absurd hl (h q hq rfl)
  · intro h
    refine br_t rfl (uy_isLink hn y1 v1 ?_ ?_)
    · intro i hi e hl
      exact absurd hl (h i hi e)
    · intro _
      exact br_t rfl ⟨rfl, re_mk hI hV x1 x2 x3 x4 x5 y1 y2 y3 y4⟩
theorem i_vc_rule {k : Nat} {u : SX} {v : SY} (I : i_Rel k u v) (hk : k + 4 ≤ 2050) (v1 : Int32) : wpX_rule (fun r u' => wpY_rule (fun r' v' => r' = r ∧ i_Rel (k + 4) u' v') v v1) u v1 := by
  refine re_el (P := fun u v => wpX_rule (fun r u' => wpY_rule (fun r' v' => r' = r ∧ i_Rel (k + 4) u' v') v v1) u v1) I ?_
  intro n lim nx K A B D c f0 f1 f5 ck cf cs ct cp co sA sB yk yl yr yw yg ys hI hV x1 x2 x3 x4 x5 y1 y2 y3 y4
  have hn : n ≤ 24 := hI.1.2.1
  have N := pn_IN_N hI
  have hpc : pn_pc K n ≤ 6 := Nat.le_trans hI.2.2.2.2.2.2 hI.1.2.2.2.1
  obtain ⟨m, hm⟩ := pn_m_ex n K A B (-1)
  have wok := pn_wok hn N hm
  have lks := pn_links hn (fun j => (hI.2.1 j).1)
  have lt := dr_n_top (pn_lk n K) 24
  -- the reference's counts
  have C : ∀ post : Int32 → SY → Prop, ((v1 < 0 → post (-1) (nI n, nI lim, yk, yl, yr, yw, yg, ys)) ∧ (¬ v1 < 0 → ((nI (dr_n (pn_lk n K) 24) ≤ v1 → post (-1) (nI n, nI lim, yk, yl, yr, yw, yg, ys)) ∧ (¬ nI (dr_n (pn_lk n K) 24) ≤ v1 →
      wpY_correct (fun r_40 u => match u with
        | (a0, a1, a2, a3, a4, a5, a6, a7) => (r_40 = 0 → post (-1) (a0, a1, a2, a3, a4, a5, a6, a7)) ∧ (¬ r_40 = 0 → wpY_fresh (fun u => match u with
          | (b0, b1, b2, b3, b4, b5, b6, b7) => ∃ n53, wY_rule_53 post v1 n53 (-1) 0 b0 b1 b2 b3 b4 b5 b6 b7) (a0, a1, a2, a3, a4, a5, a6, a7) 24)) (nI n, nI lim, yk, yl, yr, yw, yg, ys))))) →
      wpY_rule post (nI n, nI lim, yk, yl, yr, yw, yg, ys) v1 := by
    intro post h
    unfold wpY_rule
    refine uy_count hn y1 1 (by omega) (uy_count hn y1 3 (by omega) (uy_count hn y1 4 (by omega) (uy_count hn y1 5 (by omega) ?_)))
    refine nm_r (e' := nI (dr_n (pn_lk n K) 24)) ?_ h
    rw [nI_add, nI_add, nI_add, lks]
  unfold wpX_rule
  refine br_c (fun z => ?_) (fun z => ?_)
  · exact C _ (br_t z ⟨rfl, re_mk hI hV x1 x2 x3 x4 x5 y1 y2 y3 y4⟩)
  · obtain ⟨q, hq, rfl⟩ := nI_of z
    refine ux_correct hn x1 x2 x3 N hm fun cp' co' fr R ho => ⟨fun w => ?_, fun w => ?_⟩
    · have mu : m = dr_n (pn_lk n K) 24 := pn_use hn N hm w.2
      have fin : ∀ yw' yg', re_fr 24 yw yw' → i_Rel (k + 4) (f0, f1, nI n, nI lim, nI nx, nI m, ck, cf, cs, ct, cp', co', sA, sB) (nI n, nI lim, yk, yl, yr, yw', yg', ys) :=
        fun yw' yg' fr' => re_mk hI hV x1 x2 x3 x4 (ux_R_fr x5 fr) y1 y2 y3 (uy_R_fr y4 fr')
      have m24 := hm.1
      refine br_f (by decide) (pk_le m q (fun e => ?_) (fun e => ?_))
      · refine C _ (br_f z (br_t ?_ ⟨rfl, fin _ _ fun _ _ => rfl⟩))
        rw [← mu]
        exact nI_le e hq
      · refine br_t (nI_lt (b := 24) (by omega) (by decide)) ⟨re_in (by omega), ?_⟩
        rw [nI_clamp (by omega), ho q e]
        refine C _ (br_f z (br_f ?_ ?_))
        · rw [← mu]
          exact nI_ge e (by omega)
        · refine uy_correct hn y1 y2 y3 N hpc (fun _ yg' => br_f (by decide) ?_) (fun z => absurd (wok.mp w) z)
          refine uy_fr (b := 24) (by omega) fun yw' fr' R' => ⟨q + 2, uy_r53 hn y1 y2 y3 N (by omega) (hm.2.1 q e) ?_ (q + 1) 0 (-1) yw' (by omega) R' (fun _ _ => rfl) (fun t => absurd t (by omega))⟩
          intro w' fr2
          exact ⟨rfl, fin _ _ (re_fr_t fr' fr2)⟩
    · have fin : ∀ yg', i_Rel (k + 4) (f0, f1, nI n, nI lim, nI nx, nI m, ck, cf, cs, ct, cp', co', sA, sB) (nI n, nI lim, yk, yl, yr, yw, yg', ys) :=
        fun yg' => re_mk hI hV x1 x2 x3 x4 (ux_R_fr x5 fr) y1 y2 y3 y4
      refine br_t rfl (C _ (br_f z (br_c (fun _ => ⟨rfl, fin _⟩) (fun _ => ?_))))
      exact uy_correct hn y1 y2 y3 N hpc (fun t => absurd (wok.mpr t) w) (fun _ yg' => br_t rfl ⟨rfl, fin _⟩)
end
section
/-! conclusion; clear; the constructors -/
section
variable {n : Nat} {K A B : Nat → Nat} {g1 : Int32} {yk yl yr yw yg ys : Nat → Int32}
theorem uy_taken {post : Int32 → Prop} (hn : n ≤ 24) (hK : re_K K yk) (hA : re_F n K A yl) (hB : re_F n K B yr) (i0 : ∀ j, 3 ≤ K j → K j ≤ 5 → j < n ∧ A j < 24 ∧ B j < 24) {q : Nat} (hq : q < 24)
    (h1 : pn_tk K A B q → post 1) (h0 : ¬ pn_tk K A B q → post 0) : wpY_taken post (nI n, g1, yk, yl, yr, yw, yg, ys) (nI q) := by
  unfold wpY_taken
  dsimp only
  have L : ∀ d i, i + d = n → (∀ j, j < i → 3 ≤ K j → K j ≤ 5 → A j ≠ q ∧ B j ≠ q) → wY_taken_2 post (nI q) (nI n) g1 yk yl yr yw yg ys (d + 1) (nI i) := by
    intro d
    induction d with
    | zero =>
      intro i hi h
      have e : i = n := by omega
      subst e
      refine br_t (nI_le (Nat.le_refl _) (by omega)) (h0 ?_)
      rintro ⟨j, j3, j5, z⟩
      have := i0 j j3 j5
      have := h j this.1 j3 j5
      omega
    | succ d ih =>
      intro i hi h
      have nxt : ¬ (3 ≤ K i ∧ K i ≤ 5 ∧ (A i = q ∨ B i = q)) → wY_taken_2 post (nI q) (nI n) g1 yk yl yr yw yg ys (d + 1) (nI (i + 1)) := by
        intro z
        refine ih (i + 1) (by omega) ?_
        intro j hj j3 j5
        by_cases e : j = i
        · subst e
          omega
        · exact h j (by omega) j3 j5
      have ed : 3 ≤ K i → K i ≤ 5 → wY_taken_40 post (wY_taken_2 post (nI q) (nI n) g1 yk yl yr yw yg ys (d + 1)) (nI q) (nI i) (nI n) g1 yk yl yr yw yg ys := by
        intro k3 k5
        have hin : pn_IN n K i := ⟨by omega, by omega, by omega⟩
        have i00 := i0 i k3 k5
        unfold wY_taken_40 wY_taken_45
        rw [nI_clamp (by omega), hA i hin, hB i hin]
        refine br_f (by decide) ⟨re_in (by omega), pk_eq (A i) q (fun e => h1 ⟨i, k3, k5, Or.inl e⟩) (fun e => ⟨re_in (by omega), pk_eq (B i) q (fun e2 => h1 ⟨i, k3, k5, Or.inr e2⟩) (fun e2 => nm_r (nI_1 i) (nxt ?_))⟩)⟩
        omega
      refine br_f (nI_ge (by omega) (by omega)) ⟨re_in (by omega), re_k hK (by omega) 3 (by omega) (fun e => ed (by omega) (by omega)) (fun e3 => ⟨re_in (by omega), re_k hK (by omega) 4 (by omega) (fun e => ed (by omega) (by omega)) (fun e4 => ⟨re_in (by omega), re_k hK (by omega) 5 (by omega) (fun e => ed (by omega) (by omega)) (fun e5 => ?_)⟩)⟩)⟩
      unfold wY_taken_45
      exact br_t rfl (nm_r (nI_1 i) (nxt (by omega)))
  exact ⟨n + 1, L n 0 (by omega) (fun j hj => absurd hj (by omega))⟩
end
theorem pn_i0 {n lim nx : Nat} {K A B : Nat → Nat} {D : Nat → Nat → Prop} (I : pn_I n lim nx K A B D) : ∀ j, 3 ≤ K j → K j ≤ 5 → j < n ∧ A j < 24 ∧ B j < 24 := by
  intro j j3 j5
  have h := (pn_INi I j).mpr (by omega)
  have := I.2.2.2.1 j j3 j5
  have := I.1
  have := h.1
  exact ⟨h.1, by omega, by omega⟩
theorem i_vc_conclusion {k : Nat} {u : SX} {v : SY} (I : i_Rel k u v) (hk : k + 4 ≤ 2050) (v1 : Int32) : wpX_conclusion (fun r => wpY_conclusion (fun r' => r' = r ∧ i_Rel (k + 4) u v) v v1) u v1 := by
  refine re_el (P := fun u v => wpX_conclusion (fun r => wpY_conclusion (fun r' => r' = r ∧ i_Rel (k + 4) u v) v v1) u v1) I ?_
  intro n lim nx K A B D c f0 f1 f5 ck cf cs ct cp co sA sB yk yl yr yw yg ys hI hV x1 x2 x3 x4 x5 y1 y2 y3 y4
  have hn : n ≤ 24 := hI.1.2.1
  have fin : ∀ k, i_Rel k (f0, f1, nI n, nI lim, nI nx, f5, ck, cf, cs, ct, cp, co, sA, sB) (nI n, nI lim, yk, yl, yr, yw, yg, ys) := fun k => re_mk hI hV x1 x2 x3 x4 x5 y1 y2 y3 y4
  have L : ∀ d i x, i + d = n → x ≤ i → ∃ r, (v1 < 0 → r = -1) ∧ (∀ post : Int32 → Prop, post r → wX_conclusion_10 post v1 f0 f1 (nI n) (nI lim) (nI nx) f5 ck cf cs ct cp co sA sB (d + 1) (nI x) (nI i)) ∧ (∀ post : Int32 → Prop, post r → wY_conclusion_4 post v1 (nI n) (nI lim) yk yl yr yw yg ys (d + 1) (nI x) (nI i)) := by
    intro d
    induction d with
    | zero =>
      intro i x hi hx
      have e : i = n := by omega
      subst e
      exact ⟨-1, fun _ => rfl, fun post hp => br_t (nI_le (Nat.le_refl _) (by omega)) hp, fun post hp => br_t (nI_le (Nat.le_refl _) (by omega)) hp⟩
    | succ d ih =>
      intro i x hi hx
      have g : ¬ nI n ≤ nI i := nI_ge (by omega) (by omega)
      have un : ∀ j, j < n → nI i = nI j → j = i := fun j hj e => ((nI_eq (by omega) (by omega)).mp e).symm
      have cl : (nI i).toNatClampNeg = i := nI_clamp (by omega)
      by_cases hf : pn_IN n K i ∧ K i ≠ 5
      · have kk := (pn_INi hI i).mp hf.1
        have tk := x4.2 i kk.1 (by omega)
        rcases tk with ⟨t0, nt⟩ | ⟨t1, yt⟩
        · by_cases ev : nI x = v1
          · refine ⟨nI i, fun z => absurd (ev ▸ z) (nI_pos (by omega)), fun post hp => ?_, fun post hp => ?_⟩
            · refine br_f g (ux_isFormula hn x1 (nI i) ?_ ?_)
              · intro j hj ej _ _
                refine br_f (by decide) ⟨re_in (by omega), ?_⟩
                rw [cl, t0]
                exact br_t rfl (br_t ev hp)
              · intro h
                exact absurd hf (h i (by omega) rfl)
            · refine br_f g (uy_isFormula hn y1 (nI i) ?_ ?_)
              · intro j hj ej _ _
                exact br_f (by decide) (uy_taken hn y1 y2 y3 (pn_i0 hI) (by omega) (fun z => absurd z nt) (fun _ => br_t rfl (br_t ev hp)))
              · intro h
                exact absurd hf (h i (by omega) rfl)
          · obtain ⟨r, r0, hX, hY⟩ := ih (i + 1) (x + 1) (by omega) (by omega)
            refine ⟨r, r0, fun post hp => ?_, fun post hp => ?_⟩
            · refine br_f g (ux_isFormula hn x1 (nI i) ?_ ?_)
              · intro j hj ej _ _
                refine br_f (by decide) ⟨re_in (by omega), ?_⟩
                rw [cl, t0]
                exact br_t rfl (br_f ev (nm_r (nI_1 x) (nm_r (nI_1 i) (hX post hp))))
              · intro h
                exact absurd hf (h i (by omega) rfl)
            · refine br_f g (uy_isFormula hn y1 (nI i) ?_ ?_)
              · intro j hj ej _ _
                exact br_f (by decide) (uy_taken hn y1 y2 y3 (pn_i0 hI) (by omega) (fun z => absurd z nt) (fun _ => br_t rfl (br_f ev (nm_r (nI_1 x) (nm_r (nI_1 i) (hY post hp))))))
              · intro h
                exact absurd hf (h i (by omega) rfl)
        · obtain ⟨r, r0, hX, hY⟩ := ih (i + 1) x (by omega) (by omega)
          refine ⟨r, r0, fun post hp => ?_, fun post hp => ?_⟩
          · refine br_f g (ux_isFormula hn x1 (nI i) ?_ ?_)
            · intro j hj ej _ _
              refine br_f (by decide) ⟨re_in (by omega), ?_⟩
              rw [cl, t1]
              exact br_f (by decide) (nm_r (nI_1 i) (hX post hp))
            · intro h
              exact absurd hf (h i (by omega) rfl)
          · refine br_f g (uy_isFormula hn y1 (nI i) ?_ ?_)
            · intro j hj ej _ _
              exact br_f (by decide) (uy_taken hn y1 y2 y3 (pn_i0 hI) (by omega) (fun _ => br_f (by decide) (nm_r (nI_1 i) (hY post hp))) (fun z => absurd yt z))
            · intro h
              exact absurd hf (h i (by omega) rfl)
      · obtain ⟨r, r0, hX, hY⟩ := ih (i + 1) x (by omega) (by omega)
        refine ⟨r, r0, fun post hp => ?_, fun post hp => ?_⟩
        · refine br_f g (ux_isFormula hn x1 (nI i) ?_ ?_)
          · intro j hj ej h1 h2
            have := un j hj ej
            subst this
            exact absurd ⟨h1, h2⟩ hf
          · intro _
            exact br_t rfl (nm_r (nI_1 i) (hX post hp))
        · refine br_f g (uy_isFormula hn y1 (nI i) ?_ ?_)
          · intro j hj ej h1 h2
            have := un j hj ej
            subst this
            exact absurd ⟨h1, h2⟩ hf
          · intro _
            exact br_t rfl (nm_r (nI_1 i) (hY post hp))
  obtain ⟨r, r0, hX, hY⟩ := L n 0 0 (by omega) (by omega)
  unfold wpX_conclusion wpY_conclusion
  refine br_c (fun z => ⟨n + 1, hX _ ⟨n + 1, hY _ ⟨rfl, fin _⟩⟩⟩) (fun z => ⟨n + 1, hY _ ⟨r0 (Int32.not_le.mp z), fin _⟩⟩)
theorem ux_clear {post : SX → Prop} {f0 f1 f2 f3 f4 f5 : Int32} {ck cf cs ct cp co sA sB : Nat → Int32}
    (hp : ∀ ck' cf' cs' ct' cp', (∀ j, j < 24 → ck' j = 0) → (∀ j, 24 ≤ j → ck' j = ck j) → (∀ j, j < 24 → ct' j = 0) → ux_R 0 (fun _ => 24) cp' → post (f0, f1, f2, f3, 0, 0, ck', cf', cs', ct', cp', co, sA, sB)) :
    wpX_clear post (f0, f1, f2, f3, f4, f5, ck, cf, cs, ct, cp, co, sA, sB) := by
  unfold wpX_clear
  dsimp only
  have L : ∀ d i (k1 e1 e2 t1 : Nat → Int32), i + d = 24 → (∀ j, j < i → k1 j = 0) → (∀ j, 24 ≤ j → k1 j = ck j) → (∀ j, j < i → t1 j = 0) → wX_clear_2 post f0 f1 f2 f3 f4 f5 (d + 1) (nI i) k1 e1 e2 t1 cp co sA sB := by
    intro d
    induction d with
    | zero =>
      intro i k1 e1 e2 t1 hi h1 h2 h3
      have e : i = 24 := by omega
      subst e
      refine br_t (nI_le (a := 24) (b := 24) (Nat.le_refl _) (by decide)) (ux_un (b := 0) (by omega) fun cp' _ R => ?_)
      exact hp k1 e1 e2 t1 cp' h1 h2 h3 R
    | succ d ih =>
      intro i k1 e1 e2 t1 hi h1 h2 h3
      have v := re_in (j := i) (by omega)
      refine br_f (nI_ge (b := 24) (by omega) (by decide)) ?_
      rw [nI_clamp (by omega)]
      refine ⟨v, nm_e ⟨v, nm_e ⟨v, nm_e ⟨v, nm_e (nm_r (nI_1 i) (ih (i + 1) _ _ _ _ (by omega) ?_ ?_ ?_))⟩⟩⟩⟩
      · intro j hj
        by_cases e : j = i
        · rw [e]; exact pk_us
        · rw [pk_un e]; exact h1 j (by omega)
      · intro j hj
        rw [pk_un (by omega)]; exact h2 j hj
      · intro j hj
        by_cases e : j = i
        · rw [e, pk_us]; rfl
        · rw [pk_un e]; exact h3 j (by omega)
  exact ⟨25, L 24 0 ck cf cs ct (by omega) (fun j hj => absurd hj (by omega)) (fun _ _ => rfl) (fun j hj => absurd hj (by omega))⟩
theorem uy_clear {post : SY → Prop} {g0 g1 : Int32} {yk yl yr yw yg ys : Nat → Int32}
    (hp : ∀ yk' yw', (∀ j, j < 24 → yk' j = 0) → (∀ j, 24 ≤ j → yk' j = yk j) → uy_R 0 (fun _ => 24) yw' → post (g0, g1, yk', yl, yr, yw', yg, ys)) :
    wpY_clear post (g0, g1, yk, yl, yr, yw, yg, ys) := by
  unfold wpY_clear
  dsimp only
  have L : ∀ d i (k1 : Nat → Int32), i + d = 24 → (∀ j, j < i → k1 j = 0) → (∀ j, 24 ≤ j → k1 j = yk j) → wY_clear_2 post g0 g1 (d + 1) (nI i) k1 yl yr yw yg ys := by
    intro d
    induction d with
    | zero =>
      intro i k1 hi h1 h2
      have e : i = 24 := by omega
      subst e
      refine br_t (nI_le (a := 24) (b := 24) (Nat.le_refl _) (by decide)) (uy_fr (b := 0) (by omega) fun yw' _ R => ?_)
      exact hp k1 yw' h1 h2 R
    | succ d ih =>
      intro i k1 hi h1 h2
      have v := re_in (j := i) (by omega)
      refine br_f (nI_ge (b := 24) (by omega) (by decide)) ?_
      rw [nI_clamp (by omega)]
      refine ⟨v, nm_e (nm_r (nI_1 i) (ih (i + 1) _ (by omega) ?_ ?_))⟩
      · intro j hj
        by_cases e : j = i
        · rw [e]; exact pk_us
        · rw [pk_un e]; exact h1 j (by omega)
      · intro j hj
        rw [pk_un (by omega)]; exact h2 j hj
  exact ⟨25, L 24 0 yk (by omega) (fun j hj => absurd hj (by omega)) (fun _ _ => rfl)⟩
theorem dr_n_zero {P : Nat → Prop} : ∀ n, (∀ j, j < n → ¬ P j) → dr_n P n = 0 := by
  intro n
  induction n with
  | zero => intro _; rfl
  | succ n ih =>
    intro h
    show dr_n P n + dr_b (P n) = 0
    rw [ih fun j hj => h j (by omega), dr_b0 (h n (by omega))]
theorem re_empty {k n lim : Nat} (h8 : 8 ≤ n) (h24 : n ≤ 24) (h1 : 1 ≤ lim) (h6 : lim ≤ 6) {f0 f1 f5 : Int32} {ck cf cs ct cp co sA sB yk yl yr yw yg ys : Nat → Int32} (x1 : ∀ j, ck j = 0) (x4 : ∀ j, j < 24 → ct j = 0) (x5 : ux_R 0 (fun _ => 24) cp) (y1 : ∀ j, yk j = 0) (y4 : uy_R 0 (fun _ => 24) yw) :
    i_Rel k (f0, f1, nI n, nI lim, 0, f5, ck, cf, cs, ct, cp, co, sA, sB) (nI n, nI lim, yk, yl, yr, yw, yg, ys) := by
  obtain ⟨K, hK⟩ : ∃ K : Nat → Nat, ∀ j, K j = 0 := ⟨fun _ => 0, fun _ => rfl⟩
  have nin : ∀ j, ¬ pn_IN n K j := fun j z => z.2.1 (hK j)
  refine re_mk (nx := 0) (K := K) (A := K) (B := K) (D := fun _ _ => False) (c := fun _ => 24) ?_ pn_V0 (fun j => ⟨by rw [hK]; exact x1 j, by rw [hK]; omega⟩) (fun j hj => absurd hj (nin j)) (fun j hj => absurd hj (nin j)) ?_ x5 (fun j => ⟨by rw [hK]; exact y1 j, by rw [hK]; omega⟩) (fun j hj => absurd hj (nin j)) (fun j hj => absurd hj (nin j)) y4
  · refine ⟨⟨h8, h24, h1, h6, by omega⟩, fun j => ?_, fun j => ?_, fun j z => ?_, fun i j z => ?_, ⟨fun j z => ?_, fun p q z => z.elim⟩, ?_⟩
    · rw [hK]; omega
    · rw [hK]; omega
    · rw [hK] at z; omega
    · rw [hK] at z; omega
    · rw [hK] at z; omega
    · unfold pn_pc
      rw [dr_n_zero n fun j _ z => by rw [hK] at z; omega]
      omega
  · refine ⟨fun j _ hj => x4 j hj, fun j z => ?_⟩
    rw [hK] at z
    omega
theorem i_vc_clear {k : Nat} {u : SX} {v : SY} (I : i_Rel k u v) (hk : k + 4 ≤ 2050) : wpX_clear (fun u' => wpY_clear (fun v' => i_Rel (k + 4) u' v') v) u := by
  refine re_el (P := fun u v => wpX_clear (fun u' => wpY_clear (fun v' => i_Rel (k + 4) u' v') v) u) I ?_
  intro n lim nx K A B D c f0 f1 f5 ck cf cs ct cp co sA sB yk yl yr yw yg ys hI hV x1 x2 x3 x4 x5 y1 y2 y3 y4
  have I1 := hI.1
  have hi : ∀ (z z' : Nat → Int32), re_K K z → (∀ j, j < 24 → z' j = 0) → (∀ j, 24 ≤ j → z' j = z j) → ∀ j, z' j = 0 := by
    intro z z' hz a b j
    by_cases e : j < 24
    · exact a j e
    · rw [b j (by omega), (hz j).1, (hI.2.1 j).2.mpr (by omega)]; rfl
  refine ux_clear fun ck' cf' cs' ct' cp' a1 a2 a3 a4 => uy_clear fun yk' yw' b1 b2 b4 => ?_
  exact re_empty I1.1 I1.2.1 I1.2.2.1 I1.2.2.2.1 (hi ck ck' x1 a1 a2) a3 a4 (hi yk yk' y1 b1 b2) b4
theorem re_clg (x : Int32) (lo hi : Nat) (h : lo ≤ hi) (h2 : hi < 2 ^ 31) : ∃ r, lo ≤ r ∧ r ≤ hi ∧ ∀ G : Int32 → Prop, G (nI r) → ((nI lo ≤ x → ((x ≤ nI hi → G x) ∧ (¬ x ≤ nI hi → G (nI hi)))) ∧ (¬ nI lo ≤ x → G (nI lo))) := by
  by_cases a : nI lo ≤ x
  · by_cases b : x ≤ nI hi
    · have c : ¬ x < 0 := by
        intro z
        have := Int32.lt_of_le_of_lt a z
        exact nI_pos (by omega) this
      obtain ⟨j, hj, rfl⟩ := nI_of c
      exact ⟨j, (nI_leI (by omega) hj).mp a, (nI_leI hj h2).mp b, fun G hg => br_t a (br_t b hg)⟩
    · exact ⟨hi, h, Nat.le_refl _, fun G hg => br_t a (br_f b hg)⟩
  · exact ⟨lo, Nat.le_refl _, h, fun G hg => br_f a hg⟩
theorem i_vc0 (k0 : Int32) (k1 : Int32) : wpX_init (fun u => wpY_init (fun v => i_Rel 2 u v) k0 k1) k0 k1 := by
  obtain ⟨n, h8, h24, hn⟩ := re_clg k0 8 24 (by omega) (by omega)
  obtain ⟨lim, h1, h6, hl⟩ := re_clg k1 1 6 (by omega) (by omega)
  have hcn : ∀ (post : Int32 → Prop) (u : SX), post (nI n) → wpX_clamp post u k0 8 24 := fun post _ hp => hn post hp
  have hcl : ∀ (post : Int32 → Prop) (u : SX), post (nI lim) → wpX_clamp post u k1 1 6 := fun post _ hp => hl post hp
  unfold wpX_init
  refine hcn _ _ (hcl _ _ (ux_clear fun ck' cf' cs' ct' cp' a1 a2 a3 a4 => ?_))
  unfold wpY_init
  refine hn (fun z => wY_init_76 _ k1 z 0 0 (fun _ => 0) (fun _ => 0) (fun _ => 0) (fun _ => 0) (fun _ => 0) (fun _ => 0)) ?_
  unfold wY_init_76
  refine hl (fun z => wY_init_101 _ z (nI n) 0 (fun _ => 0) (fun _ => 0) (fun _ => 0) (fun _ => 0) (fun _ => 0) (fun _ => 0)) ?_
  unfold wY_init_101
  refine uy_clear fun yk' yw' b1 b2 b4 => ?_
  have hi : ∀ (z' : Nat → Int32), (∀ j, j < 24 → z' j = 0) → (∀ j, 24 ≤ j → z' j = 0) → ∀ j, z' j = 0 := by
    intro z' a b j
    by_cases e : j < 24
    · exact a j e
    · exact b j (by omega)
  exact re_empty h8 h24 h1 h6 (hi ck' a1 a2) a3 a4 (hi yk' b1 b2) b4
end
section
/-! how the net changes: new cells, reductions -/
def pn_u (f : Nat → Nat) (i v : Nat) : Nat → Nat := fun j => if j = i then v else f j
theorem pn_us {f : Nat → Nat} {i v : Nat} : pn_u f i v i = v := if_pos rfl
theorem pn_un {f : Nat → Nat} {i v j : Nat} (h : j ≠ i) : pn_u f i v j = f j := if_neg h
theorem pn_uc (f : Nat → Nat) (i v j : Nat) : (j = i ∧ pn_u f i v j = v) ∨ (j ≠ i ∧ pn_u f i v j = f j) := by
  by_cases h : j = i
  · exact Or.inl ⟨h, if_pos h⟩
  · exact Or.inr ⟨h, if_neg h⟩
def re_G (P : Nat → Prop) (F : Nat → Nat) (cf : Nat → Int32) : Prop := ∀ j, P j → cf j = nI (F j)
theorem re_G_u {P : Nat → Prop} {F : Nat → Nat} {cf : Nat → Int32} {i v : Nat} (h : re_G (fun j => P j ∧ j ≠ i) F cf) : re_G P (pn_u F i v) (upd cf i (nI v)) := by
  intro j hj
  by_cases e : j = i
  · rw [e, pk_us, pn_us]
  · rw [pk_un e, pn_un e]; exact h j ⟨hj, e⟩
theorem re_K_u {K : Nat → Nat} {ck : Nat → Int32} {i v : Nat} (h : re_K K ck) (hv : v ≤ 6) : re_K (pn_u K i v) (upd ck i (nI v)) := by
  intro j
  by_cases e : j = i
  · rw [e, pk_us, pn_us]; exact ⟨rfl, hv⟩
  · rw [pk_un e, pn_un e]; exact h j
section
variable {n lim nx : Nat} {K A B : Nat → Nat} {D : Nat → Nat → Prop}
/-- two mates -/
theorem pn_I_ax (I : pn_I n lim nx K A B D) (h2 : nx + 2 ≤ n) {v : Nat} (hv : v < 8) :
    pn_I n lim (nx + 2) (pn_u (pn_u K nx 1) (nx + 1) 2) (pn_u (pn_u A nx (nx + 1)) (nx + 1) nx) (pn_u (pn_u B nx v) (nx + 1) v) D := by
  obtain ⟨I0, I1, I2, I3, I4, I5, I6⟩ := I
  have F : ∀ j, (j = nx ∧ pn_u (pn_u K nx 1) (nx + 1) 2 j = 1 ∧ pn_u (pn_u A nx (nx + 1)) (nx + 1) nx j = nx + 1 ∧ pn_u (pn_u B nx v) (nx + 1) v j = v) ∨ (j = nx + 1 ∧ pn_u (pn_u K nx 1) (nx + 1) 2 j = 2 ∧ pn_u (pn_u A nx (nx + 1)) (nx + 1) nx j = nx ∧ pn_u (pn_u B nx v) (nx + 1) v j = v) ∨ (j ≠ nx ∧ j ≠ nx + 1 ∧ pn_u (pn_u K nx 1) (nx + 1) 2 j = K j ∧ pn_u (pn_u A nx (nx + 1)) (nx + 1) nx j = A j ∧ pn_u (pn_u B nx v) (nx + 1) v j = B j) := by
    intro j
    by_cases a : j = nx + 1
    · subst a; exact Or.inr (Or.inl ⟨rfl, pn_us, pn_us, pn_us⟩)
    · by_cases b : j = nx
      · subst b; exact Or.inl ⟨rfl, by rw [pn_un a, pn_us], by rw [pn_un a, pn_us], by rw [pn_un a, pn_us]⟩
      · exact Or.inr (Or.inr ⟨b, a, by rw [pn_un a, pn_un b], by rw [pn_un a, pn_un b], by rw [pn_un a, pn_un b]⟩)
  generalize pn_u (pn_u K nx 1) (nx + 1) 2 = K' at F ⊢
  generalize pn_u (pn_u A nx (nx + 1)) (nx + 1) nx = A' at F ⊢
  generalize pn_u (pn_u B nx v) (nx + 1) v = B' at F ⊢
  have old : ∀ j, K j ≠ 0 → K' j = K j ∧ A' j = A j ∧ B' j = B j := by
    intro j hj
    have := (I1 j).2
    rcases F j with f | f | f <;> omega
  have fn := F nx
  have fn1 := F (nx + 1)
  refine ⟨by omega, fun j => ?_, fun j => ?_, fun j j3 j5 => ?_, fun i j i3 i5 j3 j5 ij => ?_, ⟨fun j hj => ?_, fun p q hd => ?_⟩, ?_⟩
  · have := I1 j
    rcases F j with f | f | f <;> omega
  · rcases F j with ⟨e, f1, f2, f3⟩ | ⟨e, f1, f2, f3⟩ | ⟨e1, e2, f1, f2, f3⟩
    · rw [f1, f2, f3]
      exact ⟨fun _ => by omega, fun z => absurd z (by omega)⟩
    · rw [f1, f2, f3]
      exact ⟨fun z => absurd z (by omega), fun _ => by omega⟩
    · rw [f1, f2, f3]
      constructor
      · intro z
        have h := (I2 j).1 z
        have o := old (A j) (by omega)
        rw [o.1, o.2.1]; exact h
      · intro z
        have h := (I2 j).2 z
        have o := old (A j) (by omega)
        rw [o.1, o.2.1]; exact h
  · rcases F j with f | f | ⟨e1, e2, f1, f2, f3⟩
    · omega
    · omega
    · rw [f1] at j3 j5
      have h := I3 j j3 j5
      rw [f2, f3, (old (A j) (by omega)).1, (old (B j) (by omega)).1]
      exact h
  · rcases F j with f | f | ⟨e1, e2, f1, f2, f3⟩
    · omega
    · omega
    · rcases F i with f | f | ⟨d1, d2, g1, g2, g3⟩
      · omega
      · omega
      · rw [f2, f3, g2, g3]
        exact I4 i j (by omega) (by omega) (by omega) (by omega) ij
  · rcases F j with f | f | ⟨e1, e2, f1, f2, f3⟩
    · omega
    · omega
    · rw [f2, f3]
      exact I5.1 j (by omega)
  · have h := I5.2 p q hd
    have hp : K p ≠ 0 ∧ K q ≠ 0 := by rcases h.1 with z | z | z | z <;> omega
    have op := old p hp.1
    have oq := old q hp.2
    unfold pn_dh at h ⊢
    rw [op.1, op.2.1, op.2.2, oq.1, oq.2.1, oq.2.2]
    exact h
  · refine Nat.le_trans (dr_n_le n fun j _ z => ?_) I6
    rcases F j with f | f | f <;> omega
/-- a join -/
theorem pn_I_jn (I : pn_I n lim nx K A B D) (h2 : nx < n) {k a b : Nat} (k3 : 3 ≤ k) (k5 : k ≤ 5) (ab : a ≠ b) (ka : 1 ≤ K a ∧ K a ≤ 4) (kb : 1 ≤ K b ∧ K b ≤ 4) (ta : ¬ pn_tk K A B a) (tb : ¬ pn_tk K A B b)
    (h4 : k = 4 → pn_pc K n < lim) {D' : Nat → Nat → Prop} (hd : pn_dc K A B D') (hd5 : ∀ j, K j = 5 → D' (A j) (B j)) (h5 : k = 5 → D' a b) :
    pn_I n lim (nx + 1) (pn_u K nx k) (pn_u A nx a) (pn_u B nx b) D' := by
  obtain ⟨I0, I1, I2, I3, I4, I5, I6⟩ := I
  have F : ∀ j, (j = nx ∧ pn_u K nx k j = k ∧ pn_u A nx a j = a ∧ pn_u B nx b j = b) ∨ (j ≠ nx ∧ pn_u K nx k j = K j ∧ pn_u A nx a j = A j ∧ pn_u B nx b j = B j) := by
    intro j
    by_cases e : j = nx
    · subst e; exact Or.inl ⟨rfl, pn_us, pn_us, pn_us⟩
    · exact Or.inr ⟨e, pn_un e, pn_un e, pn_un e⟩
  have pcn : k = 4 → pn_pc (pn_u K nx k) n = pn_pc K n + 1 := by
    intro e
    unfold pn_pc
    refine dr_n_s (z := nx) (by rw [pn_us]; exact e) (by have := I1 nx; omega) n (fun j _ => ?_) h2
    rcases F j with f | f
    · rw [f.2.1]; exact ⟨fun _ => Or.inr f.1, fun _ => e⟩
    · rw [f.2.1]; exact ⟨Or.inl, fun z => z.elim id fun y => absurd y f.1⟩
  generalize pn_u K nx k = K' at F pcn ⊢
  generalize pn_u A nx a = A' at F ⊢
  generalize pn_u B nx b = B' at F ⊢
  have old : ∀ j, K j ≠ 0 → K' j = K j ∧ A' j = A j ∧ B' j = B j := by
    intro j hj
    have := (I1 j).2
    rcases F j with f | f <;> omega
  have an : a < nx := by have := I1 a; omega
  have bn : b < nx := by have := I1 b; omega
  have nta : ∀ i, 3 ≤ K i → K i ≤ 5 → A i ≠ a ∧ B i ≠ a := fun i i3 i5 => ⟨fun z => ta ⟨i, i3, i5, Or.inl z⟩, fun z => ta ⟨i, i3, i5, Or.inr z⟩⟩
  have ntb : ∀ i, 3 ≤ K i → K i ≤ 5 → A i ≠ b ∧ B i ≠ b := fun i i3 i5 => ⟨fun z => tb ⟨i, i3, i5, Or.inl z⟩, fun z => tb ⟨i, i3, i5, Or.inr z⟩⟩
  refine ⟨by omega, fun j => ?_, fun j => ?_, fun j j3 j5 => ?_, fun i j i3 i5 j3 j5 ij => ?_, ⟨fun j hj => ?_, fun p q hd' => ?_⟩, ?_⟩
  · have := I1 j
    rcases F j with f | f <;> omega
  · rcases F j with f | ⟨e1, f1, f2, f3⟩
    · exact ⟨fun z => by omega, fun z => by omega⟩
    · rw [f1, f2, f3]
      constructor
      · intro z
        have h := (I2 j).1 z
        have o := old (A j) (by omega)
        rw [o.1, o.2.1]; exact h
      · intro z
        have h := (I2 j).2 z
        have o := old (A j) (by omega)
        rw [o.1, o.2.1]; exact h
  · rcases F j with ⟨e, f1, f2, f3⟩ | ⟨e1, f1, f2, f3⟩
    · have oa := old a (by omega)
      have ob := old b (by omega)
      rw [f2, f3, oa.1, ob.1, e]
      exact ⟨an, bn, ab, ka.1, ka.2, kb.1, kb.2⟩
    · rw [f1] at j3 j5
      have h := I3 j j3 j5
      rw [f2, f3, (old (A j) (by omega)).1, (old (B j) (by omega)).1]
      exact h
  · rcases F j with ⟨e, f1, f2, f3⟩ | ⟨e1, f1, f2, f3⟩
    · rcases F i with g | ⟨d1, g1, g2, g3⟩
      · omega
      · rw [f2, f3, g2, g3]
        have x := nta i (by omega) (by omega)
        have y := ntb i (by omega) (by omega)
        exact ⟨x.1, y.1, x.2, y.2⟩
    · rcases F i with ⟨d, g1, g2, g3⟩ | ⟨d1, g1, g2, g3⟩
      · rw [f2, f3, g2, g3]
        have x := nta j (by omega) (by omega)
        have y := ntb j (by omega) (by omega)
        exact ⟨Ne.symm x.1, Ne.symm x.2, Ne.symm y.1, Ne.symm y.2⟩
      · rw [f2, f3, g2, g3]
        exact I4 i j (by omega) (by omega) (by omega) (by omega) ij
  · rcases F j with ⟨e, f1, f2, f3⟩ | ⟨e1, f1, f2, f3⟩
    · rw [f2, f3]
      exact h5 (by omega)
    · rw [f2, f3]
      exact hd5 j (by omega)
  · have h := hd p q hd'
    have hp : K p ≠ 0 ∧ K q ≠ 0 := by rcases h.1 with z | z | z | z <;> omega
    have op := old p hp.1
    have oq := old q hp.2
    unfold pn_dh at h ⊢
    rw [op.1, op.2.1, op.2.2, oq.1, oq.2.1, oq.2.2]
    exact h
  · by_cases e : k = 4
    · rw [pcn e]
      have := h4 e
      omega
    · refine Nat.le_trans (dr_n_le n fun j _ z => ?_) I6
      rcases F j with f | f <;> omega
theorem re_T_ax {ct : Nat → Int32} (I : pn_I n lim nx K A B D) (h2 : nx + 2 ≤ n) {v : Nat} (T : re_T nx K A B ct) :
    re_T (nx + 2) (pn_u (pn_u K nx 1) (nx + 1) 2) (pn_u (pn_u A nx (nx + 1)) (nx + 1) nx) (pn_u (pn_u B nx v) (nx + 1) v) ct := by
  have I0 := I.1
  have I1 := I.2.1
  have I3 := I.2.2.2.1
  refine ⟨fun j hj h24 => T.1 j (by omega) h24, fun j j1 j4 => ?_⟩
  have F : ∀ j, ((j = nx ∨ j = nx + 1) ∧ pn_u (pn_u K nx 1) (nx + 1) 2 j ≤ 2) ∨ (j ≠ nx ∧ j ≠ nx + 1 ∧ pn_u (pn_u K nx 1) (nx + 1) 2 j = K j ∧ pn_u (pn_u A nx (nx + 1)) (nx + 1) nx j = A j ∧ pn_u (pn_u B nx v) (nx + 1) v j = B j) := by
    intro j
    by_cases a : j = nx + 1
    · subst a; exact Or.inl ⟨Or.inr rfl, by rw [pn_us]; omega⟩
    · by_cases b : j = nx
      · subst b; exact Or.inl ⟨Or.inl rfl, by rw [pn_un a, pn_us]; omega⟩
      · exact Or.inr ⟨b, a, by rw [pn_un a, pn_un b], by rw [pn_un a, pn_un b], by rw [pn_un a, pn_un b]⟩
  generalize pn_u (pn_u K nx 1) (nx + 1) 2 = K' at F j1 j4 ⊢
  generalize pn_u (pn_u A nx (nx + 1)) (nx + 1) nx = A' at F ⊢
  generalize pn_u (pn_u B nx v) (nx + 1) v = B' at F ⊢
  have tk : pn_tk K' A' B' j ↔ pn_tk K A B j := by
    constructor
    · rintro ⟨i, i3, i5, z⟩
      rcases F i with f | f
      · omega
      · exact ⟨i, by omega, by omega, by omega⟩
    · rintro ⟨i, i3, i5, z⟩
      have := I1 i
      rcases F i with f | f
      · omega
      · exact ⟨i, by omega, by omega, by omega⟩
  rw [tk]
  rcases F j with f | f
  · refine Or.inl ⟨T.1 j (by omega) (by omega), ?_⟩
    rintro ⟨i, i3, i5, z⟩
    have h := I3 i i3 i5
    have := I1 (A i)
    have := I1 (B i)
    omega
  · exact T.2 j (by omega) (by omega)
theorem re_T_jn {ct : Nat → Int32} (I : pn_I n lim nx K A B D) (h2 : nx < n) {k a b : Nat} (k3 : 3 ≤ k) (k5 : k ≤ 5) (ka : 1 ≤ K a ∧ K a ≤ 4) (kb : 1 ≤ K b ∧ K b ≤ 4) (T : re_T nx K A B ct) :
    re_T (nx + 1) (pn_u K nx k) (pn_u A nx a) (pn_u B nx b) (upd (upd ct a 1) b 1) := by
  have I0 := I.1
  have I1 := I.2.1
  have an : a < nx := by have := I1 a; omega
  have bn : b < nx := by have := I1 b; omega
  refine ⟨fun j hj h24 => ?_, fun j j1 j4 => ?_⟩
  · rw [pk_un (by omega), pk_un (by omega)]
    exact T.1 j (by omega) h24
  · have F : ∀ j, (j = nx ∧ pn_u K nx k j = k ∧ pn_u A nx a j = a ∧ pn_u B nx b j = b) ∨ (j ≠ nx ∧ pn_u K nx k j = K j ∧ pn_u A nx a j = A j ∧ pn_u B nx b j = B j) := by
      intro j
      by_cases e : j = nx
      · subst e; exact Or.inl ⟨rfl, pn_us, pn_us, pn_us⟩
      · exact Or.inr ⟨e, pn_un e, pn_un e, pn_un e⟩
    generalize pn_u K nx k = K' at F j1 j4 ⊢
    generalize pn_u A nx a = A' at F ⊢
    generalize pn_u B nx b = B' at F ⊢
    have tk : pn_tk K' A' B' j ↔ pn_tk K A B j ∨ j = a ∨ j = b := by
      constructor
      · rintro ⟨i, i3, i5, z⟩
        rcases F i with f | f
        · omega
        · exact Or.inl ⟨i, by omega, by omega, by omega⟩
      · rintro (⟨i, i3, i5, z⟩ | z)
        · have := I1 i
          rcases F i with f | f
          · omega
          · exact ⟨i, by omega, by omega, by omega⟩
        · have f := F nx
          exact ⟨nx, by omega, by omega, by omega⟩
    rw [tk]
    by_cases jn : j = nx
    · refine Or.inl ⟨by rw [pk_un (by omega), pk_un (by omega)]; exact T.1 j (by omega) (by omega), ?_⟩
      rintro (⟨i, i3, i5, z⟩ | z)
      · have h := I.2.2.2.1 i i3 i5
        have := I1 (A i)
        have := I1 (B i)
        omega
      · omega
    have kj : K j = K' j := by
      rcases F j with f | f <;> omega
    by_cases e : j = a ∨ j = b
    · refine Or.inr ⟨?_, Or.inr e⟩
      by_cases eb : j = b
      · rw [eb, pk_us]
      · rw [pk_un eb, e.resolve_right eb, pk_us]
    · rw [pk_un (by omega), pk_un (by omega)]
      rcases T.2 j (by omega) (by omega) with t | t
      · exact Or.inl ⟨t.1, fun z => z.elim t.2 e⟩
      · exact Or.inr ⟨t.1, Or.inl t.2⟩
end
end
section
/-! cut elimination on the net -/
section
variable {n lim nx : Nat} {K A B : Nat → Nat} {D : Nat → Nat → Prop}
/-- a cut of atoms -/
theorem pn_I_at (I : pn_I n lim nx K A B D) {q : Nat} (hq : K q = 5) (hl : K (A q) = 1 ∨ K (A q) = 2) {K' A' : Nat → Nat}
    (FK : ∀ j, ((j = q ∨ j = A q ∨ j = B q) ∧ K' j = 6) ∨ (j ≠ q ∧ j ≠ A q ∧ j ≠ B q ∧ K' j = K j))
    (FA : ∀ j, (j = A (B q) ∧ A' j = A (A q)) ∨ (j ≠ A (B q) ∧ j = A (A q) ∧ A' j = A (B q)) ∨ (j ≠ A (B q) ∧ j ≠ A (A q) ∧ A' j = A j)) :
    pn_I n lim nx K' A' B (fun s t => D s t ∧ (s ≠ A q ∧ s ≠ B q) ∧ t ≠ A q ∧ t ≠ B q) ∧ ∀ ct, re_T nx K A B ct → re_T nx K' A' B ct := by
  obtain ⟨I0, I1, I2, I3, I4, I5, I6⟩ := I
  have q3 := I3 q (by omega) (by omega)
  have dq := (I5.2 _ _ (I5.1 q hq)).1
  generalize hL : A q = l at *
  generalize hR : B q = r at *
  have kl : (K l = 1 ∧ K r = 2) ∨ (K l = 2 ∧ K r = 1) := by rcases dq with z | z | z | z <;> omega
  have ml := I2 l
  have mr := I2 r
  generalize hX : A l = x at *
  generalize hY : A r = y at *
  have xy : (K x = K r ∧ A x = l) ∧ (K y = K l ∧ A y = r) := by omega
  have jn : ∀ j, 3 ≤ K j → K j ≤ 5 → j ≠ q → A j ≠ l ∧ A j ≠ r ∧ B j ≠ l ∧ B j ≠ r := by
    intro j j3 j5 jq
    have := I4 j q j3 j5 (by omega) (by omega) jq
    rw [hL, hR] at this
    omega
  have KK : ∀ j, j ≠ q → j ≠ l → j ≠ r → K' j = K j := by
    intro j a b c
    rcases FK j with f | f
    · omega
    · exact f.2.2.2
  have KN : ∀ j, K' j ≠ 6 → j ≠ q ∧ j ≠ l ∧ j ≠ r ∧ K' j = K j := by
    intro j h
    rcases FK j with f | f
    · omega
    · exact f
  have AA : ∀ j, 3 ≤ K j → A' j = A j := by
    intro j h
    rcases FA j with ⟨e, _⟩ | ⟨_, e, _⟩ | f
    · subst e; omega
    · subst e; omega
    · exact f.2.2
  have at1 : ∀ j, (K j = 1 ∨ K j = 2) → j ≠ l → j ≠ r → ∃ z, A' j = z ∧ z ≠ l ∧ z ≠ r ∧ A' z = j ∧ K z + K j = 3 := by
    intro j kj jl jr
    have mj := I2 j
    have rr : K l ≠ K r := by omega
    have yx : y ≠ x := by rintro rfl; omega
    rcases FA j with ⟨e, f⟩ | ⟨e1, e, f⟩ | ⟨e1, e2, f⟩
    · -- j = y
      subst e
      refine ⟨x, f, ?_, ?_, ?_, by omega⟩
      · rintro rfl; omega
      · rintro rfl
        exact jl (by rw [← hY, xy.1.2])
      · rcases FA x with g | g | g <;> omega
    · -- j = x
      subst e
      refine ⟨y, f, ?_, ?_, ?_, by omega⟩
      · rintro rfl
        exact jr (by rw [← hX, xy.2.2])
      · rintro rfl; omega
      · rcases FA y with g | g | g <;> omega
    · refine ⟨A j, f, ?_, ?_, ?_, by omega⟩
      · intro z
        rw [z] at mj
        omega
      · intro z
        rw [z] at mj
        omega
      · rcases FA (A j) with ⟨g, _⟩ | ⟨_, g, _⟩ | g
        · rw [g] at mj; omega
        · rw [g] at mj; omega
        · omega
  have tk : ∀ j, j ≠ l → j ≠ r → (pn_tk K' A' B j ↔ pn_tk K A B j) := by
    intro j jl jr
    constructor
    · rintro ⟨i, i3, i5, z⟩
      have ⟨a, b, c, d⟩ := KN i (by omega)
      rw [AA i (by omega)] at z
      exact ⟨i, by omega, by omega, z⟩
    · rintro ⟨i, i3, i5, z⟩
      have iq : i ≠ q := by
        rintro rfl
        omega
      have := KK i iq (by rintro rfl; omega) (by rintro rfl; omega)
      exact ⟨i, by omega, by omega, by rw [AA i i3]; exact z⟩
  refine ⟨⟨I0, fun j => ?_, fun j => ?_, fun j j3 j5 => ?_, fun i j i3 i5 j3 j5 ij => ?_, ⟨fun j hj => ?_, fun s t hd => ?_⟩, ?_⟩, fun ct T => ?_⟩
  · have := I1 j
    rcases FK j with f | f
    · rcases f.1 with e | e | e <;> subst e <;> omega
    · omega
  · have mj := I2 j
    constructor
    · intro z
      have ⟨a, b, c, d⟩ := KN j (by omega)
      obtain ⟨w, w1, w2, w3, w4, w5⟩ := at1 j (by omega) b c
      have wq : w ≠ q := by rintro rfl; omega
      have := KK w wq w2 w3
      rw [w1, w4]
      omega
    · intro z
      have ⟨a, b, c, d⟩ := KN j (by omega)
      obtain ⟨w, w1, w2, w3, w4, w5⟩ := at1 j (by omega) b c
      have wq : w ≠ q := by rintro rfl; omega
      have := KK w wq w2 w3
      rw [w1, w4]
      omega
  · have ⟨a, b, c, d⟩ := KN j (by omega)
    have h := I3 j (by omega) (by omega)
    have g := jn j (by omega) (by omega) a
    rw [AA j (by omega), KK (A j) (by rintro z; rw [z] at h; omega) g.1 g.2.1, KK (B j) (by rintro z; rw [z] at h; omega) g.2.2.1 g.2.2.2]
    exact h
  · have ⟨a, b, c, d⟩ := KN j (by omega)
    have ⟨a', b', c', d'⟩ := KN i (by omega)
    rw [AA j (by omega), AA i (by omega)]
    exact I4 i j (by omega) (by omega) (by omega) (by omega) ij
  · have ⟨a, b, c, d⟩ := KN j (by omega)
    have g := jn j (by omega) (by omega) a
    rw [AA j (by omega)]
    exact ⟨I5.1 j (by omega), ⟨g.1, g.2.1⟩, g.2.2.1, g.2.2.2⟩
  · obtain ⟨d0, d1, d2⟩ := hd
    have h := I5.2 s t d0
    have ks : K' s = K s := KK s (by rintro rfl; rcases h.1 with z | z | z | z <;> omega) d1.1 d1.2
    have kt : K' t = K t := KK t (by rintro rfl; rcases h.1 with z | z | z | z <;> omega) d2.1 d2.2
    unfold pn_dh at h ⊢
    rw [ks, kt]
    refine ⟨h.1, fun z => ?_⟩
    have k3 : 3 ≤ K t ∧ K t ≤ 4 ∧ K s ≤ 4 := by rcases h.1 with z | z | z | z <;> omega
    have sq : s ≠ q := by rintro rfl; omega
    have tq : t ≠ q := by rintro rfl; omega
    have gs := jn s (by omega) (by omega) sq
    have gt := jn t (by omega) (by omega) tq
    rw [AA s z, AA t k3.1]
    exact ⟨⟨(h.2 z).1, ⟨gs.1, gs.2.1⟩, gt.1, gt.2.1⟩, ⟨(h.2 z).2, ⟨gs.2.2.1, gs.2.2.2⟩, gt.2.2.1, gt.2.2.2⟩⟩
  · refine Nat.le_trans (dr_n_le n fun j _ z => ?_) I6
    rcases FK j with f | f <;> omega
  · refine ⟨T.1, fun j j1 j4 => ?_⟩
    have ⟨a, b, c, d⟩ := KN j (by omega)
    rw [tk j b c]
    exact T.2 j (by omega) (by omega)
/-- a cut of a pair -/
theorem pn_I_pr (I : pn_I n lim nx K A B D) {q : Nat} (hq : K q = 5) (hl : K (A q) ≠ 1 ∧ K (A q) ≠ 2) {h g : Nat} (hg : (h = A q ∧ g = B q ∨ h = B q ∧ g = A q) ∧ g < h) {K' A' B' : Nat → Nat}
    (FK : ∀ j, (j = h ∧ K' j = 5) ∨ (j = g ∧ K' j = 6) ∨ (j ≠ h ∧ j ≠ g ∧ K' j = K j))
    (FA : ∀ j, (j = h ∧ A' j = B (A q) ∧ B' j = B (B q)) ∨ (j = q ∧ A' j = A (A q) ∧ B' j = A (B q)) ∨ (j ≠ h ∧ j ≠ q ∧ A' j = A j ∧ B' j = B j)) :
    pn_I n lim nx K' A' B' (fun s t => D s t ∧ (s ≠ A q ∧ s ≠ B q) ∧ t ≠ A q ∧ t ≠ B q) ∧ ∀ ct, re_T nx K A B ct → re_T nx K' A' B' ct := by
  obtain ⟨I0, I1, I2, I3, I4, I5, I6⟩ := I
  have q3 := I3 q (by omega) (by omega)
  have dq := I5.2 _ _ (I5.1 q hq)
  have jn : ∀ j, 3 ≤ K j → K j ≤ 5 → j ≠ q → A j ≠ A q ∧ A j ≠ B q ∧ B j ≠ A q ∧ B j ≠ B q := fun j j3 j5 jq => I4 j q j3 j5 (by omega) (by omega) jq
  generalize hL : A q = l at *
  generalize hR : B q = r at *
  have D2 := dq.2 (by rcases dq.1 with z | z | z | z <;> omega)
  have kl : 3 ≤ K l ∧ K l ≤ 4 ∧ 3 ≤ K r ∧ K r ≤ 4 := by
    clear FK FA I1 I2 I3 I4 I6 jn
    rcases dq.1 with z | z | z | z <;> omega
  have cut5 : ∀ s t, D s t → K s ≤ 4 ∧ K t ≤ 4 ∧ (3 ≤ K s → 3 ≤ K t) := by
    intro s t hd
    clear FK FA I1 I2 I3 I4 I6 jn dq hg
    rcases (I5.2 s t hd).1 with z | z | z | z <;> omega
  clear dq
  have lr : l ≠ r := q3.2.2.1
  have l3 := I3 l kl.1 (by omega)
  have r3 := I3 r kl.2.2.1 (by omega)
  have l4 := I4 l r kl.1 (by omega) kl.2.2.1 (by omega) lr
  have lj := jn l kl.1 (by omega) (Nat.ne_of_lt q3.1)
  have rj := jn r kl.2.2.1 (by omega) (Nat.ne_of_lt q3.2.1)
  have in1 : ∀ j, j ≠ l → j ≠ r → j ≠ h ∧ j ≠ g := by
    intro j a b
    rcases hg.1 with ⟨e1, e2⟩ | ⟨e1, e2⟩ <;> rw [e1, e2]
    · exact ⟨a, b⟩
    · exact ⟨b, a⟩
  have in2 : ∀ j, j ≠ h → j ≠ g → j ≠ l ∧ j ≠ r := by
    intro j a b
    rcases hg.1 with ⟨e1, e2⟩ | ⟨e1, e2⟩ <;> rw [e1] at a <;> rw [e2] at b
    · exact ⟨a, b⟩
    · exact ⟨b, a⟩
  have hge : l ≤ h ∧ r ≤ h ∧ h < q ∧ g < h ∧ 3 ≤ K h ∧ K h ≤ 4 ∧ 3 ≤ K g ∧ K g ≤ 4 := by
    have gh := hg.2
    rcases hg.1 with ⟨e1, e2⟩ | ⟨e1, e2⟩ <;> subst e1 <;> subst e2 <;> omega
  clear hg
  have hq' : h ≠ q ∧ g ≠ q := by omega
  have KK : ∀ j, j ≠ l → j ≠ r → K' j = K j := by
    intro j a b
    have i := in1 j a b
    rcases FK j with f | f | f
    · exact absurd f.1 i.1
    · exact absurd f.1 i.2
    · exact f.2.2
  have AA : ∀ j, j ≠ l → j ≠ r → j ≠ q → A' j = A j ∧ B' j = B j := by
    intro j a b c
    have i := in1 j a b
    rcases FA j with f | f | f
    · exact absurd f.1 i.1
    · exact absurd f.1 c
    · exact f.2.2
  have fh : A' h = B l ∧ B' h = B r := by
    rcases FA h with f | f | f
    · exact f.2
    · exact absurd f.1 hq'.1
    · exact absurd rfl f.1
  have fq : A' q = A l ∧ B' q = A r := by
    rcases FA q with f | f | f
    · exact absurd f.1.symm hq'.1
    · exact f.2
    · exact absurd rfl f.2.1
  have kh : K' h = 5 := by
    rcases FK h with f | f | f
    · exact f.2
    · omega
    · exact absurd rfl f.1
  have kg : K' g = 6 := by
    rcases FK g with f | f | f
    · omega
    · exact f.2
    · exact absurd rfl f.2.1
  have kq : K' q = 5 := by rw [KK q (by omega) (by omega)]; exact hq
  have CK : ∀ j, (j = h ∧ K' j = 5) ∨ (j = g ∧ K' j = 6) ∨ (j ≠ l ∧ j ≠ r ∧ K' j = K j) := by
    intro j
    rcases FK j with f | f | f
    · exact Or.inl f
    · exact Or.inr (Or.inl f)
    · have i := in2 j f.1 f.2.1
      exact Or.inr (Or.inr ⟨i.1, i.2, f.2.2⟩)
  clear FK FA
  -- the joins of the new net
  have JN : ∀ j, 3 ≤ K' j → K' j ≤ 5 → (j = q ∧ A' j = A l ∧ B' j = A r) ∨ (j = h ∧ A' j = B l ∧ B' j = B r) ∨ (j ≠ q ∧ j ≠ l ∧ j ≠ r ∧ 3 ≤ K j ∧ K j ≤ 5 ∧ A' j = A j ∧ B' j = B j) := by
    intro j j3 j5
    by_cases e : j = q
    · subst e; exact Or.inl ⟨rfl, fq.1, fq.2⟩
    · by_cases e2 : j = h
      · subst e2; exact Or.inr (Or.inl ⟨rfl, fh.1, fh.2⟩)
      · have jg : j ≠ g := by rintro rfl; omega
        have i := in2 j e2 jg
        have a := KK j i.1 i.2
        have b := AA j i.1 i.2 e
        exact Or.inr (Or.inr ⟨e, i.1, i.2, by omega, by omega, b.1, b.2⟩)
  have pm : ∀ z, z ≠ l → z ≠ r → 1 ≤ K z ∧ K z ≤ 4 → 1 ≤ K' z ∧ K' z ≤ 4 := by
    intro z a b c
    rw [KK z a b]; exact c
  refine ⟨⟨I0, fun j => ?_, fun j => ?_, fun j j3 j5 => ?_, fun i j i3 i5 j3 j5 ij => ?_, ⟨fun j hj => ?_, fun s t hd => ?_⟩, ?_⟩, fun ct T => ?_⟩
  · have := I1 j
    rcases CK j with ⟨rfl, f⟩ | ⟨rfl, f⟩ | f <;> omega
  · have mj := I2 j
    have key : K' j = 1 ∨ K' j = 2 → K' j = K j ∧ A' j = A j ∧ B' j = B j := by
      intro z
      have jl : j ≠ l ∧ j ≠ r := by rcases CK j with f | f | f <;> omega
      have a := KK j jl.1 jl.2
      exact ⟨a, AA j jl.1 jl.2 (by rintro rfl; omega)⟩
    have key2 : K' j = 1 ∨ K' j = 2 → K' (A j) = K (A j) ∧ A' (A j) = A (A j) := by
      intro z
      have k := key z
      have nl : A j ≠ l := by intro e; rw [e] at mj; omega
      have nr : A j ≠ r := by intro e; rw [e] at mj; omega
      have nq : A j ≠ q := by intro e; rw [e] at mj; omega
      exact ⟨KK _ nl nr, (AA _ nl nr nq).1⟩
    constructor
    · intro z
      have k := key (Or.inl z)
      have k2 := key2 (Or.inl z)
      rw [k.2.1, k.2.2, k2.1, k2.2]
      exact mj.1 (by omega)
    · intro z
      have k := key (Or.inr z)
      have k2 := key2 (Or.inr z)
      rw [k.2.1, k.2.2, k2.1, k2.2]
      exact mj.2 (by omega)
  · rcases JN j j3 j5 with ⟨e, e1, e2⟩ | ⟨e, e1, e2⟩ | ⟨n1, n2, n3, n4, n5, e1, e2⟩
    · rw [e1, e2]
      have p1 := pm (A l) (by omega) (by omega) (by omega)
      have p2 := pm (A r) (by omega) (by omega) (by omega)
      omega
    · rw [e1, e2]
      have p1 := pm (B l) (by omega) (by omega) (by omega)
      have p2 := pm (B r) (by omega) (by omega) (by omega)
      omega
    · rw [e1, e2]
      have j0 := I3 j n4 n5
      have j1 := jn j n4 n5 n1
      have p1 := pm (A j) (by omega) (by omega) (by omega)
      have p2 := pm (B j) (by omega) (by omega) (by omega)
      omega
  · have L : ∀ j, 3 ≤ K j → K j ≤ 5 → j ≠ l → j ≠ r → (A l ≠ A j ∧ A l ≠ B j ∧ B l ≠ A j ∧ B l ≠ B j) ∧ A r ≠ A j ∧ A r ≠ B j ∧ B r ≠ A j ∧ B r ≠ B j := fun j j3 j5 a b => ⟨I4 l j (by omega) (by omega) j3 j5 (Ne.symm a), I4 r j (by omega) (by omega) j3 j5 (Ne.symm b)⟩
    rcases JN i i3 i5 with ⟨e, e1, e2⟩ | ⟨e, e1, e2⟩ | ⟨n1, n2, n3, n4, n5, e1, e2⟩ <;> rcases JN j j3 j5 with ⟨e', e1', e2'⟩ | ⟨e', e1', e2'⟩ | ⟨n1', n2', n3', n4', n5', e1', e2'⟩ <;> rw [e1, e2, e1', e2']
    · omega
    · omega
    · have := L j n4' n5' n2' n3'; omega
    · omega
    · omega
    · have := L j n4' n5' n2' n3'; omega
    · have := L i n4 n5 n2 n3; omega
    · have := L i n4 n5 n2 n3; omega
    · exact I4 i j n4 n5 n4' n5' ij
  · rcases JN j (by omega) (by omega) with ⟨e, e1, e2⟩ | ⟨e, e1, e2⟩ | ⟨n1, n2, n3, n4, n5, e1, e2⟩
    · rw [e1, e2]
      exact ⟨D2.1, ⟨by omega, by omega⟩, by omega, by omega⟩
    · rw [e1, e2]
      exact ⟨D2.2, ⟨by omega, by omega⟩, by omega, by omega⟩
    · rw [e1, e2]
      have j1 := jn j n4 n5 n1
      have kj := KK j n2 n3
      exact ⟨I5.1 j (by omega), ⟨j1.1, j1.2.1⟩, j1.2.2.1, j1.2.2.2⟩
  · obtain ⟨d0, d1, d2⟩ := hd
    have hd := I5.2 s t d0
    have ks := KK s d1.1 d1.2
    have kt := KK t d2.1 d2.2
    have c5 := cut5 s t d0
    have sq : s ≠ q := by rintro rfl; omega
    have tq : t ≠ q := by rintro rfl; omega
    have as := AA s d1.1 d1.2 sq
    have at' := AA t d2.1 d2.2 tq
    unfold pn_dh at hd ⊢
    rw [ks, kt, as.1, as.2, at'.1, at'.2]
    refine ⟨hd.1, fun z => ?_⟩
    have k3 : 3 ≤ K t ∧ K t ≤ 4 ∧ K s ≤ 4 := ⟨c5.2.2 z, c5.2.1, c5.1⟩
    have gs := jn s (by omega) (by omega) sq
    have gt := jn t (by omega) (by omega) tq
    exact ⟨⟨(hd.2 z).1, ⟨gs.1, gs.2.1⟩, gt.1, gt.2.1⟩, ⟨(hd.2 z).2, ⟨gs.2.2.1, gs.2.2.2⟩, gt.2.2.1, gt.2.2.2⟩⟩
  · refine Nat.le_trans (dr_n_le n fun j _ z => ?_) I6
    rcases CK j with f | f | f <;> omega
  · refine ⟨T.1, fun j j1 j4 => ?_⟩
    have jl : j ≠ l ∧ j ≠ r := by rcases CK j with f | f | f <;> omega
    have kj := KK j jl.1 jl.2
    have tk : pn_tk K' A' B' j ↔ pn_tk K A B j := by
      constructor
      · rintro ⟨i, i3, i5, z⟩
        rcases JN i i3 i5 with ⟨e, e1, e2⟩ | ⟨e, e1, e2⟩ | ⟨n1, n2, n3, n4, n5, e1, e2⟩
        · rw [e1, e2] at z
          rcases z with z | z
          · exact ⟨l, by omega, by omega, Or.inl z⟩
          · exact ⟨r, by omega, by omega, Or.inl z⟩
        · rw [e1, e2] at z
          rcases z with z | z
          · exact ⟨l, by omega, by omega, Or.inr z⟩
          · exact ⟨r, by omega, by omega, Or.inr z⟩
        · rw [e1, e2] at z
          exact ⟨i, n4, n5, z⟩
      · rintro ⟨i, i3, i5, z⟩
        by_cases iq : i = q
        · subst iq; omega
        · by_cases il : i = l
          · subst il
            rcases z with z | z
            · exact ⟨q, by omega, by omega, Or.inl (by omega)⟩
            · exact ⟨h, by omega, by omega, Or.inl (by omega)⟩
          · by_cases ir : i = r
            · subst ir
              rcases z with z | z
              · exact ⟨q, by omega, by omega, Or.inr (by omega)⟩
              · exact ⟨h, by omega, by omega, Or.inr (by omega)⟩
            · have a := KK i il ir
              have b := AA i il ir iq
              exact ⟨i, by omega, by omega, by rw [b.1, b.2]; exact z⟩
    rw [tk]
    exact T.2 j (by omega) (by omega)
end
end
section
/-! reduce, step, normalise -/
def pn_hi (A B : Nat → Nat) (q : Nat) : Nat := if A q ≤ B q then B q else A q
def pn_lo (A B : Nat → Nat) (q : Nat) : Nat := if A q ≤ B q then A q else B q
def pn_rK (K A B : Nat → Nat) (q : Nat) : Nat → Nat := if K (A q) = 1 ∨ K (A q) = 2 then pn_u (pn_u (pn_u K q 6) (A q) 6) (B q) 6 else pn_u (pn_u K (pn_hi A B q) 5) (pn_lo A B q) 6
def pn_rA (K A B : Nat → Nat) (q : Nat) : Nat → Nat := if K (A q) = 1 ∨ K (A q) = 2 then pn_u (pn_u A (A (A q)) (A (B q))) (A (B q)) (A (A q)) else pn_u (pn_u A q (A (A q))) (pn_hi A B q) (B (A q))
def pn_rB (K A B : Nat → Nat) (q : Nat) : Nat → Nat := if K (A q) = 1 ∨ K (A q) = 2 then B else pn_u (pn_u B q (A (B q))) (pn_hi A B q) (B (B q))
section
variable {n lim nx : Nat} {K A B : Nat → Nat} {D : Nat → Nat → Prop}
theorem pn_I_red (I : pn_I n lim nx K A B D) {q : Nat} (hq : K q = 5) : ∃ D', pn_I n lim nx (pn_rK K A B q) (pn_rA K A B q) (pn_rB K A B q) D' ∧ ∀ ct, re_T nx K A B ct → re_T nx (pn_rK K A B q) (pn_rA K A B q) (pn_rB K A B q) ct := by
  refine ⟨fun s t => D s t ∧ (s ≠ A q ∧ s ≠ B q) ∧ t ≠ A q ∧ t ≠ B q, ?_⟩
  have q3 := I.2.2.2.1 q (by omega) (by omega)
  by_cases hl : K (A q) = 1 ∨ K (A q) = 2
  · have e1 : pn_rK K A B q = pn_u (pn_u (pn_u K q 6) (A q) 6) (B q) 6 := if_pos hl
    have e2 : pn_rA K A B q = pn_u (pn_u A (A (A q)) (A (B q))) (A (B q)) (A (A q)) := if_pos hl
    have e3 : pn_rB K A B q = B := if_pos hl
    rw [e1, e2, e3]
    refine pn_I_at I hq hl (fun j => ?_) (fun j => ?_)
    · by_cases a : j = B q
      · exact Or.inl ⟨Or.inr (Or.inr a), by rw [a, pn_us]⟩
      · by_cases b : j = A q
        · exact Or.inl ⟨Or.inr (Or.inl b), by rw [pn_un a, b, pn_us]⟩
        · by_cases c : j = q
          · exact Or.inl ⟨Or.inl c, by rw [pn_un a, pn_un b, c, pn_us]⟩
          · exact Or.inr ⟨c, b, a, by rw [pn_un a, pn_un b, pn_un c]⟩
    · by_cases a : j = A (B q)
      · exact Or.inl ⟨a, by rw [a, pn_us]⟩
      · by_cases b : j = A (A q)
        · exact Or.inr (Or.inl ⟨a, b, by rw [pn_un a, b, pn_us]⟩)
        · exact Or.inr (Or.inr ⟨a, b, by rw [pn_un a, pn_un b]⟩)
  · have e1 : pn_rK K A B q = pn_u (pn_u K (pn_hi A B q) 5) (pn_lo A B q) 6 := if_neg hl
    have e2 : pn_rA K A B q = pn_u (pn_u A q (A (A q))) (pn_hi A B q) (B (A q)) := if_neg hl
    have e3 : pn_rB K A B q = pn_u (pn_u B q (A (B q))) (pn_hi A B q) (B (B q)) := if_neg hl
    have hg : (pn_hi A B q = A q ∧ pn_lo A B q = B q ∨ pn_hi A B q = B q ∧ pn_lo A B q = A q) ∧ pn_lo A B q < pn_hi A B q ∧ pn_hi A B q ≠ q := by
      unfold pn_hi pn_lo
      split <;> omega
    rw [e1, e2, e3]
    refine pn_I_pr I hq (by omega) (h := pn_hi A B q) (g := pn_lo A B q) ⟨hg.1, hg.2.1⟩ (fun j => ?_) (fun j => ?_)
    · by_cases a : j = pn_lo A B q
      · exact Or.inr (Or.inl ⟨a, by rw [a, pn_us]⟩)
      · by_cases b : j = pn_hi A B q
        · exact Or.inl ⟨b, by rw [pn_un a, b, pn_us]⟩
        · exact Or.inr (Or.inr ⟨b, a, by rw [pn_un a, pn_un b]⟩)
    · by_cases b : j = pn_hi A B q
      · exact Or.inl ⟨b, by rw [b, pn_us], by rw [b, pn_us]⟩
      · by_cases a : j = q
        · exact Or.inr (Or.inl ⟨a, by rw [pn_un b, a, pn_us], by rw [pn_un b, a, pn_us]⟩)
        · exact Or.inr (Or.inr ⟨b, a, by rw [pn_un b, pn_un a], by rw [pn_un b, pn_un a]⟩)
/-- where the new net has a cell, the old one has it -/
theorem pn_red_IN (I : pn_I n lim nx K A B D) {q : Nat} (hq : K q = 5) (j : Nat) (h : pn_IN n (pn_rK K A B q) j) : pn_IN n K j := by
  have q3 := I.2.2.2.1 q (by omega) (by omega)
  have hlt : ∀ i, (i = q ∨ i = A q ∨ i = B q) → pn_IN n K i := by
    intro i hi
    rw [pn_INi I]
    rcases hi with e | e | e <;> rw [e] <;> omega
  by_cases c : j = q ∨ j = A q ∨ j = B q
  · exact hlt j c
  · have e : pn_rK K A B q j = K j := by
      unfold pn_rK
      split
      · rw [pn_un (by omega), pn_un (by omega), pn_un (by omega)]
      · have a1 : j ≠ pn_lo A B q := by unfold pn_lo; split <;> omega
        have a2 : j ≠ pn_hi A B q := by unfold pn_hi; split <;> omega
        rw [pn_un a1, pn_un a2]
    unfold pn_IN at h ⊢
    rw [e] at h
    exact h
theorem re_sub {P : Nat → Prop} {F : Nat → Nat} {cf : Nat → Int32} (h : re_F n K F cf) (hP : ∀ j, P j → pn_IN n K j) : re_G P F cf := fun j hj => h j (hP j hj)
theorem ux_fill {post : SX → Prop} {f0 f1 f2 f3 f4 f5 : Int32} {ck cf cs ct cp co sA sB : Nat → Int32} {i : Nat} (hi : i < 24) {p1 p2 p3 : Int32}
    (hp : post (f0, f1, f2, f3, f4, f5, upd ck i p1, upd cf i p2, upd cs i p3, ct, cp, co, sA, sB)) : wpX_fill post (f0, f1, f2, f3, f4, f5, ck, cf, cs, ct, cp, co, sA, sB) (nI i) p1 p2 p3 := by
  unfold wpX_fill
  dsimp only
  rw [nI_clamp (by omega)]
  exact ⟨re_in hi, nm_e ⟨re_in hi, nm_e ⟨re_in hi, nm_e hp⟩⟩⟩
theorem ux_reduce {post : SX → Prop} {f0 f1 f2 f3 f4 f5 : Int32} {ck cf cs ct cp co sA sB : Nat → Int32} (I : pn_I n lim nx K A B D) {q : Nat} (hq : K q = 5) (hK : re_K K ck) (hA : re_F n K A cf) (hB : re_F n K B cs)
    (hp : ∀ ck' cf' cs', re_K (pn_rK K A B q) ck' → re_F n (pn_rK K A B q) (pn_rA K A B q) cf' → re_F n (pn_rK K A B q) (pn_rB K A B q) cs' → post (f0, f1, f2, f3, f4, f5, ck', cf', cs', ct, cp, co, sA, sB)) :
    wpX_reduce post (f0, f1, f2, f3, f4, f5, ck, cf, cs, ct, cp, co, sA, sB) (nI q) := by
  have q3 := I.2.2.2.1 q (by omega) (by omega)
  have I0 := I.1
  have iq : pn_IN n K q := (pn_INi I q).mpr (by omega)
  have il : pn_IN n K (A q) := (pn_INi I _).mpr (by omega)
  have ir : pn_IN n K (B q) := (pn_INi I _).mpr (by omega)
  have q24 : q < 24 := by have := iq.1; omega
  have sub := pn_red_IN I hq
  unfold wpX_reduce
  dsimp only
  rw [nI_clamp (by omega), hA q iq, hB q iq]
  refine ⟨re_in q24, nm_e ⟨re_in q24, nm_e (ux_isAtom hK (by omega) (fun hl => br_f (by decide) ?_) (fun h1 h2 => br_t rfl ?_))⟩⟩
  · -- atoms
    have e1 : pn_rK K A B q = pn_u (pn_u (pn_u K q 6) (A q) 6) (B q) 6 := if_pos hl
    have e2 : pn_rA K A B q = pn_u (pn_u A (A (A q)) (A (B q))) (A (B q)) (A (A q)) := if_pos hl
    have e3 : pn_rB K A B q = B := if_pos hl
    have dq := (I.2.2.2.2.2.1.2 _ _ (I.2.2.2.2.2.1.1 q hq)).1
    have kr : K (B q) = 1 ∨ K (B q) = 2 := by rcases dq with z | z | z | z <;> omega
    have ml := I.2.2.1 (A q)
    have mr := I.2.2.1 (B q)
    have x24 : A (A q) < 24 := by have := ((pn_INi I (A (A q))).mpr (by omega)).1; omega
    have y24 : A (B q) < 24 := by have := ((pn_INi I (A (B q))).mpr (by omega)).1; omega
    unfold wpX_reduceAtoms
    dsimp only
    rw [nI_clamp (n := A q) (by omega), nI_clamp (n := B q) (by omega), nI_clamp (n := q) (by omega), hA _ il, hA _ ir]
    refine ⟨re_in (by omega), nm_e ⟨re_in (by omega), nm_e ⟨re_in q24, nm_e ⟨re_in (by omega), nm_e ⟨re_in (by omega), nm_e ⟨re_in x24, ?_⟩⟩⟩⟩⟩⟩
    rw [nI_clamp (n := A (A q)) (by omega), nI_clamp (n := A (B q)) (by omega)]
    refine nm_e ⟨re_in y24, nm_e (hp _ _ _ ?_ ?_ ?_)⟩
    · rw [e1]; exact re_K_u (re_K_u (re_K_u hK (by omega)) (by omega)) (by omega)
    · rw [e2]; exact re_G_u (re_G_u (re_sub hA fun j hj => sub j hj.1.1))
    · rw [e3]; exact re_sub hB sub
  · have hl : ¬ (K (A q) = 1 ∨ K (A q) = 2) := by omega
    have e1 : pn_rK K A B q = pn_u (pn_u K (pn_hi A B q) 5) (pn_lo A B q) 6 := if_neg hl
    have e2 : pn_rA K A B q = pn_u (pn_u A q (A (A q))) (pn_hi A B q) (B (A q)) := if_neg hl
    have e3 : pn_rB K A B q = pn_u (pn_u B q (A (B q))) (pn_hi A B q) (B (B q)) := if_neg hl
    have W : ∀ h g, h < 24 → g < 24 → pn_hi A B q = h → pn_lo A B q = g → wX_reducePair_38 post (nI q) (nI (A q)) (nI (B q)) (nI (B (A q))) (nI (B (B q))) (nI h) (nI g) f0 f1 f2 f3 f4 f5 ck cf cs ct cp co sA sB := by
      intro h g hh gg eh eg
      rw [eh] at e1 e2 e3
      rw [eg] at e1
      unfold wX_reducePair_38
      rw [nI_clamp (n := A q) (by omega), nI_clamp (n := B q) (by omega), nI_clamp (n := q) (by omega), hA _ il]
      refine ⟨re_in (by omega), re_in q24, nm_e ⟨re_in (by omega), re_in q24, ?_⟩⟩
      rw [pk_un (by omega), hA _ ir]
      refine nm_e (ux_fill hh ⟨re_in gg, ?_⟩)
      rw [nI_clamp (by omega)]
      refine nm_e (hp _ _ _ ?_ ?_ ?_)
      · rw [e1]; exact re_K_u (re_K_u hK (by omega)) (by omega)
      · rw [e2]; exact re_G_u (re_G_u (re_sub hA fun j hj => sub j hj.1.1))
      · rw [e3]; exact re_G_u (re_G_u (re_sub hB fun j hj => sub j hj.1.1))
    unfold wpX_reducePair
    dsimp only
    rw [nI_clamp (n := A q) (by omega), nI_clamp (n := B q) (by omega), hB _ il, hB _ ir]
    refine ⟨re_in (by omega), nm_e ⟨re_in (by omega), nm_e (pk_le (A q) (B q) (fun z => ?_) (fun z => ?_))⟩⟩
    · unfold wX_reducePair_26
      exact br_t (nI_le z (by omega)) (W _ _ (by omega) (by omega) (if_pos z) (if_pos z))
    · unfold wX_reducePair_26
      exact br_f (nI_ge z (by omega)) (W _ _ (by omega) (by omega) (if_neg (by omega)) (if_neg (by omega)))
theorem uy_reduce {post : SY → Prop} {g0 g1 : Int32} {yk yl yr yw yg ys : Nat → Int32} (I : pn_I n lim nx K A B D) {q : Nat} (hq : K q = 5) (hK : re_K K yk) (hA : re_F n K A yl) (hB : re_F n K B yr)
    (hp : ∀ yk' yl' yr' yw', re_K (pn_rK K A B q) yk' → re_F n (pn_rK K A B q) (pn_rA K A B q) yl' → re_F n (pn_rK K A B q) (pn_rB K A B q) yr' → uy_R 0 (fun _ => 24) yw' → post (g0, g1, yk', yl', yr', yw', yg, ys)) :
    wpY_reduce post (g0, g1, yk, yl, yr, yw, yg, ys) (nI q) := by
  have q3 := I.2.2.2.1 q (by omega) (by omega)
  have I0 := I.1
  have iq : pn_IN n K q := (pn_INi I q).mpr (by omega)
  have il : pn_IN n K (A q) := (pn_INi I _).mpr (by omega)
  have ir : pn_IN n K (B q) := (pn_INi I _).mpr (by omega)
  have q24 : q < 24 := by have := iq.1; omega
  have sub := pn_red_IN I hq
  have l24 : A q < 24 := by omega
  have r24 : B q < 24 := by omega
  have AT : K (A q) = 1 ∨ K (A q) = 2 → wY_reduce_34 post (nI q) (nI (A q)) (nI (B q)) g0 g1 yk yl yr yw yg ys := by
    intro hl
    have e1 : pn_rK K A B q = pn_u (pn_u (pn_u K q 6) (A q) 6) (B q) 6 := if_pos hl
    have e2 : pn_rA K A B q = pn_u (pn_u A (A (A q)) (A (B q))) (A (B q)) (A (A q)) := if_pos hl
    have e3 : pn_rB K A B q = B := if_pos hl
    have dq := (I.2.2.2.2.2.1.2 _ _ (I.2.2.2.2.2.1.1 q hq)).1
    have kr : K (B q) = 1 ∨ K (B q) = 2 := by rcases dq with z | z | z | z <;> omega
    have ml := I.2.2.1 (A q)
    have mr := I.2.2.1 (B q)
    have x24 : A (A q) < 24 := by have := ((pn_INi I (A (A q))).mpr (by omega)).1; omega
    have y24 : A (B q) < 24 := by have := ((pn_INi I (A (B q))).mpr (by omega)).1; omega
    unfold wY_reduce_34
    rw [nI_clamp (n := A q) (by omega), nI_clamp (n := B q) (by omega), nI_clamp (n := q) (by omega), hA _ il, hA _ ir]
    refine ⟨re_in l24, nm_e ⟨re_in r24, nm_e ⟨re_in q24, nm_e ⟨re_in l24, nm_e ⟨re_in r24, nm_e ⟨re_in x24, ?_⟩⟩⟩⟩⟩⟩
    rw [nI_clamp (n := A (A q)) (by omega), nI_clamp (n := A (B q)) (by omega)]
    refine nm_e ⟨re_in y24, nm_e ?_⟩
    unfold wY_reduce_202
    refine uy_fr (b := 0) (by omega) fun yw' _ R => hp _ _ _ yw' ?_ ?_ ?_ R
    · rw [e1]; exact re_K_u (re_K_u (re_K_u hK (by omega)) (by omega)) (by omega)
    · rw [e2]; exact re_G_u (re_G_u (re_sub hA fun j hj => sub j hj.1.1))
    · rw [e3]; exact re_sub hB sub
  unfold wpY_reduce
  dsimp only
  rw [nI_clamp (by omega), hA q iq, hB q iq]
  refine ⟨re_in q24, nm_e ⟨re_in q24, nm_e ⟨re_in l24, re_k hK l24 1 (by omega) (fun e => AT (Or.inl e)) (fun h1 => ⟨re_in l24, re_k hK l24 2 (by omega) (fun e => AT (Or.inr e)) (fun h2 => ?_)⟩)⟩⟩⟩
  have hl : ¬ (K (A q) = 1 ∨ K (A q) = 2) := by omega
  have e1 : pn_rK K A B q = pn_u (pn_u K (pn_hi A B q) 5) (pn_lo A B q) 6 := if_neg hl
  have e2 : pn_rA K A B q = pn_u (pn_u A q (A (A q))) (pn_hi A B q) (B (A q)) := if_neg hl
  have e3 : pn_rB K A B q = pn_u (pn_u B q (A (B q))) (pn_hi A B q) (B (B q)) := if_neg hl
  have W : ∀ h g, h < 24 → g < 24 → pn_hi A B q = h → pn_lo A B q = g → wY_reduce_149 post (nI q) (nI (A (A q))) (nI (B (A q))) (nI (A (B q))) (nI (B (B q))) (nI h) (nI g) g0 g1 yk yl yr yw yg ys := by
    intro h g hh gg eh eg
    rw [eh] at e1 e2 e3
    rw [eg] at e1
    unfold wY_reduce_149
    rw [nI_clamp (n := h) (by omega), nI_clamp (n := g) (by omega), nI_clamp (n := q) (by omega)]
    refine ⟨re_in q24, nm_e ⟨re_in q24, nm_e ⟨re_in hh, nm_e ⟨re_in hh, nm_e ⟨re_in hh, nm_e ⟨re_in gg, nm_e ?_⟩⟩⟩⟩⟩⟩
    unfold wY_reduce_202
    refine uy_fr (b := 0) (by omega) fun yw' _ R => hp _ _ _ yw' ?_ ?_ ?_ R
    · rw [e1]; exact re_K_u (re_K_u hK (by omega)) (by omega)
    · rw [e2]; exact re_G_u (re_G_u (re_sub hA fun j hj => sub j hj.1.1))
    · rw [e3]; exact re_G_u (re_G_u (re_sub hB fun j hj => sub j hj.1.1))
  rw [nI_clamp (n := A q) (by omega), nI_clamp (n := B q) (by omega), hA _ il, hA _ ir, hB _ il, hB _ ir]
  refine ⟨re_in l24, nm_e ⟨re_in l24, nm_e ⟨re_in r24, nm_e ⟨re_in r24, nm_e (pk_le (A q) (B q) (fun z => ?_) (fun z => ?_))⟩⟩⟩⟩
  · unfold wY_reduce_137
    exact br_t (nI_le z (by omega)) (W _ _ r24 l24 (if_pos z) (if_pos z))
  · unfold wY_reduce_137
    exact br_f (nI_ge z (by omega)) (W _ _ l24 r24 (if_neg (by omega)) (if_neg (by omega)))
end
theorem i_vc_step {k : Nat} {u : SX} {v : SY} (I : i_Rel k u v) (hk : k + 4 ≤ 2050) (v1 : Int32) : wpX_step (fun r u' => wpY_step (fun r' v' => r' = r ∧ i_Rel (k + 4) u' v') v v1) u v1 := by
  refine re_el (P := fun u v => wpX_step (fun r u' => wpY_step (fun r' v' => r' = r ∧ i_Rel (k + 4) u' v') v v1) u v1) I ?_
  intro n lim nx K A B D c f0 f1 f5 ck cf cs ct cp co sA sB yk yl yr yw yg ys hI hV x1 x2 x3 x4 x5 y1 y2 y3 y4
  have hn : n ≤ 24 := hI.1.2.1
  have N := pn_IN_N hI
  have hpc : pn_pc K n ≤ 6 := Nat.le_trans hI.2.2.2.2.2.2 hI.1.2.2.2.1
  obtain ⟨m, hm⟩ := pn_m_ex n K A B (-1)
  have wok := pn_wok hn N hm
  unfold wpX_step wpY_step
  refine ux_inRange hn v1 ?_ ?_
  · rintro q hq rfl
    refine br_f (by decide) ⟨re_in (by omega), re_k x1 (by omega) 5 (by omega) (fun k5 => ?_) (fun k5 => ?_)⟩
    · refine ux_correct hn x1 x2 x3 N hm fun cp' co' fr R ho => ⟨fun w => ?_, fun w => ?_⟩
      · obtain ⟨D', hI', hT'⟩ := pn_I_red hI k5
        refine br_f (by decide) (ux_reduce hI k5 x1 x2 x3 fun ck' cf' cs' a1 a2 a3 => ux_un (b := 0) (by omega) fun cp'' _ R' => ?_)
        refine uy_inside hn (nI q) ?_ ?_
        · intro _ _ _
          refine br_f (by decide) ⟨re_in (by omega), re_k y1 (by omega) 5 (by omega) (fun _ => ?_) (fun z => absurd k5 z)⟩
          refine uy_correct hn y1 y2 y3 N hpc (fun _ yg' => br_f (by decide) ?_) (fun z => absurd (wok.mp w) z)
          refine uy_reduce hI k5 y1 y2 y3 fun yk' yl' yr' yw' b1 b2 b3 b4 => ⟨rfl, ?_⟩
          exact re_mk hI' pn_V0 a1 a2 a3 (hT' ct x4) R' b1 b2 b3 b4
        · intro h
          exact absurd rfl (h q hq)
      · refine br_t rfl (uy_inside hn (nI q) ?_ ?_)
        · intro _ _ _
          refine br_f (by decide) ⟨re_in (by omega), re_k y1 (by omega) 5 (by omega) (fun _ => ?_) (fun z => absurd k5 z)⟩
          refine uy_correct hn y1 y2 y3 N hpc (fun z => absurd (wok.mpr z) w) (fun _ yg' => br_t rfl ⟨rfl, ?_⟩)
          exact re_mk hI hV x1 x2 x3 x4 (ux_R_fr x5 fr) y1 y2 y3 y4
        · intro h
          exact absurd rfl (h q hq)
    · refine uy_inside hn (nI q) ?_ ?_
      · intro _ _ _
        exact br_f (by decide) ⟨re_in (by omega), re_k y1 (by omega) 5 (by omega) (fun z => absurd z k5) (fun _ => ⟨rfl, re_mk hI hV x1 x2 x3 x4 x5 y1 y2 y3 y4⟩)⟩
      · intro h
        exact absurd rfl (h q hq)
  · intro h
    refine br_t rfl (uy_inside hn v1 ?_ ?_)
    · intro i hi e
      exact absurd e (h i hi)
    · intro _
      exact br_t rfl ⟨rfl, re_mk hI hV x1 x2 x3 x4 x5 y1 y2 y3 y4⟩
end
section
/-! normalise; two mates -/
theorem pn_sc (K : Nat → Nat) (n : Nat) : (∀ j, j < n → K j ≠ 5) ∨ ∃ q, q < n ∧ K q = 5 ∧ ∀ j, j < q → K j ≠ 5 := by
  induction n with
  | zero => exact Or.inl fun j hj => absurd hj (by omega)
  | succ n ih =>
    rcases ih with h | ⟨q, a, b, c⟩
    · by_cases e : K n = 5
      · exact Or.inr ⟨n, by omega, e, h⟩
      · refine Or.inl fun j hj => ?_
        by_cases q : j = n
        · rw [q]; exact e
        · exact h j (by omega)
    · exact Or.inr ⟨q, by omega, b, c⟩
theorem ux_sc {n : Nat} {K : Nat → Nat} {f0 f1 f3 f4 f5 : Int32} {ck cf cs ct cp co sA sB : Nat → Int32} {post : Int32 → Prop} (hn : n ≤ 24) (hK : re_K K ck)
    (h0 : (∀ j, j < n → K j ≠ 5) → post (-1)) (h1 : ∀ q, q < n → K q = 5 → (∀ j, j < q → K j ≠ 5) → post (nI q)) :
    wpX_smallestCut post (f0, f1, nI n, f3, f4, f5, ck, cf, cs, ct, cp, co, sA, sB) := by
  unfold wpX_smallestCut
  dsimp only
  have L : ∀ d i, i + d = n → (∀ j, j < i → K j ≠ 5) → wX_smallestCut_2 post f0 f1 (nI n) f3 f4 f5 ck cf cs ct cp co sA sB (d + 1) (nI i) := by
    intro d
    induction d with
    | zero =>
      intro i hi h
      have e : i = n := by omega
      subst e
      exact br_t (nI_le (Nat.le_refl _) (by omega)) (h0 h)
    | succ d ih =>
      intro i hi h
      refine br_f (nI_ge (by omega) (by omega)) ⟨re_in (by omega), re_k hK (by omega) 5 (by omega) (fun e => h1 i (by omega) e h) (fun e => nm_r (nI_1 i) (ih (i + 1) (by omega) fun j hj => ?_))⟩
      by_cases q : j = i
      · rw [q]; exact e
      · exact h j (by omega)
  exact ⟨n + 1, L n 0 (by omega) fun j hj => absurd hj (by omega)⟩
theorem uy_n30 {n : Nat} {K : Nat → Nat} {g1 : Int32} {yk yl yr yw yg ys : Nat → Int32} {post : Int32 → SY → Prop} {J : Int32 → Int32 → Int32 → Int32 → (Nat → Int32) → (Nat → Int32) → (Nat → Int32) → (Nat → Int32) → (Nat → Int32) → (Nat → Int32) → Prop} {a b : Nat} (hn : n ≤ 24) (hK : re_K K yk)
    (h0 : (∀ j, j < n → K j ≠ 5) → post (nI a) (nI n, g1, yk, yl, yr, yw, yg, ys))
    (h1 : ∀ q, q < n → K q = 5 → (∀ j, j < q → K j ≠ 5) → wpY_reduce (fun u => J (nI (a + 1)) (nI (b + 1)) u.1 u.2.1 u.2.2.1 u.2.2.2.1 u.2.2.2.2.1 u.2.2.2.2.2.1 u.2.2.2.2.2.2.1 u.2.2.2.2.2.2.2) (nI n, g1, yk, yl, yr, yw, yg, ys) (nI q)) :
    ∀ i x, i ≤ n → ((x = -1 ∧ ∀ j, i ≤ j → j < n → K j ≠ 5) ∨ ∃ q, x = nI q ∧ i ≤ q ∧ q < n ∧ K q = 5 ∧ ∀ j, i ≤ j → j < q → K j ≠ 5) →
    wY_normalise_30 post J (nI a) (nI b) (nI n) g1 yk yl yr yw yg ys (i + 1) x (nI i + (-1)) := by
  intro i
  induction i with
  | zero =>
    intro x hi h
    refine br_t (by decide) ?_
    rcases h with ⟨rfl, h⟩ | ⟨q, rfl, _, q2, q3, q4⟩
    · exact br_t rfl (h0 fun j hj => h j (by omega) hj)
    · refine br_f (pn_nIm1 (by omega)) ?_
      have := h1 q q2 q3 fun j hj => q4 j (by omega) hj
      rw [← nI_1, ← nI_1] at this
      have e : (fun u : SY => J (nI a + 1) (nI b + 1) u.1 u.2.1 u.2.2.1 u.2.2.2.1 u.2.2.2.2.1 u.2.2.2.2.2.1 u.2.2.2.2.2.2.1 u.2.2.2.2.2.2.2) = (fun u : SY => match u with | (f_cells_16, f_parLimit_17, a_kinds_18, a_left_19, a_right_20, a_where_21, a_group_22, a_stack_23) => ∀ x1_24 : Int32, x1_24 = nI a + 1 → ∀ x2_25 : Int32, x2_25 = nI b + 1 → J x1_24 x2_25 f_cells_16 f_parLimit_17 a_kinds_18 a_left_19 a_right_20 a_where_21 a_group_22 a_stack_23) := by
        funext u
        apply propext
        constructor
        · intro z x1 e1 x2 e2
          rw [e1, e2]; exact z
        · intro z
          exact z _ rfl _ rfl
      rw [e] at this
      exact this
  | succ i ih =>
    intro x hi h
    rw [pk_m1]
    refine br_f (nI_pos (by omega)) ⟨re_in (by omega), re_k hK (by omega) 5 (by omega) (fun e => nm_e (ih (nI i) (by omega) (Or.inr ⟨i, rfl, by omega, by omega, e, fun j a b => absurd b (by omega)⟩))) (fun e => nm_e (ih x (by omega) ?_))⟩
    have st : ∀ j, i ≤ j → i + 1 ≤ j ∨ j = i := fun j hj => by omega
    rcases h with ⟨hx, h⟩ | ⟨q, hx, q1, q2, q3, q4⟩
    · refine Or.inl ⟨hx, fun j a b => ?_⟩
      rcases st j a with z | z
      · exact h j z b
      · rw [z]; exact e
    · refine Or.inr ⟨q, hx, by omega, q2, q3, fun j a b => ?_⟩
      rcases st j a with z | z
      · exact q4 j z b
      · rw [z]; exact e
theorem uy_nb {n : Nat} {K : Nat → Nat} {g1 : Int32} {yk yl yr yw yg ys : Nat → Int32} {post : Int32 → SY → Prop} {d i st : Nat} (h8 : 8 ≤ n) (hn : n ≤ 24) (hK : re_K K yk) (hi : i < 24)
    (h0 : (∀ j, j < n → K j ≠ 5) → post (nI st) (nI n, g1, yk, yl, yr, yw, yg, ys))
    (h1 : ∀ q, q < n → K q = 5 → (∀ j, j < q → K j ≠ 5) → wpY_reduce (fun u => wY_normalise_14 post d (nI (st + 1)) (nI (i + 1)) u.1 u.2.1 u.2.2.1 u.2.2.2.1 u.2.2.2.2.1 u.2.2.2.2.2.1 u.2.2.2.2.2.2.1 u.2.2.2.2.2.2.2) (nI n, g1, yk, yl, yr, yw, yg, ys) (nI q)) :
    wY_normalise_14 post (d + 1) (nI st) (nI i) (nI n) g1 yk yl yr yw yg ys := by
  refine br_f (nI_ge (b := 24) (by omega) (by decide)) (nm_r (e' := nI n + (-1)) ?_ ⟨n + 1, uy_n30 hn hK h0 h1 n (-1) (Nat.le_refl _) (Or.inl ⟨rfl, fun j a b => absurd b (by omega)⟩)⟩)
  obtain ⟨m, rfl⟩ : ∃ m, n = m + 1 := ⟨n - 1, by omega⟩
  rw [pk_m1, nI_pred]
theorem re_norm {n lim nx : Nat} {f0 f1 f3 f4 f5 g1 : Int32} : ∀ d i st (K A B : Nat → Nat) (D : Nat → Nat → Prop), i + d = 24 → 1 ≤ st → st ≤ i → pn_I n lim nx K A B D →
    ∃ (r : Int32) (K' A' B' : Nat → Nat) (D' : Nat → Nat → Prop), pn_I n lim nx K' A' B' D' ∧ (∀ ct, re_T nx K A B ct → re_T nx K' A' B' ct) ∧
      (∀ (post : Int32 → SX → Prop) (ck cf cs cp ct co sA sB : Nat → Int32), re_K K ck → re_F n K A cf → re_F n K B cs → (∀ ck' cf' cs' cp', re_K K' ck' → re_F n K' A' cf' → re_F n K' B' cs' → ux_R 0 (fun _ => 24) cp' → post r (f0, f1, nI n, f3, f4, f5, ck', cf', cs', ct, cp', co, sA, sB)) →
        wX_normalise_14 post (d + 1) (nI st) (nI i) f0 f1 (nI n) f3 f4 f5 ck cf cs ct cp co sA sB) ∧
      (∀ (post : Int32 → SY → Prop) (yk yl yr yw yg ys : Nat → Int32), re_K K yk → re_F n K A yl → re_F n K B yr → uy_R 0 (fun _ => 24) yw → (∀ yk' yl' yr' yw', re_K K' yk' → re_F n K' A' yl' → re_F n K' B' yr' → uy_R 0 (fun _ => 24) yw' → post r (nI n, g1, yk', yl', yr', yw', yg, ys)) →
        wY_normalise_14 post (d + 1) (nI st) (nI i) (nI n) g1 yk yl yr yw yg ys) := by
  intro d
  induction d with
  | zero =>
    intro i st K A B D hi h1 hst hI
    have e : i = 24 := by omega
    subst e
    refine ⟨nI st, K, A, B, D, hI, fun _ h => h, ?_, ?_⟩
    · intro post ck cf cs cp ct co sA sB a1 a2 a3 hp
      refine br_t (nI_le (a := 24) (b := 24) (Nat.le_refl _) (by decide)) ?_
      unfold wX_normalise_46
      exact br_f (nI_nle h1 (by omega)) (ux_un (b := 0) (by omega) fun cp' _ R => hp ck cf cs cp' a1 a2 a3 R)
    · intro post yk yl yr yw yg ys b1 b2 b3 b4 hp
      exact br_t (nI_le (a := 24) (b := 24) (Nat.le_refl _) (by decide)) (hp yk yl yr yw b1 b2 b3 b4)
  | succ d ih =>
    intro i st K A B D hi h1 hst hI
    have hn := hI.1.2.1
    have h8 := hI.1.1
    rcases pn_sc K n with no | ⟨q, q1, q2, q3⟩
    · refine ⟨nI st, K, A, B, D, hI, fun _ h => h, ?_, ?_⟩
      · intro post ck cf cs cp ct co sA sB a1 a2 a3 hp
        refine br_f (nI_ge (b := 24) (by omega) (by decide)) (ux_sc hn a1 (fun _ => br_f (by decide) ?_) (fun q q1 q2 _ => absurd q2 (no q q1)))
        unfold wX_normalise_46
        exact br_f (nI_nle h1 (by omega)) (ux_un (b := 0) (by omega) fun cp' _ R => hp ck cf cs cp' a1 a2 a3 R)
      · intro post yk yl yr yw yg ys b1 b2 b3 b4 hp
        exact uy_nb h8 hn b1 (by omega) (fun _ => hp yk yl yr yw b1 b2 b3 b4) (fun q q1 q2 _ => absurd q2 (no q q1))
    · obtain ⟨D1, hI1, hT1⟩ := pn_I_red hI q2
      obtain ⟨r, K', A', B', D', hI', hT', hX, hY⟩ := ih (i + 1) (st + 1) _ _ _ D1 (by omega) (by omega) (by omega) hI1
      have un : ∀ p, p < n → K p = 5 → (∀ j, j < p → K j ≠ 5) → p = q := by
        intro p p1 p2 p3
        rcases Nat.lt_trichotomy p q with z | z | z
        · exact absurd p2 (q3 p z)
        · exact z
        · exact absurd q2 (p3 q z)
      refine ⟨r, K', A', B', D', hI', fun ct h => hT' ct (hT1 ct h), ?_, ?_⟩
      · intro post ck cf cs cp ct co sA sB a1 a2 a3 hp
        refine br_f (nI_ge (b := 24) (by omega) (by decide)) (ux_sc hn a1 (fun z => absurd q2 (z q q1)) (fun p p1 p2 p3 => ?_))
        rw [un p p1 p2 p3]
        refine br_t (nI_pos' (by omega)) (ux_reduce hI q2 a1 a2 a3 fun ck' cf' cs' c1 c2 c3 => ?_)
        exact nm_r (nI_1 st) (nm_r (nI_1 i) (hX post ck' cf' cs' cp ct co sA sB c1 c2 c3 hp))
      · intro post yk yl yr yw yg ys b1 b2 b3 b4 hp
        refine uy_nb h8 hn b1 (by omega) (fun z => absurd q2 (z q q1)) (fun p p1 p2 p3 => ?_)
        rw [un p p1 p2 p3]
        exact uy_reduce hI q2 b1 b2 b3 fun yk' yl' yr' yw' c1 c2 c3 c4 => hY post yk' yl' yr' yw' yg ys c1 c2 c3 c4 hp
theorem i_vc_normalise {k : Nat} {u : SX} {v : SY} (I : i_Rel k u v) (hk : k + 4 ≤ 2050) : wpX_normalise (fun r u' => wpY_normalise (fun r' v' => r' = r ∧ i_Rel (k + 4) u' v') v) u := by
  refine re_el (P := fun u v => wpX_normalise (fun r u' => wpY_normalise (fun r' v' => r' = r ∧ i_Rel (k + 4) u' v') v) u) I ?_
  intro n lim nx K A B D c f0 f1 f5 ck cf cs ct cp co sA sB yk yl yr yw yg ys hI hV x1 x2 x3 x4 x5 y1 y2 y3 y4
  have hn : n ≤ 24 := hI.1.2.1
  have h8 := hI.1.1
  have N := pn_IN_N hI
  have hpc : pn_pc K n ≤ 6 := Nat.le_trans hI.2.2.2.2.2.2 hI.1.2.2.2.1
  obtain ⟨m, hm⟩ := pn_m_ex n K A B (-1)
  have wok := pn_wok hn N hm
  unfold wpX_normalise wpY_normalise
  refine ux_correct hn x1 x2 x3 N hm fun cp' co' fr R ho => ⟨fun w => ?_, fun w => ?_⟩
  · refine br_f (by decide) ⟨25, ?_⟩
    rcases pn_sc K n with no | ⟨q, q1, q2, q3⟩
    · refine br_f (by decide) (ux_sc hn x1 (fun _ => br_f (by decide) ?_) (fun q q1 q2 _ => absurd q2 (no q q1)))
      unfold wX_normalise_46
      refine br_t (by decide) (uy_correct hn y1 y2 y3 N hpc (fun _ yg' => br_f (by decide) ⟨25, ?_⟩) (fun z => absurd (wok.mp w) z))
      refine uy_nb (st := 0) (i := 0) h8 hn y1 (by omega) (fun _ => ⟨rfl, ?_⟩) (fun q q1 q2 _ => absurd q2 (no q q1))
      exact re_mk hI hV x1 x2 x3 x4 (ux_R_fr x5 fr) y1 y2 y3 y4
    · obtain ⟨D1, hI1, hT1⟩ := pn_I_red hI q2
      have un : ∀ p, p < n → K p = 5 → (∀ j, j < p → K j ≠ 5) → p = q := by
        intro p p1 p2 p3
        rcases Nat.lt_trichotomy p q with z | z | z
        · exact absurd p2 (q3 p z)
        · exact z
        · exact absurd q2 (p3 q z)
      obtain ⟨r, K', A', B', D', hI', hT', hX, hY⟩ := re_norm (f0 := f0) (f1 := f1) (f3 := nI lim) (f4 := nI nx) (f5 := nI m) (g1 := nI lim) 23 1 1 _ _ _ D1 (by omega) (by omega) (by omega) hI1
      refine br_f (by decide) (ux_sc hn x1 (fun z => absurd q2 (z q q1)) (fun p p1 p2 p3 => ?_))
      rw [un p p1 p2 p3]
      refine br_t (nI_pos' (by omega)) (ux_reduce hI q2 x1 x2 x3 fun ck' cf' cs' c1 c2 c3 => ?_)
      refine nm_r (e' := nI 1) rfl (nm_r (e' := nI 1) rfl (hX _ ck' cf' cs' cp' ct co' sA sB c1 c2 c3 fun ck2 cf2 cs2 cp2 d1 d2 d3 d4 => ?_))
      refine uy_correct hn y1 y2 y3 N hpc (fun _ yg' => br_f (by decide) ⟨25, ?_⟩) (fun z => absurd (wok.mp w) z)
      refine uy_nb (st := 0) (i := 0) h8 hn y1 (by omega) (fun z => absurd q2 (z q q1)) (fun p p1 p2 p3 => ?_)
      rw [un p p1 p2 p3]
      refine uy_reduce hI q2 y1 y2 y3 fun yk' yl' yr' yw' e1 e2 e3 e4 => hY _ yk' yl' yr' yw' yg' ys e1 e2 e3 e4 fun yk2 yl2 yr2 yw2 g1 g2 g3 g4 => ⟨rfl, ?_⟩
      exact re_mk hI' pn_V0 d1 d2 d3 (hT' ct (hT1 ct x4)) d4 g1 g2 g3 g4
  · refine br_t rfl (uy_correct hn y1 y2 y3 N hpc (fun z => absurd (wok.mpr z) w) (fun _ yg' => br_t rfl ⟨rfl, ?_⟩))
    exact re_mk hI hV x1 x2 x3 x4 (ux_R_fr x5 fr) y1 y2 y3 y4
theorem pn_empty {n nx : Nat} {K : Nat → Nat} (h1 : pn_i1 nx K) : ∀ d, n = nx + d → dr_n (fun j => K j = 0) n = d := by
  intro d
  induction d generalizing n with
  | zero =>
    intro e
    refine dr_n_zero n fun j hj z => ?_
    have := h1 j
    omega
  | succ d ih =>
    intro e
    have := ih (n := nx + d) rfl
    rw [e]
    show dr_n (fun j => K j = 0) (nx + d) + dr_b (K (nx + d) = 0) = d + 1
    rw [this, dr_b1 ((h1 (nx + d)).2.mpr (by omega))]
theorem i_vc_axiom {k : Nat} {u : SX} {v : SY} (I : i_Rel k u v) (hk : k + 4 ≤ 2050) (v1 : Int32) : wpX_axiom (fun r u' => wpY_axiom (fun r' v' => r' = r ∧ i_Rel (k + 4) u' v') v v1) u v1 := by
  refine re_el (P := fun u v => wpX_axiom (fun r u' => wpY_axiom (fun r' v' => r' = r ∧ i_Rel (k + 4) u' v') v v1) u v1) I ?_
  intro n lim nx K A B D c f0 f1 f5 ck cf cs ct cp co sA sB yk yl yr yw yg ys hI hV x1 x2 x3 x4 x5 y1 y2 y3 y4
  have hn : n ≤ 24 := hI.1.2.1
  have fin : ∀ k, i_Rel k (f0, f1, nI n, nI lim, nI nx, f5, ck, cf, cs, ct, cp, co, sA, sB) (nI n, nI lim, yk, yl, yr, yw, yg, ys) := fun k => re_mk hI hV x1 x2 x3 x4 x5 y1 y2 y3 y4
  have nn : nx ≤ n := hI.1.2.2.2.2
  have em := pn_empty (n := n) hI.2.1 (n - nx) (by omega)
  unfold wpX_axiom wpY_axiom
  refine br_c (fun z => br_t z ⟨rfl, fin _⟩) (fun z => br_c (fun z7 => ?_) (fun z7 => br_f z (br_f z7 ⟨rfl, fin _⟩)))
  obtain ⟨w, hw, rfl⟩ := nI_of2 (M := 7) (n := 7) (by decide) z z7
  rw [pk_sub nn]
  refine pk_le 2 (n - nx) (fun h2 => ?_) (fun h2 => ?_)
  · have e1 : nI nx + 1 = nI (nx + 1) := nI_1 nx
    rw [e1]
    have sub : ∀ j, (pn_IN n (pn_u (pn_u K nx 1) (nx + 1) 2) j ∧ j ≠ nx + 1) ∧ j ≠ nx → pn_IN n K j := by
      rintro j ⟨⟨a, b⟩, c⟩
      unfold pn_IN at a ⊢
      rw [pn_un b, pn_un c] at a
      exact a
    refine ux_fill (by omega) (ux_fill (by omega) (nm_r (e' := nI (nx + 2)) (nI_add nx 2) (ux_un (b := 0) (by omega) fun cp' _ R => ?_)))
    refine br_f z (br_t z7 (uy_count hn y1 0 (by omega) ?_))
    rw [em]
    refine br_t (nI_le (a := 2) h2 (by omega)) (nm_r (e' := nI nx) ?_ ?_)
    · rw [pk_sub (by omega)]
      exact congrArg nI (by omega)
    rw [e1, nI_clamp (n := nx) (by omega), nI_clamp (n := nx + 1) (by omega)]
    have v0 := re_in (j := nx) (by omega)
    have v1 := re_in (j := nx + 1) (by omega)
    refine ⟨v0, nm_e ⟨v0, nm_e ⟨v0, nm_e ⟨v1, nm_e ⟨v1, nm_e ⟨v1, nm_e (uy_fr (b := 0) (by omega) fun yw' _ R' => ⟨rfl, ?_⟩)⟩⟩⟩⟩⟩⟩
    exact re_mk (pn_I_ax hI (by omega) (v := w) (by omega)) pn_V0 (re_K_u (re_K_u x1 (by omega)) (by omega)) (re_G_u (re_G_u (re_sub x2 sub))) (re_G_u (re_G_u (re_sub x3 sub))) (re_T_ax hI (by omega) x4) R (re_K_u (re_K_u y1 (by omega)) (by omega)) (re_G_u (re_G_u (re_sub y2 sub))) (re_G_u (re_G_u (re_sub y3 sub))) R'
  · refine br_f z (br_t z7 (uy_count hn y1 0 (by omega) ?_))
    rw [em]
    exact br_f (nI_ge (b := 2) h2 (by decide)) ⟨rfl, fin _⟩
end
section
/-! spelling a formula -/
def pn_ws (K A B : Nat → Nat) (w : Nat × (Nat → Nat)) : Nat × (Nat → Nat) :=
  if w.1 = 0 then w else if K (w.2 (w.1 - 1)) = 1 ∨ K (w.2 (w.1 - 1)) = 2 then (w.1 - 1, w.2) else (w.1 + 1, pn_u (pn_u w.2 (w.1 - 1) (B (w.2 (w.1 - 1)))) w.1 (A (w.2 (w.1 - 1))))
def pn_wi (K A B : Nat → Nat) (a : Nat) : Nat → Nat × (Nat → Nat)
  | 0 => (1, fun _ => a)
  | i + 1 => pn_ws K A B (pn_wi K A B a i)
/-- the cell that round i looks at -/
def pn_hd (K A B : Nat → Nat) (a i : Nat) : Nat := (pn_wi K A B a i).2 ((pn_wi K A B a i).1 - 1)
def pn_lt (K B : Nat → Nat) (p : Nat) : Nat := if K p = 1 then 97 + B p else if K p = 2 then 65 + B p else if K p = 3 then 42 else 124
def pn_sr (K A B : Nat → Nat) (a : Nat) (k : Int32) : Nat → Nat → Nat
  | 0, _ => 0
  | d + 1, j => if (pn_wi K A B a j).1 = 0 then 0 else if nI j = k then pn_lt K B (pn_hd K A B a j) else pn_sr K A B a k d (j + 1)
section
variable {K A B : Nat → Nat} {a : Nat}
theorem pn_wz {i : Nat} (h : (pn_wi K A B a i).1 = 0) : pn_wi K A B a (i + 1) = pn_wi K A B a i := if_pos h
theorem pn_wa {i : Nat} (h : (pn_wi K A B a i).1 ≠ 0) (k : K (pn_hd K A B a i) = 1 ∨ K (pn_hd K A B a i) = 2) : pn_wi K A B a (i + 1) = ((pn_wi K A B a i).1 - 1, (pn_wi K A B a i).2) := by
  show pn_ws K A B (pn_wi K A B a i) = _
  unfold pn_ws
  rw [if_neg h]
  exact if_pos k
theorem pn_wn {i : Nat} (h : (pn_wi K A B a i).1 ≠ 0) (k : ¬ (K (pn_hd K A B a i) = 1 ∨ K (pn_hd K A B a i) = 2)) :
    pn_wi K A B a (i + 1) = ((pn_wi K A B a i).1 + 1, pn_u (pn_u (pn_wi K A B a i).2 ((pn_wi K A B a i).1 - 1) (B (pn_hd K A B a i))) (pn_wi K A B a i).1 (A (pn_hd K A B a i))) := by
  show pn_ws K A B (pn_wi K A B a i) = _
  unfold pn_ws
  rw [if_neg h]
  exact if_neg k
theorem pn_wf (I3 : pn_i3 K A B) (ka : 1 ≤ K a ∧ K a ≤ 4) : ∀ i, (pn_wi K A B a i).1 ≤ i + 1 ∧ ∀ s, s < (pn_wi K A B a i).1 → 1 ≤ K ((pn_wi K A B a i).2 s) ∧ K ((pn_wi K A B a i).2 s) ≤ 4 := by
  intro i
  induction i with
  | zero => exact ⟨Nat.le_refl _, fun s _ => ka⟩
  | succ i ih =>
    obtain ⟨h1, h2⟩ := ih
    by_cases z : (pn_wi K A B a i).1 = 0
    · rw [pn_wz z]; exact ⟨by omega, h2⟩
    · have kp := h2 ((pn_wi K A B a i).1 - 1) (by omega)
      by_cases k : K (pn_hd K A B a i) = 1 ∨ K (pn_hd K A B a i) = 2
      · rw [pn_wa z k]
        exact ⟨by dsimp only; omega, fun s hs => h2 s (by dsimp only at hs; omega)⟩
      · rw [pn_wn z k]
        have c := I3 (pn_hd K A B a i) (by unfold pn_hd at k ⊢; omega) (by unfold pn_hd; omega)
        refine ⟨by dsimp only; omega, fun s hs => ?_⟩
        dsimp only at hs ⊢
        rcases pn_uc (pn_u (pn_wi K A B a i).2 ((pn_wi K A B a i).1 - 1) (B (pn_hd K A B a i))) (pn_wi K A B a i).1 (A (pn_hd K A B a i)) s with ⟨e, f⟩ | ⟨e, f⟩
        · rw [f]; omega
        · rw [f]
          rcases pn_uc (pn_wi K A B a i).2 ((pn_wi K A B a i).1 - 1) (B (pn_hd K A B a i)) s with ⟨e', f'⟩ | ⟨e', f'⟩
          · rw [f']; omega
          · rw [f']; exact h2 s (by omega)
theorem pn_w0 {i : Nat} (h : (pn_wi K A B a i).1 = 0) : ∀ d, (pn_wi K A B a (i + d)).1 = 0 := by
  intro d
  induction d with
  | zero => exact h
  | succ d ih =>
    show (pn_wi K A B a (i + d + 1)).1 = 0
    rw [pn_wz ih]; exact ih
theorem pn_sr_neg {k : Int32} (h : k < 0) : ∀ d j, j + d ≤ 24 → pn_sr K A B a k d j = 0 := by
  intro d
  induction d with
  | zero => intro j _; rfl
  | succ d ih =>
    intro j hj
    unfold pn_sr
    split
    · rfl
    · rw [if_neg]
      · exact ih (j + 1) (by omega)
      · rintro rfl
        exact nI_pos (by omega) h
theorem pn_sr_at {i : Nat} (hi : i < 24) : ∀ d j, j ≤ i → i < j + d → j + d ≤ 24 → pn_sr K A B a (nI i) d j = if (pn_wi K A B a i).1 = 0 then 0 else pn_lt K B (pn_hd K A B a i) := by
  intro d
  induction d with
  | zero => intro j a b; omega
  | succ d ih =>
    intro j hj h2 h3
    unfold pn_sr
    by_cases z : (pn_wi K A B a j).1 = 0
    · rw [if_pos z]
      have := pn_w0 z (i - j)
      rw [show j + (i - j) = i from by omega] at this
      rw [if_pos this]
    · rw [if_neg z]
      by_cases e : j = i
      · subst e
        rw [if_pos rfl, if_neg z]
      · rw [if_neg (fun w => e ((nI_eq (by omega) (by omega)).mp w))]
        exact ih (j + 1) (by omega) (by omega) (by omega)
theorem re_ch {x b : Nat} (hx : x ≤ 97) (hb : b < 8) : ((nI x + nI b).toUInt32 % 65536).toInt32 = nI (x + b) := by
  rw [nI_add, pk_char, pk_tn (by omega)]
  exact congrArg nI (Nat.mod_eq_of_lt (by omega))
theorem re_nc {x : Nat} (h : x < 65536) : narrow .char (.int (nI x)) = .int (nI x) := (pk_charN h).1
theorem pn_lt_r (I2 : pn_i2 K A B) {p : Nat} (kp : 1 ≤ K p ∧ K p ≤ 4) : pn_lt K B p < 128 := by
  have := I2 p
  unfold pn_lt
  split
  · omega
  · split
    · omega
    · split <;> omega
section
variable {n lim nx : Nat} {D : Nat → Nat → Prop} {f0 f1 f3 f4 f5 g1 : Int32} {ck cf cs ct cp co sA sB yk yl yr yw yg ys : Nat → Int32}
theorem ux_letter {post : Int32 → Prop} {f2 : Int32} (I : pn_I n lim nx K A B D) (hK : re_K K ck) (hB : re_F n K B cs) {p : Nat} (kp : 1 ≤ K p ∧ K p ≤ 4) (hp : post (nI (pn_lt K B p))) :
    wpX_letter post (f0, f1, f2, f3, f4, f5, ck, cf, cs, ct, cp, co, sA, sB) (nI p) := by
  have ip : pn_IN n K p := (pn_INi I p).mpr (by omega)
  have p24 : p < 24 := by have := ip.1; have := I.1; omega
  have m := I.2.2.1 p
  unfold wpX_letter
  dsimp only
  unfold pn_lt at hp
  have e : cs (nI p).toNatClampNeg = nI (B p) := by rw [nI_clamp (by omega)]; exact hB p ip
  rw [e]
  refine ⟨re_in p24, re_k hK p24 1 (by omega) (fun k => ⟨re_in p24, ?_⟩) (fun k => ⟨re_in p24, re_k hK p24 2 (by omega) (fun k2 => ⟨re_in p24, ?_⟩) (fun k2 => ⟨re_in p24, re_k hK p24 3 (by omega) (fun k3 => ?_) (fun k3 => ?_)⟩)⟩)⟩
  · have c : ((97 + nI (B p)).toUInt32 % 65536).toInt32 = nI (97 + B p) := re_ch (x := 97) (by omega) (by omega)
    rw [if_pos k] at hp
    rw [c]
    exact ⟨re_nc (by omega), hp⟩
  · have c : ((65 + nI (B p)).toUInt32 % 65536).toInt32 = nI (65 + B p) := re_ch (x := 65) (by omega) (by omega)
    rw [if_neg k, if_pos k2] at hp
    rw [c]
    exact ⟨re_nc (by omega), hp⟩
  · rw [if_neg k, if_neg k2, if_pos k3] at hp
    exact hp
  · rw [if_neg k, if_neg k2, if_neg k3] at hp
    exact hp
theorem ux_sy {post : Int32 → SX → Prop} (I : pn_I n lim nx K A B D) (hK : re_K K ck) (hA : re_F n K A cf) (hB : re_F n K B cs) (ka : 1 ≤ K a ∧ K a ≤ 4) {k : Int32} :
    ∀ d j (sA : Nat → Int32), j + d = 24 → (∀ s, s < (pn_wi K A B a j).1 → sA s = nI ((pn_wi K A B a j).2 s)) →
    (∀ sA', post (nI (pn_sr K A B a k d j)) (f0, f1, nI n, f3, f4, f5, ck, cf, cs, ct, cp, co, sA', sB)) →
    wX_symbol_26 post k f0 f1 (nI n) f3 f4 f5 (d + 1) (nI (pn_wi K A B a j).1) (nI j) ck cf cs ct cp co sA sB := by
  intro d
  induction d with
  | zero =>
    intro j sA hj hs hp
    have e : j = 24 := by omega
    subst e
    exact br_t (nI_le (a := 24) (b := 24) (Nat.le_refl _) (by decide)) (hp sA)
  | succ d ih =>
    intro j sA hj hs hp
    have ⟨w1, w2⟩ := pn_wf I.2.2.2.1 ka j
    refine br_f (nI_ge (b := 24) (by omega) (by decide)) ?_
    unfold pn_sr at hp
    by_cases z : (pn_wi K A B a j).1 = 0
    · rw [if_pos z] at hp
      rw [z]
      exact br_t (by decide) (hp sA)
    · rw [if_neg z] at hp
      have kh := w2 ((pn_wi K A B a j).1 - 1) (by omega)
      have eh : (pn_wi K A B a j).2 ((pn_wi K A B a j).1 - 1) = pn_hd K A B a j := rfl
      rw [eh] at kh
      have ip : pn_IN n K (pn_hd K A B a j) := (pn_INi I _).mpr (by omega)
      have p24 : pn_hd K A B a j < 24 := by have := ip.1; have := I.1; omega
      refine br_f (nI_nle (by omega) (by omega)) (nm_r (e' := nI ((pn_wi K A B a j).1 - 1)) ?_ ⟨vp_in_nI (by omega) (by decide), ?_⟩)
      · obtain ⟨m, hm⟩ : ∃ m, (pn_wi K A B a j).1 = m + 1 := ⟨(pn_wi K A B a j).1 - 1, by omega⟩
        rw [hm]; exact pk_m1 m
      rw [nI_clamp (by omega)]
      refine nm_r ((hs _ (by omega)).trans (congrArg nI eh)) ?_
      by_cases ek : nI j = k
      · rw [if_pos ek] at hp
        refine br_t ek (ux_letter I hK hB kh ⟨re_nc ?_, hp sA⟩)
        have := pn_lt_r I.2.2.1 kh
        omega
      · rw [if_neg ek] at hp
        refine br_f ek (ux_isAtom hK p24 (fun hk => br_f (by decide) (nm_r (nI_1 j) ?_)) (fun k1 k2 => br_t rfl ?_))
        · have e := pn_wa z hk
          have := ih (j + 1) sA (by omega) (by rw [e]; exact fun s h => hs s (by dsimp only at h; omega)) hp
          rw [e] at this
          exact this
        · have e := pn_wn z (fun w => w.elim k1 k2)
          have c := I.2.2.2.1 (pn_hd K A B a j) (by omega) (by omega)
          rw [nI_clamp (by omega), hA _ ip, hB _ ip]
          have t1 : nI ((pn_wi K A B a j).1 - 1) + 1 = nI (pn_wi K A B a j).1 := by
            rw [nI_1]; exact congrArg nI (by omega)
          have t2 : nI ((pn_wi K A B a j).1 - 1) + 2 = nI ((pn_wi K A B a j).1 + 1) := (nI_add _ 2).trans (congrArg nI (by omega))
          rw [t1, nI_clamp (by omega)]
          refine ⟨re_in p24, vp_in_nI (by omega) (by decide), nm_e ⟨re_in p24, vp_in_nI (by omega) (by decide), nm_e (nm_r t2 (nm_r (nI_1 j) ?_))⟩⟩
          have := ih (j + 1) (upd (upd sA ((pn_wi K A B a j).1 - 1) (nI (B (pn_hd K A B a j)))) (pn_wi K A B a j).1 (nI (A (pn_hd K A B a j)))) (by omega) (by
            rw [e]
            intro s h
            dsimp only at h ⊢
            by_cases a1 : s = (pn_wi K A B a j).1
            · rw [a1, pk_us, pn_us]
            · rw [pk_un a1, pn_un a1]
              by_cases a2 : s = (pn_wi K A B a j).1 - 1
              · rw [a2, pk_us, pn_us]
              · rw [pk_un a2, pn_un a2]
                exact hs s (by omega)) hp
          rw [e] at this
          exact this
theorem uy_sy {post : Int32 → SY → Prop} (I : pn_I n lim nx K A B D) (hK : re_K K yk) (hA : re_F n K A yl) (hB : re_F n K B yr) (ka : 1 ≤ K a ∧ K a ≤ 4) {k : Int32} :
    ∀ d j (ys : Nat → Int32), j + d = 24 → (∀ s, s < (pn_wi K A B a j).1 → ys s = nI ((pn_wi K A B a j).2 s)) →
    (∀ ys', post (nI (pn_sr K A B a k d j)) (nI n, g1, yk, yl, yr, yw, yg, ys')) →
    wY_symbol_22 post k (nI n) g1 (d + 1) (nI (pn_wi K A B a j).1) (nI j) yk yl yr yw yg ys := by
  intro d
  induction d with
  | zero =>
    intro j ys hj hs hp
    have e : j = 24 := by omega
    subst e
    exact br_t (nI_le (a := 24) (b := 24) (Nat.le_refl _) (by decide)) (hp ys)
  | succ d ih =>
    intro j ys hj hs hp
    have ⟨w1, w2⟩ := pn_wf I.2.2.2.1 ka j
    refine br_f (nI_ge (b := 24) (by omega) (by decide)) ?_
    unfold pn_sr at hp
    by_cases z : (pn_wi K A B a j).1 = 0
    · rw [if_pos z] at hp
      rw [z]
      exact br_t (by decide) (hp ys)
    · rw [if_neg z] at hp
      have kh := w2 ((pn_wi K A B a j).1 - 1) (by omega)
      have eh : (pn_wi K A B a j).2 ((pn_wi K A B a j).1 - 1) = pn_hd K A B a j := rfl
      rw [eh] at kh
      have ip : pn_IN n K (pn_hd K A B a j) := (pn_INi I _).mpr (by omega)
      have p24 : pn_hd K A B a j < 24 := by have := ip.1; have := I.1; omega
      have m := I.2.2.1 (pn_hd K A B a j)
      refine br_f (nI_nle (by omega) (by omega)) (nm_r (e' := nI ((pn_wi K A B a j).1 - 1)) ?_ ⟨vp_in_nI (by omega) (by decide), ?_⟩)
      · obtain ⟨m, hm⟩ : ∃ m, (pn_wi K A B a j).1 = m + 1 := ⟨(pn_wi K A B a j).1 - 1, by omega⟩
        rw [hm]; exact pk_m1 m
      rw [nI_clamp (by omega)]
      refine nm_r ((hs _ (by omega)).trans (congrArg nI eh)) ?_
      have er : yr (nI (pn_hd K A B a j)).toNatClampNeg = nI (B (pn_hd K A B a j)) := by rw [nI_clamp (by omega)]; exact hB _ ip
      have el : yl (nI (pn_hd K A B a j)).toNatClampNeg = nI (A (pn_hd K A B a j)) := by rw [nI_clamp (by omega)]; exact hA _ ip
      by_cases ek : nI j = k
      · rw [if_pos ek] at hp
        unfold pn_lt at hp
        rw [er]
        refine br_t ek ⟨re_in p24, re_k hK p24 1 (by omega) (fun k1 => ⟨re_in p24, ?_⟩) (fun k1 => ⟨re_in p24, re_k hK p24 2 (by omega) (fun k2 => ⟨re_in p24, ?_⟩) (fun k2 => ⟨re_in p24, re_k hK p24 3 (by omega) (fun k3 => ?_) (fun k3 => ?_)⟩)⟩)⟩
        · have c : ((97 + nI (B (pn_hd K A B a j))).toUInt32 % 65536).toInt32 = nI (97 + B (pn_hd K A B a j)) := re_ch (x := 97) (by omega) (by omega)
          rw [if_pos k1] at hp
          rw [c]
          exact ⟨re_nc (by omega), hp ys⟩
        · have c : ((65 + nI (B (pn_hd K A B a j))).toUInt32 % 65536).toInt32 = nI (65 + B (pn_hd K A B a j)) := re_ch (x := 65) (by omega) (by omega)
          rw [if_neg k1, if_pos k2] at hp
          rw [c]
          exact ⟨re_nc (by omega), hp ys⟩
        · rw [if_neg k1, if_neg k2, if_pos k3] at hp
          exact hp ys
        · rw [if_neg k1, if_neg k2, if_neg k3] at hp
          exact hp ys
      · rw [if_neg ek] at hp
        have NA : ¬ (K (pn_hd K A B a j) = 1 ∨ K (pn_hd K A B a j) = 2) → wY_symbol_137 post (wY_symbol_22 post k (nI n) g1 (d + 1)) k (nI ((pn_wi K A B a j).1 - 1)) (nI j) (nI (pn_hd K A B a j)) (nI n) g1 yk yl yr yw yg ys := by
          intro hk
          have e := pn_wn z hk
          have c := I.2.2.2.1 (pn_hd K A B a j) (by omega) (by omega)
          unfold wY_symbol_137
          rw [el, er, nI_clamp (by omega)]
          have t1 : nI ((pn_wi K A B a j).1 - 1) + 1 = nI (pn_wi K A B a j).1 := by
            rw [nI_1]; exact congrArg nI (by omega)
          have t2 : nI ((pn_wi K A B a j).1 - 1) + 2 = nI ((pn_wi K A B a j).1 + 1) := (nI_add _ 2).trans (congrArg nI (by omega))
          rw [t1, nI_clamp (by omega)]
          refine ⟨re_in p24, vp_in_nI (by omega) (by decide), nm_e ⟨re_in p24, vp_in_nI (by omega) (by decide), nm_e (nm_r t2 (nm_r (nI_1 j) ?_))⟩⟩
          have := ih (j + 1) (upd (upd ys ((pn_wi K A B a j).1 - 1) (nI (B (pn_hd K A B a j)))) (pn_wi K A B a j).1 (nI (A (pn_hd K A B a j)))) (by omega) (by
            rw [e]
            intro s h
            dsimp only at h ⊢
            by_cases a1 : s = (pn_wi K A B a j).1
            · rw [a1, pk_us, pn_us]
            · rw [pk_un a1, pn_un a1]
              by_cases a2 : s = (pn_wi K A B a j).1 - 1
              · rw [a2, pk_us, pn_us]
              · rw [pk_un a2, pn_un a2]
                exact hs s (by omega)) hp
          rw [e] at this
          exact this
        refine br_f ek ⟨re_in p24, re_k hK p24 3 (by omega) (fun k3 => NA (by omega)) (fun k3 => ⟨re_in p24, re_k hK p24 4 (by omega) (fun k4 => NA (by omega)) (fun k4 => nm_r (nI_1 j) ?_)⟩)⟩
        have e := pn_wa z (by omega)
        have := ih (j + 1) ys (by omega) (by rw [e]; exact fun s h => hs s (by dsimp only at h; omega)) hp
        rw [e] at this
        exact this
theorem uy_symbol {post : Int32 → SY → Prop} (I : pn_I n lim nx K A B D) (hK : re_K K yk) (hA : re_F n K A yl) (hB : re_F n K B yr) (ka : 1 ≤ K a ∧ K a ≤ 4) {k : Int32}
    (hp : ∀ ys', post (nI (pn_sr K A B a k 24 0)) (nI n, g1, yk, yl, yr, yw, yg, ys')) : wpY_symbol post (nI n, g1, yk, yl, yr, yw, yg, ys) (nI a) k := by
  have ia : pn_IN n K a := (pn_INi I a).mpr (by omega)
  unfold wpY_symbol
  refine uy_isFormula I.1.2.1 hK (nI a) ?_ ?_
  · intro _ _ _ _ _
    refine br_f (by decide) (nm_e ⟨25, uy_sy I hK hA hB ka 24 0 _ (by omega) ?_ hp⟩)
    intro s hs
    have e : s = 0 := by
      have : s < 1 := hs
      omega
    subst e
    exact pk_us
  · intro h
    exact absurd ⟨ia, by omega⟩ (h a ia.1 rfl)
end
end
theorem i_vc_symbol {k : Nat} {u : SX} {v : SY} (I : i_Rel k u v) (hk : k + 4 ≤ 2050) (v1 : Int32) (v2 : Int32) : wpX_symbol (fun r u' => wpY_symbol (fun r' v' => r' = r ∧ i_Rel (k + 4) u' v') v v1 v2) u v1 v2 := by
  refine re_el (P := fun u v => wpX_symbol (fun r u' => wpY_symbol (fun r' v' => r' = r ∧ i_Rel (k + 4) u' v') v v1 v2) u v1 v2) I ?_
  intro n lim nx K A B D c f0 f1 f5 ck cf cs ct cp co sA sB yk yl yr yw yg ys hI hV x1 x2 x3 x4 x5 y1 y2 y3 y4
  have hn : n ≤ 24 := hI.1.2.1
  have fin : ∀ sA' ys', i_Rel (k + 4) (f0, f1, nI n, nI lim, nI nx, f5, ck, cf, cs, ct, cp, co, sA', sB) (nI n, nI lim, yk, yl, yr, yw, yg, ys') := fun sA' ys' => re_mk hI hV x1 x2 x3 x4 x5 y1 y2 y3 y4
  unfold wpX_symbol
  refine ux_isFormula hn x1 v1 ?_ ?_
  · rintro a ha rfl ia k5
    have ka := (pn_INi hI a).mp ia
    refine br_f (by decide) (br_c (fun z => nm_e ⟨25, ux_sy hI x1 x2 x3 ⟨ka.1, by omega⟩ 24 0 _ (by omega) ?_ fun sA' => ?_⟩) (fun z => ?_))
    · intro s hs
      have e : s = 0 := by
        have : s < 1 := hs
        omega
      subst e
      exact pk_us
    · exact uy_symbol hI y1 y2 y3 ⟨ka.1, by omega⟩ fun ys' => ⟨rfl, fin _ _⟩
    · refine uy_symbol hI y1 y2 y3 ⟨ka.1, by omega⟩ fun ys' => ⟨?_, fin _ _⟩
      rw [pn_sr_neg (Int32.not_le.mp z) 24 0 (by omega)]
      rfl
  · intro h
    refine br_t rfl ?_
    unfold wpY_symbol
    refine uy_isFormula hn y1 v1 ?_ ?_
    · intro i hi e ia k5
      exact absurd ⟨ia, k5⟩ (h i hi e)
    · intro _
      exact br_t rfl ⟨rfl, fin _ _⟩
end
section
/-! dual formulas: the walk in step -/
def pn_gd (K A B : Nat → Nat) (a b i : Nat) : Prop := (pn_wi K A B a i).1 = 0 ∨ pn_dh K B (pn_hd K A B a i) (pn_hd K A B b i)
def pn_dl (K A B : Nat → Nat) (a b : Nat) : Prop := ∀ i, i < 24 → pn_gd K A B a b i
def pn_D0 (K A B : Nat → Nat) (a b p q : Nat) : Prop := ∃ i s, i ≤ 24 ∧ s < (pn_wi K A B a i).1 ∧ p = (pn_wi K A B a i).2 s ∧ q = (pn_wi K A B b i).2 s
section
variable {K A B : Nat → Nat} {a b : Nat}
theorem pn_dhk {p q : Nat} (h : pn_dh K B p q) : (K p = 1 ∨ K p = 2) ↔ (K q = 1 ∨ K q = 2) := by
  rcases h with z | z | z | z <;> omega
theorem pn_ht : ∀ i, (∀ j, j < i → pn_gd K A B a b j) → (pn_wi K A B a i).1 = (pn_wi K A B b i).1 := by
  intro i
  induction i with
  | zero => intro _; rfl
  | succ i ih =>
    intro h
    have e := ih fun j hj => h j (by omega)
    by_cases z : (pn_wi K A B a i).1 = 0
    · rw [pn_wz z, pn_wz (e ▸ z)]; exact e
    · have d := (h i (by omega)).resolve_left z
      by_cases k : K (pn_hd K A B a i) = 1 ∨ K (pn_hd K A B a i) = 2
      · rw [pn_wa z k, pn_wa (e ▸ z) ((pn_dhk d).mp k)]
        dsimp only
        rw [e]
      · rw [pn_wn z k, pn_wn (e ▸ z) (fun w => k ((pn_dhk d).mpr w))]
        dsimp only
        rw [e]
/-- every pair on the stacks is looked at -/
theorem pn_pop (hd : pn_dl K A B a b) (z24 : (pn_wi K A B a 24).1 = 0) : ∀ d i s, i + d = 24 → s < (pn_wi K A B a i).1 → ∃ j, j < 24 ∧ (pn_wi K A B a j).1 ≠ 0 ∧ (pn_wi K A B a i).2 s = pn_hd K A B a j ∧ (pn_wi K A B b i).2 s = pn_hd K A B b j := by
  intro d
  induction d with
  | zero =>
    intro i s hi hs
    have e : i = 24 := by omega
    subst e
    omega
  | succ d ih =>
    intro i s hi hs
    have e := pn_ht i fun j hj => hd j (by omega)
    by_cases t : s + 1 = (pn_wi K A B a i).1
    · refine ⟨i, by omega, by omega, ?_, ?_⟩
      · unfold pn_hd; rw [← t]; rfl
      · unfold pn_hd; rw [← e, ← t]; rfl
    · have z : (pn_wi K A B a i).1 ≠ 0 := by omega
      have dh := (hd i (by omega)).resolve_left z
      have key : (pn_wi K A B a (i + 1)).2 s = (pn_wi K A B a i).2 s ∧ (pn_wi K A B b (i + 1)).2 s = (pn_wi K A B b i).2 s ∧ s < (pn_wi K A B a (i + 1)).1 := by
        by_cases k : K (pn_hd K A B a i) = 1 ∨ K (pn_hd K A B a i) = 2
        · rw [pn_wa z k, pn_wa (e ▸ z) ((pn_dhk dh).mp k)]
          exact ⟨rfl, rfl, by dsimp only; omega⟩
        · rw [pn_wn z k, pn_wn (e ▸ z) (fun w => k ((pn_dhk dh).mpr w))]
          dsimp only
          rw [pn_un (by omega), pn_un (by omega), pn_un (by omega), pn_un (by omega)]
          exact ⟨rfl, rfl, by omega⟩
      obtain ⟨j, j1, j2, j3, j4⟩ := ih (i + 1) s (by omega) key.2.2
      exact ⟨j, j1, j2, by rw [← j3, key.1], by rw [← j4, key.2.1]⟩
theorem pn_D0_dc (hd : pn_dl K A B a b) (z24 : (pn_wi K A B a 24).1 = 0) : pn_dc K A B (pn_D0 K A B a b) := by
  rintro p q ⟨i, s, hi, hs, rfl, rfl⟩
  obtain ⟨j, j1, j2, j3, j4⟩ := pn_pop hd z24 (24 - i) i s (by omega) hs
  rw [j3, j4]
  have e := pn_ht j fun j' hj => hd j' (by omega)
  have dh := (hd j j1).resolve_left j2
  refine ⟨dh, fun k3 => ?_⟩
  have k : ¬ (K (pn_hd K A B a j) = 1 ∨ K (pn_hd K A B a j) = 2) := by omega
  have ea := pn_wn j2 k
  have eb := pn_wn (e ▸ j2) (fun w => k ((pn_dhk dh).mpr w))
  constructor
  · refine ⟨j + 1, (pn_wi K A B a j).1, by omega, ?_, ?_, ?_⟩
    · rw [ea]; dsimp only; omega
    · rw [ea]; dsimp only; rw [pn_us]
    · rw [eb]; dsimp only; rw [e, pn_us]
  · refine ⟨j + 1, (pn_wi K A B a j).1 - 1, by omega, ?_, ?_, ?_⟩
    · rw [ea]; dsimp only; omega
    · rw [ea]; dsimp only; rw [pn_un (by omega), pn_us]
    · rw [eb]; dsimp only; rw [e, pn_un (by omega), pn_us]
theorem pn_D0_ab : pn_D0 K A B a b a b := ⟨0, 0, by omega, Nat.zero_lt_one, rfl, rfl⟩
/-- a cell of the walk: in the formula of a, and a itself or below a cell that was looked at -/
def pn_wp (K A B : Nat → Nat) (a : Nat) (V : Nat → Prop) (z : Nat) : Prop := (1 ≤ K z ∧ K z ≤ 4) ∧ z ≤ a ∧ (z = a ∨ ∃ w, V w ∧ 3 ≤ K w ∧ K w ≤ 5 ∧ (A w = z ∨ B w = z))
def pn_wv (K A B : Nat → Nat) (a t : Nat) (S : Nat → Nat) (V : Nat → Prop) : Prop :=
  (∀ s, s < t → ¬ V (S s)) ∧ (∀ s s', s < s' → s' < t → S s ≠ S s') ∧ (∀ s, s < t → pn_wp K A B a V (S s)) ∧ ∀ z, V z → pn_wp K A B a V z
theorem pn_wp_m {V V' : Nat → Prop} (m : ∀ z, V z → V' z) {z : Nat} (h : pn_wp K A B a V z) : pn_wp K A B a V' z := by
  obtain ⟨h1, h2, h3⟩ := h
  refine ⟨h1, h2, h3.imp id ?_⟩
  rintro ⟨w, w1, w2⟩
  exact ⟨w, m w w1, w2⟩
theorem pn_w24 (hlt : ∀ z, 1 ≤ K z → K z ≤ 4 → z < 24) (I3 : pn_i3 K A B) (I4 : pn_i4 K A B) (ka : 1 ≤ K a ∧ K a ≤ 4) : (pn_wi K A B a 24).1 = 0 := by
  have inv : ∀ i, (pn_wi K A B a i).1 = 0 ∨ ∃ V : Nat → Prop, pn_wv K A B a (pn_wi K A B a i).1 (pn_wi K A B a i).2 V ∧ dr_n V 24 = i := by
    intro i
    induction i with
    | zero =>
      refine Or.inr ⟨fun _ => False, ⟨fun _ _ => id, fun s s' h1 h2 => ?_, fun s hs => ⟨ka, Nat.le_refl _, Or.inl rfl⟩, fun z h => h.elim⟩, dr_n_zero 24 fun _ _ => id⟩
      have : s' < 1 := h2
      omega
    | succ i ih =>
      by_cases z : (pn_wi K A B a i).1 = 0
      · rw [pn_wz z]; exact Or.inl z
      · obtain ⟨V, ⟨v1, v2, v3, v4⟩, hc⟩ := ih.resolve_left z
        have tp : (pn_wi K A B a i).1 - 1 < (pn_wi K A B a i).1 := by omega
        have np := v1 _ tp
        have pp := v3 _ tp
        have eh : (pn_wi K A B a i).2 ((pn_wi K A B a i).1 - 1) = pn_hd K A B a i := rfl
        rw [eh] at np pp
        clear ih
        have kh : 1 ≤ K (pn_hd K A B a i) ∧ K (pn_hd K A B a i) ≤ 4 := pp.1
        have hc' : dr_n (fun z => V z ∨ z = pn_hd K A B a i) 24 = i + 1 := by
          rw [dr_n_s (P := V) (z := pn_hd K A B a i) (Or.inr rfl) np 24 (fun j _ => Iff.rfl) (hlt _ pp.1.1 pp.1.2), hc]
        have m : ∀ z, V z → V z ∨ z = pn_hd K A B a i := fun _ => Or.inl
        have v4' : ∀ z, (V z ∨ z = pn_hd K A B a i) → pn_wp K A B a (fun z => V z ∨ z = pn_hd K A B a i) z := by
          rintro z (h | rfl)
          · exact pn_wp_m m (v4 z h)
          · exact pn_wp_m m pp
        refine Or.inr ⟨fun z => V z ∨ z = pn_hd K A B a i, ?_, hc'⟩
        by_cases k : K (pn_hd K A B a i) = 1 ∨ K (pn_hd K A B a i) = 2
        · rw [pn_wa z k]
          refine ⟨fun s hs => ?_, fun s s' h1 h2 => v2 s s' h1 (by dsimp only at h2; omega), fun s hs => pn_wp_m m (v3 s (by dsimp only at hs; omega)), v4'⟩
          dsimp only at hs ⊢
          rintro (h | h)
          · exact v1 s (by omega) h
          · exact v2 s ((pn_wi K A B a i).1 - 1) hs (by omega) h
        · have c := I3 (pn_hd K A B a i) (by omega) (by omega)
          -- a premise of the cell is new
          have nw : ∀ y, (y = A (pn_hd K A B a i) ∨ y = B (pn_hd K A B a i)) → ∀ x, (V x ∨ x = pn_hd K A B a i ∨ ∃ s, s < (pn_wi K A B a i).1 ∧ x = (pn_wi K A B a i).2 s) → x ≠ y := by
            intro y hy x hx e
            subst e
            have px : pn_wp K A B a V x := by
              rcases hx with h | h | ⟨s, hs, h⟩
              · exact v4 x h
              · rw [h]; exact pp
              · rw [h]; exact v3 s hs
            have ylt : x < pn_hd K A B a i := by rcases hy with h | h <;> rw [h] <;> omega
            have := pp.2.1
            rcases px.2.2 with h | ⟨w, w1, w2, w3, w4⟩
            · omega
            · have wn : w ≠ pn_hd K A B a i := fun h => np (h ▸ w1)
              have u := I4 w (pn_hd K A B a i) w2 w3 (by omega) (by omega) wn
              rcases hy with h | h <;> rcases w4 with g | g <;> rw [h] at g
              · exact u.1 g
              · exact u.2.2.1 g
              · exact u.2.1 g
              · exact u.2.2.2 g
          have nA := nw _ (Or.inl rfl)
          have nB := nw _ (Or.inr rfl)
          have pA : pn_wp K A B a (fun z => V z ∨ z = pn_hd K A B a i) (A (pn_hd K A B a i)) := ⟨by omega, by have := pp.2.1; omega, Or.inr ⟨pn_hd K A B a i, Or.inr rfl, by omega, by omega, Or.inl rfl⟩⟩
          have pB : pn_wp K A B a (fun z => V z ∨ z = pn_hd K A B a i) (B (pn_hd K A B a i)) := ⟨by omega, by have := pp.2.1; omega, Or.inr ⟨pn_hd K A B a i, Or.inr rfl, by omega, by omega, Or.inr rfl⟩⟩
          rw [pn_wn z k]
          dsimp only
          -- the new stack, place by place
          have st : ∀ s, s < (pn_wi K A B a i).1 + 1 → (s = (pn_wi K A B a i).1 ∧ pn_u (pn_u (pn_wi K A B a i).2 ((pn_wi K A B a i).1 - 1) (B (pn_hd K A B a i))) (pn_wi K A B a i).1 (A (pn_hd K A B a i)) s = A (pn_hd K A B a i)) ∨ (s = (pn_wi K A B a i).1 - 1 ∧ pn_u (pn_u (pn_wi K A B a i).2 ((pn_wi K A B a i).1 - 1) (B (pn_hd K A B a i))) (pn_wi K A B a i).1 (A (pn_hd K A B a i)) s = B (pn_hd K A B a i)) ∨ (s < (pn_wi K A B a i).1 - 1 ∧ pn_u (pn_u (pn_wi K A B a i).2 ((pn_wi K A B a i).1 - 1) (B (pn_hd K A B a i))) (pn_wi K A B a i).1 (A (pn_hd K A B a i)) s = (pn_wi K A B a i).2 s) := by
            intro s hs
            by_cases h1 : s = (pn_wi K A B a i).1
            · exact Or.inl ⟨h1, by rw [h1, pn_us]⟩
            · by_cases h2 : s = (pn_wi K A B a i).1 - 1
              · exact Or.inr (Or.inl ⟨h2, by rw [pn_un h1, h2, pn_us]⟩)
              · exact Or.inr (Or.inr ⟨by omega, by rw [pn_un h1, pn_un h2]⟩)
          refine ⟨fun s hs => ?_, fun s s' h1 h2 => ?_, fun s hs => ?_, v4'⟩
          · rcases st s hs with ⟨h, f⟩ | ⟨h, f⟩ | ⟨h, f⟩ <;> rw [f]
            · exact fun w => nA _ (w.elim Or.inl fun y => Or.inr (Or.inl y)) rfl
            · exact fun w => nB _ (w.elim Or.inl fun y => Or.inr (Or.inl y)) rfl
            · rintro (w | w)
              · exact v1 s (by omega) w
              · exact v2 s _ h (by omega) w
          · rcases st s' h2 with ⟨h, f⟩ | ⟨h, f⟩ | ⟨h, f⟩ <;> rcases st s (by omega) with ⟨g, e⟩ | ⟨g, e⟩ | ⟨g, e⟩ <;> rw [f, e]
            · omega
            · exact Ne.symm c.2.2.1
            · exact nA _ (Or.inr (Or.inr ⟨s, by omega, rfl⟩))
            · omega
            · omega
            · exact nB _ (Or.inr (Or.inr ⟨s, by omega, rfl⟩))
            · omega
            · omega
            · exact v2 s s' h1 (by omega)
          · rcases st s hs with ⟨h, f⟩ | ⟨h, f⟩ | ⟨h, f⟩ <;> rw [f]
            · exact pA
            · exact pB
            · exact pn_wp_m m (v3 s (by omega))
  rcases inv 24 with h | ⟨V, ⟨v1, v2, v3, v4⟩, hc⟩
  · exact h
  · refine Classical.byContradiction fun z => ?_
    have t0 : 0 < (pn_wi K A B a 24).1 := by omega
    have p := v3 0 t0
    exact v1 0 t0 ((dr_n_full 24).mp hc _ (hlt _ p.1.1 p.1.2))
/-- two signs fit -/
def pn_fit (x y : Nat) : Prop := (x = 0 ∧ y = 0) ∨ (x = 42 ∧ y = 124) ∨ (x = 124 ∧ y = 42) ∨ (97 ≤ x ∧ x ≤ 104 ∧ y + 32 = x) ∨ (97 ≤ y ∧ y ≤ 104 ∧ x + 32 = y)
theorem pn_fit_dh (I2 : pn_i2 K A B) {p q : Nat} (kp : 1 ≤ K p ∧ K p ≤ 4) (kq : 1 ≤ K q ∧ K q ≤ 4) : pn_fit (pn_lt K B p) (pn_lt K B q) ↔ pn_dh K B p q := by
  have mp := I2 p
  have mq := I2 q
  have lt : ∀ p, 1 ≤ K p ∧ K p ≤ 4 → (K p = 1 ∧ pn_lt K B p = 97 + B p) ∨ (K p = 2 ∧ pn_lt K B p = 65 + B p) ∨ (K p = 3 ∧ pn_lt K B p = 42) ∨ (K p = 4 ∧ pn_lt K B p = 124) := by
    intro p kp
    unfold pn_lt
    by_cases k1 : K p = 1
    · rw [if_pos k1]; exact Or.inl ⟨k1, rfl⟩
    · by_cases k2 : K p = 2
      · rw [if_neg k1, if_pos k2]; exact Or.inr (Or.inl ⟨k2, rfl⟩)
      · by_cases k3 : K p = 3
        · rw [if_neg k1, if_neg k2, if_pos k3]; exact Or.inr (Or.inr (Or.inl ⟨k3, rfl⟩))
        · rw [if_neg k1, if_neg k2, if_neg k3]; exact Or.inr (Or.inr (Or.inr ⟨by omega, rfl⟩))
  have bp : K p = 1 ∨ K p = 2 → B p < 8 := by omega
  have bq : K q = 1 ∨ K q = 2 → B q < 8 := by omega
  clear mp mq I2
  unfold pn_fit pn_dh
  rcases lt p kp with ⟨a1, a2⟩ | ⟨a1, a2⟩ | ⟨a1, a2⟩ | ⟨a1, a2⟩ <;> rcases lt q kq with ⟨b1, b2⟩ | ⟨b1, b2⟩ | ⟨b1, b2⟩ | ⟨b1, b2⟩ <;> rw [a1, a2, b1, b2] <;> clear lt kp kq <;> omega
end
end
section
/-! both walks of dual -/
section
variable {K A B : Nat → Nat} {a b : Nat} {n lim nx : Nat} {D : Nat → Nat → Prop} {f0 f1 f2 f3 f4 f5 g1 : Int32} {ck cf cs ct cp co sA sB yk yl yr yw yg ys : Nat → Int32}
theorem ux_dh {post : Int32 → Prop} (I : pn_I n lim nx K A B D) (hK : re_K K ck) (hB : re_F n K B cs) {p q : Nat} (kp : 1 ≤ K p ∧ K p ≤ 4) (kq : 1 ≤ K q ∧ K q ≤ 4) (h1 : pn_dh K B p q → post 1) (h0 : ¬ pn_dh K B p q → post 0) :
    wpX_dualHeads post (f0, f1, f2, f3, f4, f5, ck, cf, cs, ct, cp, co, sA, sB) (nI p) (nI q) := by
  have ip : pn_IN n K p := (pn_INi I p).mpr (by omega)
  have iq : pn_IN n K q := (pn_INi I q).mpr (by omega)
  have I0 := I.1
  have p24 : p < 24 := by have := ip.1; omega
  have q24 : q < 24 := by have := iq.1; omega
  have mp := I.2.2.1 p
  have mq := I.2.2.1 q
  have ep : ck (nI p).toNatClampNeg = nI (K p) := by rw [nI_clamp (by omega)]; exact (hK p).1
  have eq : ck (nI q).toNatClampNeg = nI (K q) := by rw [nI_clamp (by omega)]; exact (hK q).1
  have W37 : (K p = 1 ∧ K q = 2) ∨ (K p = 2 ∧ K q = 1) → wX_dualHeads_37 post (nI p) (nI q) f0 f1 f2 f3 f4 f5 ck cf cs ct cp co sA sB := by
    intro hk
    unfold wX_dualHeads_37
    rw [nI_clamp (n := p) (by omega), nI_clamp (n := q) (by omega), hB p ip, hB q iq]
    have bp : B p < 8 := by omega
    have bq : B q < 8 := by omega
    refine ⟨re_in p24, re_in q24, pk_eq (B p) (B q) (fun e => h1 ?_) (fun e => h0 ?_)⟩
    · rcases hk with z | z
      · exact Or.inl ⟨z.1, z.2, e⟩
      · exact Or.inr (Or.inl ⟨z.1, z.2, e⟩)
    · rintro (z | z | z | z)
      · exact e z.2.2
      · exact e z.2.2
      · omega
      · omega
  have W58 : ¬ ((K p = 1 ∧ K q = 2) ∨ (K p = 2 ∧ K q = 1)) → wX_dualHeads_58 post (nI (K p)) (nI (K q)) f0 f1 f2 f3 f4 f5 ck cf cs ct cp co sA sB := by
    intro hk
    unfold wX_dualHeads_58 wX_dualHeads_69
    have no : ¬ (K p = 3 ∧ K q = 4) → ¬ (K p = 4 ∧ K q = 3) → ¬ pn_dh K B p q := by
      rintro a b (z | z | z | z)
      · exact hk (Or.inl ⟨z.1, z.2.1⟩)
      · exact hk (Or.inr ⟨z.1, z.2.1⟩)
      · exact a z
      · exact b z
    clear mp mq
    refine pk_eq (K p) 3 (fun k3 => pk_eq (K q) 4 (fun k4 => h1 (Or.inr (Or.inr (Or.inl ⟨k3, k4⟩)))) (fun k4 => pk_eq (K p) 4 (fun z => absurd z (by omega)) (fun _ => h0 (no (by omega) (by omega))))) (fun k3 => pk_eq (K p) 4 (fun k4 => pk_eq (K q) 3 (fun z => h1 (Or.inr (Or.inr (Or.inr ⟨k4, z⟩)))) (fun z => h0 (no (by omega) (by omega)))) (fun k4 => h0 (no (by omega) (by omega))))
  have W26 : ¬ (K p = 1 ∧ K q = 2) → wX_dualHeads_26 post (nI p) (nI q) (nI (K p)) (nI (K q)) f0 f1 f2 f3 f4 f5 ck cf cs ct cp co sA sB := by
    intro hk
    unfold wX_dualHeads_26
    clear mp mq
    exact pk_eq (K p) 2 (fun k2 => pk_eq (K q) 1 (fun k1 => W37 (Or.inr ⟨k2, k1⟩)) (fun k1 => W58 (by omega))) (fun k2 => W58 (by omega))
  unfold wpX_dualHeads
  dsimp only
  refine ⟨re_in p24, nm_r ep ⟨re_in q24, nm_r eq ?_⟩⟩
  clear mp mq
  exact pk_eq (K p) 1 (fun k1 => pk_eq (K q) 2 (fun k2 => W37 (Or.inl ⟨k1, k2⟩)) (fun k2 => W26 (by omega))) (fun k1 => W26 (by omega))
theorem pn_I_lt (I : pn_I n lim nx K A B D) {z : Nat} (h : 1 ≤ K z) (h2 : K z ≤ 4) : z < 24 := by
  have := ((pn_INi I z).mpr (by omega)).1
  have := I.1
  omega
theorem ux_du {post : Int32 → SX → Prop} (I : pn_I n lim nx K A B D) (hK : re_K K ck) (hA : re_F n K A cf) (hB : re_F n K B cs) (ka : 1 ≤ K a ∧ K a ≤ 4) (kb : 1 ≤ K b ∧ K b ≤ 4)
    (h1 : pn_dl K A B a b → ∀ sA' sB', post 1 (f0, f1, f2, f3, f4, f5, ck, cf, cs, ct, cp, co, sA', sB')) (h0 : ¬ pn_dl K A B a b → ∀ sA' sB', post 0 (f0, f1, f2, f3, f4, f5, ck, cf, cs, ct, cp, co, sA', sB')) :
    ∀ d i (sA sB : Nat → Int32), i + d = 24 → (∀ j, j < i → pn_gd K A B a b j) → (∀ s, s < (pn_wi K A B a i).1 → sA s = nI ((pn_wi K A B a i).2 s)) → (∀ s, s < (pn_wi K A B b i).1 → sB s = nI ((pn_wi K A B b i).2 s)) →
    wX_dual_19 post f0 f1 f2 f3 f4 f5 (d + 1) (nI (pn_wi K A B a i).1) (nI i) ck cf cs ct cp co sA sB := by
  intro d
  induction d with
  | zero =>
    intro i sA sB hi hg ha hb
    have e : i = 24 := by omega
    subst e
    refine br_t (nI_le (a := 24) (b := 24) (Nat.le_refl _) (by decide)) ?_
    unfold wX_dual_136
    rw [pn_w24 (fun z x y => pn_I_lt I x y) I.2.2.2.1 I.2.2.2.2.1 ka]
    exact br_t rfl (h1 hg _ _)
  | succ d ih =>
    intro i sA sB hi hg ha hb
    have ⟨w1, w2⟩ := pn_wf I.2.2.2.1 ka i
    have ⟨u1, u2⟩ := pn_wf I.2.2.2.1 kb i
    have e := pn_ht i hg
    refine br_f (nI_ge (b := 24) (by omega) (by decide)) ?_
    by_cases z : (pn_wi K A B a i).1 = 0
    · rw [z]
      refine br_t (by decide) ?_
      unfold wX_dual_136
      refine br_t rfl (h1 ?_ _ _)
      intro j hj
      by_cases q : j < i
      · exact hg j q
      · have := pn_w0 z (j - i)
        rw [show i + (j - i) = j from by omega] at this
        exact Or.inl this
    · have kp := w2 ((pn_wi K A B a i).1 - 1) (by omega)
      have kq := u2 ((pn_wi K A B b i).1 - 1) (by omega)
      have eh : (pn_wi K A B a i).2 ((pn_wi K A B a i).1 - 1) = pn_hd K A B a i := rfl
      have ehb : (pn_wi K A B b i).2 ((pn_wi K A B b i).1 - 1) = pn_hd K A B b i := rfl
      have zb : (pn_wi K A B b i).1 ≠ 0 := e ▸ z
      rw [eh] at kp
      rw [ehb] at kq
      have ip : pn_IN n K (pn_hd K A B a i) := (pn_INi I _).mpr (by omega)
      have iq : pn_IN n K (pn_hd K A B b i) := (pn_INi I _).mpr (by omega)
      have p24 := pn_I_lt I kp.1 kp.2
      have q24 := pn_I_lt I kq.1 kq.2
      have va := ha ((pn_wi K A B a i).1 - 1) (by omega)
      have vb := hb ((pn_wi K A B a i).1 - 1) (by omega)
      rw [eh] at va
      rw [show (pn_wi K A B b i).2 ((pn_wi K A B a i).1 - 1) = pn_hd K A B b i from by rw [e]; rfl] at vb
      refine br_f (nI_nle (by omega) (by omega)) (nm_r (e' := nI ((pn_wi K A B a i).1 - 1)) ?_ ⟨vp_in_nI (by omega) (by decide), ?_⟩)
      · obtain ⟨m, hm⟩ : ∃ m, (pn_wi K A B a i).1 = m + 1 := ⟨(pn_wi K A B a i).1 - 1, by omega⟩
        rw [hm]; exact pk_m1 m
      rw [nI_clamp (n := (pn_wi K A B a i).1 - 1) (by omega)]
      refine nm_r va ⟨vp_in_nI (by omega) (by decide), nm_r vb (ux_dh I hK hB kp kq (fun dh => br_f (by decide) ?_) (fun dh => br_t rfl (h0 (fun w => (w i (by omega)).elim z dh) _ _)))⟩
      have hg' : ∀ j, j < i + 1 → pn_gd K A B a b j := by
        intro j hj
        by_cases q : j = i
        · rw [q]; exact Or.inr dh
        · exact hg j (by omega)
      refine ux_isAtom hK p24 (fun hk => br_f (by decide) (nm_r (nI_1 i) ?_)) (fun k1 k2 => br_t rfl ?_)
      · have ea := pn_wa z hk
        have eb := pn_wa zb ((pn_dhk dh).mp hk)
        have := ih (i + 1) sA sB (by omega) hg' (by rw [ea]; exact fun s h => ha s (by dsimp only at h; omega)) (by rw [eb]; exact fun s h => hb s (by dsimp only at h; omega))
        rw [ea] at this
        exact this
      · have hk : ¬ (K (pn_hd K A B a i) = 1 ∨ K (pn_hd K A B a i) = 2) := fun w => w.elim k1 k2
        have ea := pn_wn z hk
        have eb := pn_wn zb (fun w => hk ((pn_dhk dh).mpr w))
        have t1 : nI ((pn_wi K A B a i).1 - 1) + 1 = nI (pn_wi K A B a i).1 := by
          rw [nI_1]; exact congrArg nI (by omega)
        have t2 : nI ((pn_wi K A B a i).1 - 1) + 2 = nI ((pn_wi K A B a i).1 + 1) := (nI_add _ 2).trans (congrArg nI (by omega))
        rw [t1, nI_clamp (n := (pn_wi K A B a i).1) (by omega), nI_clamp (n := pn_hd K A B a i) (by omega), nI_clamp (n := pn_hd K A B b i) (by omega), hA _ ip, hB _ ip, hA _ iq, hB _ iq]
        have v1 : vp_in (nI ((pn_wi K A B a i).1 - 1)) 32 := vp_in_nI (by omega) (by decide)
        have v2 : vp_in (nI (pn_wi K A B a i).1) 32 := vp_in_nI (by omega) (by decide)
        refine ⟨re_in p24, v1, nm_e ⟨re_in q24, v1, nm_e ⟨re_in p24, v2, nm_e ⟨re_in q24, v2, nm_e (nm_r t2 (nm_r (nI_1 i) ?_))⟩⟩⟩⟩
        have put : ∀ (s0 : Nat → Int32) (S : Nat → Nat) (t u v : Nat), 1 ≤ t → (∀ s, s < t → s0 s = nI (S s)) → ∀ s, s < t + 1 → upd (upd s0 (t - 1) (nI u)) t (nI v) s = nI (pn_u (pn_u S (t - 1) u) t v s) := by
          intro s0 S t u v ht h s hs
          by_cases a1 : s = t
          · rw [a1, pk_us, pn_us]
          · rw [pk_un a1, pn_un a1]
            by_cases a2 : s = t - 1
            · rw [a2, pk_us, pn_us]
            · rw [pk_un a2, pn_un a2]
              exact h s (by omega)
        have := ih (i + 1) (upd (upd sA ((pn_wi K A B a i).1 - 1) (nI (B (pn_hd K A B a i)))) (pn_wi K A B a i).1 (nI (A (pn_hd K A B a i)))) (upd (upd sB ((pn_wi K A B a i).1 - 1) (nI (B (pn_hd K A B b i)))) (pn_wi K A B a i).1 (nI (A (pn_hd K A B b i)))) (by omega) hg'
          (by rw [ea]; exact put sA _ _ _ _ (by omega) ha) (by rw [eb, ← e]; exact put sB _ _ _ _ (by omega) (by rw [e]; exact hb))
        rw [ea] at this
        exact this
theorem ux_dual {post : Int32 → SX → Prop} (I : pn_I n lim nx K A B D) (hK : re_K K ck) (hA : re_F n K A cf) (hB : re_F n K B cs) (ka : 1 ≤ K a ∧ K a ≤ 4) (kb : 1 ≤ K b ∧ K b ≤ 4)
    (h1 : pn_dl K A B a b → ∀ sA' sB', post 1 (f0, f1, f2, f3, f4, f5, ck, cf, cs, ct, cp, co, sA', sB')) (h0 : ¬ pn_dl K A B a b → ∀ sA' sB', post 0 (f0, f1, f2, f3, f4, f5, ck, cf, cs, ct, cp, co, sA', sB')) :
    wpX_dual post (f0, f1, f2, f3, f4, f5, ck, cf, cs, ct, cp, co, sA, sB) (nI a) (nI b) := by
  unfold wpX_dual
  dsimp only
  refine nm_e (nm_e ⟨25, ux_du I hK hA hB ka kb h1 h0 24 0 _ _ (by omega) (fun j hj => absurd hj (by omega)) ?_ ?_⟩)
  · intro s hs
    have e : s = 0 := by
      have : s < 1 := hs
      omega
    subst e
    exact pk_us
  · intro s hs
    have e : s = 0 := by
      have : s < 1 := hs
      omega
    subst e
    exact pk_us
/-- the reference's comparison of two signs -/
theorem uy_fit {post : Int32 → SY → Prop} {J : Int32 → Int32 → Int32 → (Nat → Int32) → (Nat → Int32) → (Nat → Int32) → (Nat → Int32) → (Nat → Int32) → (Nat → Int32) → Prop} {g0 x1 x2 : Int32} {x y i : Nat} (hx : x < 128) (hy : y < 128)
    (h1 : pn_fit x y → J (nI (i + 1)) g0 g1 yk yl yr yw yg ys) (h0 : ¬ pn_fit x y → post 0 (g0, g1, yk, yl, yr, yw, yg, ys)) :
    (nI x = 0 → ((nI y = 0 → wY_dual_116 post J x1 x2 (nI i) g0 g1 yk yl yr yw yg ys) ∧ (¬ nI y = 0 → wY_dual_34 post J x1 x2 (nI i) (nI x) (nI y) g0 g1 yk yl yr yw yg ys))) ∧ (¬ nI x = 0 → wY_dual_34 post J x1 x2 (nI i) (nI x) (nI y) g0 g1 yk yl yr yw yg ys) := by
  have Y : pn_fit x y → wY_dual_116 post J x1 x2 (nI i) g0 g1 yk yl yr yw yg ys := by
    intro h
    unfold wY_dual_116 wY_dual_121
    exact br_f (by decide) (nm_r (nI_1 i) (h1 h))
  have Nn : ¬ pn_fit x y → wY_dual_120 post J x1 x2 (nI i) g0 g1 yk yl yr yw yg ys := by
    intro h
    unfold wY_dual_120 wY_dual_121
    exact br_t rfl (h0 h)
  have W89 : ¬ (x = 0 ∧ y = 0) → ¬ (x = 42 ∧ y = 124) → ¬ (x = 124 ∧ y = 42) → ¬ (97 ≤ x ∧ x ≤ 104 ∧ y + 32 = x) → wY_dual_89 post J x1 x2 (nI i) (nI x) (nI y) g0 g1 yk yl yr yw yg ys := by
    intro c1 c2 c3 c4
    have no : ¬ (97 ≤ y ∧ y ≤ 104 ∧ x + 32 = y) → ¬ pn_fit x y := by
      rintro c5 (z | z | z | z | z)
      · exact c1 z
      · exact c2 z
      · exact c3 z
      · exact c4 z
      · exact c5 z
    clear c1 c2 c3 c4
    unfold wY_dual_89
    refine pk_lt y 97 (fun h => Nn (no (by omega))) (fun h => pk_lt 104 y (fun h2 => Nn (no (by omega))) (fun h2 => ?_))
    have e : (nI y - 97) + 65 = nI (y - 97 + 65) := by
      rw [show nI y - 97 = nI (y - 97) from pk_sub (b := 97) h]
      exact nI_add _ 65
    rw [e]
    exact pk_eq x (y - 97 + 65) (fun h3 => Y (Or.inr (Or.inr (Or.inr (Or.inr ⟨h, h2, by omega⟩))))) (fun h3 => Nn (no (by omega)))
  have W62 : ¬ (x = 0 ∧ y = 0) → ¬ (x = 42 ∧ y = 124) → ¬ (x = 124 ∧ y = 42) → wY_dual_62 post J x1 x2 (nI i) (nI x) (nI y) g0 g1 yk yl yr yw yg ys := by
    intro c1 c2 c3
    have w := W89 c1 c2 c3
    clear c1 c2 c3
    unfold wY_dual_62
    refine pk_lt x 97 (fun h => w (by omega)) (fun h => pk_lt 104 x (fun h2 => w (by omega)) (fun h2 => ?_))
    have e : (nI x - 97) + 65 = nI (x - 97 + 65) := by
      rw [show nI x - 97 = nI (x - 97) from pk_sub (b := 97) h]
      exact nI_add _ 65
    rw [e]
    exact pk_eq y (x - 97 + 65) (fun h3 => Y (Or.inr (Or.inr (Or.inr (Or.inl ⟨h, h2, by omega⟩))))) (fun h3 => w (by omega))
  have W48 : ¬ (x = 0 ∧ y = 0) → ¬ (x = 42 ∧ y = 124) → wY_dual_48 post J x1 x2 (nI i) (nI x) (nI y) g0 g1 yk yl yr yw yg ys := by
    intro c1 c2
    have w := W62 c1 c2
    clear c1 c2
    unfold wY_dual_48
    exact pk_eq x 124 (fun h => pk_eq y 42 (fun h2 => Y (Or.inr (Or.inr (Or.inl ⟨h, h2⟩)))) (fun h2 => w (by omega))) (fun h => w (by omega))
  have W34 : ¬ (x = 0 ∧ y = 0) → wY_dual_34 post J x1 x2 (nI i) (nI x) (nI y) g0 g1 yk yl yr yw yg ys := by
    intro c1
    have w := W48 c1
    clear c1
    unfold wY_dual_34
    exact pk_eq x 42 (fun h => pk_eq y 124 (fun h2 => Y (Or.inr (Or.inl ⟨h, h2⟩))) (fun h2 => w (by omega))) (fun h => w (by omega))
  exact pk_eq x 0 (fun h => pk_eq y 0 (fun h2 => Y (Or.inl ⟨h, h2⟩)) (fun h2 => W34 (by omega))) (fun h => W34 (by omega))
theorem uy_dual {post : Int32 → SY → Prop} (I : pn_I n lim nx K A B D) (hK : re_K K yk) (hA : re_F n K A yl) (hB : re_F n K B yr) (ka : 1 ≤ K a ∧ K a ≤ 4) (kb : 1 ≤ K b ∧ K b ≤ 4)
    (h1 : pn_dl K A B a b → ∀ ys', post 1 (nI n, g1, yk, yl, yr, yw, yg, ys')) (h0 : ¬ pn_dl K A B a b → ∀ ys', post 0 (nI n, g1, yk, yl, yr, yw, yg, ys')) :
    wpY_dual post (nI n, g1, yk, yl, yr, yw, yg, ys) (nI a) (nI b) := by
  unfold wpY_dual
  dsimp only
  have L : ∀ d i ys, i + d = 24 → (∀ j, j < i → pn_gd K A B a b j) → wY_dual_2 post (nI a) (nI b) (d + 1) (nI i) (nI n) g1 yk yl yr yw yg ys := by
    intro d
    induction d with
    | zero =>
      intro i ys hi hg
      have e : i = 24 := by omega
      subst e
      exact br_t (nI_le (a := 24) (b := 24) (Nat.le_refl _) (by decide)) (h1 hg _)
    | succ d ih =>
      intro i ys hi hg
      have e := pn_ht i hg
      have ⟨w1, w2⟩ := pn_wf I.2.2.2.1 ka i
      have ⟨u1, u2⟩ := pn_wf I.2.2.2.1 kb i
      refine br_f (nI_ge (b := 24) (by omega) (by decide)) (uy_symbol I hK hA hB ka fun ys1 => uy_symbol I hK hA hB kb fun ys2 => ?_)
      rw [pn_sr_at (by omega) 24 0 (by omega) (by omega) (by omega), pn_sr_at (by omega) 24 0 (by omega) (by omega) (by omega), ← e]
      have nxt : pn_gd K A B a b i → wY_dual_2 post (nI a) (nI b) (d + 1) (nI (i + 1)) (nI n) g1 yk yl yr yw yg ys2 := by
        intro g
        refine ih (i + 1) ys2 (by omega) fun j hj => ?_
        by_cases q : j = i
        · rw [q]; exact g
        · exact hg j (by omega)
      by_cases z : (pn_wi K A B a i).1 = 0
      · rw [if_pos z, if_pos z]
        exact uy_fit (by omega) (by omega) (fun _ => nxt (Or.inl z)) (fun w => absurd (Or.inl ⟨rfl, rfl⟩) w)
      · rw [if_neg z, if_neg z]
        have kp := w2 ((pn_wi K A B a i).1 - 1) (by omega)
        have kq := u2 ((pn_wi K A B b i).1 - 1) (by omega)
        have f := pn_fit_dh (p := pn_hd K A B a i) (q := pn_hd K A B b i) I.2.2.1 kp kq
        exact uy_fit (pn_lt_r I.2.2.1 kp) (pn_lt_r I.2.2.1 kq) (fun w => nxt (Or.inr (f.mp w))) (fun w => h0 (fun g => (g i (by omega)).elim z fun t => w (f.mpr t)) _)
  exact ⟨25, L 24 0 ys (by omega) fun j hj => absurd hj (by omega)⟩
end
end
section
/-! join -/
noncomputable def re_if (P : Prop) (x y : Int32) : Int32 := @ite Int32 P (Classical.propDecidable P) x y
theorem re_if_t {P : Prop} {x y : Int32} (h : P) : re_if P x y = x := by unfold re_if; exact if_pos h
theorem re_if_f {P : Prop} {x y : Int32} (h : ¬ P) : re_if P x y = y := by unfold re_if; exact if_neg h
/-- what a join of two formulas is refused for -/
noncomputable def pn_jr (n lim nx : Nat) (K A B : Nat → Nat) (k a b : Nat) : Int32 :=
  re_if (a = b) (-6) (re_if (pn_tk K A B a) (-7) (re_if (pn_tk K A B b) (-7) (re_if (k = 4 ∧ lim ≤ pn_pc K n) (-8) (re_if (k = 5 ∧ ¬ pn_dl K A B a b) (-9) (re_if (n ≤ nx) (-2) 0)))))
theorem pn_jr0 {n lim nx : Nat} {K A B : Nat → Nat} {k a b : Nat} (h : pn_jr n lim nx K A B k a b = 0) : a ≠ b ∧ ¬ pn_tk K A B a ∧ ¬ pn_tk K A B b ∧ (k = 4 → pn_pc K n < lim) ∧ (k = 5 → pn_dl K A B a b) ∧ nx < n := by
  unfold pn_jr at h
  by_cases c1 : a = b
  · rw [re_if_t c1] at h; exact absurd h (by decide)
  · rw [re_if_f c1] at h
    by_cases c2 : pn_tk K A B a
    · rw [re_if_t c2] at h; exact absurd h (by decide)
    · rw [re_if_f c2] at h
      by_cases c3 : pn_tk K A B b
      · rw [re_if_t c3] at h; exact absurd h (by decide)
      · rw [re_if_f c3] at h
        by_cases c4 : k = 4 ∧ lim ≤ pn_pc K n
        · rw [re_if_t c4] at h; exact absurd h (by decide)
        · rw [re_if_f c4] at h
          by_cases c5 : k = 5 ∧ ¬ pn_dl K A B a b
          · rw [re_if_t c5] at h; exact absurd h (by decide)
          · rw [re_if_f c5] at h
            by_cases c6 : n ≤ nx
            · rw [re_if_t c6] at h; exact absurd h (by decide)
            · exact ⟨c1, c2, c3, fun e => by omega, fun e => Classical.byContradiction fun z => c5 ⟨e, z⟩, by omega⟩
section
variable {K A B : Nat → Nat} {a b k : Nat} {n lim nx : Nat} {D : Nat → Nat → Prop} {f0 f1 f5 : Int32} {ck cf cs ct cp co sA sB yk yl yr yw yg ys : Nat → Int32}
theorem ux_countPars {post : Int32 → Prop} {f3 f4 : Int32} (hn : n ≤ 24) (hK : re_K K ck) (hp : post (nI (pn_pc K n))) :
    wpX_countPars post (f0, f1, nI n, f3, f4, f5, ck, cf, cs, ct, cp, co, sA, sB) := by
  unfold wpX_countPars
  dsimp only
  have L : ∀ d i, i + d = n → wX_countPars_4 post f0 f1 (nI n) f3 f4 f5 ck cf cs ct cp co sA sB (d + 1) (nI (pn_pc K i)) (nI i) := by
    intro d
    induction d with
    | zero =>
      intro i hi
      have e : i = n := by omega
      subst e
      exact br_t (nI_le (Nat.le_refl _) (by omega)) hp
    | succ d ih =>
      intro i hi
      have q := ih (i + 1) (by omega)
      refine br_f (nI_ge (by omega) (by omega)) ⟨re_in (by omega), re_k hK (by omega) 4 (by omega) (fun k => ?_) (fun k => ?_)⟩
      · rw [pn_pc1 k] at q
        exact nm_r (nI_1 _) (nm_r (nI_1 _) q)
      · rw [pn_pc0 k] at q
        exact nm_r (nI_1 _) q
  exact ⟨n + 1, L n 0 (by omega)⟩
theorem ux_j18 {post : Int32 → SX → Prop} (I : pn_I n lim nx K A B D) (hK : re_K K ck) (hA : re_F n K A cf) (hB : re_F n K B cs) (hT : re_T nx K A B ct) (ka : 1 ≤ K a ∧ K a ≤ 4) (kb : 1 ≤ K b ∧ K b ≤ 4) (k3 : 3 ≤ k) (k5 : k ≤ 5)
    (hp : ∀ sA' sB', post (pn_jr n lim nx K A B k a b) (f0, f1, nI n, nI lim, nI nx, f5, ck, cf, cs, ct, cp, co, sA', sB')) :
    wX_joinRefusal_18 post (nI k) (nI a) (nI b) f0 f1 (nI n) (nI lim) (nI nx) f5 ck cf cs ct cp co sA sB := by
  have I0 := I.1
  have hn : n ≤ 24 := I0.2.1
  have ia : pn_IN n K a := (pn_INi I a).mpr (by omega)
  have ib : pn_IN n K b := (pn_INi I b).mpr (by omega)
  have a24 := pn_I_lt I ka.1 ka.2
  have b24 := pn_I_lt I kb.1 kb.2
  have pct := dr_n_top (fun j => K j = 4) n
  have pce : pn_pc K n ≤ n := pct
  unfold pn_jr at hp
  unfold wX_joinRefusal_18
  refine ux_isFormula hn hK (nI a) (fun _ _ _ _ _ => br_f (by decide) (ux_isFormula hn hK (nI b) (fun _ _ _ _ _ => br_f (by decide) ?_) (fun h => absurd ⟨ib, by omega⟩ (h b ib.1 rfl)))) (fun h => absurd ⟨ia, by omega⟩ (h a ia.1 rfl))
  rw [nI_clamp (n := a) (by omega), nI_clamp (n := b) (by omega)]
  refine pk_eq a b (fun c1 => ?_) (fun c1 => ⟨re_in a24, ?_⟩)
  · rw [re_if_t c1] at hp; exact hp _ _
  rw [re_if_f c1] at hp
  rcases hT.2 a ka.1 ka.2 with ⟨t0, c2⟩ | ⟨t0, c2⟩
  · rw [re_if_f c2] at hp
    rw [t0]
    refine br_t rfl ⟨re_in b24, ?_⟩
    rcases hT.2 b kb.1 kb.2 with ⟨t1, c3⟩ | ⟨t1, c3⟩
    · rw [re_if_f c3] at hp
      rw [t1]
      refine br_t rfl ?_
      have W102 : ¬ (k = 4 ∧ lim ≤ pn_pc K n) → ¬ (k = 5 ∧ ¬ pn_dl K A B a b) → ∀ sA' sB', wX_joinRefusal_102 post f0 f1 (nI n) (nI lim) (nI nx) f5 ck cf cs ct cp co sA' sB' := by
        intro c4 c5 sA' sB'
        rw [re_if_f c4, re_if_f c5] at hp
        unfold wX_joinRefusal_102
        refine pk_lt nx n (fun c6 => ?_) (fun c6 => ?_)
        · rw [re_if_f (by omega)] at hp; exact hp _ _
        · rw [re_if_t c6] at hp; exact hp _ _
      have W85 : ¬ (k = 4 ∧ lim ≤ pn_pc K n) → wX_joinRefusal_85 post (nI k) (nI a) (nI b) f0 f1 (nI n) (nI lim) (nI nx) f5 ck cf cs ct cp co sA sB := by
        intro c4
        unfold wX_joinRefusal_85
        refine pk_eq k 5 (fun e5 => ?_) (fun e5 => W102 c4 (fun z => e5 z.1) _ _)
        refine ux_dual I hK hA hB ka kb (fun d sA' sB' => br_f (by decide) (W102 c4 (fun z => z.2 d) _ _)) (fun d sA' sB' => br_t rfl ?_)
        rw [re_if_f c4, re_if_t ⟨e5, d⟩] at hp
        exact hp _ _
      refine pk_eq k 4 (fun e4 => ux_countPars hn hK ?_) (fun e4 => W85 fun z => e4 z.1)
      refine pk_lt (pn_pc K n) lim (fun c => W85 (by omega)) (fun c => ?_)
      rw [re_if_t ⟨e4, c⟩] at hp
      exact hp _ _
    · rw [re_if_t c3] at hp
      rw [t1]
      exact br_f (by decide) (hp _ _)
  · rw [re_if_t c2] at hp
    rw [t0]
    exact br_f (by decide) (hp _ _)
theorem uy_j18 {post : Int32 → SY → Prop} (I : pn_I n lim nx K A B D) (hK : re_K K yk) (hA : re_F n K A yl) (hB : re_F n K B yr) (ka : 1 ≤ K a ∧ K a ≤ 4) (kb : 1 ≤ K b ∧ K b ≤ 4) (k3 : 3 ≤ k) (k5 : k ≤ 5)
    (hp : ¬ pn_jr n lim nx K A B k a b = 0 → ∀ ys', post (pn_jr n lim nx K A B k a b) (nI n, nI lim, yk, yl, yr, yw, yg, ys'))
    (hq : pn_jr n lim nx K A B k a b = 0 → ∀ yw' ys', uy_R 0 (fun _ => 24) yw' → post (nI nx) (nI n, nI lim, upd yk nx (nI k), upd yl nx (nI a), upd yr nx (nI b), yw', yg, ys')) :
    wY_join_18 post (nI k) (nI a) (nI b) (nI n) (nI lim) yk yl yr yw yg ys := by
  have I0 := I.1
  have hn : n ≤ 24 := I0.2.1
  have ia : pn_IN n K a := (pn_INi I a).mpr (by omega)
  have ib : pn_IN n K b := (pn_INi I b).mpr (by omega)
  have a24 := pn_I_lt I ka.1 ka.2
  have b24 := pn_I_lt I kb.1 kb.2
  have pct := dr_n_top (fun j => K j = 4) n
  have pce : pn_pc K n ≤ n := pct
  have em := pn_empty (n := n) I.2.1 (n - nx) (by omega)
  unfold pn_jr at hp hq
  unfold wY_join_18
  refine uy_isFormula hn hK (nI a) (fun _ _ _ _ _ => br_f (by decide) (uy_isFormula hn hK (nI b) (fun _ _ _ _ _ => br_f (by decide) ?_) (fun h => absurd ⟨ib, by omega⟩ (h b ib.1 rfl)))) (fun h => absurd ⟨ia, by omega⟩ (h a ia.1 rfl))
  refine pk_eq a b (fun c1 => ?_) (fun c1 => uy_taken hn hK hA hB (pn_i0 I) a24 (fun c2 => br_f (by decide) ?_) (fun c2 => br_t rfl (uy_taken hn hK hA hB (pn_i0 I) b24 (fun c3 => br_f (by decide) ?_) (fun c3 => br_t rfl ?_))))
  · rw [re_if_t c1] at hp; exact hp (by decide) _
  · rw [re_if_f c1, re_if_t c2] at hp; exact hp (by decide) _
  · rw [re_if_f c1, re_if_f c2, re_if_t c3] at hp; exact hp (by decide) _
  rw [re_if_f c1, re_if_f c2, re_if_f c3] at hp hq
  have W101 : ¬ (k = 4 ∧ lim ≤ pn_pc K n) → ¬ (k = 5 ∧ ¬ pn_dl K A B a b) → ∀ ys', wY_join_101 post (nI k) (nI a) (nI b) (nI n) (nI lim) yk yl yr yw yg ys' := by
    intro c4 c5 ys'
    rw [re_if_f c4, re_if_f c5] at hp hq
    unfold wY_join_101
    refine uy_count hn hK 0 (by omega) ?_
    rw [em]
    refine pk_le 1 (n - nx) (fun c6 => ?_) (fun c6 => ?_)
    · rw [re_if_f (by omega)] at hq
      refine nm_r (e' := nI nx) ?_ ?_
      · rw [pk_sub (by omega)]
        exact congrArg nI (by omega)
      · have v := re_in (j := nx) (by omega)
        rw [nI_clamp (n := nx) (by omega)]
        exact ⟨v, nm_e ⟨v, nm_e ⟨v, nm_e (uy_fr (b := 0) (by omega) fun yw' _ R => hq rfl yw' ys' R)⟩⟩⟩
    · rw [re_if_t (by omega)] at hp
      exact hp (by decide) _
  have W84 : ¬ (k = 4 ∧ lim ≤ pn_pc K n) → wY_join_84 post (nI k) (nI a) (nI b) (nI n) (nI lim) yk yl yr yw yg ys := by
    intro c4
    unfold wY_join_84
    refine pk_eq k 5 (fun e5 => ?_) (fun e5 => W101 c4 (fun z => e5 z.1) _)
    refine uy_dual I hK hA hB ka kb (fun d ys' => br_f (by decide) (W101 c4 (fun z => z.2 d) _)) (fun d ys' => br_t rfl ?_)
    rw [re_if_f c4, re_if_t ⟨e5, d⟩] at hp
    exact hp (by decide) _
  refine pk_eq k 4 (fun e4 => uy_count hn hK 4 (by omega) ?_) (fun e4 => W84 fun z => e4 z.1)
  refine pk_lt (pn_pc K n) lim (fun c => W84 (by omega)) (fun c => ?_)
  rw [re_if_t ⟨e4, c⟩] at hp
  exact hp (by decide) _
end
theorem i_vc_join {k : Nat} {u : SX} {v : SY} (I : i_Rel k u v) (hk : k + 4 ≤ 2050) (v1 : Int32) (v2 : Int32) (v3 : Int32) : wpX_join (fun r u' => wpY_join (fun r' v' => r' = r ∧ i_Rel (k + 4) u' v') v v1 v2 v3) u v1 v2 v3 := by
  refine re_el (P := fun u v => wpX_join (fun r u' => wpY_join (fun r' v' => r' = r ∧ i_Rel (k + 4) u' v') v v1 v2 v3) u v1 v2 v3) I ?_
  intro n lim nx K A B D c f0 f1 f5 ck cf cs ct cp co sA sB yk yl yr yw yg ys hI hV x1 x2 x3 x4 x5 y1 y2 y3 y4
  have I0 := hI.1
  have hn : n ≤ 24 := I0.2.1
  have fin : ∀ k sA' sB' ys', i_Rel k (f0, f1, nI n, nI lim, nI nx, f5, ck, cf, cs, ct, cp, co, sA', sB') (nI n, nI lim, yk, yl, yr, yw, yg, ys') := fun k sA' sB' ys' => re_mk hI hV x1 x2 x3 x4 x5 y1 y2 y3 y4
  by_cases f2 : ∃ a, a < n ∧ v2 = nI a ∧ pn_IN n K a ∧ K a ≠ 5
  · by_cases f3 : ∃ b, b < n ∧ v3 = nI b ∧ pn_IN n K b ∧ K b ≠ 5
    · obtain ⟨a, ha, rfl, ia, a5⟩ := f2
      obtain ⟨b, hb, rfl, ib, b5⟩ := f3
      have ka := (pn_INi hI a).mp ia
      have kb := (pn_INi hI b).mp ib
      have ka4 : 1 ≤ K a ∧ K a ≤ 4 := by omega
      have kb4 : 1 ≤ K b ∧ K b ≤ 4 := by omega
      have key : ∀ q, 3 ≤ q → q ≤ 5 → v1 = nI q →
          (∀ post : Int32 → SX → Prop, (∀ sA' sB', post (pn_jr n lim nx K A B q a b) (f0, f1, nI n, nI lim, nI nx, f5, ck, cf, cs, ct, cp, co, sA', sB')) → wpX_joinRefusal post (f0, f1, nI n, nI lim, nI nx, f5, ck, cf, cs, ct, cp, co, sA, sB) v1 (nI a) (nI b)) →
          (∀ post : Int32 → SY → Prop, (¬ pn_jr n lim nx K A B q a b = 0 → ∀ ys', post (pn_jr n lim nx K A B q a b) (nI n, nI lim, yk, yl, yr, yw, yg, ys')) → (pn_jr n lim nx K A B q a b = 0 → ∀ yw' ys', uy_R 0 (fun _ => 24) yw' → post (nI nx) (nI n, nI lim, upd yk nx (nI q), upd yl nx (nI a), upd yr nx (nI b), yw', yg, ys')) → wpY_join post (nI n, nI lim, yk, yl, yr, yw, yg, ys) v1 (nI a) (nI b)) →
          wpX_join (fun r u' => wpY_join (fun r' v' => r' = r ∧ i_Rel (k + 4) u' v') (nI n, nI lim, yk, yl, yr, yw, yg, ys) v1 (nI a) (nI b)) (f0, f1, nI n, nI lim, nI nx, f5, ck, cf, cs, ct, cp, co, sA, sB) v1 (nI a) (nI b) := by
        intro q q3 q5 e1 hX hY
        unfold wpX_join
        refine hX _ fun sA' sB' => ?_
        refine br_c (fun z => ?_) (fun z => hY _ (fun _ ys' => ⟨rfl, fin _ _ _ _⟩) (fun w => absurd w z))
        have ⟨ab, ta, tb, h4, h5, hnx⟩ := pn_jr0 z
        have sub : ∀ j, pn_IN n (pn_u K nx q) j ∧ j ≠ nx → pn_IN n K j := by
          rintro j ⟨p1, p2⟩
          unfold pn_IN at p1 ⊢
          rw [pn_un p2] at p1
          exact p1
        have a24 : a < 24 := by omega
        have b24 : b < 24 := by omega
        rw [nI_clamp (n := a) (by omega), nI_clamp (n := b) (by omega)]
        refine ux_fill (by omega) ⟨re_in a24, nm_e ⟨re_in b24, nm_e (nm_r (nI_1 nx) (ux_un (b := 0) (by omega) fun cp' _ R => ?_))⟩⟩
        refine hY _ (fun w => absurd z w) (fun _ yw' ys' R' => ⟨rfl, ?_⟩)
        have kK : re_K (pn_u K nx q) (upd ck nx v1) := by rw [e1]; exact re_K_u x1 (by omega)
        have T := re_T_jn hI hnx q3 q5 ka4 kb4 x4
        by_cases e5 : q = 5
        · have dl := h5 e5
          have z24 := pn_w24 (fun z x y => pn_I_lt hI x y) hI.2.2.2.1 hI.2.2.2.2.1 ka4
          have dc : pn_dc K A B (fun s t => D s t ∨ pn_D0 K A B a b s t) := by
            rintro s t (h | h)
            · have w := hI.2.2.2.2.2.1.2 s t h
              exact ⟨w.1, fun y => ⟨Or.inl (w.2 y).1, Or.inl (w.2 y).2⟩⟩
            · have w := pn_D0_dc dl z24 s t h
              exact ⟨w.1, fun y => ⟨Or.inr (w.2 y).1, Or.inr (w.2 y).2⟩⟩
          exact re_mk (pn_I_jn hI hnx q3 q5 ab ka4 kb4 ta tb h4 dc (fun j hj => Or.inl (hI.2.2.2.2.2.1.1 j hj)) (fun _ => Or.inr pn_D0_ab)) pn_V0 kK (re_G_u (re_sub x2 sub)) (re_G_u (re_sub x3 sub)) T R (re_K_u y1 (by omega)) (re_G_u (re_sub y2 sub)) (re_G_u (re_sub y3 sub)) R'
        · exact re_mk (pn_I_jn hI hnx q3 q5 ab ka4 kb4 ta tb h4 hI.2.2.2.2.2.1.2 hI.2.2.2.2.2.1.1 (fun w => absurd w e5)) pn_V0 kK (re_G_u (re_sub x2 sub)) (re_G_u (re_sub x3 sub)) T R (re_K_u y1 (by omega)) (re_G_u (re_sub y2 sub)) (re_G_u (re_sub y3 sub)) R'
      by_cases e3 : v1 = 3
      · refine key 3 (by omega) (by omega) e3 (fun post h => ?_) (fun post h h' => ?_)
        · unfold wpX_joinRefusal
          subst e3
          exact br_t rfl (ux_j18 (k := 3) hI x1 x2 x3 x4 ka4 kb4 (by omega) (by omega) h)
        · unfold wpY_join
          subst e3
          exact br_t rfl (uy_j18 (k := 3) hI y1 y2 y3 ka4 kb4 (by omega) (by omega) h h')
      · by_cases e4 : v1 = 4
        · refine key 4 (by omega) (by omega) e4 (fun post h => ?_) (fun post h h' => ?_)
          · unfold wpX_joinRefusal
            subst e4
            exact br_f e3 (br_t rfl (ux_j18 (k := 4) hI x1 x2 x3 x4 ka4 kb4 (by omega) (by omega) h))
          · unfold wpY_join
            subst e4
            exact br_f e3 (br_t rfl (uy_j18 (k := 4) hI y1 y2 y3 ka4 kb4 (by omega) (by omega) h h'))
        · by_cases e5 : v1 = 5
          · refine key 5 (by omega) (by omega) e5 (fun post h => ?_) (fun post h h' => ?_)
            · unfold wpX_joinRefusal
              subst e5
              exact br_f e3 (br_f e4 (br_t rfl (ux_j18 (k := 5) hI x1 x2 x3 x4 ka4 kb4 (by omega) (by omega) h)))
            · unfold wpY_join
              subst e5
              exact br_f e3 (br_f e4 (br_t rfl (uy_j18 (k := 5) hI y1 y2 y3 ka4 kb4 (by omega) (by omega) h h')))
          · unfold wpX_join wpX_joinRefusal wpY_join
            exact br_f e3 (br_f e4 (br_f e5 (br_f (by decide) (br_f e3 (br_f e4 (br_f e5 ⟨rfl, fin _ _ _ _⟩))))))
    · -- the second is no formula
      have nf : ∀ i, i < n → v3 = nI i → ¬ (pn_IN n K i ∧ K i ≠ 5) := fun i hi e z => f3 ⟨i, hi, e, z.1, z.2⟩
      obtain ⟨a, ha, rfl, ia, a5⟩ := f2
      have X : ∀ post : Int32 → SX → Prop, post (-5) (f0, f1, nI n, nI lim, nI nx, f5, ck, cf, cs, ct, cp, co, sA, sB) → wX_joinRefusal_18 post v1 (nI a) v3 f0 f1 (nI n) (nI lim) (nI nx) f5 ck cf cs ct cp co sA sB := by
        intro post h
        unfold wX_joinRefusal_18
        exact ux_isFormula hn x1 (nI a) (fun _ _ _ _ _ => br_f (by decide) (ux_isFormula hn x1 v3 (fun i hi e p q => absurd ⟨p, q⟩ (nf i hi e)) (fun _ => br_t rfl h))) (fun _ => br_t rfl h)
      have Y : ∀ post : Int32 → SY → Prop, post (-5) (nI n, nI lim, yk, yl, yr, yw, yg, ys) → wY_join_18 post v1 (nI a) v3 (nI n) (nI lim) yk yl yr yw yg ys := by
        intro post h
        unfold wY_join_18
        exact uy_isFormula hn y1 (nI a) (fun _ _ _ _ _ => br_f (by decide) (uy_isFormula hn y1 v3 (fun i hi e p q => absurd ⟨p, q⟩ (nf i hi e)) (fun _ => br_t rfl h))) (fun _ => br_t rfl h)
      unfold wpX_join wpX_joinRefusal wpY_join
      refine br_c (fun e => X _ (br_f (by decide) (br_t e (Y _ ⟨rfl, fin _ _ _ _⟩)))) (fun e3 => br_c (fun e => X _ (br_f (by decide) (br_f e3 (br_t e (Y _ ⟨rfl, fin _ _ _ _⟩))))) (fun e4 => br_c (fun e => X _ (br_f (by decide) (br_f e3 (br_f e4 (br_t e (Y _ ⟨rfl, fin _ _ _ _⟩)))))) (fun e5 => br_f (by decide) (br_f e3 (br_f e4 (br_f e5 ⟨rfl, fin _ _ _ _⟩))))))
  · -- the first is no formula
    have nf : ∀ i, i < n → v2 = nI i → ¬ (pn_IN n K i ∧ K i ≠ 5) := fun i hi e z => f2 ⟨i, hi, e, z.1, z.2⟩
    have X : ∀ post : Int32 → SX → Prop, post (-5) (f0, f1, nI n, nI lim, nI nx, f5, ck, cf, cs, ct, cp, co, sA, sB) → wX_joinRefusal_18 post v1 v2 v3 f0 f1 (nI n) (nI lim) (nI nx) f5 ck cf cs ct cp co sA sB := by
      intro post h
      unfold wX_joinRefusal_18
      exact ux_isFormula hn x1 v2 (fun i hi e p q => absurd ⟨p, q⟩ (nf i hi e)) (fun _ => br_t rfl h)
    have Y : ∀ post : Int32 → SY → Prop, post (-5) (nI n, nI lim, yk, yl, yr, yw, yg, ys) → wY_join_18 post v1 v2 v3 (nI n) (nI lim) yk yl yr yw yg ys := by
      intro post h
      unfold wY_join_18
      exact uy_isFormula hn y1 v2 (fun i hi e p q => absurd ⟨p, q⟩ (nf i hi e)) (fun _ => br_t rfl h)
    unfold wpX_join wpX_joinRefusal wpY_join
    refine br_c (fun e => X _ (br_f (by decide) (br_t e (Y _ ⟨rfl, fin _ _ _ _⟩)))) (fun e3 => br_c (fun e => X _ (br_f (by decide) (br_f e3 (br_t e (Y _ ⟨rfl, fin _ _ _ _⟩))))) (fun e4 => br_c (fun e => X _ (br_f (by decide) (br_f e3 (br_f e4 (br_t e (Y _ ⟨rfl, fin _ _ _ _⟩)))))) (fun e5 => br_f (by decide) (br_f e3 (br_f e4 (br_f e5 ⟨rfl, fin _ _ _ _⟩))))))
end
