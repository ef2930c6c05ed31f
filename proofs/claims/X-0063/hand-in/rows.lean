section
/-! rows of kit/rows (PURE-ROWS, BITS): starting text -/
theorem pk_sub {a b : Nat} (h : b ≤ a) : nI a - nI b = nI (a - b) := by
  obtain ⟨c, rfl⟩ : ∃ c, a = c + b := ⟨a - b, by omega⟩
  rw [← nI_add, Int32.add_sub_cancel, Nat.add_sub_cancel]
theorem pk_m1 (n : Nat) : nI (n + 1) + (-1) = nI n := by
  rw [← nI_1, Int32.add_assoc, show (1 : Int32) + (-1) = 0 from rfl, Int32.add_zero]
theorem pk_mul (a b : Nat) : nI a * nI b = nI (a * b) := (Int32.ofNat_mul a b).symm
theorem pk_ix (x : Int32) {n : Nat} (hn : n < 2 ^ 31) : x < 0 ∨ nI n ≤ x ∨ ∃ j : Nat, j < n ∧ x = nI j := by
  by_cases h : x < 0
  · exact Or.inl h
  · obtain ⟨j, hj, rfl⟩ := nI_of h
    by_cases h2 : j < n
    · exact Or.inr (Or.inr ⟨j, h2, rfl⟩)
    · exact Or.inr (Or.inl (nI_le (by omega) hj))
theorem pk_le {x y : Int32} {A B : Prop} (a b : Nat) (f : a ≤ b → A) (g : b < a → B) (hx : x = nI a := by rfl) (hy : y = nI b := by rfl) (ha : a < 2 ^ 31 := by omega) (hb : b < 2 ^ 31 := by omega) : (x ≤ y → A) ∧ (¬ x ≤ y → B) := by
  subst hx hy
  rw [nI_leI ha hb]
  exact ⟨f, fun z => g (by omega)⟩
theorem pk_lt {x y : Int32} {A B : Prop} (a b : Nat) (f : a < b → A) (g : b ≤ a → B) (hx : x = nI a := by rfl) (hy : y = nI b := by rfl) (ha : a < 2 ^ 31 := by omega) (hb : b < 2 ^ 31 := by omega) : (x < y → A) ∧ (¬ x < y → B) := by
  subst hx hy
  rw [nI_ltI ha hb]
  exact ⟨f, fun z => g (by omega)⟩
theorem pk_eq {x y : Int32} {A B : Prop} (a b : Nat) (f : a = b → A) (g : a ≠ b → B) (hx : x = nI a := by rfl) (hy : y = nI b := by rfl) (ha : a < 2 ^ 31 := by omega) (hb : b < 2 ^ 31 := by omega) : (x = y → A) ∧ (¬ x = y → B) := by
  subst hx hy
  rw [nI_eq ha hb]
  exact ⟨f, g⟩
theorem pk_tn {n : Nat} (h : n < 2 ^ 32) : (nI n).toBitVec.toNat = n := Nat.mod_eq_of_lt h
theorem pk_shr (a s : Int32) (k : Nat) (hs : (s.toBitVec.smod 32).toNat = k) : (a >>> s).toInt = a.toInt >>> k := by
  show (a.toBitVec.sshiftRight (s.toBitVec.smod 32).toNat).toInt = _
  rw [hs, BitVec.toInt_sshiftRight]
  rfl
theorem pk_shrN {n : Nat} (h : n < 2 ^ 31) (s : Int32) (k : Nat) (hs : (s.toBitVec.smod 32).toNat = k) : nI n >>> s = nI (n / 2 ^ k) := by
  apply Int32.toInt_inj.mp
  have h2 : n / 2 ^ k ≤ n := Nat.div_le_self _ _
  rw [pk_shr _ _ k hs, nI_toInt h, nI_toInt (by omega), Int.shiftRight_eq_div_pow]
  rfl
theorem pk_least (P : Nat → Prop) (h : ∃ k, P k) : ∃ k, P k ∧ ∀ j, j < k → ¬ P j := by
  obtain ⟨k, hk⟩ := h
  induction k using Nat.strongRecOn with
  | ind k ih =>
    by_cases e : ∃ j, j < k ∧ P j
    · obtain ⟨j, hj, pj⟩ := e
      exact ih j hj pj
    · exact ⟨k, hk, fun j hj pj => e ⟨j, hj, pj⟩⟩
theorem s_l : ∀ n, n < 32 → ((nI n &&& 31).toBitVec.smod 32).toNat = n := by decide +kernel
theorem nx_and (a b : Nat) : nI a &&& nI b = nI (a &&& b) := by
  apply Int32.toBitVec_inj.1
  show BitVec.ofNat 32 a &&& BitVec.ofNat 32 b = BitVec.ofNat 32 (a &&& b)
  apply BitVec.eq_of_getLsbD_eq
  intro i hi
  simp [hi]
/-! own rows: bits -/
theorem ck_or (a b : Nat) : nI a ||| nI b = nI (a ||| b) := by
  apply Int32.toBitVec_inj.1
  show BitVec.ofNat 32 a ||| BitVec.ofNat 32 b = BitVec.ofNat 32 (a ||| b)
  apply BitVec.eq_of_getLsbD_eq
  intro i hi
  simp [hi]
def ck_dif (a b : Nat) : Nat := a ^^^ (a &&& b)
theorem ck_tdif (a b p : Nat) : (ck_dif a b).testBit p = (a.testBit p && !b.testBit p) := by
  unfold ck_dif
  rw [Nat.testBit_xor, Nat.testBit_and]
  cases a.testBit p <;> cases b.testBit p <;> rfl
theorem ck_andn (a b : Nat) : nI a &&& (nI b ^^^ (-1)) = nI (ck_dif a b) := by
  apply Int32.toBitVec_inj.1
  show BitVec.ofNat 32 a &&& (BitVec.ofNat 32 b ^^^ (-1 : Int32).toBitVec) = BitVec.ofNat 32 (ck_dif a b)
  have e : (-1 : Int32).toBitVec = BitVec.allOnes 32 := by decide
  rw [e]
  apply BitVec.eq_of_getLsbD_eq
  intro i hi
  simp only [BitVec.getLsbD_and, BitVec.getLsbD_xor, BitVec.getLsbD_allOnes, BitVec.getLsbD_ofNat, ck_tdif, hi, decide_true, Bool.true_and]
  cases a.testBit i <;> cases b.testBit i <;> rfl
theorem ck_shl : ∀ q, q < 31 → (1 : Int32) <<< (nI q &&& 31) = nI (2 ^ q) := by decide +kernel
theorem ck_bit {s p : Nat} (hs : s < 2 ^ 31) (hp : p < 31) : ((nI s >>> (nI p &&& 31)) &&& 1) = nI (s.testBit p).toNat := by
  rw [pk_shrN hs _ p (s_l p (by omega))]
  show nI (s / 2 ^ p) &&& nI 1 = _
  rw [nx_and, Nat.and_one_is_mod, Nat.testBit_eq_decide_div_mod_eq]
  generalize s / 2 ^ p = z
  rcases Nat.mod_two_eq_zero_or_one z with h | h <;> rw [h] <;> rfl
def ck_lq (u : Nat) : Nat := if u.testBit 0 then 0 else if u.testBit 1 then 1 else if u.testBit 2 then 2 else if u.testBit 3 then 3 else if u.testBit 4 then 4 else if u.testBit 5 then 5 else if u.testBit 6 then 6 else 7
theorem ck_low : ∀ u, u < 256 → u ≠ 0 → ck_lq u < 8 ∧ u.testBit (ck_lq u) = true ∧ nI u &&& (-nI u) = nI (2 ^ ck_lq u) := by decide +kernel
theorem ck_p8 {n : Nat} (h : n ≤ 8) : 2 ^ n ≤ 256 := Nat.pow_le_pow_right (by decide) h
theorem ck_tl {s n p : Nat} (h : s < 2 ^ n) (ht : s.testBit p = true) : p < n := by
  rcases Nat.lt_or_ge p n with z | z
  · exact z
  · rw [Nat.testBit_lt_two_pow (Nat.lt_of_lt_of_le h (Nat.pow_le_pow_right (by decide) z))] at ht
    exact absurd ht (by decide)
theorem ck_bl {s n : Nat} (h : ∀ p, s.testBit p = true → p < n) : s < 2 ^ n := by
  apply Nat.lt_pow_two_of_testBit
  intro i hi
  cases e : s.testBit i with
  | false => rfl
  | true => have := h i e; omega
theorem ck_ext {a b : Nat} (h : ∀ p, a.testBit p = true ↔ b.testBit p = true) : a = b :=
  Nat.eq_of_testBit_eq (fun p => Bool.eq_iff_iff.mpr (h p))
def ck_sub (a b : Nat) : Prop := ∀ p, a.testBit p = true → b.testBit p = true
theorem ck_srf (a : Nat) : ck_sub a a := fun _ h => h
theorem ck_str {a b c : Nat} (h : ck_sub a b) (g : ck_sub b c) : ck_sub a c := fun p z => g p (h p z)
theorem ck_sas {a b : Nat} (h : ck_sub a b) (g : ck_sub b a) : a = b := ck_ext (fun p => ⟨h p, g p⟩)
theorem ck_slt {a b n : Nat} (h : ck_sub a b) (hb : b < 2 ^ n) : a < 2 ^ n := ck_bl (fun p hp => ck_tl hb (h p hp))
theorem ck_z0 {a : Nat} (h : a = 0) (p : Nat) : a.testBit p = false := by rw [h, Nat.zero_testBit]
theorem ck_ne {a : Nat} (h : a ≠ 0) : ∃ p, a.testBit p = true := by
  rcases Classical.em (∃ p, a.testBit p = true) with z | z
  · exact z
  · refine absurd (ck_ext fun p => ⟨fun w => absurd ⟨p, w⟩ z, fun w => ?_⟩) h
    rw [Nat.zero_testBit] at w
    exact absurd w (by decide)
theorem ck_and0 {a b : Nat} : a &&& b = 0 ↔ ∀ p, a.testBit p = true → b.testBit p = true → False := by
  constructor
  · intro h p ha hb
    have := ck_z0 h p
    rw [Nat.testBit_and, ha, hb] at this
    exact absurd this (by decide)
  · intro h
    rcases Classical.em (a &&& b = 0) with z | z
    · exact z
    · obtain ⟨p, hp⟩ := ck_ne z
      rw [Nat.testBit_and, Bool.and_eq_true] at hp
      exact (h p hp.1 hp.2).elim
theorem ck_andN {a b : Nat} : a &&& b ≠ 0 ↔ ∃ p, a.testBit p = true ∧ b.testBit p = true := by
  constructor
  · intro h
    obtain ⟨p, hp⟩ := ck_ne h
    rw [Nat.testBit_and, Bool.and_eq_true] at hp
    exact ⟨p, hp⟩
  · rintro ⟨p, h1, h2⟩ h
    exact ck_and0.mp h p h1 h2
theorem ck_dif0 {a b : Nat} : ck_dif a b = 0 ↔ ck_sub a b := by
  constructor
  · intro h p ha
    have := ck_z0 h p
    rw [ck_tdif, ha] at this
    cases e : b.testBit p with
    | true => rfl
    | false => rw [e] at this; exact absurd this (by decide)
  · intro h
    apply Nat.eq_of_testBit_eq
    intro p
    rw [ck_tdif, Nat.zero_testBit]
    cases e : a.testBit p with
    | false => rfl
    | true => rw [h p e]; rfl
theorem ck_andS {m s : Nat} : m &&& s = s ↔ ck_sub s m := by
  constructor
  · intro h p hp
    rw [← h, Nat.testBit_and, Bool.and_eq_true] at hp
    exact hp.1
  · intro h
    apply ck_ext
    intro p
    rw [Nat.testBit_and, Bool.and_eq_true]
    exact ⟨fun z => z.2, fun z => ⟨h p z, z⟩⟩
theorem ck_t2 {p q : Nat} : (2 ^ p).testBit q = true ↔ p = q := by rw [Nat.testBit_two_pow, decide_eq_true_iff]
theorem ck_tor {a b p : Nat} : (a ||| b).testBit p = true ↔ a.testBit p = true ∨ b.testBit p = true := by rw [Nat.testBit_or, Bool.or_eq_true]
theorem ck_tand {a b p : Nat} : (a &&& b).testBit p = true ↔ a.testBit p = true ∧ b.testBit p = true := by rw [Nat.testBit_and, Bool.and_eq_true]
theorem ck_tdf {a b p : Nat} : (ck_dif a b).testBit p = true ↔ a.testBit p = true ∧ ¬ b.testBit p = true := by
  rw [ck_tdif]
  cases a.testBit p <;> cases b.testBit p <;> decide
theorem ck_nf {b : Bool} (h : ¬ b = true) : b = false := by cases b; rfl; exact absurd rfl h
theorem ck_ft {b : Bool} (h : b = false) : ¬ b = true := by rw [h]; decide
theorem ck_sdf (a b : Nat) : ck_sub (ck_dif a b) a := fun _ h => (ck_tdf.mp h).1
theorem ck_full {n p : Nat} : (2 ^ n - 1).testBit p = true ↔ p < n := by rw [Nat.testBit_two_pow_sub_one, decide_eq_true_iff]
theorem ck_orlt {a b n : Nat} (ha : a < 2 ^ n) (hb : b < 2 ^ n) : a ||| b < 2 ^ n := ck_bl fun p hp => (ck_tor.mp hp).elim (ck_tl ha) (ck_tl hb)
theorem ck_2lt {p n : Nat} (h : p < n) : 2 ^ p < 2 ^ n := Nat.pow_lt_pow_right (by decide) h
theorem ck_31 {s n : Nat} (hn : n ≤ 8) (h : s < 2 ^ n) : s < 2 ^ 31 := by have := ck_p8 hn; omega
/-! arrays -/
def ck_a (A : Nat → Nat) : Nat → Int32 := fun i => nI (A i)
def ck_u (A : Nat → Nat) (k v : Nat) : Nat → Nat := fun j => if j = k then v else A j
theorem ck_us {A : Nat → Nat} {k v : Nat} : ck_u A k v k = v := if_pos rfl
theorem ck_un {A : Nat → Nat} {k v j : Nat} (h : j ≠ k) : ck_u A k v j = A j := if_neg h
theorem ck_ag {A : Nat → Nat} {i : Nat} (h : i < 2 ^ 31) : ck_a A (nI i).toNatClampNeg = nI (A i) := by rw [nI_clamp h]; rfl
theorem ck_au {A : Nat → Nat} {i v : Nat} (h : i < 2 ^ 31) : upd (ck_a A) (nI i).toNatClampNeg (nI v) = ck_a (ck_u A i v) := by
  rw [nI_clamp h]
  funext j
  unfold upd ck_a ck_u
  by_cases z : j = i
  · rw [if_pos z, if_pos z]
  · rw [if_neg z, if_neg z]
theorem ck_a0 : (fun _ => 0 : Nat → Int32) = ck_a (fun _ => 0) := rfl
/-! branches -/
theorem ck_z {x : Int32} {A B : Prop} (a : Nat) (hx : x = nI a) (ha : a < 2 ^ 31) (f : a = 0 → A) (g : a ≠ 0 → B) : (x = 0 → A) ∧ (¬ x = 0 → B) := by
  subst hx
  rw [← nI_0, nI_eq ha (by omega)]
  exact ⟨f, g⟩
theorem ck_and31 {a b : Nat} (h : b < 2 ^ 31) : a &&& b < 2 ^ 31 := Nat.lt_of_le_of_lt Nat.and_le_right h
theorem ck_dif31 {a b : Nat} (h : a < 2 ^ 31) : ck_dif a b < 2 ^ 31 := ck_slt (ck_sdf a b) h
/-! members -/
def ck_cd : Nat → Nat → Nat
  | 0, _ => 0
  | k + 1, s => ck_cd k s + (s.testBit k).toNat
theorem ck_cdle (n s : Nat) : ck_cd n s ≤ n := by
  induction n with
  | zero => exact Nat.le_refl _
  | succ n ih =>
    show ck_cd n s + (s.testBit n).toNat ≤ n + 1
    have := Bool.toNat_le (s.testBit n)
    omega
theorem ck_cdm {n a b : Nat} (h : ∀ p, p < n → a.testBit p = true → b.testBit p = true) : ck_cd n a ≤ ck_cd n b := by
  induction n with
  | zero => exact Nat.le_refl _
  | succ n ih =>
    show ck_cd n a + (a.testBit n).toNat ≤ ck_cd n b + (b.testBit n).toNat
    have i := ih (fun p hp => h p (by omega))
    cases e : a.testBit n with
    | false => exact Nat.le_trans i (Nat.le_add_right _ _)
    | true => rw [h n (by omega) e]; exact Nat.add_le_add_right i _
theorem ck_cdl {n a b q : Nat} (h : ∀ p, p < n → a.testBit p = true → b.testBit p = true) (hq : q < n) (ha : a.testBit q = false) (hb : b.testBit q = true) : ck_cd n a < ck_cd n b := by
  induction n with
  | zero => omega
  | succ n ih =>
    show ck_cd n a + (a.testBit n).toNat < ck_cd n b + (b.testBit n).toNat
    rcases Nat.lt_or_ge q n with z | z
    · have i := ih (fun p hp => h p (by omega)) z
      cases e : a.testBit n with
      | false => exact Nat.lt_of_lt_of_le i (Nat.le_add_right _ _)
      | true => rw [h n (by omega) e]; exact Nat.add_lt_add_right i _
    · have : q = n := by omega
      subst this
      rw [ha, hb]
      have := ck_cdm (n := q) (a := a) (b := b) (fun p hp => h p (by omega))
      show ck_cd q a + 0 < ck_cd q b + 1
      omega
theorem ck_cd0 {n s p : Nat} (hp : p < n) (h : s.testBit p = true) : 0 < ck_cd n s :=
  Nat.lt_of_le_of_lt (Nat.zero_le _) (ck_cdl (a := 0) (b := s) (q := p) (fun q _ z => absurd z (by rw [Nat.zero_testBit]; decide)) hp (Nat.zero_testBit p) h)
theorem ck_cdeq {n a b : Nat} (hb : b < 2 ^ n) (h : ck_sub a b) (hc : ck_cd n b ≤ ck_cd n a) : a = b := by
  refine ck_sas h (fun p hp => ?_)
  rcases Classical.em (a.testBit p = true) with z | z
  · exact z
  · have := ck_cdl (n := n) (fun q _ => h q) (ck_tl hb hp) (ck_nf z) hp
    omega
end
section
/-! a piece of an array as a list -/
def ck_ls (A : Nat → Nat) (b : Nat) : Nat → List Nat
  | 0 => []
  | k + 1 => ck_ls A b k ++ [A (b + k)]
theorem ck_lsl (A : Nat → Nat) (b k : Nat) : (ck_ls A b k).length = k := by
  induction k with
  | zero => rfl
  | succ k ih => show (ck_ls A b k ++ [A (b + k)]).length = k + 1; rw [List.length_append, ih]; rfl
theorem ck_lsm {A : Nat → Nat} {b k x : Nat} : x ∈ ck_ls A b k ↔ ∃ i, i < k ∧ A (b + i) = x := by
  induction k with
  | zero => exact ⟨(fun h => nomatch h), fun ⟨i, h, _⟩ => absurd h (Nat.not_lt_zero i)⟩
  | succ k ih =>
    show x ∈ ck_ls A b k ++ [A (b + k)] ↔ _
    rw [List.mem_append, ih, List.mem_singleton]
    constructor
    · rintro (⟨i, h, e⟩ | e)
      · exact ⟨i, by omega, e⟩
      · exact ⟨k, by omega, e.symm⟩
    · rintro ⟨i, h, e⟩
      rcases Nat.lt_or_ge i k with z | z
      · exact Or.inl ⟨i, z, e⟩
      · have : i = k := by omega
        subst this
        exact Or.inr e.symm
theorem ck_lsc {A B : Nat → Nat} {b k : Nat} (h : ∀ i, i < k → A (b + i) = B (b + i)) : ck_ls A b k = ck_ls B b k := by
  induction k with
  | zero => rfl
  | succ k ih =>
    show ck_ls A b k ++ [A (b + k)] = ck_ls B b k ++ [B (b + k)]
    rw [ih (fun i hi => h i (by omega)), h k (by omega)]
theorem ck_lsu {A : Nat → Nat} {b k v j : Nat} (hj : j = b + k) : ck_ls (ck_u A j v) b (k + 1) = ck_ls A b k ++ [v] := by
  subst hj
  show ck_ls (ck_u A (b + k) v) b k ++ [ck_u A (b + k) v (b + k)] = _
  rw [ck_us, ck_lsc (fun i hi => ck_un (by omega))]
theorem ck_lsn {A : Nat → Nat} {b k j v : Nat} (h : j < b ∨ b + k ≤ j) : ck_ls (ck_u A j v) b k = ck_ls A b k :=
  ck_lsc (fun i hi => ck_un (by omega))
/-! antichains -/
def ck_AC (L : List Nat) : Prop := L.Pairwise (fun a b => ¬ ck_sub a b ∧ ¬ ck_sub b a)
theorem ck_AC0 : ck_AC [] := List.Pairwise.nil
theorem ck_ACe {L : List Nat} {a b : Nat} (h : ck_AC L) (ha : a ∈ L) (hb : b ∈ L) (hs : ck_sub a b) : a = b := by
  induction L with
  | nil => exact nomatch ha
  | cons x L ih =>
    obtain ⟨h1, h2⟩ := List.pairwise_cons.mp h
    rcases List.mem_cons.mp ha with e | ka
    · rcases List.mem_cons.mp hb with e' | kb
      · rw [e, e']
      · subst e; exact absurd hs (h1 b kb).1
    · rcases List.mem_cons.mp hb with e' | kb
      · subst e'; exact absurd hs (h1 a ka).2
      · exact ih h2 ka kb
theorem ck_ACs {L : List Nat} {x : Nat} (h : ck_AC L) (hx : ∀ a, a ∈ L → ¬ ck_sub a x ∧ ¬ ck_sub x a) : ck_AC (L ++ [x]) := by
  refine List.pairwise_append.mpr ⟨h, List.pairwise_singleton _ _, fun a ha b hb => ?_⟩
  rw [List.mem_singleton.mp hb]
  exact hx a ha
theorem ck_ACf {L : List Nat} (f : Nat → Bool) (h : ck_AC L) : ck_AC (L.filter f) := List.Pairwise.filter f h
theorem ck_pig : ∀ (k : Nat) (L : List Nat), L.Nodup → (∀ x, x ∈ L → x < k) → L.length ≤ k := by
  intro k
  induction k with
  | zero =>
    intro L _ h
    cases L with
    | nil => exact Nat.le_refl _
    | cons x L => exact absurd (h x List.mem_cons_self) (Nat.not_lt_zero x)
  | succ k ih =>
    intro L hn h
    rcases Classical.em (k ∈ L) with z | z
    · have a := ih (L.erase k) (hn.erase k) (fun x hx => by
        have := hn.mem_erase_iff.mp hx
        have := h x this.2
        omega)
      have b := List.length_erase_of_mem z
      omega
    · have := ih L hn (fun x hx => by
        have := h x hx
        have : x ≠ k := fun e => z (e ▸ hx)
        omega)
      omega
theorem ck_sper {K : Nat} {P : Nat → Prop} (c : Nat → Nat) (e : Nat → Nat → Nat) (h1 : ∀ a, P a → c a < K ∧ e (c a) (ck_cd 8 a) = a) (h2 : ∀ k, k < K → ∀ j, j < 8 → e k j &&& e k (j + 1) = e k j) (L : List Nat) (hL : ∀ x, x ∈ L → P x) (hA : ck_AC L) : L.length ≤ K := by
  have mono : ∀ k, k < K → ∀ d j, j + d ≤ 8 → ck_sub (e k j) (e k (j + d)) := by
    intro k hk d
    induction d with
    | zero => intro j _; exact ck_srf _
    | succ d ih =>
      intro j hj
      refine ck_str (ih j (by omega)) ?_
      have := h2 k hk (j + d) (by omega)
      intro p hp
      rw [← this] at hp
      exact (ck_tand.mp hp).2
  have cmp : ∀ a b, P a → P b → c a = c b → ck_sub a b ∨ ck_sub b a := by
    intro a b ha hb hc
    obtain ⟨a1, a2⟩ := h1 a ha
    obtain ⟨b1, b2⟩ := h1 b hb
    have la := ck_cdle 8 a
    have lb := ck_cdle 8 b
    rcases Nat.le_total (ck_cd 8 a) (ck_cd 8 b) with z | z
    · have := mono (c a) a1 (ck_cd 8 b - ck_cd 8 a) (ck_cd 8 a) (by omega)
      rw [a2, show ck_cd 8 a + (ck_cd 8 b - ck_cd 8 a) = ck_cd 8 b by omega, hc, b2] at this
      exact Or.inl this
    · have := mono (c b) b1 (ck_cd 8 a - ck_cd 8 b) (ck_cd 8 b) (by omega)
      rw [b2, show ck_cd 8 b + (ck_cd 8 a - ck_cd 8 b) = ck_cd 8 a by omega, ← hc, a2] at this
      exact Or.inr this
  have nd : (L.map c).Nodup := by
    refine List.pairwise_map.mpr (List.Pairwise.imp_of_mem (fun {a b} ha hb h hc => ?_) hA)
    rcases cmp a b (hL a ha) (hL b hb) hc with z | z
    · exact h.1 z
    · exact h.2 z
  have := ck_pig K (L.map c) nd (fun x hx => by
    obtain ⟨a, ha, e⟩ := List.mem_map.mp hx
    rw [← e]
    exact (h1 a (hL a ha)).1)
  rw [List.length_map] at this
  exact this
/-! the chains of eight and of seven packages (tables printed by chains.py) -/
def ck_c8 (a : Nat) : Nat := (855769056228647564757128839188467804793345548678212877312155693510196391958642612840643091825671476586073140907325827743164074186239931951655927048620518249121167614015113945974663415030326532940146848361531589523758107778326640911528902002732310991063391417831429574299083493034643639784126360518992509428784269813501690737741550371564132450170656917034623021572009514976055462451025665287778262019013830942813761403626551098138306940189204770123672167401402441953660166295095853115485344514437510115785736640870876599865600803661971456 >>> (7 * a)) % 128
def ck_e8 (k j : Nat) : Nat := (103534928379170401969810781645339941441688884242454746862141105550300858817453134687574753032924625065276224128236484794389772944577333553505949306078881164274496160274028330575108950526802148770587931478332951043476531920241815767713150195679065245917233420490862235481357918169663521723821331175105830565993436777791746386165799609954618358225481492044748234826352205574601621488543300211846188703395093222316397821378461527275567121172170114676430468961764613166752081542606426883128735796001374086637299079081280753346448347423797366790284305592464557938967518177817536571491012052194129795166174453121063311123799789199248162228242059287240153258515422249850981081945402294999750850152632981567724460978145042483170160973028852537767624352737267248041594311417974550815281772627067273597700182041187976675579631022214757790053237888210341319617651067460146145984173722928580949402117548537926879204752937576529420631783735529980634353223143747560866850099806696475096692065495692278946686160354734427176990146989899240836528006430537200508469690122621497517328293307064092121632173340584787142521491626958319231687450020053846714899768169937735894767651792638880228348506794526406846059587672837541636361707258879307886425126874303467744806179707207351682111585776168083427677246161185139351959031087934260559815200267868670510862422783985702594919749389590477110248166757724829798873324429817074158797323791232496141567658984758247376390105391959350404482329063541324934431101946724823436504781936562518546907392 >>> (8 * (9 * k + j))) % 256
theorem ck_81 : ∀ a, a < 256 → ck_c8 a < 70 ∧ ck_e8 (ck_c8 a) (ck_cd 8 a) = a := by decide +kernel
theorem ck_82 : ∀ k, k < 70 → ∀ j, j < 8 → ck_e8 k j &&& ck_e8 k (j + 1) = ck_e8 k j := by decide +kernel
theorem ck_sp8 (L : List Nat) (hL : ∀ x, x ∈ L → x < 256) (hA : ck_AC L) : L.length ≤ 70 := ck_sper ck_c8 ck_e8 ck_81 ck_82 L hL hA
def ck_c7 (r a : Nat) : Nat := (809935562260143243457163952114386308607733611459525169426151497883945317931142342677008704181896474546006727248494783205653550172394625706196139600262470098575961736685876390079530869450388624076469934962202731699701686580080301169345730378748933925438316373044772864 >>> (7 * (a % 2 ^ r + a / 2 ^ (r + 1) * 2 ^ r))) % 128
def ck_x7 (r e : Nat) : Nat := e % 2 ^ r + e / 2 ^ r * 2 ^ (r + 1)
def ck_e7 (r k j : Nat) : Nat := ck_x7 r ((163815411864015975431132427241008470789233639055860871891991546355617721319271941683622646526248742411309213360497512095067502448248083443423215540053769951100483940025707213253104515601510147010161272752780544880259652444164068636627670942829788285687308026177936592751069247913905331678443547382545881700758323097258192532641451660841983377043208915986319046272621742674848138613858644270906938866561541891476898747818737647715408234119641635463174209706606444017383149088052963478174212796495866354767307087292980403858474409232481372807466014708172984894594018675152105703647051626678251782948902617752348089863886217890493455379026976294571265794723227387803857686485226606833894945015089797543993906901733349718201348856743863046113403123291891590955264 >>> (8 * (9 * k + j))) % 256)
theorem ck_71 : ∀ r, r < 8 → ∀ a, a < 256 → a.testBit r = false → ck_c7 r a < 35 ∧ ck_e7 r (ck_c7 r a) (ck_cd 8 a) = a := by decide +kernel
theorem ck_72 : ∀ r, r < 8 → ∀ k, k < 35 → ∀ j, j < 8 → ck_e7 r k j &&& ck_e7 r k (j + 1) = ck_e7 r k j := by decide +kernel
theorem ck_sp7 {r : Nat} (hr : r < 8) (L : List Nat) (hL : ∀ x, x ∈ L → x < 256 ∧ x.testBit r = false) (hA : ck_AC L) : L.length ≤ 35 :=
  ck_sper (P := fun a => a < 256 ∧ a.testBit r = false) (ck_c7 r) (ck_e7 r) (fun a h => ck_71 r hr a h.1 h.2) (ck_72 r hr) L hL hA
end
section
/-! X: the small methods -/
theorem ck_ex {i : Nat} {P : Nat → Prop} : (∃ p, p < i + 1 ∧ P p) ↔ (∃ p, p < i ∧ P p) ∨ P i := by
  constructor
  · rintro ⟨p, h, e⟩
    rcases Nat.lt_or_ge p i with z | z
    · exact Or.inl ⟨p, z, e⟩
    · have : p = i := by omega
      subst this
      exact Or.inr e
  · rintro (⟨p, h, e⟩ | e)
    · exact ⟨p, by omega, e⟩
    · exact ⟨i, by omega, e⟩
theorem ck_n0 {P : Nat → Prop} : ∀ j, j < 0 → P j := fun j h => absurd h (Nat.not_lt_zero j)
def ck_Unb (cc : Nat) (ow al : Nat → Nat) (s : Nat) : Prop := ∀ i, i < cc → s.testBit (ow i) = true → al i &&& s ≠ 0
def ck_Ind (n : Nat) (ri : Nat → Nat) (s : Nat) : Prop := ∀ p, p < n → s.testBit p = true → ri p &&& s = 0
section
variable {n room dc cc fc ins con ker top lim : Nat} {dO dA dR ow al ri fa re kr cv cn ms si so : Nat → Nat}
theorem xx_has {post : Int32 → Prop} {u : SX} {x y : Int32} (s p : Nat) (hs : s < 2 ^ 31) (hp : p < 31) (h1 : s.testBit p = true → post 1) (h0 : s.testBit p = false → post 0) (hx : x = nI s) (hy : y = nI p) : wpX_has post u x y := by
  subst hx hy
  obtain ⟨q0, q1, q2, q3, q4, q5, q6, q7, q8, q9, q10, q11, q12, q13, q14, q15, q16, q17, q18, q19, q20, q21, q22, q23⟩ := u
  show (((nI s >>> (nI p &&& 31)) &&& 1) = 0 → post 0) ∧ (¬ ((nI s >>> (nI p &&& 31)) &&& 1) = 0 → post 1)
  rw [ck_bit hs hp]
  cases e : s.testBit p with
  | false => exact br_t rfl (h0 e)
  | true => exact br_f (by decide) (h1 e)
theorem xx_push {post : SX → Prop} {x y : Int32} (a b : Nat) (ht : top < 16) (h : post ((nI n), (nI room), (nI dc), (nI cc), (nI fc), (nI ins), (nI con), (nI ker), (nI (top + 1)), (nI lim), (ck_a dO), (ck_a dA), (ck_a dR), (ck_a ow), (ck_a al), (ck_a ri), (ck_a fa), (ck_a re), (ck_a kr), (ck_a cv), (ck_a cn), (ck_a ms), (ck_a (ck_u si top a)), (ck_a (ck_u so top b)))) (hx : x = nI a) (hy : y = nI b) : wpX_push post ((nI n), (nI room), (nI dc), (nI cc), (nI fc), (nI ins), (nI con), (nI ker), (nI top), (nI lim), (ck_a dO), (ck_a dA), (ck_a dR), (ck_a ow), (ck_a al), (ck_a ri), (ck_a fa), (ck_a re), (ck_a kr), (ck_a cv), (ck_a cn), (ck_a ms), (ck_a si), (ck_a so)) x y := by
  subst hx hy
  exact pk_le 16 top (fun z => absurd z (by omega)) (fun _ => ⟨vp_in_nI ht (by omega), nm_r (ck_au (by omega)) ⟨vp_in_nI ht (by omega), nm_r (ck_au (by omega)) (nm_r (nI_1 top) h)⟩⟩)
theorem xl_bc {post : Int32 → Prop} (s : Nat) (hs : s < 2 ^ 31) (hcc : cc ≤ 24) (how : ∀ i, i < cc → ow i < 31)
    (h1 : ∀ i, i < cc → s.testBit (ow i) = true → al i &&& s = 0 → post (nI i)) (h0 : ck_Unb cc ow al s → post (-1)) :
    ∀ d i, i + d = cc → (∀ j, j < i → s.testBit (ow j) = true → al j &&& s ≠ 0) → wX_brokenClause_2 post (nI s) (nI n) (nI room) (nI dc) (nI cc) (nI fc) (nI ins) (nI con) (nI ker) (nI top) (nI lim) (ck_a dO) (ck_a dA) (ck_a dR) (ck_a ow) (ck_a al) (ck_a ri) (ck_a fa) (ck_a re) (ck_a kr) (ck_a cv) (ck_a cn) (ck_a ms) (ck_a si) (ck_a so) (d + 1) (nI i) := by
  intro d
  induction d with
  | zero =>
    intro i hi hp
    exact pk_le cc i (fun _ => h0 (fun j hj => hp j (by omega))) (fun h => absurd h (by omega))
  | succ d ih =>
    intro i hi hp
    refine pk_le cc i (fun h => absurd h (by omega)) (fun _ => ⟨vp_in_nI (by omega) (by omega), ?_⟩)
    refine xx_has s (ow i) hs (how i (by omega)) (fun ht => ?_) (fun ht => ?_) rfl (ck_ag (by omega))
    · refine br_f (by decide) ⟨vp_in_nI (by omega) (by omega), ?_⟩
      exact ck_z (al i &&& s) (by rw [ck_ag (by omega), nx_and]) (ck_and31 hs) (fun z => h1 i (by omega) ht z)
        (fun z => nm_r (nI_1 i) (ih (i + 1) (by omega) (lt_s hp (fun _ => z))))
    · exact br_t rfl (nm_r (nI_1 i) (ih (i + 1) (by omega) (lt_s hp (fun w => absurd w (ck_ft ht)))))
theorem xx_bc {post : Int32 → Prop} {x : Int32} (s : Nat) (hs : s < 2 ^ 31) (hcc : cc ≤ 24) (how : ∀ i, i < cc → ow i < 31)
    (h1 : ∀ i, i < cc → s.testBit (ow i) = true → al i &&& s = 0 → post (nI i)) (h0 : ck_Unb cc ow al s → post (-1)) (hx : x = nI s) : wpX_brokenClause post ((nI n), (nI room), (nI dc), (nI cc), (nI fc), (nI ins), (nI con), (nI ker), (nI top), (nI lim), (ck_a dO), (ck_a dA), (ck_a dR), (ck_a ow), (ck_a al), (ck_a ri), (ck_a fa), (ck_a re), (ck_a kr), (ck_a cv), (ck_a cn), (ck_a ms), (ck_a si), (ck_a so)) x := by
  subst hx
  exact ⟨_, xl_bc s hs hcc how h1 h0 cc 0 (by omega) ck_n0⟩
theorem xl_fi {post : Int32 → Prop} (s : Nat) (hs : s < 2 ^ 31) (hn : n ≤ 8)
    (h1 : ∀ p, p < n → s.testBit p = true → ri p &&& s ≠ 0 → post (nI p)) (h0 : ck_Ind n ri s → post (-1)) :
    ∀ d i, i + d = n → (∀ j, j < i → s.testBit j = true → ri j &&& s = 0) → wX_fighter_2 post (nI s) (nI n) (nI room) (nI dc) (nI cc) (nI fc) (nI ins) (nI con) (nI ker) (nI top) (nI lim) (ck_a dO) (ck_a dA) (ck_a dR) (ck_a ow) (ck_a al) (ck_a ri) (ck_a fa) (ck_a re) (ck_a kr) (ck_a cv) (ck_a cn) (ck_a ms) (ck_a si) (ck_a so) (d + 1) (nI i) := by
  intro d
  induction d with
  | zero =>
    intro i hi hp
    exact pk_le n i (fun _ => h0 (fun j hj => hp j (by omega))) (fun h => absurd h (by omega))
  | succ d ih =>
    intro i hi hp
    refine pk_le n i (fun h => absurd h (by omega)) (fun _ => ?_)
    refine xx_has s i hs (by omega) (fun ht => ?_) (fun ht => ?_) rfl rfl
    · refine br_f (by decide) ⟨vp_in_nI (by omega) (by omega), ?_⟩
      exact ck_z (ri i &&& s) (by rw [ck_ag (by omega), nx_and]) (ck_and31 hs)
        (fun z => nm_r (nI_1 i) (ih (i + 1) (by omega) (lt_s hp (fun _ => z)))) (fun z => h1 i (by omega) ht z)
    · exact br_t rfl (nm_r (nI_1 i) (ih (i + 1) (by omega) (lt_s hp (fun w => absurd w (ck_ft ht)))))
theorem xx_fi {post : Int32 → Prop} {x : Int32} (s : Nat) (hs : s < 2 ^ 31) (hn : n ≤ 8)
    (h1 : ∀ p, p < n → s.testBit p = true → ri p &&& s ≠ 0 → post (nI p)) (h0 : ck_Ind n ri s → post (-1)) (hx : x = nI s) : wpX_fighter post ((nI n), (nI room), (nI dc), (nI cc), (nI fc), (nI ins), (nI con), (nI ker), (nI top), (nI lim), (ck_a dO), (ck_a dA), (ck_a dR), (ck_a ow), (ck_a al), (ck_a ri), (ck_a fa), (ck_a re), (ck_a kr), (ck_a cv), (ck_a cn), (ck_a ms), (ck_a si), (ck_a so)) x := by
  subst hx
  exact ⟨_, xl_fi s hs hn h1 h0 n 0 (by omega) ck_n0⟩
theorem xl_wf {post : Int32 → Prop} (s : Nat) (hs : s < 2 ^ 31) (hfc : fc ≤ 70)
    (h1 : (∃ i, i < fc ∧ ck_sub s (fa i)) → post 1) (h0 : (∀ i, i < fc → ¬ ck_sub s (fa i)) → post 0) :
    ∀ d i, i + d = fc → (∀ j, j < i → ¬ ck_sub s (fa j)) → wX_withinFacet_2 post (nI s) (nI n) (nI room) (nI dc) (nI cc) (nI fc) (nI ins) (nI con) (nI ker) (nI top) (nI lim) (ck_a dO) (ck_a dA) (ck_a dR) (ck_a ow) (ck_a al) (ck_a ri) (ck_a fa) (ck_a re) (ck_a kr) (ck_a cv) (ck_a cn) (ck_a ms) (ck_a si) (ck_a so) (d + 1) (nI i) := by
  intro d
  induction d with
  | zero =>
    intro i hi hp
    exact pk_le fc i (fun _ => h0 (fun j hj => hp j (by omega))) (fun h => absurd h (by omega))
  | succ d ih =>
    intro i hi hp
    refine pk_le fc i (fun h => absurd h (by omega)) (fun _ => ⟨vp_in_nI (by omega) (by omega), ?_⟩)
    exact ck_z (ck_dif s (fa i)) (by rw [ck_ag (by omega), ck_andn]) (ck_dif31 hs) (fun z => h1 ⟨i, by omega, ck_dif0.mp z⟩)
        (fun z => nm_r (nI_1 i) (ih (i + 1) (by omega) (lt_s hp (fun w => z (ck_dif0.mpr w)))))
theorem xx_wf {post : Int32 → Prop} {x : Int32} (s : Nat) (hs : s < 2 ^ 31) (hfc : fc ≤ 70)
    (h1 : (∃ i, i < fc ∧ ck_sub s (fa i)) → post 1) (h0 : (∀ i, i < fc → ¬ ck_sub s (fa i)) → post 0) (hx : x = nI s) : wpX_withinFacet post ((nI n), (nI room), (nI dc), (nI cc), (nI fc), (nI ins), (nI con), (nI ker), (nI top), (nI lim), (ck_a dO), (ck_a dA), (ck_a dR), (ck_a ow), (ck_a al), (ck_a ri), (ck_a fa), (ck_a re), (ck_a kr), (ck_a cv), (ck_a cn), (ck_a ms), (ck_a si), (ck_a so)) x := by
  subst hx
  exact ⟨_, xl_wf s hs hfc h1 h0 fc 0 (by omega) ck_n0⟩
theorem xl_ro {post : Int32 → Prop} (s : Nat) (hs : s < 2 ^ 31) (hn : n ≤ 8)
    (h : ∀ R : Nat, (∀ q, R.testBit q = true ↔ ∃ p, p < n ∧ (s.testBit p = true ∧ (ri p).testBit q = true)) → post (nI R)) :
    ∀ d i R, i + d = n → (∀ q, R.testBit q = true ↔ ∃ p, p < i ∧ (s.testBit p = true ∧ (ri p).testBit q = true)) → wX_rivalsOf_4 post (nI s) (nI n) (nI room) (nI dc) (nI cc) (nI fc) (nI ins) (nI con) (nI ker) (nI top) (nI lim) (ck_a dO) (ck_a dA) (ck_a dR) (ck_a ow) (ck_a al) (ck_a ri) (ck_a fa) (ck_a re) (ck_a kr) (ck_a cv) (ck_a cn) (ck_a ms) (ck_a si) (ck_a so) (d + 1) (nI R) (nI i) := by
  intro d
  induction d with
  | zero =>
    intro i R hi hp
    have : i = n := by omega
    subst this
    exact pk_le i i (fun _ => h R hp) (fun h => absurd h (by omega))
  | succ d ih =>
    intro i R hi hp
    refine pk_le n i (fun h => absurd h (by omega)) (fun _ => ?_)
    refine xx_has s i hs (by omega) (fun ht => ?_) (fun ht => ?_) rfl rfl
    · refine br_f (by decide) ⟨vp_in_nI (by omega) (by omega), ?_⟩
      refine nm_r (e' := nI (R ||| ri i)) (by rw [ck_ag (by omega), ck_or]) (nm_r (nI_1 i) (ih (i + 1) (R ||| ri i) (by omega) (fun q => ?_)))
      rw [ck_tor, hp q, ck_ex]
      exact ⟨fun z => z.elim Or.inl (fun w => Or.inr ⟨ht, w⟩), fun z => z.elim Or.inl (fun w => Or.inr w.2)⟩
    · refine br_t rfl (nm_r (nI_1 i) (ih (i + 1) R (by omega) (fun q => ?_)))
      rw [hp q, ck_ex]
      exact ⟨Or.inl, fun z => z.elim id (fun w => absurd w.1 (ck_ft ht))⟩
theorem xx_ro {post : Int32 → Prop} {x : Int32} (s : Nat) (hs : s < 2 ^ 31) (hn : n ≤ 8)
    (h : ∀ R : Nat, (∀ q, R.testBit q = true ↔ ∃ p, p < n ∧ (s.testBit p = true ∧ (ri p).testBit q = true)) → post (nI R)) (hx : x = nI s) : wpX_rivalsOf post ((nI n), (nI room), (nI dc), (nI cc), (nI fc), (nI ins), (nI con), (nI ker), (nI top), (nI lim), (ck_a dO), (ck_a dA), (ck_a dR), (ck_a ow), (ck_a al), (ck_a ri), (ck_a fa), (ck_a re), (ck_a kr), (ck_a cv), (ck_a cn), (ck_a ms), (ck_a si), (ck_a so)) x := by
  subst hx
  exact ⟨_, xl_ro s hs hn h n 0 0 (by omega) (fun q => ⟨fun z => absurd z (by rw [Nat.zero_testBit]; decide), fun ⟨p, hp, _⟩ => absurd hp (Nat.not_lt_zero p)⟩)⟩
theorem xl_qu {post : Int32 → Prop} (s : Nat) (hs : s < 2 ^ 31) (hn : n ≤ 8) (hre : ∀ p, p < n → re p < 31)
    (h : ∀ R : Nat, (∀ q, R.testBit q = true ↔ ∃ p, p < n ∧ (s.testBit p = true ∧ re p = q)) → post (nI R)) :
    ∀ d i R, i + d = n → (∀ q, R.testBit q = true ↔ ∃ p, p < i ∧ (s.testBit p = true ∧ re p = q)) → wX_quotient_4 post (nI s) (nI n) (nI room) (nI dc) (nI cc) (nI fc) (nI ins) (nI con) (nI ker) (nI top) (nI lim) (ck_a dO) (ck_a dA) (ck_a dR) (ck_a ow) (ck_a al) (ck_a ri) (ck_a fa) (ck_a re) (ck_a kr) (ck_a cv) (ck_a cn) (ck_a ms) (ck_a si) (ck_a so) (d + 1) (nI R) (nI i) := by
  intro d
  induction d with
  | zero =>
    intro i R hi hp
    have : i = n := by omega
    subst this
    exact pk_le i i (fun _ => h R hp) (fun h => absurd h (by omega))
  | succ d ih =>
    intro i R hi hp
    refine pk_le n i (fun h => absurd h (by omega)) (fun _ => ?_)
    refine xx_has s i hs (by omega) (fun ht => ?_) (fun ht => ?_) rfl rfl
    · refine br_f (by decide) ⟨vp_in_nI (by omega) (by omega), ?_⟩
      refine nm_r (e' := nI (R ||| 2 ^ re i)) (by rw [ck_ag (by omega), ck_shl _ (hre i (by omega)), ck_or]) (nm_r (nI_1 i) (ih (i + 1) (R ||| 2 ^ re i) (by omega) (fun q => ?_)))
      rw [ck_tor, hp q, ck_ex, ck_t2]
      exact ⟨fun z => z.elim Or.inl (fun w => Or.inr ⟨ht, w⟩), fun z => z.elim Or.inl (fun w => Or.inr w.2)⟩
    · refine br_t rfl (nm_r (nI_1 i) (ih (i + 1) R (by omega) (fun q => ?_)))
      rw [hp q, ck_ex]
      exact ⟨Or.inl, fun z => z.elim id (fun w => absurd w.1 (ck_ft ht))⟩
theorem xx_qu {post : Int32 → Prop} {x : Int32} (s : Nat) (hs : s < 2 ^ 31) (hn : n ≤ 8) (hre : ∀ p, p < n → re p < 31)
    (h : ∀ R : Nat, (∀ q, R.testBit q = true ↔ ∃ p, p < n ∧ (s.testBit p = true ∧ re p = q)) → post (nI R)) (hx : x = nI s) : wpX_quotient post ((nI n), (nI room), (nI dc), (nI cc), (nI fc), (nI ins), (nI con), (nI ker), (nI top), (nI lim), (ck_a dO), (ck_a dA), (ck_a dR), (ck_a ow), (ck_a al), (ck_a ri), (ck_a fa), (ck_a re), (ck_a kr), (ck_a cv), (ck_a cn), (ck_a ms), (ck_a si), (ck_a so)) x := by
  subst hx
  exact ⟨_, xl_qu s hs hn hre h n 0 0 (by omega) (fun q => ⟨fun z => absurd z (by rw [Nat.zero_testBit]; decide), fun ⟨p, hp, _⟩ => absurd hp (Nat.not_lt_zero p)⟩)⟩
theorem xl_me {post : Int32 → Prop} (s : Nat) (hs : s < 2 ^ 31) (hn : n ≤ 8) (h : post (nI (ck_cd n s))) :
    ∀ d i, i + d = n → wX_members_4 post (nI s) (nI n) (nI room) (nI dc) (nI cc) (nI fc) (nI ins) (nI con) (nI ker) (nI top) (nI lim) (ck_a dO) (ck_a dA) (ck_a dR) (ck_a ow) (ck_a al) (ck_a ri) (ck_a fa) (ck_a re) (ck_a kr) (ck_a cv) (ck_a cn) (ck_a ms) (ck_a si) (ck_a so) (d + 1) (nI (ck_cd i s)) (nI i) := by
  intro d
  induction d with
  | zero =>
    intro i hi
    have : i = n := by omega
    subst this
    exact pk_le i i (fun _ => h) (fun h => absurd h (by omega))
  | succ d ih =>
    intro i hi
    refine pk_le n i (fun h => absurd h (by omega)) (fun _ => ?_)
    exact nm_r (e' := nI (ck_cd (i + 1) s)) (by rw [ck_bit hs (by omega), nI_add]; rfl) (nm_r (nI_1 i) (ih (i + 1) (by omega)))
theorem xx_me {post : Int32 → Prop} {x : Int32} (s : Nat) (hs : s < 2 ^ 31) (hn : n ≤ 8) (h : post (nI (ck_cd n s))) (hx : x = nI s) : wpX_members post ((nI n), (nI room), (nI dc), (nI cc), (nI fc), (nI ins), (nI con), (nI ker), (nI top), (nI lim), (ck_a dO), (ck_a dA), (ck_a dR), (ck_a ow), (ck_a al), (ck_a ri), (ck_a fa), (ck_a re), (ck_a kr), (ck_a cv), (ck_a cn), (ck_a ms), (ck_a si), (ck_a so)) x := by
  subst hx
  exact ⟨_, xl_me s hs hn h n 0 (by omega)⟩
theorem xl_sf {post : Int32 → Prop} (p q : Nat) (hp : p < 31) (hq : q < 31) (hfc : fc ≤ 70) (hfa : ∀ i, i < fc → fa i < 2 ^ 31)
    (h1 : (∀ i, i < fc → (fa i).testBit p = (fa i).testBit q) → post 1) (h0 : (∃ i, i < fc ∧ (fa i).testBit p ≠ (fa i).testBit q) → post 0) :
    ∀ d i, i + d = fc → (∀ j, j < i → (fa j).testBit p = (fa j).testBit q) → wX_sameFacets_2 post (nI p) (nI q) (nI n) (nI room) (nI dc) (nI cc) (nI fc) (nI ins) (nI con) (nI ker) (nI top) (nI lim) (ck_a dO) (ck_a dA) (ck_a dR) (ck_a ow) (ck_a al) (ck_a ri) (ck_a fa) (ck_a re) (ck_a kr) (ck_a cv) (ck_a cn) (ck_a ms) (ck_a si) (ck_a so) (d + 1) (nI i) := by
  intro d
  induction d with
  | zero =>
    intro i hi hh
    exact pk_le fc i (fun _ => h1 (fun j hj => hh j (by omega))) (fun h => absurd h (by omega))
  | succ d ih =>
    intro i hi hh
    refine pk_le fc i (fun h => absurd h (by omega)) (fun _ => ⟨vp_in_nI (by omega) (by omega), ?_⟩)
    have nx := fun e => ih (i + 1) (by omega) (lt_s hh e)
    refine xx_has (fa i) p (hfa i (by omega)) hp (fun ht => ?_) (fun ht => ?_) (ck_ag (by omega)) rfl
    · refine ⟨vp_in_nI (by omega) (by omega), ?_⟩
      refine xx_has (fa i) q (hfa i (by omega)) hq (fun hu => ?_) (fun hu => ?_) (ck_ag (by omega)) rfl
      · exact br_t rfl (nm_r (nI_1 i) (nx (by rw [ht, hu])))
      · exact br_f (by decide) (h0 ⟨i, by omega, by rw [ht, hu]; decide⟩)
    · refine ⟨vp_in_nI (by omega) (by omega), ?_⟩
      refine xx_has (fa i) q (hfa i (by omega)) hq (fun hu => ?_) (fun hu => ?_) (ck_ag (by omega)) rfl
      · exact br_f (by decide) (h0 ⟨i, by omega, by rw [ht, hu]; decide⟩)
      · exact br_t rfl (nm_r (nI_1 i) (nx (by rw [ht, hu])))
theorem xx_sf {post : Int32 → Prop} {x y : Int32} (p q : Nat) (hp : p < 31) (hq : q < 31) (hfc : fc ≤ 70) (hfa : ∀ i, i < fc → fa i < 2 ^ 31)
    (h1 : (∀ i, i < fc → (fa i).testBit p = (fa i).testBit q) → post 1) (h0 : (∃ i, i < fc ∧ (fa i).testBit p ≠ (fa i).testBit q) → post 0) (hx : x = nI p) (hy : y = nI q) : wpX_sameFacets post ((nI n), (nI room), (nI dc), (nI cc), (nI fc), (nI ins), (nI con), (nI ker), (nI top), (nI lim), (ck_a dO), (ck_a dA), (ck_a dR), (ck_a ow), (ck_a al), (ck_a ri), (ck_a fa), (ck_a re), (ck_a kr), (ck_a cv), (ck_a cn), (ck_a ms), (ck_a si), (ck_a so)) x y := by
  subst hx hy
  exact ⟨_, xl_sf p q hp hq hfc hfa h1 h0 fc 0 (by omega) ck_n0⟩
def ck_SF (fc : Nat) (fa : Nat → Nat) (p q : Nat) : Prop := ∀ i, i < fc → (fa i).testBit p = (fa i).testBit q
theorem xl_lt {post : Int32 → Prop} (p : Nat) (hp : p < 31) (hfc : fc ≤ 70) (hfa : ∀ i, i < fc → fa i < 2 ^ 31)
    (h : ∀ q, q ≤ p → ck_SF fc fa p q → (∀ j, j < q → ¬ ck_SF fc fa p j) → post (nI q)) :
    ∀ d i, i + d = p → (∀ j, j < i → ¬ ck_SF fc fa p j) → wX_leastTwin_2 post (nI p) (nI n) (nI room) (nI dc) (nI cc) (nI fc) (nI ins) (nI con) (nI ker) (nI top) (nI lim) (ck_a dO) (ck_a dA) (ck_a dR) (ck_a ow) (ck_a al) (ck_a ri) (ck_a fa) (ck_a re) (ck_a kr) (ck_a cv) (ck_a cn) (ck_a ms) (ck_a si) (ck_a so) (d + 1) (nI i) := by
  intro d
  induction d with
  | zero =>
    intro i hi hh
    have : i = p := by omega
    subst this
    exact pk_le i i (fun _ => h i (by omega) (fun _ _ => rfl) hh) (fun h => absurd h (by omega))
  | succ d ih =>
    intro i hi hh
    refine pk_le p i (fun h => absurd h (by omega)) (fun _ => ?_)
    refine xx_sf p i hp (by omega) hfc hfa (fun ht => ?_) (fun ht => ?_) rfl rfl
    · exact br_f (by decide) (h i (by omega) ht hh)
    · exact br_t rfl (nm_r (nI_1 i) (ih (i + 1) (by omega) (lt_s hh (fun w => by obtain ⟨j, hj, e⟩ := ht; exact e (w j hj)))))
theorem xx_lt {post : Int32 → Prop} {x : Int32} (p : Nat) (hp : p < 31) (hfc : fc ≤ 70) (hfa : ∀ i, i < fc → fa i < 2 ^ 31)
    (h : ∀ q, q ≤ p → ck_SF fc fa p q → (∀ j, j < q → ¬ ck_SF fc fa p j) → post (nI q)) (hx : x = nI p) : wpX_leastTwin post ((nI n), (nI room), (nI dc), (nI cc), (nI fc), (nI ins), (nI con), (nI ker), (nI top), (nI lim), (ck_a dO), (ck_a dA), (ck_a dR), (ck_a ow), (ck_a al), (ck_a ri), (ck_a fa), (ck_a re), (ck_a kr), (ck_a cv), (ck_a cn), (ck_a ms), (ck_a si), (ck_a so)) x := by
  subst hx
  exact ⟨_, xl_lt p hp hfc hfa h p 0 (by omega) ck_n0⟩
theorem xl_fd {post : Int32 → Prop} (p a : Nat) (hp : p < 2 ^ 31) (ha : a < 2 ^ 31) (hdc : dc ≤ 24) (hO : ∀ i, i < dc → dO i < 2 ^ 31) (hA : ∀ i, i < dc → dA i < 2 ^ 31)
    (h1 : ∀ i, i < dc → dO i = p → dA i = a → post (nI i)) (h0 : (∀ i, i < dc → dO i = p → dA i ≠ a) → post (-1)) :
    ∀ d i, i + d = dc → (∀ i', i' < i → dO i' = p → dA i' ≠ a) → wX_findDraft_2 post (nI p) (nI a) (nI n) (nI room) (nI dc) (nI cc) (nI fc) (nI ins) (nI con) (nI ker) (nI top) (nI lim) (ck_a dO) (ck_a dA) (ck_a dR) (ck_a ow) (ck_a al) (ck_a ri) (ck_a fa) (ck_a re) (ck_a kr) (ck_a cv) (ck_a cn) (ck_a ms) (ck_a si) (ck_a so) (d + 1) (nI i) := by
  intro d
  induction d with
  | zero =>
    intro i hi hh
    exact pk_le dc i (fun _ => h0 (fun j hj => hh j (by omega))) (fun h => absurd h (by omega))
  | succ d ih =>
    intro i hi hh
    refine pk_le dc i (fun h => absurd h (by omega)) (fun _ => ⟨vp_in_nI (by omega) (by omega), ?_⟩)
    refine pk_eq (dO i) p (fun e1 => ⟨vp_in_nI (by omega) (by omega), ?_⟩) (fun e1 => ?_) (ck_ag (by omega)) rfl (hO i (by omega)) hp
    · exact pk_eq (dA i) a (fun e2 => h1 i (by omega) e1 e2) (fun e2 => nm_r (nI_1 i) (ih (i + 1) (by omega) (lt_s hh (fun _ => e2)))) (ck_ag (by omega)) rfl (hA i (by omega)) ha
    · exact nm_r (nI_1 i) (ih (i + 1) (by omega) (lt_s hh (fun w => absurd w e1)))
theorem xx_fd {post : Int32 → Prop} {x y : Int32} (p a : Nat) (hp : p < 2 ^ 31) (ha : a < 2 ^ 31) (hdc : dc ≤ 24) (hO : ∀ i, i < dc → dO i < 2 ^ 31) (hA : ∀ i, i < dc → dA i < 2 ^ 31)
    (h1 : ∀ i, i < dc → dO i = p → dA i = a → post (nI i)) (h0 : (∀ i, i < dc → dO i = p → dA i ≠ a) → post (-1)) (hx : x = nI p) (hy : y = nI a) : wpX_findDraft post ((nI n), (nI room), (nI dc), (nI cc), (nI fc), (nI ins), (nI con), (nI ker), (nI top), (nI lim), (ck_a dO), (ck_a dA), (ck_a dR), (ck_a ow), (ck_a al), (ck_a ri), (ck_a fa), (ck_a re), (ck_a kr), (ck_a cv), (ck_a cn), (ck_a ms), (ck_a si), (ck_a so)) x y := by
  subst hx hy
  exact ⟨_, xl_fd p a hp ha hdc hO hA h1 h0 dc 0 (by omega) ck_n0⟩
theorem xx_pk1 {post : Int32 → Prop} (p : Nat) (hp : p < n) (hn : n ≤ 8) (h : post 1) : wpX_isPackage post ((nI n), (nI room), (nI dc), (nI cc), (nI fc), (nI ins), (nI con), (nI ker), (nI top), (nI lim), (ck_a dO), (ck_a dA), (ck_a dR), (ck_a ow), (ck_a al), (ck_a ri), (ck_a fa), (ck_a re), (ck_a kr), (ck_a cv), (ck_a cn), (ck_a ms), (ck_a si), (ck_a so)) (nI p) :=
  br_f (nI_pos (by omega)) (pk_le n p (fun z => absurd z (by omega)) (fun _ => h))
theorem xx_pk0 {post : Int32 → Prop} (x : Int32) (hx : x < 0 ∨ nI n ≤ x) (h : post 0) : wpX_isPackage post ((nI n), (nI room), (nI dc), (nI cc), (nI fc), (nI ins), (nI con), (nI ker), (nI top), (nI lim), (ck_a dO), (ck_a dA), (ck_a dR), (ck_a ow), (ck_a al), (ck_a ri), (ck_a fa), (ck_a re), (ck_a kr), (ck_a cv), (ck_a cn), (ck_a ms), (ck_a si), (ck_a so)) x := by
  by_cases z : x < 0
  · exact br_t z h
  · exact br_f z (br_t (hx.resolve_left z) h)
theorem xx_st1 {post : Int32 → Prop} (s : Nat) (hn : n ≤ 8) (hs : s < 2 ^ n) (h : post 1) : wpX_isSet post ((nI n), (nI room), (nI dc), (nI cc), (nI fc), (nI ins), (nI con), (nI ker), (nI top), (nI lim), (ck_a dO), (ck_a dA), (ck_a dR), (ck_a ow), (ck_a al), (ck_a ri), (ck_a fa), (ck_a re), (ck_a kr), (ck_a cv), (ck_a cn), (ck_a ms), (ck_a si), (ck_a so)) (nI s) := by
  have := ck_p8 hn
  exact br_f (nI_pos (by omega)) (pk_le (2 ^ n) s (fun z => absurd z (by omega)) (fun _ => h) (ck_shl n (by omega)) rfl)
theorem xx_st0 {post : Int32 → Prop} (x : Int32) (hn : n ≤ 8) (hx : x < 0 ∨ nI (2 ^ n) ≤ x) (h : post 0) : wpX_isSet post ((nI n), (nI room), (nI dc), (nI cc), (nI fc), (nI ins), (nI con), (nI ker), (nI top), (nI lim), (ck_a dO), (ck_a dA), (ck_a dR), (ck_a ow), (ck_a al), (ck_a ri), (ck_a fa), (ck_a re), (ck_a kr), (ck_a cv), (ck_a cn), (ck_a ms), (ck_a si), (ck_a so)) x := by
  by_cases z : x < 0
  · exact br_t z h
  · exact br_f z (br_t (by rw [ck_shl n (by omega)]; exact hx.resolve_left z) h)
end
end
section
/-! X: the facets -/
def ck_H (n cc : Nat) (ow al ri : Nat → Nat) (m : Nat) : Prop := ck_Ind n ri m ∧ ck_Unb cc ow al m
def ck_wt (f : Nat → Nat) : Nat → Nat
  | 0 => 0
  | k + 1 => ck_wt f k + f k
theorem ck_wtc {f g : Nat → Nat} {k : Nat} (h : ∀ i, i < k → g i = f i) : ck_wt g k = ck_wt f k := by
  induction k with
  | zero => rfl
  | succ k ih => show ck_wt g k + g k = ck_wt f k + f k; rw [ih (fun i hi => h i (by omega)), h k (by omega)]
theorem ck_wt2 {f g : Nat → Nat} {t : Nat} (h : ∀ i, i < t → g i = f i) (h2 : g t + g (t + 1) + 1 ≤ f t) : ck_wt g (t + 2) + 1 ≤ ck_wt f (t + 1) := by
  show ck_wt g t + g t + g (t + 1) + 1 ≤ ck_wt f t + f t
  rw [ck_wtc h]
  omega
theorem ck_w2l {a b c : Nat} (ha : a < c) (hb : b < c) : (2 ^ (a + 1) - 1) + (2 ^ (b + 1) - 1) + 1 ≤ 2 ^ (c + 1) - 1 := by
  have h1 : 2 ^ (a + 1) ≤ 2 ^ c := Nat.pow_le_pow_right (by decide) ha
  have h2 : 2 ^ (b + 1) ≤ 2 ^ c := Nat.pow_le_pow_right (by decide) hb
  have h3 : 2 ^ (c + 1) = 2 ^ c * 2 := Nat.pow_succ _ _
  have h4 : 0 < 2 ^ (a + 1) := Nat.two_pow_pos _
  have h5 : 0 < 2 ^ (b + 1) := Nat.two_pow_pos _
  omega
theorem ck_w21 (c : Nat) : 1 ≤ 2 ^ (c + 1) - 1 := by
  have h3 : 2 ^ (c + 1) = 2 ^ c * 2 := Nat.pow_succ _ _
  have h4 : 0 < 2 ^ c := Nat.two_pow_pos _
  omega
def ck_kp (s f : Nat) : Bool := !decide (ck_dif f s = 0)
theorem ck_kpt {s f : Nat} : ck_kp s f = true ↔ ¬ ck_sub f s := by
  unfold ck_kp
  rw [Bool.not_eq_true', decide_eq_false_iff_not, ck_dif0]
section
variable {n room dc cc fc ins con ker top lim : Nat} {dO dA dR ow al ri fa re kr cv cn ms si so : Nat → Nat}
theorem xl_tr {post : Int32 → Prop} (s0 : Nat) (hn : n ≤ 8) (hcc : cc ≤ 24) (how : ∀ i, i < cc → ow i < n)
    (h : ∀ t, ck_sub t s0 → ck_Unb cc ow al t → (∀ m, ck_Unb cc ow al m → ck_sub m s0 → ck_sub m t) → post (nI t)) :
    ∀ d i t, i + d = 8 → t < 2 ^ n → ck_sub t s0 → (∀ m, ck_Unb cc ow al m → ck_sub m s0 → ck_sub m t) → ck_cd n t + i ≤ 8 → wX_trim_4 post (nI n) (nI room) (nI dc) (nI cc) (nI fc) (nI ins) (nI con) (nI ker) (nI top) (nI lim) (ck_a dO) (ck_a dA) (ck_a dR) (ck_a ow) (ck_a al) (ck_a ri) (ck_a fa) (ck_a re) (ck_a kr) (ck_a cv) (ck_a cn) (ck_a ms) (ck_a si) (ck_a so) (d + 1) (nI t) (nI i) := by
  intro d
  induction d with
  | zero =>
    intro i t hi ht hs hm hc
    have : i = 8 := by omega
    subst this
    refine pk_le 8 8 (fun _ => h t hs (fun j hj e => ?_) hm) (fun h => absurd h (by omega))
    have := ck_cd0 (how j hj) e
    omega
  | succ d ih =>
    intro i t hi ht hs hm hc
    refine pk_le 8 i (fun h => absurd h (by omega)) (fun _ => ?_)
    refine xx_bc t (ck_31 hn ht) hcc (fun j hj => by have := how j hj; omega) (fun j hj e z => ?_) (fun hu => ?_) rfl
    · have hj' := how j hj
      refine br_t (nI_pos' (by omega)) ⟨vp_in_nI (by omega) (by omega), ?_⟩
      refine nm_r (e' := nI (ck_dif t (2 ^ ow j))) (by rw [ck_ag (by omega), ck_shl _ (by omega), ck_andn]) (nm_r (nI_1 i) (ih (i + 1) (ck_dif t (2 ^ ow j)) (by omega) (ck_slt (ck_sdf _ _) ht) (ck_str (ck_sdf _ _) hs) (fun m hu hms p hp => ck_tdf.mpr ⟨hm m hu hms p hp, fun w => ?_⟩) ?_))
      · have := ck_t2.mp w
        subst this
        obtain ⟨q, q1, q2⟩ := ck_andN.mp (hu j hj hp)
        exact ck_and0.mp z q q1 (hm m hu hms q q2)
      · have := ck_cdl (n := n) (a := ck_dif t (2 ^ ow j)) (b := t) (q := ow j) (fun p _ => ck_sdf _ _ p) hj' (ck_nf (fun w => (ck_tdf.mp w).2 (ck_t2.mpr rfl))) e
        omega
    · exact br_f (by decide) (h t hs hu hm)
theorem xx_tr {post : Int32 → Prop} {x : Int32} (s : Nat) (hs : s < 2 ^ n) (hn : n ≤ 8) (hcc : cc ≤ 24) (how : ∀ i, i < cc → ow i < n)
    (h : ∀ t, ck_sub t s → ck_Unb cc ow al t → (∀ m, ck_Unb cc ow al m → ck_sub m s → ck_sub m t) → post (nI t)) (hx : x = nI s) : wpX_trim post ((nI n), (nI room), (nI dc), (nI cc), (nI fc), (nI ins), (nI con), (nI ker), (nI top), (nI lim), (ck_a dO), (ck_a dA), (ck_a dR), (ck_a ow), (ck_a al), (ck_a ri), (ck_a fa), (ck_a re), (ck_a kr), (ck_a cv), (ck_a cn), (ck_a ms), (ck_a si), (ck_a so)) x := by
  subst hx
  have := ck_cdle n s
  exact ⟨_, xl_tr s hn hcc how h 8 0 s (by omega) hs (ck_srf _) (fun _ _ z => z) (by omega)⟩
theorem xl_kf {post : SX → Prop} (s : Nat) (hs : s < 2 ^ 31) (hfc : fc ≤ 70) (f0 : Nat → Nat) (hf0 : ∀ i, i < fc → f0 i < 2 ^ 31)
    (hb : ((ck_ls f0 0 fc).filter (ck_kp s)).length < 70)
    (h : ∀ (k : Nat) (fa : Nat → Nat), ck_ls fa 0 k = (ck_ls f0 0 fc).filter (ck_kp s) ++ [s] → post ((nI n), (nI room), (nI dc), (nI cc), (nI k), (nI ins), (nI con), (nI ker), (nI top), (nI lim), (ck_a dO), (ck_a dA), (ck_a dR), (ck_a ow), (ck_a al), (ck_a ri), (ck_a fa), (ck_a re), (ck_a kr), (ck_a cv), (ck_a cn), (ck_a ms), (ck_a si), (ck_a so))) :
    ∀ (d i k : Nat) (fa : Nat → Nat), i + d = fc → k ≤ i → ck_ls fa 0 k = (ck_ls f0 0 i).filter (ck_kp s) → (∀ j, i ≤ j → fa j = f0 j) → wX_keepFacet_4 post (nI s) (nI n) (nI room) (nI dc) (nI cc) (nI fc) (nI ins) (nI con) (nI ker) (nI top) (nI lim) (d + 1) (nI k) (nI i) (ck_a dO) (ck_a dA) (ck_a dR) (ck_a ow) (ck_a al) (ck_a ri) (ck_a fa) (ck_a re) (ck_a kr) (ck_a cv) (ck_a cn) (ck_a ms) (ck_a si) (ck_a so) := by
  intro d
  induction d with
  | zero =>
    intro i k fa hi hk hl hr
    have : i = fc := by omega
    subst this
    have hlen := ck_lsl fa 0 k
    rw [hl] at hlen
    refine pk_le i i (fun _ => ?_) (fun h => absurd h (by omega))
    refine pk_le 70 k (fun h => absurd h (by omega)) (fun _ => ⟨vp_in_nI (by omega) (by omega), nm_r (ck_au (by omega)) (nm_r (nI_1 k) (h (k + 1) (ck_u fa k s) ?_))⟩)
    rw [ck_lsu (by omega), hl]
  | succ d ih =>
    intro i k fa hi hk hl hr
    have e0 : ck_ls f0 0 (i + 1) = ck_ls f0 0 i ++ [fa i] := by
      show ck_ls f0 0 i ++ [f0 (0 + i)] = _
      rw [Nat.zero_add, hr i (by omega)]
    refine pk_le fc i (fun h => absurd h (by omega)) (fun _ => ⟨vp_in_nI (by omega) (by omega), ?_⟩)
    have hfi : fa i < 2 ^ 31 := by rw [hr i (by omega)]; exact hf0 i (by omega)
    refine ck_z (ck_dif (fa i) s) (by rw [ck_ag (by omega), ck_andn]) (ck_dif31 hfi) (fun z => nm_r (nI_1 i) (ih (i + 1) k fa (by omega) (by omega) ?_ (fun j hj => hr j (by omega)))) (fun z => ⟨vp_in_nI (by omega) (by omega), vp_in_nI (by omega) (by omega), nm_r (e' := ck_a (ck_u fa k (fa i))) (by rw [ck_ag (i := i) (by omega), ck_au (by omega)]) (nm_r (nI_1 k) (nm_r (nI_1 i) (ih (i + 1) (k + 1) (ck_u fa k (fa i)) (by omega) (by omega) ?_ (fun j hj => ?_))))⟩)
    · have : ck_kp s (fa i) = false := ck_nf (fun w => ck_kpt.mp w (ck_dif0.mp z))
      rw [e0, List.filter_append, hl, List.filter_cons, this]
      exact (List.append_nil _).symm
    · have : ck_kp s (fa i) = true := ck_kpt.mpr (fun w => z (ck_dif0.mpr w))
      rw [e0, List.filter_append, ck_lsu (by omega), hl, List.filter_cons, this]
      rfl
    · rw [ck_un (by omega), hr j (by omega)]
theorem xx_kf {post : SX → Prop} {x : Int32} (s : Nat) (hs : s < 2 ^ 31) (hfc : fc ≤ 70) (hf0 : ∀ i, i < fc → fa i < 2 ^ 31)
    (hb : ((ck_ls fa 0 fc).filter (ck_kp s)).length < 70)
    (h : ∀ (k : Nat) (fa' : Nat → Nat), ck_ls fa' 0 k = (ck_ls fa 0 fc).filter (ck_kp s) ++ [s] → post ((nI n), (nI room), (nI dc), (nI cc), (nI k), (nI ins), (nI con), (nI ker), (nI top), (nI lim), (ck_a dO), (ck_a dA), (ck_a dR), (ck_a ow), (ck_a al), (ck_a ri), (ck_a fa'), (ck_a re), (ck_a kr), (ck_a cv), (ck_a cn), (ck_a ms), (ck_a si), (ck_a so))) (hx : x = nI s) : wpX_keepFacet post ((nI n), (nI room), (nI dc), (nI cc), (nI fc), (nI ins), (nI con), (nI ker), (nI top), (nI lim), (ck_a dO), (ck_a dA), (ck_a dR), (ck_a ow), (ck_a al), (ck_a ri), (ck_a fa), (ck_a re), (ck_a kr), (ck_a cv), (ck_a cn), (ck_a ms), (ck_a si), (ck_a so)) x := by
  subst hx
  exact ⟨_, xl_kf s hs hfc fa hf0 hb h fc 0 0 fa (by omega) (by omega) rfl (fun _ _ => rfl)⟩
theorem xx_sk {post : SX → Prop} {x : Int32} (s : Nat) (hn : n ≤ 8) (hs : s < 2 ^ n) (hfc : fc ≤ 70) (hf0 : ∀ i, i < fc → fa i < 2 ^ 31) (ht : top + 1 < 16)
    (hb : ((ck_ls fa 0 fc).filter (ck_kp s)).length < 70)
    (h1 : ck_Ind n ri s → ∀ (k : Nat) (fa' : Nat → Nat), ck_ls fa' 0 k = (ck_ls fa 0 fc).filter (ck_kp s) ++ [s] → post ((nI n), (nI room), (nI dc), (nI cc), (nI k), (nI ins), (nI con), (nI ker), (nI top), (nI lim), (ck_a dO), (ck_a dA), (ck_a dR), (ck_a ow), (ck_a al), (ck_a ri), (ck_a fa'), (ck_a re), (ck_a kr), (ck_a cv), (ck_a cn), (ck_a ms), (ck_a si), (ck_a so)))
    (h2 : ∀ p, p < n → s.testBit p = true → ri p &&& s ≠ 0 → post ((nI n), (nI room), (nI dc), (nI cc), (nI fc), (nI ins), (nI con), (nI ker), (nI (top + 1 + 1)), (nI lim), (ck_a dO), (ck_a dA), (ck_a dR), (ck_a ow), (ck_a al), (ck_a ri), (ck_a fa), (ck_a re), (ck_a kr), (ck_a cv), (ck_a cn), (ck_a ms), (ck_a (ck_u (ck_u si top (ck_dif s (2 ^ p))) (top + 1) (ck_dif s (ri p)))), (ck_a (ck_u (ck_u so top 0) (top + 1) 0))))
    (hx : x = nI s) : wpX_splitOrKeep post ((nI n), (nI room), (nI dc), (nI cc), (nI fc), (nI ins), (nI con), (nI ker), (nI top), (nI lim), (ck_a dO), (ck_a dA), (ck_a dR), (ck_a ow), (ck_a al), (ck_a ri), (ck_a fa), (ck_a re), (ck_a kr), (ck_a cv), (ck_a cn), (ck_a ms), (ck_a si), (ck_a so)) x := by
  subst hx
  refine xx_fi s (ck_31 hn hs) hn (fun p a b c => ?_) (fun hi => ?_) rfl
  · refine br_t (nI_pos' (by omega)) (xx_push (ck_dif s (2 ^ p)) 0 (by omega) (And.intro (vp_in_nI (by omega) (by omega)) (xx_push (ck_dif s (ri p)) 0 (by omega) (h2 p a b c) ?_ rfl)) ?_ rfl)
    · rw [ck_ag (by omega), ck_andn]
    · rw [ck_shl p (by omega), ck_andn]
  · exact br_f (by decide) (xx_kf s (ck_31 hn hs) hfc hf0 hb (h1 hi) rfl)
/-- the facets so far and the stack of findFacets -/
def ck_FI (n cc : Nat) (ow al ri : Nat → Nat) (fc : Nat) (fa : Nat → Nat) (top : Nat) (si : Nat → Nat) (x : Nat) : Prop :=
  (∀ f, f ∈ ck_ls fa 0 fc → f < 2 ^ n ∧ ck_H n cc ow al ri f) ∧ ck_AC (ck_ls fa 0 fc) ∧ (∀ i, i < top → si i < 2 ^ n ∧ ck_cd n (si i) + i ≤ n) ∧
  (∀ m, m < 2 ^ n → ck_H n cc ow al ri m → (∃ f, f ∈ ck_ls fa 0 fc ∧ ck_sub m f) ∨ (∃ i, i < top ∧ ck_sub m (si i))) ∧
  x + ck_wt (fun i => 2 ^ (ck_cd n (si i) + 1) - 1) top ≤ 511
theorem ck_FIn {fc : Nat} {fa : Nat → Nat} (hn : n ≤ 8) (h : ∀ f, f ∈ ck_ls fa 0 fc → f < 2 ^ n ∧ ck_H n cc ow al ri f) (hA : ck_AC (ck_ls fa 0 fc)) : fc ≤ 70 := by
  have a := ck_sp8 _ (fun x hx => by have := (h x hx).1; have := ck_p8 hn; omega) hA
  rw [ck_lsl] at a
  exact a
theorem ck_lsi {A : Nat → Nat} {k i : Nat} (h : i < k) : A i ∈ ck_ls A 0 k := ck_lsm.mpr ⟨i, h, by rw [Nat.zero_add]⟩
theorem xl_ff {post : SX → Prop} (hn : n ≤ 8) (hcc : cc ≤ 24) (how : ∀ i, i < cc → ow i < n)
    (h : ∀ (fc : Nat) (fa : Nat → Nat) (top : Nat) (si so : Nat → Nat), (∀ f, f ∈ ck_ls fa 0 fc → f < 2 ^ n ∧ ck_H n cc ow al ri f) → ck_AC (ck_ls fa 0 fc) →
      (∀ m, m < 2 ^ n → ck_H n cc ow al ri m → ∃ f, f ∈ ck_ls fa 0 fc ∧ ck_sub m f) → post ((nI n), (nI room), (nI dc), (nI cc), (nI fc), (nI ins), (nI con), (nI ker), (nI top), (nI lim), (ck_a dO), (ck_a dA), (ck_a dR), (ck_a ow), (ck_a al), (ck_a ri), (ck_a fa), (ck_a re), (ck_a kr), (ck_a cv), (ck_a cn), (ck_a ms), (ck_a si), (ck_a so))) :
    ∀ (d x fc : Nat) (fa : Nat → Nat) (top : Nat) (si so : Nat → Nat), 511 < x + d → ck_FI n cc ow al ri fc fa top si x → wX_findFacets_25 post d (nI x) (nI n) (nI room) (nI dc) (nI cc) (nI fc) (nI ins) (nI con) (nI ker) (nI top) (nI lim) (ck_a dO) (ck_a dA) (ck_a dR) (ck_a ow) (ck_a al) (ck_a ri) (ck_a fa) (ck_a re) (ck_a kr) (ck_a cv) (ck_a cn) (ck_a ms) (ck_a si) (ck_a so) := by
  intro d
  induction d with
  | zero =>
    intro x fc fa top si so hd hI
    have := hI.2.2.2.2
    omega
  | succ d ih =>
    intro x fc fa top si so hd hI
    obtain ⟨i1, i2, i3, i4, i5⟩ := hI
    have hfc := ck_FIn hn i1 i2
    refine pk_le 512 x (fun z => absurd z (by omega)) (fun _ => ?_)
    cases top with
    | zero =>
      refine pk_le 0 0 (fun _ => h fc fa 0 si so i1 i2 (fun m hm hh => ?_)) (fun z => absurd z (by omega))
      rcases i4 m hm hh with z | ⟨i, hi, _⟩
      · exact z
      · exact absurd hi (Nat.not_lt_zero i)
    | succ t =>
      obtain ⟨j1, j2⟩ := i3 t (by omega)
      have f31 : ∀ i, i < fc → fa i < 2 ^ 31 := fun i hi => ck_31 hn (i1 _ (ck_lsi hi)).1
      refine pk_le (t + 1) 0 (fun z => absurd z (by omega)) (fun _ => nm_r (nI_pred t) ⟨vp_in_nI (by omega) (by omega), ?_⟩)
      refine xx_tr (si t) j1 hn hcc how (fun s s1 s2 s3 => ?_) (ck_ag (by omega))
      have hs := ck_slt s1 j1
      have hcs : ck_cd n s ≤ ck_cd n (si t) := ck_cdm (fun p _ => s1 p)
      have i5' : x + (ck_wt (fun i => 2 ^ (ck_cd n (si i) + 1) - 1) t + (2 ^ (ck_cd n (si t) + 1) - 1)) ≤ 511 := i5
      have hw1 := ck_w21 (ck_cd n (si t))
      refine xx_wf s (ck_31 hn hs) hfc (fun hin => ?_) (fun hno => ?_) rfl
      · refine br_f (by decide) (nm_r (nI_1 x) (ih (x + 1) fc fa t si so (by omega) ⟨i1, i2, fun i hi => i3 i (by omega), fun m hm hh => ?_, by omega⟩))
        rcases i4 m hm hh with z | ⟨i, hi, e⟩
        · exact Or.inl z
        · rcases Nat.lt_or_ge i t with y | y
          · exact Or.inr ⟨i, y, e⟩
          · have : i = t := by omega
            subst this
            obtain ⟨k, hk, e'⟩ := hin
            exact Or.inl ⟨fa k, ck_lsi hk, ck_str (s3 m hh.2 e) e'⟩
      · have hAC : ck_AC ((ck_ls fa 0 fc).filter (ck_kp s) ++ [s]) := by
          refine ck_ACs (ck_ACf _ i2) (fun a ha => ?_)
          obtain ⟨a1, a2⟩ := List.mem_filter.mp ha
          refine ⟨ck_kpt.mp a2, fun w => ?_⟩
          obtain ⟨i, hi, e⟩ := ck_lsm.mp a1
          rw [Nat.zero_add] at e
          subst e
          exact hno i hi w
        have h256 := ck_p8 hn
        have hlen := ck_sp8 _ (fun y hy => by
          rcases List.mem_append.mp hy with z | z
          · have := (i1 y (List.mem_filter.mp z).1).1
            omega
          · have := List.mem_singleton.mp z
            omega) hAC
        rw [List.length_append] at hlen
        have hl1 : [s].length = 1 := rfl
        refine br_t rfl (xx_sk s hn hs hfc f31 (by omega) (by omega) (fun hind k fa' hl => ?_) (fun p p1 p2 p3 => ?_) rfl)
        · refine nm_r (nI_1 x) (ih (x + 1) k fa' t si so (by omega) ⟨?_, ?_, fun i hi => i3 i (by omega), fun m hm hh => ?_, by omega⟩)
          · intro f hf
            rw [hl] at hf
            rcases List.mem_append.mp hf with z | z
            · exact i1 f (List.mem_filter.mp z).1
            · rw [List.mem_singleton.mp z]
              exact ⟨hs, hind, s2⟩
          · rw [hl]; exact hAC
          · rw [hl]
            have ts : ck_sub m s → (∃ f, f ∈ (ck_ls fa 0 fc).filter (ck_kp s) ++ [s] ∧ ck_sub m f) := fun z => ⟨s, List.mem_append.mpr (Or.inr (List.mem_singleton.mpr rfl)), z⟩
            rcases i4 m hm hh with ⟨f, hf, z⟩ | ⟨i, hi, e⟩
            · rcases Classical.em (ck_sub f s) with y | y
              · exact Or.inl (ts (ck_str z y))
              · exact Or.inl ⟨f, List.mem_append.mpr (Or.inl (List.mem_filter.mpr ⟨hf, ck_kpt.mpr y⟩)), z⟩
            · rcases Nat.lt_or_ge i t with y | y
              · exact Or.inr ⟨i, y, e⟩
              · have : i = t := by omega
                subst this
                exact Or.inl (ts (s3 m hh.2 e))
        · obtain ⟨q, q1, q2⟩ := ck_andN.mp p3
          have c1 : ck_cd n (ck_dif s (2 ^ p)) < ck_cd n s := ck_cdl (q := p) (fun z _ => ck_sdf _ _ z) p1 (ck_nf (fun w => (ck_tdf.mp w).2 (ck_t2.mpr rfl))) p2
          have c2 : ck_cd n (ck_dif s (ri p)) < ck_cd n s := ck_cdl (q := q) (fun z _ => ck_sdf _ _ z) (ck_tl hs q2) (ck_nf (fun w => (ck_tdf.mp w).2 q1)) q2
          have g0 : ∀ i, i < t → ck_u (ck_u si t (ck_dif s (2 ^ p))) (t + 1) (ck_dif s (ri p)) i = si i := fun i hi => by rw [ck_un (by omega), ck_un (by omega)]
          have g1 : ck_u (ck_u si t (ck_dif s (2 ^ p))) (t + 1) (ck_dif s (ri p)) t = ck_dif s (2 ^ p) := by rw [ck_un (by omega), ck_us]
          have g2 : ck_u (ck_u si t (ck_dif s (2 ^ p))) (t + 1) (ck_dif s (ri p)) (t + 1) = ck_dif s (ri p) := ck_us
          generalize ck_u (ck_u si t (ck_dif s (2 ^ p))) (t + 1) (ck_dif s (ri p)) = si' at g0 g1 g2 ⊢
          generalize ck_u (ck_u so t 0) (t + 1) 0 = so'
          refine nm_r (nI_1 x) (ih (x + 1) fc fa (t + 1 + 1) si' so' (by omega) ⟨i1, i2, fun i hi => ?_, fun m hm hh => ?_, ?_⟩)
          · rcases Nat.lt_or_ge i t with y | y
            · rw [g0 i y]; exact i3 i (by omega)
            · rcases Nat.lt_or_ge t i with w | w
              · have : i = t + 1 := by omega
                subst this
                rw [g2]
                exact ⟨ck_slt (ck_sdf _ _) hs, by omega⟩
              · have : i = t := by omega
                subst this
                rw [g1]
                exact ⟨ck_slt (ck_sdf _ _) hs, by omega⟩
          · rcases i4 m hm hh with z | ⟨i, hi, e⟩
            · exact Or.inl z
            · refine Or.inr ?_
              rcases Nat.lt_or_ge i t with y | y
              · exact ⟨i, by omega, by rw [g0 i y]; exact e⟩
              · have : i = t := by omega
                subst this
                have ms := s3 m hh.2 e
                rcases Classical.em (m.testBit p = true) with w | w
                · refine ⟨i + 1, by omega, ?_⟩
                  rw [g2]
                  exact fun z hz => ck_tdf.mpr ⟨ms z hz, fun v => ck_and0.mp (hh.1 p p1 w) z v hz⟩
                · refine ⟨i, by omega, ?_⟩
                  rw [g1]
                  refine fun z hz => ck_tdf.mpr ⟨ms z hz, fun v => ?_⟩
                  have := ck_t2.mp v
                  subst this
                  exact w hz
          · have := ck_wt2 (f := fun i => 2 ^ (ck_cd n (si i) + 1) - 1) (g := fun i => 2 ^ (ck_cd n (si' i) + 1) - 1) (t := t) (fun i hi => by
              show 2 ^ (ck_cd n (si' i) + 1) - 1 = 2 ^ (ck_cd n (si i) + 1) - 1
              rw [g0 i hi]) (by
              show (2 ^ (ck_cd n (si' t) + 1) - 1) + (2 ^ (ck_cd n (si' (t + 1)) + 1) - 1) + 1 ≤ 2 ^ (ck_cd n (si t) + 1) - 1
              rw [g1, g2]
              exact ck_w2l (by omega) (by omega))
            have i5'' : x + ck_wt (fun i => 2 ^ (ck_cd n (si i) + 1) - 1) (t + 1) ≤ 511 := i5
            show x + 1 + ck_wt (fun i => 2 ^ (ck_cd n (si' i) + 1) - 1) (t + 2) ≤ 511
            omega
theorem xx_ff {post : SX → Prop} (hn : n ≤ 8) (hcc : cc ≤ 24) (how : ∀ i, i < cc → ow i < n)
    (h : ∀ (fc : Nat) (fa : Nat → Nat) (top : Nat) (si so : Nat → Nat), (∀ f, f ∈ ck_ls fa 0 fc → f < 2 ^ n ∧ ck_H n cc ow al ri f) → ck_AC (ck_ls fa 0 fc) →
      (∀ m, m < 2 ^ n → ck_H n cc ow al ri m → ∃ f, f ∈ ck_ls fa 0 fc ∧ ck_sub m f) → post ((nI n), (nI room), (nI dc), (nI cc), (nI fc), (nI ins), (nI con), (nI ker), (nI top), (nI lim), (ck_a dO), (ck_a dA), (ck_a dR), (ck_a ow), (ck_a al), (ck_a ri), (ck_a fa), (ck_a re), (ck_a kr), (ck_a cv), (ck_a cn), (ck_a ms), (ck_a si), (ck_a so))) : wpX_findFacets post ((nI n), (nI room), (nI dc), (nI cc), (nI fc), (nI ins), (nI con), (nI ker), (nI top), (nI lim), (ck_a dO), (ck_a dA), (ck_a dR), (ck_a ow), (ck_a al), (ck_a ri), (ck_a fa), (ck_a re), (ck_a kr), (ck_a cv), (ck_a cn), (ck_a ms), (ck_a si), (ck_a so)) := by
  have hp := Nat.two_pow_pos n
  unfold wpX_findFacets
  refine xx_push (fc := 0) (top := 0) (2 ^ n - 1) 0 (by omega) ?_ ?_ rfl
  rotate_left
  · rw [ck_shl n (by omega)]
    exact pk_sub (a := 2 ^ n) (b := 1) hp
  refine Exists.intro 512 (xl_ff hn hcc how h 512 0 0 fa 1 (ck_u si 0 (2 ^ n - 1)) (ck_u so 0 0) (by omega) ⟨(fun f hf => nomatch hf), ck_AC0, fun i hi => ?_, fun m hm _ => Or.inr ⟨0, by omega, fun p hp => ?_⟩, ?_⟩)
  · have : i = 0 := by omega
    subst this
    rw [ck_us]
    have := ck_cdle n (2 ^ n - 1)
    exact ⟨by omega, by omega⟩
  · rw [ck_us]
    exact ck_full.mpr (ck_tl hm hp)
  · show 0 + (0 + (2 ^ (ck_cd n (ck_u si 0 (2 ^ n - 1) 0) + 1) - 1)) ≤ 511
    rw [ck_us]
    have a := ck_cdle n (2 ^ n - 1)
    have : 2 ^ (ck_cd n (2 ^ n - 1) + 1) ≤ 2 ^ 9 := Nat.pow_le_pow_right (by decide) (by omega)
    omega
end
end
section
/-! X: classes and their conflicts -/
def ck_LT (fc : Nat) (fa : Nat → Nat) (p q : Nat) : Prop := q ≤ p ∧ ck_SF fc fa p q ∧ ∀ j, j < q → ¬ ck_SF fc fa p j
section
variable {n room dc cc fc ins con ker top lim : Nat} {dO dA dR ow al ri fa re kr cv cn ms si so : Nat → Nat}
theorem xl_mc {post : SX → Prop} (hn : n ≤ 8) (hfc : fc ≤ 70) (hfa : ∀ i, i < fc → fa i < 2 ^ 31)
    (h : ∀ (ker : Nat) (re : Nat → Nat), (∀ p, p < n → ck_LT fc fa p (re p)) → (∀ q, ker.testBit q = true ↔ ∃ p, p < n ∧ re p = q) → post ((nI n), (nI room), (nI dc), (nI cc), (nI fc), (nI ins), (nI con), (nI ker), (nI top), (nI lim), (ck_a dO), (ck_a dA), (ck_a dR), (ck_a ow), (ck_a al), (ck_a ri), (ck_a fa), (ck_a re), (ck_a kr), (ck_a cv), (ck_a cn), (ck_a ms), (ck_a si), (ck_a so))) :
    ∀ (d i ker : Nat) (re : Nat → Nat), i + d = n → (∀ p, p < i → ck_LT fc fa p (re p)) → (∀ q, ker.testBit q = true ↔ ∃ p, p < i ∧ re p = q) → wX_mergeClasses_7 post (nI n) (nI room) (nI dc) (nI cc) (nI fc) (nI ins) (nI con) (nI top) (nI lim) (d + 1) (nI i) (nI ker) (ck_a dO) (ck_a dA) (ck_a dR) (ck_a ow) (ck_a al) (ck_a ri) (ck_a fa) (ck_a re) (ck_a kr) (ck_a cv) (ck_a cn) (ck_a ms) (ck_a si) (ck_a so) := by
  intro d
  induction d with
  | zero =>
    intro i ker re hi h1 h2
    have : i = n := by omega
    subst this
    exact pk_le i i (fun _ => h ker re h1 h2) (fun h => absurd h (by omega))
  | succ d ih =>
    intro i ker re hi h1 h2
    refine pk_le n i (fun h => absurd h (by omega)) (fun _ => ?_)
    refine xx_lt i (by omega) hfc hfa (fun q q1 q2 q3 => ?_) rfl
    refine ⟨vp_in_nI (by omega) (by omega), nm_r (ck_au (by omega)) ⟨vp_in_nI (by omega) (by omega), nm_r (e' := nI (ker ||| 2 ^ q)) ?_ (nm_r (nI_1 i) (ih (i + 1) (ker ||| 2 ^ q) (ck_u re i q) (by omega) ?_ (fun p => ?_)))⟩⟩
    · rw [ck_ag (by omega), ck_us, ck_shl q (by omega), ck_or]
    · refine lt_s (fun p hp => ?_) ?_
      · rw [ck_un (by omega)]; exact h1 p hp
      · rw [ck_us]; exact ⟨q1, q2, q3⟩
    · rw [ck_tor, h2 p, ck_ex, ck_us, ck_t2]
      constructor
      · rintro (⟨z, z1, z2⟩ | e)
        · exact Or.inl ⟨z, z1, by rw [ck_un (by omega)]; exact z2⟩
        · exact Or.inr e
      · rintro (⟨z, z1, z2⟩ | e)
        · rw [ck_un (by omega)] at z2
          exact Or.inl ⟨z, z1, z2⟩
        · exact Or.inr e
theorem xx_mc {post : SX → Prop} (hn : n ≤ 8) (hfc : fc ≤ 70) (hfa : ∀ i, i < fc → fa i < 2 ^ 31)
    (h : ∀ (ker : Nat) (re : Nat → Nat), (∀ p, p < n → ck_LT fc fa p (re p)) → (∀ q, ker.testBit q = true ↔ ∃ p, p < n ∧ re p = q) → post ((nI n), (nI room), (nI dc), (nI cc), (nI fc), (nI ins), (nI con), (nI ker), (nI top), (nI lim), (ck_a dO), (ck_a dA), (ck_a dR), (ck_a ow), (ck_a al), (ck_a ri), (ck_a fa), (ck_a re), (ck_a kr), (ck_a cv), (ck_a cn), (ck_a ms), (ck_a si), (ck_a so))) : wpX_mergeClasses post ((nI n), (nI room), (nI dc), (nI cc), (nI fc), (nI ins), (nI con), (nI ker), (nI top), (nI lim), (ck_a dO), (ck_a dA), (ck_a dR), (ck_a ow), (ck_a al), (ck_a ri), (ck_a fa), (ck_a re), (ck_a kr), (ck_a cv), (ck_a cn), (ck_a ms), (ck_a si), (ck_a so)) :=
  ⟨_, xl_mc hn hfc hfa h n 0 0 re (by omega) ck_n0 (fun q => ⟨fun z => absurd z (by rw [Nat.zero_testBit]; decide), fun ⟨p, hp, _⟩ => absurd hp (Nat.not_lt_zero p)⟩)⟩
/-- what the kernel conflicts hold after the packages below i -/
def ck_KR (n : Nat) (ri re : Nat → Nat) (ins con : Nat) (kr : Nat → Nat) (i : Nat) : Prop :=
  ∀ r, r < n → ∀ q, (kr r).testBit q = true ↔ q ≠ r ∧ ∃ p, p < i ∧ (con.testBit p = true ∧ re p = r ∧ ∃ b, b < n ∧ ((ri p &&& ins).testBit b = true ∧ re b = q))
theorem xl_qc3 {post : SX → Prop} (hn : n ≤ 8) (hre : ∀ p, p < n → re p < n) (hins : ins < 2 ^ n) (hcon : con < 2 ^ n)
    (h : ∀ (kr : Nat → Nat), ck_KR n ri re ins con kr n → post ((nI n), (nI room), (nI dc), (nI cc), (nI fc), (nI ins), (nI con), (nI ker), (nI top), (nI lim), (ck_a dO), (ck_a dA), (ck_a dR), (ck_a ow), (ck_a al), (ck_a ri), (ck_a fa), (ck_a re), (ck_a kr), (ck_a cv), (ck_a cn), (ck_a ms), (ck_a si), (ck_a so))) :
    ∀ (d i : Nat) (kr : Nat → Nat), i + d = n → ck_KR n ri re ins con kr i → wX_quotientConflicts_78 post (nI n) (nI room) (nI dc) (nI cc) (nI fc) (nI ins) (nI con) (nI ker) (nI top) (nI lim) (d + 1) (nI i) (ck_a dO) (ck_a dA) (ck_a dR) (ck_a ow) (ck_a al) (ck_a ri) (ck_a fa) (ck_a re) (ck_a kr) (ck_a cv) (ck_a cn) (ck_a ms) (ck_a si) (ck_a so) := by
  intro d
  induction d with
  | zero =>
    intro i kr hi hk
    have : i = n := by omega
    subst this
    exact pk_le i i (fun _ => h kr hk) (fun h => absurd h (by omega))
  | succ d ih =>
    intro i kr hi hk
    refine pk_le n i (fun h => absurd h (by omega)) (fun _ => ?_)
    have hri := hre i (by omega)
    refine xx_has con i (ck_31 hn hcon) (by omega) (fun ht => ?_) (fun ht => ?_) rfl rfl
    · refine br_f (by decide) ⟨vp_in_nI (by omega) (by omega), nm_r (ck_ag (by omega)) ⟨vp_in_nI (by omega) (by omega), vp_in_nI (by omega) (by omega), ?_⟩⟩
      refine xx_qu (ri i &&& ins) (ck_and31 (ck_31 hn hins)) hn (fun p hp => by have := hre p hp; omega) (fun Q hQ => ?_) (by rw [ck_ag (by omega), nx_and])
      refine ⟨vp_in_nI (by omega) (by omega), nm_r (e' := ck_a (ck_u kr (re i) (kr (re i) ||| Q))) (by rw [ck_ag (by omega), ck_or, ck_au (by omega)]) ⟨vp_in_nI (by omega) (by omega), vp_in_nI (by omega) (by omega), nm_r (e' := ck_a (ck_u (ck_u kr (re i) (kr (re i) ||| Q)) (re i) (ck_dif (kr (re i) ||| Q) (2 ^ re i)))) (by rw [ck_ag (by omega), ck_us, ck_shl _ (by omega), ck_andn, ck_au (by omega)]) (nm_r (nI_1 i) (ih (i + 1) _ (by omega) (fun r hr q => ?_)))⟩⟩
      rw [ck_ex]
      rcases Classical.em (r = re i) with e | e
      · subst e
        rw [ck_us, ck_tdf, ck_tor, hk (re i) hr q, hQ q, ck_t2]
        constructor
        · rintro ⟨(⟨z1, z2⟩ | z), w⟩
          · exact ⟨z1, Or.inl z2⟩
          · exact ⟨fun y => w y.symm, Or.inr ⟨ht, rfl, z⟩⟩
        · rintro ⟨w, (z | ⟨_, _, z⟩)⟩
          · exact ⟨Or.inl ⟨w, z⟩, fun y => w y.symm⟩
          · exact ⟨Or.inr z, fun y => w y.symm⟩
      · rw [ck_un e, ck_un e, hk r hr q]
        constructor
        · rintro ⟨w, z⟩
          exact ⟨w, Or.inl z⟩
        · rintro ⟨w, (z | ⟨_, z, _⟩)⟩
          · exact ⟨w, z⟩
          · exact absurd z.symm e
    · refine br_t rfl (nm_r (nI_1 i) (ih (i + 1) kr (by omega) (fun r hr q => ?_)))
      rw [ck_ex, hk r hr q]
      constructor
      · rintro ⟨w, z⟩
        exact ⟨w, Or.inl z⟩
      · rintro ⟨w, (z | ⟨z, _⟩)⟩
        · exact ⟨w, z⟩
        · exact absurd z (ck_ft ht)
theorem xl_qc2 {post : SX → Prop} (hn : n ≤ 8) (hre : ∀ p, p < n → re p < n) (hins : ins < 2 ^ n) (hcon : con < 2 ^ n)
    (h : ∀ (kr : Nat → Nat), ck_KR n ri re ins con kr n → post ((nI n), (nI room), (nI dc), (nI cc), (nI fc), (nI ins), (nI con), (nI ker), (nI top), (nI lim), (ck_a dO), (ck_a dA), (ck_a dR), (ck_a ow), (ck_a al), (ck_a ri), (ck_a fa), (ck_a re), (ck_a kr), (ck_a cv), (ck_a cn), (ck_a ms), (ck_a si), (ck_a so))) :
    ∀ (d i : Nat) (kr : Nat → Nat), i + d = n → (∀ j, j < i → kr j = 0) → wX_quotientConflicts_55 post (nI n) (nI room) (nI dc) (nI cc) (nI fc) (nI ins) (nI con) (nI ker) (nI top) (nI lim) (d + 1) (nI i) (ck_a dO) (ck_a dA) (ck_a dR) (ck_a ow) (ck_a al) (ck_a ri) (ck_a fa) (ck_a re) (ck_a kr) (ck_a cv) (ck_a cn) (ck_a ms) (ck_a si) (ck_a so) := by
  intro d
  induction d with
  | zero =>
    intro i kr hi hk
    have : i = n := by omega
    subst this
    refine pk_le i i (fun _ => ⟨_, xl_qc3 hn hre hins hcon h i 0 kr (by omega) (fun r hr q => ?_)⟩) (fun h => absurd h (by omega))
    rw [hk r hr]
    exact ⟨fun z => absurd z (by rw [Nat.zero_testBit]; decide), fun ⟨_, p, hp, _⟩ => absurd hp (Nat.not_lt_zero p)⟩
  | succ d ih =>
    intro i kr hi hk
    refine pk_le n i (fun h => absurd h (by omega)) (fun _ => ⟨vp_in_nI (by omega) (by omega), nm_r (ck_au (v := 0) (by omega)) (nm_r (nI_1 i) (ih (i + 1) (ck_u kr i 0) (by omega) (lt_s (fun j hj => ?_) ck_us)))⟩)
    rw [ck_un (by omega)]
    exact hk j hj
theorem xl_qc1 {post : SX → Prop} (hn : n ≤ 8) (hre : ∀ p, p < n → re p < n) (hfc : fc ≤ 70) (hfa : ∀ i, i < fc → fa i < 2 ^ n)
    (h : ∀ (ins con : Nat) (kr : Nat → Nat), ins < 2 ^ n → con < 2 ^ n → (∀ q, ins.testBit q = true ↔ ∃ i, i < fc ∧ (fa i).testBit q = true) →
      (∀ q, con.testBit q = true ↔ ins.testBit q = true ∧ ∃ p, p < n ∧ (ins.testBit p = true ∧ (ri p).testBit q = true)) → ck_KR n ri re ins con kr n → post ((nI n), (nI room), (nI dc), (nI cc), (nI fc), (nI ins), (nI con), (nI ker), (nI top), (nI lim), (ck_a dO), (ck_a dA), (ck_a dR), (ck_a ow), (ck_a al), (ck_a ri), (ck_a fa), (ck_a re), (ck_a kr), (ck_a cv), (ck_a cn), (ck_a ms), (ck_a si), (ck_a so))) :
    ∀ (d i ins : Nat), i + d = fc → (∀ q, ins.testBit q = true ↔ ∃ j, j < i ∧ (fa j).testBit q = true) → wX_quotientConflicts_7 post (nI n) (nI room) (nI dc) (nI cc) (nI fc) (nI con) (nI ker) (nI top) (nI lim) (ck_a dO) (ck_a dA) (ck_a dR) (ck_a ow) (ck_a al) (ck_a ri) (ck_a fa) (ck_a re) (ck_a kr) (ck_a cv) (ck_a cn) (ck_a ms) (ck_a si) (ck_a so) (d + 1) (nI i) (nI ins) := by
  intro d
  induction d with
  | zero =>
    intro i ins hi hk
    have : i = fc := by omega
    subst this
    have hins : ins < 2 ^ n := ck_bl (fun p hp => by obtain ⟨j, hj, e⟩ := (hk p).mp hp; exact ck_tl (hfa j hj) e)
    refine pk_le i i (fun _ => ?_) (fun h => absurd h (by omega))
    refine xx_ro ins (ck_31 hn hins) hn (fun R hR => ?_) rfl
    have hcon : ins &&& R < 2 ^ n := ck_bl (fun p hp => ck_tl hins (ck_tand.mp hp).1)
    exact nm_r (nx_and ins R) ⟨_, xl_qc2 (con := ins &&& R) hn hre hins hcon (fun kr hkr => h ins (ins &&& R) kr hins hcon hk (fun q => by rw [ck_tand, hR q]) hkr) n 0 kr (by omega) ck_n0⟩
  | succ d ih =>
    intro i ins hi hk
    refine pk_le fc i (fun h => absurd h (by omega)) (fun _ => ⟨vp_in_nI (by omega) (by omega), nm_r (e' := nI (ins ||| fa i)) (by rw [ck_ag (by omega), ck_or]) (nm_r (nI_1 i) (ih (i + 1) (ins ||| fa i) (by omega) (fun q => ?_)))⟩)
    rw [ck_tor, hk q, ck_ex]
theorem xx_qc {post : SX → Prop} (hn : n ≤ 8) (hre : ∀ p, p < n → re p < n) (hfc : fc ≤ 70) (hfa : ∀ i, i < fc → fa i < 2 ^ n)
    (h : ∀ (ins con : Nat) (kr : Nat → Nat), ins < 2 ^ n → con < 2 ^ n → (∀ q, ins.testBit q = true ↔ ∃ i, i < fc ∧ (fa i).testBit q = true) →
      (∀ q, con.testBit q = true ↔ ins.testBit q = true ∧ ∃ p, p < n ∧ (ins.testBit p = true ∧ (ri p).testBit q = true)) → ck_KR n ri re ins con kr n → post ((nI n), (nI room), (nI dc), (nI cc), (nI fc), (nI ins), (nI con), (nI ker), (nI top), (nI lim), (ck_a dO), (ck_a dA), (ck_a dR), (ck_a ow), (ck_a al), (ck_a ri), (ck_a fa), (ck_a re), (ck_a kr), (ck_a cv), (ck_a cn), (ck_a ms), (ck_a si), (ck_a so))) : wpX_quotientConflicts post ((nI n), (nI room), (nI dc), (nI cc), (nI fc), (nI ins), (nI con), (nI ker), (nI top), (nI lim), (ck_a dO), (ck_a dA), (ck_a dR), (ck_a ow), (ck_a al), (ck_a ri), (ck_a fa), (ck_a re), (ck_a kr), (ck_a cv), (ck_a cn), (ck_a ms), (ck_a si), (ck_a so)) :=
  ⟨_, xl_qc1 hn hre hfc hfa h fc 0 0 (by omega) (fun q => ⟨fun z => absurd z (by rw [Nat.zero_testBit]; decide), fun ⟨p, hp, _⟩ => absurd hp (Nat.not_lt_zero p)⟩)⟩
end
end
section
/-! X: the search -/
def ck_Rv (n : Nat) (ri : Nat → Nat) : Prop := ∀ p, p < n → ri p < 2 ^ n ∧ ¬ (ri p).testBit p = true ∧ ∀ q, q < n → (ri p).testBit q = true → (ri q).testBit p = true
def ck_SS (n : Nat) (ri : Nat → Nat) (b top : Nat) (si so : Nat → Nat) : Prop :=
  ∀ i, i < top → si i < 2 ^ n ∧ so i < 2 ^ n ∧ ck_Ind n ri (si i) ∧ ck_sub b (si i) ∧ (n - ck_cd n (si i ||| so i)) + i ≤ n
def ck_Cv (top : Nat) (si so : Nat → Nat) (m : Nat) : Prop := ∃ i, i < top ∧ (ck_sub (si i) m ∧ so i &&& m = 0)
def ck_Wt (n top : Nat) (si so : Nat → Nat) : Nat := ck_wt (fun i => 2 ^ (n - ck_cd n (si i ||| so i) + 1) - 1) top
theorem ck_sor {a b c : Nat} (h1 : ck_sub a c) (h2 : ck_sub b c) : ck_sub (a ||| b) c := fun p hp => (ck_tor.mp hp).elim (h1 p) (h2 p)
theorem ck_s2 {q m : Nat} (h : m.testBit q = true) : ck_sub (2 ^ q) m := fun p hp => by rw [← ck_t2.mp hp]; exact h
section
variable {n room dc cc fc ins con ker top lim : Nat} {dO dA dR ow al ri fa re kr cv cn ms si so : Nat → Nat}
theorem xx_os {post : SX → Prop} {x : Int32} (s : Nat) (hn : n ≤ 8) (hs : s < 2 ^ n)
    (h1 : ck_sub s ins → ck_Ind n ri s → post ((nI n), (nI room), (nI dc), (nI cc), (nI fc), (nI ins), (nI con), (nI ker), (nI 1), (nI n), (ck_a dO), (ck_a dA), (ck_a dR), (ck_a ow), (ck_a al), (ck_a ri), (ck_a fa), (ck_a re), (ck_a kr), (ck_a cv), (ck_a cn), (ck_a ms), (ck_a (ck_u si 0 s)), (ck_a (ck_u so 0 0))))
    (h0 : ¬ (ck_sub s ins ∧ ck_Ind n ri s) → post ((nI n), (nI room), (nI dc), (nI cc), (nI fc), (nI ins), (nI con), (nI ker), (nI 0), (nI n), (ck_a dO), (ck_a dA), (ck_a dR), (ck_a ow), (ck_a al), (ck_a ri), (ck_a fa), (ck_a re), (ck_a kr), (ck_a cv), (ck_a cn), (ck_a ms), (ck_a si), (ck_a so))) (hx : x = nI s) : wpX_openSearch post ((nI n), (nI room), (nI dc), (nI cc), (nI fc), (nI ins), (nI con), (nI ker), (nI top), (nI lim), (ck_a dO), (ck_a dA), (ck_a dR), (ck_a ow), (ck_a al), (ck_a ri), (ck_a fa), (ck_a re), (ck_a kr), (ck_a cv), (ck_a cn), (ck_a ms), (ck_a si), (ck_a so)) x := by
  subst hx
  refine ck_z (ck_dif s ins) (ck_andn s ins) (ck_dif31 (ck_31 hn hs)) (fun z => ?_) (fun z => h0 (fun w => z (ck_dif0.mpr w.1)))
  refine xx_fi (top := 0) (lim := n) s (ck_31 hn hs) hn (fun p a b c => ?_) (fun hi => ?_) rfl
  · exact br_t (nI_pos' (by omega)) (h0 (fun w => c (w.2 p a b)))
  · exact br_f (by decide) (xx_push (top := 0) (lim := n) s 0 (by omega) (h1 (ck_dif0.mp z) hi) rfl rfl)
theorem xx_br {post : SX → Prop} {x y z : Int32} (a b c : Nat) (hn : n ≤ 8) (ha : a < 2 ^ n) (hc : c < 2 ^ n) (ht : top + 1 < 16)
    (h0 : (∀ q, c.testBit q = true → ins.testBit q = true → ¬ b.testBit q = true → ¬ (∃ p, p < n ∧ (a.testBit p = true ∧ (ri p).testBit q = true)) → False) → post ((nI n), (nI room), (nI dc), (nI cc), (nI fc), (nI ins), (nI con), (nI ker), (nI top), (nI lim), (ck_a dO), (ck_a dA), (ck_a dR), (ck_a ow), (ck_a al), (ck_a ri), (ck_a fa), (ck_a re), (ck_a kr), (ck_a cv), (ck_a cn), (ck_a ms), (ck_a si), (ck_a so)))
    (h1 : ∀ q, q < n → c.testBit q = true → ¬ b.testBit q = true → ¬ (∃ p, p < n ∧ (a.testBit p = true ∧ (ri p).testBit q = true)) →
      post ((nI n), (nI room), (nI dc), (nI cc), (nI fc), (nI ins), (nI con), (nI ker), (nI (top + 1 + 1)), (nI lim), (ck_a dO), (ck_a dA), (ck_a dR), (ck_a ow), (ck_a al), (ck_a ri), (ck_a fa), (ck_a re), (ck_a kr), (ck_a cv), (ck_a cn), (ck_a ms), (ck_a (ck_u (ck_u si top a) (top + 1) (a ||| 2 ^ q))), (ck_a (ck_u (ck_u so top (b ||| 2 ^ q)) (top + 1) b))))
    (hx : x = nI a) (hy : y = nI b) (hz : z = nI c) : wpX_branch post ((nI n), (nI room), (nI dc), (nI cc), (nI fc), (nI ins), (nI con), (nI ker), (nI top), (nI lim), (ck_a dO), (ck_a dA), (ck_a dR), (ck_a ow), (ck_a al), (ck_a ri), (ck_a fa), (ck_a re), (ck_a kr), (ck_a cv), (ck_a cn), (ck_a ms), (ck_a si), (ck_a so)) x y z := by
  subst hx hy hz
  refine xx_ro a (ck_31 hn ha) hn (fun R hR => ?_) rfl
  have hU : ∀ q, (ck_dif (ck_dif (c &&& ins) b) R).testBit q = true ↔ ((c.testBit q = true ∧ ins.testBit q = true) ∧ ¬ b.testBit q = true) ∧ ¬ (∃ p, p < n ∧ (a.testBit p = true ∧ (ri p).testBit q = true)) := fun q => by
    rw [ck_tdf, ck_tdf, ck_tand, hR q]
  have hUc : ck_dif (ck_dif (c &&& ins) b) R < 2 ^ n := ck_bl (fun p hp => ck_tl hc ((hU p).mp hp).1.1.1)
  have h8 := ck_p8 hn
  refine nm_r (e' := nI (ck_dif (ck_dif (c &&& ins) b) R)) (by rw [nx_and, ck_andn, ck_andn]) ?_
  generalize ck_dif (ck_dif (c &&& ins) b) R = U at hU hUc ⊢
  refine ck_z U rfl (by omega) (fun z => h0 (fun q q1 q2 q3 q4 => ?_)) (fun z => ?_)
  · have := ck_z0 z q
    rw [(hU q).mpr ⟨⟨⟨q1, q2⟩, q3⟩, q4⟩] at this
    exact absurd this (by decide)
  · obtain ⟨l1, l2, l3⟩ := ck_low U (by omega) z
    generalize ck_lq U = q at l1 l2 l3
    obtain ⟨⟨⟨u1, u2⟩, u3⟩, u4⟩ := (hU q).mp l2
    exact nm_r l3 (xx_push a (b ||| 2 ^ q) (by omega) (xx_push (a ||| 2 ^ q) b (by omega) (h1 q (ck_tl hc u1) u1 u3 u4) (ck_or _ _) rfl) rfl (ck_or _ _))
theorem xl_ni {post : Int32 → SX → Prop} (hn : n ≤ 8) (hcc : cc ≤ 24) (how : ∀ i, i < cc → ow i < n) (hal : ∀ i, i < cc → al i < 2 ^ n) (hri : ck_Rv n ri)
    (hm : ∀ m, m < 2 ^ n → ck_H n cc ow al ri m → ck_sub m ins) (hlim : lim ≤ 8) (b : Nat) (C0 : Nat → Prop) (W0 : Nat)
    (h0 : ∀ (si so : Nat → Nat), (∀ m, m < 2 ^ n → ck_H n cc ow al ri m → ck_cd n m ≤ lim → ¬ C0 m) → post (-2) ((nI n), (nI room), (nI dc), (nI cc), (nI fc), (nI ins), (nI con), (nI ker), (nI 0), (nI lim), (ck_a dO), (ck_a dA), (ck_a dR), (ck_a ow), (ck_a al), (ck_a ri), (ck_a fa), (ck_a re), (ck_a kr), (ck_a cv), (ck_a cn), (ck_a ms), (ck_a si), (ck_a so)))
    (h1 : ∀ (f top : Nat) (si so : Nat → Nat), f < 2 ^ n → ck_H n cc ow al ri f → ck_sub b f → ck_cd n f ≤ lim → ck_SS n ri b top si so →
      (∀ m, m < 2 ^ n → ck_H n cc ow al ri m → ck_cd n m ≤ lim → C0 m → ck_sub f m ∨ ck_Cv top si so m) → ck_Wt n top si so + 1 ≤ W0 → post (nI f) ((nI n), (nI room), (nI dc), (nI cc), (nI fc), (nI ins), (nI con), (nI ker), (nI top), (nI lim), (ck_a dO), (ck_a dA), (ck_a dR), (ck_a ow), (ck_a al), (ck_a ri), (ck_a fa), (ck_a re), (ck_a kr), (ck_a cv), (ck_a cn), (ck_a ms), (ck_a si), (ck_a so))) :
    ∀ (d x top : Nat) (si so : Nat → Nat), 511 < x + d → x + ck_Wt n top si so ≤ 511 → ck_Wt n top si so ≤ W0 → ck_SS n ri b top si so →
      (∀ m, m < 2 ^ n → ck_H n cc ow al ri m → ck_cd n m ≤ lim → C0 m → ck_Cv top si so m) → wX_nextInstallation_2 post d (nI x) (nI n) (nI room) (nI dc) (nI cc) (nI fc) (nI ins) (nI con) (nI ker) (nI top) (nI lim) (ck_a dO) (ck_a dA) (ck_a dR) (ck_a ow) (ck_a al) (ck_a ri) (ck_a fa) (ck_a re) (ck_a kr) (ck_a cv) (ck_a cn) (ck_a ms) (ck_a si) (ck_a so) := by
  intro d
  induction d with
  | zero =>
    intro x top si so hd hw
    omega
  | succ d ih =>
    intro x top si so hd hw hw0 hS hC
    refine pk_le 512 x (fun z => absurd z (by omega)) (fun _ => ?_)
    cases top with
    | zero =>
      refine pk_le 0 0 (fun _ => h0 si so (fun m m1 m2 m3 m4 => ?_)) (fun z => absurd z (by omega))
      obtain ⟨i, hi, _⟩ := hC m m1 m2 m3 m4
      exact Nat.not_lt_zero i hi
    | succ t =>
      obtain ⟨s1, s2, s3, s4, s5⟩ := hS t (by omega)
      have S' : ck_SS n ri b t si so := fun i hi => hS i (by omega)
      have hwt : ck_Wt n (t + 1) si so = ck_Wt n t si so + (2 ^ (n - ck_cd n (si t ||| so t) + 1) - 1) := rfl
      have hw1 := ck_w21 (n - ck_cd n (si t ||| so t))
      have hcl := ck_cdle n (si t)
      refine pk_le (t + 1) 0 (fun z => absurd z (by omega)) (fun _ => nm_r (nI_pred t) ⟨vp_in_nI (by omega) (by omega), nm_r (ck_ag (by omega)) ?_⟩)
      refine xx_me (si t) (ck_31 hn s1) hn ?_ rfl
      refine pk_lt lim (ck_cd n (si t)) (fun z => nm_r (nI_1 x) (ih (x + 1) t si so (by omega) (by omega) (by omega) S' (fun m m1 m2 m3 m4 => ?_))) (fun z => ?_)
      · obtain ⟨i, hi, e⟩ := hC m m1 m2 m3 m4
        rcases Nat.lt_or_ge i t with y | y
        · exact ⟨i, y, e⟩
        · have : i = t := by omega
          subst this
          have := ck_cdm (n := n) (fun p _ => e.1 p)
          omega
      · refine xx_bc (si t) (ck_31 hn s1) hcc (fun j hj => by have := how j hj; omega) (fun j hj j1 j2 => ?_) (fun hu => ?_) rfl
        · refine br_t (nI_pos' (by omega)) ⟨vp_in_nI (by omega) (by omega), vp_in_nI (by omega) (by omega), ?_⟩
          refine xx_br (si t) (so t) (al j) hn s1 (hal j hj) (by omega) (fun hno => ?_) (fun q q0 q1 q2 q3 => ?_) rfl (ck_ag (by omega)) (ck_ag (by omega))
          · refine nm_r (nI_1 x) (ih (x + 1) t si so (by omega) (by omega) (by omega) S' (fun m m1 m2 m3 m4 => ?_))
            obtain ⟨i, hi, e⟩ := hC m m1 m2 m3 m4
            rcases Nat.lt_or_ge i t with y | y
            · exact ⟨i, y, e⟩
            · have : i = t := by omega
              subst this
              obtain ⟨q, q1, q2⟩ := ck_andN.mp (m2.2 j hj (e.1 _ j1))
              exact (hno q q1 (hm m m1 m2 q q2) (fun w => ck_and0.mp e.2 q w q2) (fun ⟨p, p0, p1, p2⟩ => ck_and0.mp (m2.1 p p0 (e.1 p p1)) q p2 q2)).elim
          · have hqi : ¬ (si t).testBit q = true := fun w => ck_and0.mp j2 q q1 w
            have g0 : ∀ i, i < t → ck_u (ck_u si t (si t)) (t + 1) (si t ||| 2 ^ q) i = si i := fun i hi => by rw [ck_un (by omega), ck_un (by omega)]
            have g1 : ck_u (ck_u si t (si t)) (t + 1) (si t ||| 2 ^ q) t = si t := by rw [ck_un (by omega), ck_us]
            have g2 : ck_u (ck_u si t (si t)) (t + 1) (si t ||| 2 ^ q) (t + 1) = si t ||| 2 ^ q := ck_us
            have k0 : ∀ i, i < t → ck_u (ck_u so t (so t ||| 2 ^ q)) (t + 1) (so t) i = so i := fun i hi => by rw [ck_un (by omega), ck_un (by omega)]
            have k1 : ck_u (ck_u so t (so t ||| 2 ^ q)) (t + 1) (so t) t = so t ||| 2 ^ q := by rw [ck_un (by omega), ck_us]
            have k2 : ck_u (ck_u so t (so t ||| 2 ^ q)) (t + 1) (so t) (t + 1) = so t := ck_us
            generalize ck_u (ck_u si t (si t)) (t + 1) (si t ||| 2 ^ q) = si' at g0 g1 g2 ⊢
            generalize ck_u (ck_u so t (so t ||| 2 ^ q)) (t + 1) (so t) = so' at k0 k1 k2 ⊢
            have hq2 := ck_2lt q0
            have hqf : (si t ||| so t).testBit q = false := ck_nf (fun w => (ck_tor.mp w).elim hqi q2)
            have e1 : ck_cd n (si t ||| so t) < ck_cd n (si t ||| (so t ||| 2 ^ q)) := ck_cdl (fun p _ hp => ck_tor.mpr ((ck_tor.mp hp).elim Or.inl (fun w => Or.inr (ck_tor.mpr (Or.inl w))))) q0 hqf (ck_tor.mpr (Or.inr (ck_tor.mpr (Or.inr (ck_t2.mpr rfl)))))
            have e2 : ck_cd n (si t ||| so t) < ck_cd n ((si t ||| 2 ^ q) ||| so t) := ck_cdl (fun p _ hp => ck_tor.mpr ((ck_tor.mp hp).elim (fun w => Or.inl (ck_tor.mpr (Or.inl w))) Or.inr)) q0 hqf (ck_tor.mpr (Or.inl (ck_tor.mpr (Or.inr (ck_t2.mpr rfl)))))
            have l1 := ck_cdle n (si t ||| (so t ||| 2 ^ q))
            have l2 := ck_cdle n ((si t ||| 2 ^ q) ||| so t)
            have hwn : ck_Wt n (t + 2) si' so' + 1 ≤ ck_Wt n (t + 1) si so := by
              refine ck_wt2 (fun i hi => ?_) ?_
              · show 2 ^ (n - ck_cd n (si' i ||| so' i) + 1) - 1 = 2 ^ (n - ck_cd n (si i ||| so i) + 1) - 1
                rw [g0 i hi, k0 i hi]
              · show (2 ^ (n - ck_cd n (si' t ||| so' t) + 1) - 1) + (2 ^ (n - ck_cd n (si' (t + 1) ||| so' (t + 1)) + 1) - 1) + 1 ≤ 2 ^ (n - ck_cd n (si t ||| so t) + 1) - 1
                rw [g1, g2, k1, k2]
                exact ck_w2l (by omega) (by omega)
            refine nm_r (nI_1 x) (ih (x + 1) (t + 1 + 1) si' so' (by omega) (by have : ck_Wt n (t + 1 + 1) si' so' = ck_Wt n (t + 2) si' so' := rfl; omega) (by have : ck_Wt n (t + 1 + 1) si' so' = ck_Wt n (t + 2) si' so' := rfl; omega) (fun i hi => ?_) (fun m m1 m2 m3 m4 => ?_))
            · rcases Nat.lt_or_ge i t with y | y
              · rw [g0 i y, k0 i y]; exact hS i (by omega)
              · rcases Nat.lt_or_ge t i with w | w
                · have : i = t + 1 := by omega
                  subst this
                  rw [g2, k2]
                  refine ⟨ck_orlt s1 hq2, s2, fun p hp hpt => ck_and0.mpr (fun z z1 z2 => ?_), fun z hz => ck_tor.mpr (Or.inl (s4 z hz)), by omega⟩
                  rcases ck_tor.mp hpt with v | v
                  · rcases ck_tor.mp z2 with v2 | v2
                    · exact ck_and0.mp (s3 p hp v) z z1 v2
                    · rw [← ck_t2.mp v2] at z1
                      exact q3 ⟨p, hp, v, z1⟩
                  · have := ck_t2.mp v
                    subst this
                    rcases ck_tor.mp z2 with v2 | v2
                    · have zn := ck_tl s1 v2
                      exact q3 ⟨z, zn, v2, (hri q hp).2.2 z zn z1⟩
                    · rw [← ck_t2.mp v2] at z1
                      exact (hri q hp).2.1 z1
                · have : i = t := by omega
                  subst this
                  rw [g1, k1]
                  exact ⟨s1, ck_orlt s2 hq2, s3, s4, by omega⟩
            · obtain ⟨i, hi, e⟩ := hC m m1 m2 m3 m4
              rcases Nat.lt_or_ge i t with y | y
              · exact ⟨i, by omega, by rw [g0 i y, k0 i y]; exact e⟩
              · have : i = t := by omega
                subst this
                rcases Classical.em (m.testBit q = true) with w | w
                · refine ⟨i + 1, by omega, ?_⟩
                  rw [g2, k2]
                  exact ⟨ck_sor e.1 (ck_s2 w), e.2⟩
                · refine ⟨i, by omega, ?_⟩
                  rw [g1, k1]
                  refine ⟨e.1, ck_and0.mpr (fun z z1 z2 => ?_)⟩
                  rcases ck_tor.mp z1 with v | v
                  · exact ck_and0.mp e.2 z v z2
                  · rw [← ck_t2.mp v] at z2
                    exact w z2
        · refine br_f (by decide) (h1 (si t) t si so s1 ⟨s3, hu⟩ s4 z S' (fun m m1 m2 m3 m4 => ?_) (by omega))
          obtain ⟨i, hi, e⟩ := hC m m1 m2 m3 m4
          rcases Nat.lt_or_ge i t with y | y
          · exact Or.inr ⟨i, y, e⟩
          · have : i = t := by omega
            subst this
            exact Or.inl e.1
theorem xx_ni {post : Int32 → SX → Prop} (hn : n ≤ 8) (hcc : cc ≤ 24) (how : ∀ i, i < cc → ow i < n) (hal : ∀ i, i < cc → al i < 2 ^ n) (hri : ck_Rv n ri)
    (hm : ∀ m, m < 2 ^ n → ck_H n cc ow al ri m → ck_sub m ins) (hlim : lim ≤ 8) (b : Nat) (hw : ck_Wt n top si so ≤ 511) (hS : ck_SS n ri b top si so)
    (h0 : ∀ (si' so' : Nat → Nat), (∀ m, m < 2 ^ n → ck_H n cc ow al ri m → ck_cd n m ≤ lim → ¬ ck_Cv top si so m) → post (-2) ((nI n), (nI room), (nI dc), (nI cc), (nI fc), (nI ins), (nI con), (nI ker), (nI 0), (nI lim), (ck_a dO), (ck_a dA), (ck_a dR), (ck_a ow), (ck_a al), (ck_a ri), (ck_a fa), (ck_a re), (ck_a kr), (ck_a cv), (ck_a cn), (ck_a ms), (ck_a si'), (ck_a so')))
    (h1 : ∀ (f top' : Nat) (si' so' : Nat → Nat), f < 2 ^ n → ck_H n cc ow al ri f → ck_sub b f → ck_cd n f ≤ lim → ck_SS n ri b top' si' so' →
      (∀ m, m < 2 ^ n → ck_H n cc ow al ri m → ck_cd n m ≤ lim → ck_Cv top si so m → ck_sub f m ∨ ck_Cv top' si' so' m) → ck_Wt n top' si' so' + 1 ≤ ck_Wt n top si so → post (nI f) ((nI n), (nI room), (nI dc), (nI cc), (nI fc), (nI ins), (nI con), (nI ker), (nI top'), (nI lim), (ck_a dO), (ck_a dA), (ck_a dR), (ck_a ow), (ck_a al), (ck_a ri), (ck_a fa), (ck_a re), (ck_a kr), (ck_a cv), (ck_a cn), (ck_a ms), (ck_a si'), (ck_a so'))) : wpX_nextInstallation post ((nI n), (nI room), (nI dc), (nI cc), (nI fc), (nI ins), (nI con), (nI ker), (nI top), (nI lim), (ck_a dO), (ck_a dA), (ck_a dR), (ck_a ow), (ck_a al), (ck_a ri), (ck_a fa), (ck_a re), (ck_a kr), (ck_a cv), (ck_a cn), (ck_a ms), (ck_a si), (ck_a so)) :=
  ⟨512, xl_ni hn hcc how hal hri hm hlim b (ck_Cv top si so) (ck_Wt n top si so) h0 h1 512 0 top si so (by omega) (by omega) (by omega) hS (fun _ _ _ _ z => z)⟩
end
end
section
/-! the covers: minimal transversals, plain -/
def ck_CI (un : Nat) (TT : Nat → Prop) (L : List Nat) : Prop :=
  ck_AC L ∧ (∀ c, c ∈ L → ck_sub c un) ∧ (∀ c, c ∈ L → ∀ t, TT t → c &&& t ≠ 0) ∧ (∀ d, (∀ t, TT t → d &&& t ≠ 0) → ∃ c, c ∈ L ∧ ck_sub c d)
def ck_EI (L0 : List Nat) (t : Nat) (Dn : Nat → Nat → Prop) (L : List Nat) : Prop :=
  ck_AC L ∧ (∀ x, x ∈ L → (x ∈ L0 ∧ x &&& t ≠ 0) ∨ ∃ d p, d ∈ L0 ∧ d &&& t = 0 ∧ t.testBit p = true ∧ x = d ||| 2 ^ p) ∧
  (∀ c, c ∈ L0 → c &&& t ≠ 0 → c ∈ L) ∧ (∀ d p, Dn d p → ∃ c, c ∈ L ∧ ck_sub c (d ||| 2 ^ p))
theorem ck_EIm {L0 : List Nat} {t : Nat} {D1 D2 : Nat → Nat → Prop} {L : List Nat} (h : ck_EI L0 t D1 L) (hd : ∀ d p, D2 d p → D1 d p) : ck_EI L0 t D2 L :=
  ⟨h.1, h.2.1, h.2.2.1, fun d p z => h.2.2.2 d p (hd d p z)⟩
theorem ck_EIa {L0 : List Nat} {t : Nat} {D1 D2 : Nat → Nat → Prop} {L : List Nat} {d p : Nat} (h : ck_EI L0 t D1 L) (hc : ∃ c, c ∈ L ∧ ck_sub c (d ||| 2 ^ p))
    (hd : ∀ d' p', D2 d' p' → D1 d' p' ∨ (d' = d ∧ p' = p)) : ck_EI L0 t D2 L :=
  ⟨h.1, h.2.1, h.2.2.1, fun d' p' z => (hd d' p' z).elim (h.2.2.2 d' p') (fun ⟨e1, e2⟩ => by rw [e1, e2]; exact hc)⟩
theorem ck_EIb {L0 : List Nat} {t : Nat} {D1 D2 : Nat → Nat → Prop} {L : List Nat} {d p : Nat} (h0 : ck_AC L0) (h : ck_EI L0 t D1 L) (hd0 : d ∈ L0) (hdt : d &&& t = 0) (hp : t.testBit p = true)
    (hc : ∀ c, c ∈ L → ¬ ck_sub c (d ||| 2 ^ p)) (hd : ∀ d' p', D2 d' p' → D1 d' p' ∨ (d' = d ∧ p' = p)) : ck_EI L0 t D2 (L ++ [d ||| 2 ^ p]) := by
  obtain ⟨h1, h2, h3, h4⟩ := h
  have hself : (d ||| 2 ^ p) ∈ L ++ [d ||| 2 ^ p] := List.mem_append.mpr (Or.inr (List.mem_singleton.mpr rfl))
  refine ⟨ck_ACs h1 (fun c hcL => ⟨hc c hcL, fun hs => ?_⟩), fun x hx => ?_, fun c c1 c2 => List.mem_append.mpr (Or.inl (h3 c c1 c2)), fun d' p' z => ?_⟩
  · rcases h2 c hcL with ⟨c1, c2⟩ | ⟨d', p', e1, e2, e3, e4⟩
    · have : d = c := ck_ACe h0 hd0 c1 (ck_str (fun z hz => ck_tor.mpr (Or.inl hz)) hs)
      subst this
      exact c2 hdt
    · subst e4
      have hp' : p' = p := by
        rcases ck_tor.mp (hs p (ck_tor.mpr (Or.inr (ck_t2.mpr rfl)))) with w | w
        · exact (ck_and0.mp e2 p w hp).elim
        · exact ck_t2.mp w
      subst hp'
      have : d = d' := by
        refine ck_ACe h0 hd0 e1 (fun z hz => ?_)
        rcases ck_tor.mp (hs z (ck_tor.mpr (Or.inl hz))) with w | w
        · exact w
        · have := ck_t2.mp w
          subst this
          exact (ck_and0.mp hdt p' hz hp).elim
      subst this
      exact hc _ hcL (ck_srf _)
  · rcases List.mem_append.mp hx with w | w
    · exact h2 x w
    · exact Or.inr ⟨d, p, hd0, hdt, hp, List.mem_singleton.mp w⟩
  · rcases hd d' p' z with w | ⟨e1, e2⟩
    · obtain ⟨c, c1, c2⟩ := h4 d' p' w
      exact ⟨c, List.mem_append.mpr (Or.inl c1), c2⟩
    · subst e1 e2
      exact ⟨_, hself, ck_srf _⟩
theorem ck_EIu {L0 : List Nat} {t un : Nat} {D : Nat → Nat → Prop} {L : List Nat} (h : ck_EI L0 t D L) (h0 : ∀ c, c ∈ L0 → ck_sub c un) (ht : ck_sub t un) : ∀ c, c ∈ L → ck_sub c un := by
  intro c hc
  rcases h.2.1 c hc with ⟨c1, _⟩ | ⟨d, p, e1, _, e3, e4⟩
  · exact h0 c c1
  · subst e4
    exact ck_sor (h0 d e1) (ck_s2 (ht p e3))
theorem ck_EIl {L : List Nat} {r un n : Nat} (hn : n ≤ 8) (hr : r < n) (hun : un < 2 ^ n) (hur : ¬ un.testBit r = true) (h : ∀ c, c ∈ L → ck_sub c un) (hA : ck_AC L) : L.length ≤ 35 := by
  have h8 := ck_p8 hn
  refine ck_sp7 (r := r) (by omega) L (fun x hx => ⟨?_, ck_nf (fun w => hur (h x hx r w))⟩) hA
  have := ck_slt (h x hx) hun
  omega
theorem ck_CIa {un n t : Nat} {TT : Nat → Prop} {L0 L : List Nat} (h : ck_CI un TT L0) (htn : t < 2 ^ n) (htu : ck_sub t un)
    (hE : ck_EI L0 t (fun d p => (d ∈ L0 ∧ d &&& t = 0) ∧ t.testBit p = true ∧ p < n) L) : ck_CI un (fun t' => TT t' ∨ t' = t) L := by
  obtain ⟨c1, c2, c3, c4⟩ := h
  refine ⟨hE.1, ck_EIu hE c2 htu, fun c hc t' ht' => ?_, fun d hd => ?_⟩
  · rcases hE.2.1 c hc with ⟨a, b⟩ | ⟨d, p, e1, e2, e3, e4⟩
    · rcases ht' with w | w
      · exact c3 c a t' w
      · rw [w]; exact b
    · subst e4
      rcases ht' with w | w
      · obtain ⟨z, z1, z2⟩ := ck_andN.mp (c3 d e1 t' w)
        exact ck_andN.mpr ⟨z, ck_tor.mpr (Or.inl z1), z2⟩
      · rw [w]
        exact ck_andN.mpr ⟨p, ck_tor.mpr (Or.inr (ck_t2.mpr rfl)), e3⟩
  · obtain ⟨c, hc, hs⟩ := c4 d (fun t' w => hd t' (Or.inl w))
    rcases Classical.em (c &&& t = 0) with w | w
    · obtain ⟨p, p1, p2⟩ := ck_andN.mp (hd t (Or.inr rfl))
      obtain ⟨c', hc', hs'⟩ := hE.2.2.2 c p ⟨⟨hc, w⟩, p2, ck_tl htn p2⟩
      exact ⟨c', hc', ck_str hs' (ck_sor hs (ck_s2 p1))⟩
    · exact ⟨c, hE.2.2.1 c hc w, hs⟩
theorem ck_CI0 (un : Nat) : ck_CI un (fun _ => False) [0] := by
  refine ⟨List.pairwise_singleton _ _, fun c hc p hp => ?_, fun c hc t ht => ht.elim, fun d _ => ⟨0, List.mem_singleton.mpr rfl, fun p hp => ?_⟩⟩
  · rw [List.mem_singleton.mp hc, Nat.zero_testBit] at hp
    exact absurd hp (by decide)
  · rw [Nat.zero_testBit] at hp
    exact absurd hp (by decide)
/-! X: addCover, extend, absorb -/
def ck_Ot (r : Nat) (cv cn cv' cn' : Nat → Nat) : Prop := (∀ j, (j < r * 35 ∨ r * 35 + 35 ≤ j) → cv' j = cv j) ∧ (∀ j, j ≠ r → cn' j = cn j)
theorem ck_Otr (r : Nat) (cv cn : Nat → Nat) : ck_Ot r cv cn cv cn := ⟨fun _ _ => rfl, fun _ _ => rfl⟩
theorem ck_Ott {r : Nat} {cv cn cv1 cn1 cv2 cn2 : Nat → Nat} (h : ck_Ot r cv cn cv1 cn1) (g : ck_Ot r cv1 cn1 cv2 cn2) : ck_Ot r cv cn cv2 cn2 :=
  ⟨fun j hj => (g.1 j hj).trans (h.1 j hj), fun j hj => (g.2 j hj).trans (h.2 j hj)⟩
theorem ck_ix (r i : Nat) : nI r * 35 + nI i = nI (r * 35 + i) := by
  show nI r * nI 35 + nI i = _
  rw [pk_mul, nI_add]
section
variable {n room dc cc fc ins con ker top lim : Nat} {dO dA dR ow al ri fa re kr cv cn ms si so : Nat → Nat}
theorem xl_ac {post : SX → Prop} (r d : Nat) (hr : r < 8) (hd : d < 2 ^ 31) (k : Nat) (hk : cn r = k) (hk35 : k ≤ 35) (hcv : ∀ i, i < k → cv (r * 35 + i) < 2 ^ 31)
    (h0 : (∃ i, i < k ∧ ck_sub (cv (r * 35 + i)) d) → post ((nI n), (nI room), (nI dc), (nI cc), (nI fc), (nI ins), (nI con), (nI ker), (nI top), (nI lim), (ck_a dO), (ck_a dA), (ck_a dR), (ck_a ow), (ck_a al), (ck_a ri), (ck_a fa), (ck_a re), (ck_a kr), (ck_a cv), (ck_a cn), (ck_a ms), (ck_a si), (ck_a so)))
    (h1 : (∀ i, i < k → ¬ ck_sub (cv (r * 35 + i)) d) → k < 35 ∧ post ((nI n), (nI room), (nI dc), (nI cc), (nI fc), (nI ins), (nI con), (nI ker), (nI top), (nI lim), (ck_a dO), (ck_a dA), (ck_a dR), (ck_a ow), (ck_a al), (ck_a ri), (ck_a fa), (ck_a re), (ck_a kr), (ck_a (ck_u cv (r * 35 + k) d)), (ck_a (ck_u cn r (k + 1))), (ck_a ms), (ck_a si), (ck_a so))) :
    ∀ dd i, i + dd = k → (∀ j, j < i → ¬ ck_sub (cv (r * 35 + j)) d) → wX_addCover_10 post (nI r) (nI d) (nI k) (nI n) (nI room) (nI dc) (nI cc) (nI fc) (nI ins) (nI con) (nI ker) (nI top) (nI lim) (ck_a dO) (ck_a dA) (ck_a dR) (ck_a ow) (ck_a al) (ck_a ri) (ck_a fa) (ck_a re) (ck_a kr) (ck_a cv) (ck_a cn) (ck_a ms) (ck_a si) (ck_a so) (dd + 1) (nI i) := by
  intro dd
  induction dd with
  | zero =>
    intro i hi hp
    have : i = k := by omega
    subst this
    obtain ⟨g1, g2⟩ := h1 hp
    refine pk_le i i (fun _ => ?_) (fun h => absurd h (by omega))
    exact pk_le 35 i (fun h => absurd h (by omega)) (fun _ => ⟨by rw [ck_ix]; exact vp_in_nI (by omega) (by omega), nm_r (by rw [ck_ix, ck_au (by omega)]) ⟨vp_in_nI (by omega) (by omega), nm_r (by rw [nI_1, ck_au (by omega)]) g2⟩⟩)
  | succ dd ih =>
    intro i hi hp
    refine pk_le k i (fun h => absurd h (by omega)) (fun _ => ⟨by rw [ck_ix]; exact vp_in_nI (by omega) (by omega), ?_⟩)
    exact ck_z (ck_dif (cv (r * 35 + i)) d) (by rw [ck_ix, ck_ag (by omega), ck_andn]) (ck_dif31 (hcv i (by omega))) (fun z => h0 ⟨i, by omega, ck_dif0.mp z⟩)
      (fun z => nm_r (nI_1 i) (ih (i + 1) (by omega) (lt_s hp (fun w => z (ck_dif0.mpr w)))))
theorem xx_ac {post : SX → Prop} {x y : Int32} (r d : Nat) (hr : r < 8) (hd : d < 2 ^ 31) (hk : cn r ≤ 35) (hcv : ∀ c, c ∈ ck_ls cv (r * 35) (cn r) → c < 2 ^ 31)
    (hb : (∀ c, c ∈ ck_ls cv (r * 35) (cn r) → ¬ ck_sub c d) → (ck_ls cv (r * 35) (cn r) ++ [d]).length ≤ 35)
    (h0 : (∃ c, c ∈ ck_ls cv (r * 35) (cn r) ∧ ck_sub c d) → post ((nI n), (nI room), (nI dc), (nI cc), (nI fc), (nI ins), (nI con), (nI ker), (nI top), (nI lim), (ck_a dO), (ck_a dA), (ck_a dR), (ck_a ow), (ck_a al), (ck_a ri), (ck_a fa), (ck_a re), (ck_a kr), (ck_a cv), (ck_a cn), (ck_a ms), (ck_a si), (ck_a so)))
    (h1 : (∀ c, c ∈ ck_ls cv (r * 35) (cn r) → ¬ ck_sub c d) → ∀ cv' cn' : Nat → Nat, ck_Ot r cv cn cv' cn' → ck_ls cv' (r * 35) (cn' r) = ck_ls cv (r * 35) (cn r) ++ [d] → post ((nI n), (nI room), (nI dc), (nI cc), (nI fc), (nI ins), (nI con), (nI ker), (nI top), (nI lim), (ck_a dO), (ck_a dA), (ck_a dR), (ck_a ow), (ck_a al), (ck_a ri), (ck_a fa), (ck_a re), (ck_a kr), (ck_a cv'), (ck_a cn'), (ck_a ms), (ck_a si), (ck_a so)))
    (hx : x = nI r) (hy : y = nI d) : wpX_addCover post ((nI n), (nI room), (nI dc), (nI cc), (nI fc), (nI ins), (nI con), (nI ker), (nI top), (nI lim), (ck_a dO), (ck_a dA), (ck_a dR), (ck_a ow), (ck_a al), (ck_a ri), (ck_a fa), (ck_a re), (ck_a kr), (ck_a cv), (ck_a cn), (ck_a ms), (ck_a si), (ck_a so)) x y := by
  subst hx hy
  refine ⟨vp_in_nI hr (by omega), nm_r (ck_ag (by omega)) ⟨_, xl_ac r d hr hd (cn r) rfl hk (fun i hi => hcv _ (ck_lsm.mpr ⟨i, hi, rfl⟩)) (fun ⟨i, hi, e⟩ => h0 ⟨_, ck_lsm.mpr ⟨i, hi, rfl⟩, e⟩) (fun hno => ?_) (cn r) 0 (by omega) ck_n0⟩⟩
  have hno' : ∀ c, c ∈ ck_ls cv (r * 35) (cn r) → ¬ ck_sub c d := fun c hc => by
    obtain ⟨i, hi, e⟩ := ck_lsm.mp hc
    subst e
    exact hno i hi
  have hl := hb hno'
  rw [List.length_append, ck_lsl] at hl
  have h1l : [d].length = 1 := rfl
  refine ⟨by omega, h1 hno' _ _ ⟨fun j hj => ck_un (by omega), fun j hj => ck_un hj⟩ ?_⟩
  rw [ck_us, ck_lsu rfl]
theorem xl_ex {post : SX → Prop} (r d t un : Nat) (hn : n ≤ 8) (hr : r < n) (hun : un < 2 ^ n) (hur : ¬ un.testBit r = true) (L0 : List Nat) (h0 : ck_AC L0) (hL0 : ∀ c, c ∈ L0 → ck_sub c un)
    (ht : ck_sub t un) (hd : d ∈ L0) (hdt : d &&& t = 0) (D0 : Nat → Nat → Prop) (cv0 cn0 : Nat → Nat)
    (h : ∀ cv cn : Nat → Nat, ck_Ot r cv0 cn0 cv cn → ck_EI L0 t (fun d' p' => D0 d' p' ∨ (d' = d ∧ t.testBit p' = true ∧ p' < n)) (ck_ls cv (r * 35) (cn r)) → post ((nI n), (nI room), (nI dc), (nI cc), (nI fc), (nI ins), (nI con), (nI ker), (nI top), (nI lim), (ck_a dO), (ck_a dA), (ck_a dR), (ck_a ow), (ck_a al), (ck_a ri), (ck_a fa), (ck_a re), (ck_a kr), (ck_a cv), (ck_a cn), (ck_a ms), (ck_a si), (ck_a so))) :
    ∀ (dd i : Nat) (cv cn : Nat → Nat), i + dd = n → ck_Ot r cv0 cn0 cv cn → ck_EI L0 t (fun d' p' => D0 d' p' ∨ (d' = d ∧ t.testBit p' = true ∧ p' < i)) (ck_ls cv (r * 35) (cn r)) →
      wX_extend_3 post (nI r) (nI d) (nI t) (dd + 1) (nI i) (nI n) (nI room) (nI dc) (nI cc) (nI fc) (nI ins) (nI con) (nI ker) (nI top) (nI lim) (ck_a dO) (ck_a dA) (ck_a dR) (ck_a ow) (ck_a al) (ck_a ri) (ck_a fa) (ck_a re) (ck_a kr) (ck_a cv) (ck_a cn) (ck_a ms) (ck_a si) (ck_a so) := by
  have htn := ck_slt ht hun
  have hdn := ck_slt (hL0 d hd) hun
  intro dd
  induction dd with
  | zero =>
    intro i cv cn hi hO hE
    have : i = n := by omega
    subst this
    exact pk_le i i (fun _ => h cv cn hO hE) (fun h => absurd h (by omega))
  | succ dd ih =>
    intro i cv cn hi hO hE
    refine pk_le n i (fun h => absurd h (by omega)) (fun _ => ?_)
    have hEu := ck_EIu hE hL0 ht
    have hlen := ck_EIl hn hr hun hur hEu hE.1
    rw [ck_lsl] at hlen
    refine xx_has t i (ck_31 hn htn) (by omega) (fun hb => ?_) (fun hb => ?_) rfl rfl
    · have hq : d ||| 2 ^ i < 2 ^ n := ck_orlt hdn (ck_2lt (by omega))
      have hD : ∀ d' p', (D0 d' p' ∨ (d' = d ∧ t.testBit p' = true ∧ p' < i + 1)) → (D0 d' p' ∨ (d' = d ∧ t.testBit p' = true ∧ p' < i)) ∨ (d' = d ∧ p' = i) := by
        rintro d' p' (z | ⟨z1, z2, z3⟩)
        · exact Or.inl (Or.inl z)
        · rcases Nat.lt_or_ge p' i with w | w
          · exact Or.inl (Or.inr ⟨z1, z2, w⟩)
          · exact Or.inr ⟨z1, by omega⟩
      refine br_f (by decide) (xx_ac r (d ||| 2 ^ i) (by omega) (ck_31 hn hq) hlen (fun c hc => ck_31 hn (ck_slt (hEu c hc) hun)) (fun hno => ?_) (fun hc => ?_) (fun hno cv' cn' hO' hl => ?_) rfl (by rw [ck_shl i (by omega), ck_or]))
      · have hE' := ck_EIb (D2 := fun d' p' => D0 d' p' ∨ (d' = d ∧ t.testBit p' = true ∧ p' < i + 1)) h0 hE hd hdt hb hno hD
        exact ck_EIl hn hr hun hur (ck_EIu hE' hL0 ht) hE'.1
      · exact nm_r (nI_1 i) (ih (i + 1) cv cn (by omega) hO (ck_EIa hE hc hD))
      · refine nm_r (nI_1 i) (ih (i + 1) cv' cn' (by omega) (ck_Ott hO hO') ?_)
        rw [hl]
        exact ck_EIb h0 hE hd hdt hb hno hD
    · refine br_t rfl (nm_r (nI_1 i) (ih (i + 1) cv cn (by omega) hO (ck_EIm hE ?_)))
      rintro d' p' (z | ⟨z1, z2, z3⟩)
      · exact Or.inl z
      · rcases Nat.lt_or_ge p' i with w | w
        · exact Or.inr ⟨z1, z2, w⟩
        · have : p' = i := by omega
          subst this
          exact absurd z2 (ck_ft hb)
theorem xl_ab2 {post : SX → Prop} (r t un : Nat) (hn : n ≤ 8) (hr : r < n) (hun : un < 2 ^ n) (hur : ¬ un.testBit r = true) (L0 : List Nat) (h0 : ck_AC L0) (hL0 : ∀ c, c ∈ L0 → ck_sub c un)
    (ht : ck_sub t un) (k : Nat) (hk : k ≤ 35) (hms : ∀ j, j < k → ms j ∈ L0 ∧ ms j &&& t = 0) (cv0 cn0 : Nat → Nat)
    (h : ∀ cv cn : Nat → Nat, ck_Ot r cv0 cn0 cv cn → ck_EI L0 t (fun d p => (∃ j, j < k ∧ ms j = d) ∧ t.testBit p = true ∧ p < n) (ck_ls cv (r * 35) (cn r)) → post ((nI n), (nI room), (nI dc), (nI cc), (nI fc), (nI ins), (nI con), (nI ker), (nI top), (nI lim), (ck_a dO), (ck_a dA), (ck_a dR), (ck_a ow), (ck_a al), (ck_a ri), (ck_a fa), (ck_a re), (ck_a kr), (ck_a cv), (ck_a cn), (ck_a ms), (ck_a si), (ck_a so))) :
    ∀ (dd j : Nat) (cv cn : Nat → Nat), j + dd = k → ck_Ot r cv0 cn0 cv cn → ck_EI L0 t (fun d p => (∃ j', j' < j ∧ ms j' = d) ∧ t.testBit p = true ∧ p < n) (ck_ls cv (r * 35) (cn r)) →
      wX_absorb_89 post (nI r) (nI t) (nI k) (dd + 1) (nI j) (nI n) (nI room) (nI dc) (nI cc) (nI fc) (nI ins) (nI con) (nI ker) (nI top) (nI lim) (ck_a dO) (ck_a dA) (ck_a dR) (ck_a ow) (ck_a al) (ck_a ri) (ck_a fa) (ck_a re) (ck_a kr) (ck_a cv) (ck_a cn) (ck_a ms) (ck_a si) (ck_a so) := by
  intro dd
  induction dd with
  | zero =>
    intro j cv cn hi hO hE
    have : j = k := by omega
    subst this
    exact pk_le j j (fun _ => h cv cn hO hE) (fun h => absurd h (by omega))
  | succ dd ih =>
    intro j cv cn hi hO hE
    obtain ⟨m1, m2⟩ := hms j (by omega)
    refine pk_le k j (fun h => absurd h (by omega)) (fun _ => ⟨vp_in_nI (by omega) (by omega), ?_⟩)
    rw [ck_ag (by omega)]
    refine ⟨n + 1, xl_ex r (ms j) t un hn hr hun hur L0 h0 hL0 ht m1 m2 (fun d p => (∃ j', j' < j ∧ ms j' = d) ∧ t.testBit p = true ∧ p < n) cv0 cn0 (fun cv' cn' hO' hE' => ?_) n 0 cv cn (by omega) hO (ck_EIm hE ?_)⟩
    · refine nm_r (nI_1 j) (ih (j + 1) cv' cn' (by omega) hO' (ck_EIm hE' ?_))
      rintro d p ⟨⟨j', z1, z2⟩, z3, z4⟩
      rcases Nat.lt_or_ge j' j with w | w
      · exact Or.inl ⟨⟨j', w, z2⟩, z3, z4⟩
      · have : j' = j := by omega
        subst this
        exact Or.inr ⟨z2.symm, z3, z4⟩
    · rintro d p (z | ⟨_, _, z⟩)
      · exact z
      · exact absurd z (Nat.not_lt_zero p)
def ck_hit (t c : Nat) : Bool := !decide (c &&& t = 0)
def ck_mis (t c : Nat) : Bool := decide (c &&& t = 0)
theorem xl_ab1 {post : SX → Prop} (r t : Nat) (hr : r < 8) (ht : t < 2 ^ 31) (hN : cn r ≤ 35) (cv0 : Nat → Nat)
    (h : ∀ (cv ms : Nat → Nat) (k m : Nat), (∀ j, (j < r * 35 ∨ r * 35 + 35 ≤ j) → cv j = cv0 j) → m ≤ 35 → ck_ls cv (r * 35) k = (ck_ls cv0 (r * 35) (cn r)).filter (ck_hit t) → ck_ls ms 0 m = (ck_ls cv0 (r * 35) (cn r)).filter (ck_mis t) →
      ∃ f, wX_absorb_89 post (nI r) (nI t) (nI m) f 0 (nI n) (nI room) (nI dc) (nI cc) (nI fc) (nI ins) (nI con) (nI ker) (nI top) (nI lim) (ck_a dO) (ck_a dA) (ck_a dR) (ck_a ow) (ck_a al) (ck_a ri) (ck_a fa) (ck_a re) (ck_a kr) (ck_a cv) (ck_a (ck_u cn r k)) (ck_a ms) (ck_a si) (ck_a so)) :
    ∀ (d i k m : Nat) (cv ms : Nat → Nat), i + d = cn r → k + m = i → (∀ j, (j < r * 35 ∨ r * 35 + i ≤ j) → cv j = cv0 j) →
      ck_ls cv (r * 35) k = (ck_ls cv0 (r * 35) i).filter (ck_hit t) → ck_ls ms 0 m = (ck_ls cv0 (r * 35) i).filter (ck_mis t) →
      wX_absorb_14 post (nI r) (nI t) (nI (r * 35)) (nI n) (nI room) (nI dc) (nI cc) (nI fc) (nI ins) (nI con) (nI ker) (nI top) (nI lim) (d + 1) (nI k) (nI m) (nI i) (ck_a dO) (ck_a dA) (ck_a dR) (ck_a ow) (ck_a al) (ck_a ri) (ck_a fa) (ck_a re) (ck_a kr) (ck_a cv) (ck_a cn) (ck_a ms) (ck_a si) (ck_a so) := by
  intro d
  induction d with
  | zero =>
    intro i k m cv ms hi hkm hO h1 h2
    have : i = cn r := by omega
    subst this
    refine ⟨vp_in_nI hr (by omega), pk_le (cn r) (cn r) (fun _ => ⟨vp_in_nI hr (by omega), nm_r (ck_au (by omega)) (h cv ms k m (fun j hj => hO j (by omega)) (by omega) h1 h2)⟩) (fun h => absurd h (by omega)) (ck_ag (by omega)) rfl⟩
  | succ d ih =>
    intro i k m cv ms hi hkm hO h1 h2
    have e0 : ck_ls cv0 (r * 35) (i + 1) = ck_ls cv0 (r * 35) i ++ [cv (r * 35 + i)] := by
      rw [hO (r * 35 + i) (by omega)]
      rfl
    refine ⟨vp_in_nI hr (by omega), pk_le (cn r) i (fun h => absurd h (by omega)) (fun _ => ⟨by rw [nI_add]; exact vp_in_nI (by omega) (by omega), nm_r (e' := nI (cv (r * 35 + i))) (by rw [nI_add, ck_ag (by omega)]) ?_⟩) (ck_ag (by omega)) rfl⟩
    refine ck_z (cv (r * 35 + i) &&& t) (nx_and _ _) (ck_and31 ht) (fun z => ⟨vp_in_nI (by omega) (by omega), nm_r (ck_au (by omega)) (nm_r (nI_1 m) (nm_r (nI_1 i) (ih (i + 1) k (m + 1) cv (ck_u ms m (cv (r * 35 + i))) (by omega) (by omega) (fun j hj => hO j (by omega)) ?_ ?_)))⟩)
      (fun z => ⟨by rw [nI_add]; exact vp_in_nI (by omega) (by omega), nm_r (by rw [nI_add, ck_au (by omega)]) (nm_r (nI_1 k) (nm_r (nI_1 i) (ih (i + 1) (k + 1) m (ck_u cv (r * 35 + k) (cv (r * 35 + i))) ms (by omega) (by omega) (fun j hj => ?_) ?_ ?_)))⟩)
    · have e : ck_hit t (cv (r * 35 + i)) = false := by unfold ck_hit; rw [decide_eq_true z]; rfl
      rw [e0, List.filter_append, h1, List.filter_cons, e]
      exact (List.append_nil _).symm
    · have e : ck_mis t (cv (r * 35 + i)) = true := decide_eq_true z
      rw [e0, List.filter_append, ck_lsu (by omega), h2, List.filter_cons, e]
      rfl
    · rw [ck_un (by omega)]
      exact hO j (by omega)
    · have e : ck_hit t (cv (r * 35 + i)) = true := by unfold ck_hit; rw [decide_eq_false z]; rfl
      rw [e0, List.filter_append, ck_lsu rfl, h1, List.filter_cons, e]
      rfl
    · have e : ck_mis t (cv (r * 35 + i)) = false := decide_eq_false z
      rw [e0, List.filter_append, h2, List.filter_cons, e]
      exact (List.append_nil _).symm
theorem xx_ab {post : SX → Prop} {x y : Int32} (r t un : Nat) (hn : n ≤ 8) (hr : r < n) (hun : un < 2 ^ n) (hur : ¬ un.testBit r = true) (TT : Nat → Prop)
    (hC : ck_CI un TT (ck_ls cv (r * 35) (cn r))) (ht : ck_sub t un)
    (h : ∀ cv' cn' ms' : Nat → Nat, ck_Ot r cv cn cv' cn' → ck_CI un (fun t' => TT t' ∨ t' = t) (ck_ls cv' (r * 35) (cn' r)) → post ((nI n), (nI room), (nI dc), (nI cc), (nI fc), (nI ins), (nI con), (nI ker), (nI top), (nI lim), (ck_a dO), (ck_a dA), (ck_a dR), (ck_a ow), (ck_a al), (ck_a ri), (ck_a fa), (ck_a re), (ck_a kr), (ck_a cv'), (ck_a cn'), (ck_a ms'), (ck_a si), (ck_a so)))
    (hx : x = nI r) (hy : y = nI t) : wpX_absorb post ((nI n), (nI room), (nI dc), (nI cc), (nI fc), (nI ins), (nI con), (nI ker), (nI top), (nI lim), (ck_a dO), (ck_a dA), (ck_a dR), (ck_a ow), (ck_a al), (ck_a ri), (ck_a fa), (ck_a re), (ck_a kr), (ck_a cv), (ck_a cn), (ck_a ms), (ck_a si), (ck_a so)) x y := by
  subst hx hy
  have htn := ck_slt ht hun
  have hlen := ck_EIl hn hr hun hur hC.2.1 hC.1
  rw [ck_lsl] at hlen
  refine nm_r (e' := nI (r * 35)) (pk_mul r 35) ⟨_, xl_ab1 r t (by omega) (ck_31 hn htn) hlen cv (fun cv' ms' k m g1 g2 g3 g4 => ?_) (cn r) 0 0 0 cv ms (by omega) (by omega) (fun _ _ => rfl) rfl rfl⟩
  have hmm : ∀ j, j < m → ms' j ∈ ck_ls cv (r * 35) (cn r) ∧ ms' j &&& t = 0 := fun j hj => by
    have : ms' j ∈ ck_ls ms' 0 m := ck_lsi hj
    rw [g4] at this
    obtain ⟨a, b⟩ := List.mem_filter.mp this
    exact ⟨a, of_decide_eq_true b⟩
  refine ⟨_, xl_ab2 (cv0 := cv) (cn0 := cn) r t un hn hr hun hur (ck_ls cv (r * 35) (cn r)) hC.1 hC.2.1 ht m g2 hmm (fun cv2 cn2 hO hE => h cv2 cn2 ms' hO (ck_CIa hC htn ht (ck_EIm hE ?_))) m 0 cv' (ck_u cn r k) (by omega) ⟨g1, fun j hj => ck_un hj⟩ ?_⟩
  · rintro d p ⟨⟨z1, z2⟩, z3⟩
    have : d ∈ ck_ls ms' 0 m := by rw [g4]; exact List.mem_filter.mpr ⟨z1, decide_eq_true z2⟩
    obtain ⟨j, hj, e⟩ := ck_lsm.mp this
    rw [Nat.zero_add] at e
    exact ⟨⟨j, hj, e⟩, z3⟩
  · rw [ck_us, g3]
    refine ⟨ck_ACf _ hC.1, fun c hc => ?_, fun c c1 c2 => List.mem_filter.mpr ⟨c1, by unfold ck_hit; rw [decide_eq_false c2]; rfl⟩, fun d p ⟨⟨j', z, _⟩, _⟩ => absurd z (Nat.not_lt_zero j')⟩
    obtain ⟨a, b⟩ := List.mem_filter.mp hc
    refine Or.inl ⟨a, fun w => ?_⟩
    unfold ck_hit at b
    rw [decide_eq_true w] at b
    exact absurd b (by decide)
end
end
section
/-! X: flatten, rebuild -/
def ck_Tr (n : Nat) (re : Nat → Nat) (con r f t : Nat) : Prop := ∀ q, t.testBit q = true ↔ q ≠ r ∧ ∃ p, p < n ∧ ((f.testBit p = true ∧ con.testBit p = true) ∧ re p = q)
/-- the covers of r are the minimal transversals of traces that stand for all installations of r -/
def ck_FL (n : Nat) (H : Nat → Prop) (re : Nat → Nat) (con ker r : Nat) (L : List Nat) : Prop :=
  ∃ TT : Nat → Prop, ck_CI (ck_dif ker (2 ^ r)) TT L ∧ (∀ t, TT t → ∃ f, f < 2 ^ n ∧ H f ∧ f.testBit r = true ∧ ck_Tr n re con r f t) ∧
    (∀ m, m < 2 ^ n → H m → m.testBit r = true → ∃ f t, ck_sub f m ∧ ck_Tr n re con r f t ∧ TT t)
section
variable {n room dc cc fc ins con ker top lim : Nat} {dO dA dR ow al ri fa re kr cv cn ms si so : Nat → Nat}
theorem xl_fl0 {post : SX → Prop} (r i d : Nat) (hi : i < 2 ^ 31) (h : post ((nI n), (nI room), (nI dc), (nI cc), (nI fc), (nI ins), (nI con), (nI ker), (nI top), (nI lim), (ck_a dO), (ck_a dA), (ck_a dR), (ck_a ow), (ck_a al), (ck_a ri), (ck_a fa), (ck_a re), (ck_a kr), (ck_a cv), (ck_a cn), (ck_a ms), (ck_a si), (ck_a so))) : wX_flatten_40 post (nI r) (d + 1) (-2) (nI i) (nI n) (nI room) (nI dc) (nI cc) (nI fc) (nI ins) (nI con) (nI ker) (nI top) (nI lim) (ck_a dO) (ck_a dA) (ck_a dR) (ck_a ow) (ck_a al) (ck_a ri) (ck_a fa) (ck_a re) (ck_a kr) (ck_a cv) (ck_a cn) (ck_a ms) (ck_a si) (ck_a so) :=
  pk_le 512 i (fun _ => h) (fun _ => br_t (by decide) h)
theorem xl_fl {post : SX → Prop} (hn : n ≤ 8) (hcc : cc ≤ 24) (how : ∀ i, i < cc → ow i < n) (hal : ∀ i, i < cc → al i < 2 ^ n) (hri : ck_Rv n ri)
    (hm : ∀ m, m < 2 ^ n → ck_H n cc ow al ri m → ck_sub m ins) (hcon : con < 2 ^ n) (hre : ∀ p, p < n → re p < n) (hker : ∀ q, ker.testBit q = true ↔ ∃ p, p < n ∧ re p = q) (hlim : lim = n)
    (r : Nat) (hr : r < n) (cv0 cn0 : Nat → Nat)
    (h : ∀ (top : Nat) (cv cn ms si so : Nat → Nat), ck_Ot r cv0 cn0 cv cn → ck_FL n (ck_H n cc ow al ri) re con ker r (ck_ls cv (r * 35) (cn r)) → post ((nI n), (nI room), (nI dc), (nI cc), (nI fc), (nI ins), (nI con), (nI ker), (nI top), (nI lim), (ck_a dO), (ck_a dA), (ck_a dR), (ck_a ow), (ck_a al), (ck_a ri), (ck_a fa), (ck_a re), (ck_a kr), (ck_a cv), (ck_a cn), (ck_a ms), (ck_a si), (ck_a so))) :
    ∀ (d i f top : Nat) (cv cn ms si so : Nat → Nat) (TT : Nat → Prop), 511 < i + d → i + 1 + ck_Wt n top si so ≤ 511 → f < 2 ^ n → ck_H n cc ow al ri f → ck_sub (2 ^ r) f → ck_SS n ri (2 ^ r) top si so →
      ck_Ot r cv0 cn0 cv cn → ck_CI (ck_dif ker (2 ^ r)) TT (ck_ls cv (r * 35) (cn r)) → (∀ t, TT t → ∃ f, f < 2 ^ n ∧ ck_H n cc ow al ri f ∧ f.testBit r = true ∧ ck_Tr n re con r f t) →
      (∀ m, m < 2 ^ n → ck_H n cc ow al ri m → m.testBit r = true → (∃ f t, ck_sub f m ∧ ck_Tr n re con r f t ∧ TT t) ∨ ck_sub f m ∨ ck_Cv top si so m) →
      wX_flatten_40 post (nI r) d (nI f) (nI i) (nI n) (nI room) (nI dc) (nI cc) (nI fc) (nI ins) (nI con) (nI ker) (nI top) (nI lim) (ck_a dO) (ck_a dA) (ck_a dR) (ck_a ow) (ck_a al) (ck_a ri) (ck_a fa) (ck_a re) (ck_a kr) (ck_a cv) (ck_a cn) (ck_a ms) (ck_a si) (ck_a so) := by
  have hkn : ker < 2 ^ n := ck_bl (fun q hq => by obtain ⟨p, hp, e⟩ := (hker q).mp hq; rw [← e]; exact hre p hp)
  have hun := ck_slt (ck_sdf ker (2 ^ r)) hkn
  have hur : ¬ (ck_dif ker (2 ^ r)).testBit r = true := fun w => (ck_tdf.mp w).2 (ck_t2.mpr rfl)
  intro d
  induction d with
  | zero =>
    intro i f top cv cn ms si so TT hd hw
    omega
  | succ d ih =>
    intro i f top cv cn ms si so TT hd hw f1 f2 f3 hS hO hC hT hV
    have hf31 := ck_31 hn f1
    refine pk_le 512 i (fun z => absurd z (by omega)) (fun _ => br_f (nI_pos hf31) ?_)
    refine xx_qu (f &&& con) (ck_and31 (ck_31 hn hcon)) hn (fun p hp => by have := hre p hp; omega) (fun R hR => ?_) (nx_and _ _)
    have hTr : ck_Tr n re con r f (ck_dif R (2 ^ r)) := fun q => by
      rw [ck_tdf, hR q, ck_t2]
      constructor
      · rintro ⟨⟨p, p1, p2, p3⟩, w⟩
        exact ⟨fun e => w e.symm, p, p1, ck_tand.mp p2, p3⟩
      · rintro ⟨w, p, p1, p2, p3⟩
        exact ⟨⟨p, p1, ck_tand.mpr p2, p3⟩, fun e => w e.symm⟩
    have hts : ck_sub (ck_dif R (2 ^ r)) (ck_dif ker (2 ^ r)) := fun q hq => by
      obtain ⟨w, p, p1, _, p3⟩ := (hTr q).mp hq
      exact ck_tdf.mpr ⟨(hker q).mpr ⟨p, p1, p3⟩, fun e => w (ck_t2.mp e).symm⟩
    refine xx_ab r (ck_dif R (2 ^ r)) (ck_dif ker (2 ^ r)) hn hr hun hur TT hC hts (fun cv' cn' ms' hO' hC' => ?_) rfl (by rw [ck_shl r (by omega), ck_andn])
    have hO2 := ck_Ott hO hO'
    have hT2 : ∀ t, (TT t ∨ t = ck_dif R (2 ^ r)) → ∃ f, f < 2 ^ n ∧ ck_H n cc ow al ri f ∧ f.testBit r = true ∧ ck_Tr n re con r f t := by
      rintro t (w | w)
      · exact hT t w
      · subst w
        exact ⟨f, f1, f2, f3 r (ck_t2.mpr rfl), hTr⟩
    have hV2 : ∀ m, m < 2 ^ n → ck_H n cc ow al ri m → m.testBit r = true → (∃ f t, ck_sub f m ∧ ck_Tr n re con r f t ∧ (TT t ∨ t = ck_dif R (2 ^ r))) ∨ ck_Cv top si so m := by
      intro m m1 m2 m3
      rcases hV m m1 m2 m3 with ⟨f', t', w1, w2, w3⟩ | w | w
      · exact Or.inl ⟨f', t', w1, w2, Or.inl w3⟩
      · exact Or.inl ⟨f, _, w, hTr, Or.inr rfl⟩
      · exact Or.inr w
    refine xx_ni hn hcc how hal hri hm (by omega) (2 ^ r) (by omega) hS (fun si' so' hno => ?_) (fun g top' si' so' g1 g2 g3 g4 g5 g6 g7 => ?_)
    · obtain ⟨d', rfl⟩ : ∃ d', d = d' + 1 := ⟨d - 1, by omega⟩
      refine nm_r (nI_1 i) (xl_fl0 r (i + 1) d' (by omega) (h 0 cv' cn' ms' si' so' hO2 ⟨_, hC', hT2, fun m m1 m2 m3 => ?_⟩))
      rcases hV2 m m1 m2 m3 with w | w
      · exact w
      · exact absurd w (hno m m1 m2 (by have := ck_cdle n m; omega))
    · refine nm_r (nI_1 i) (ih (i + 1) g top' cv' cn' ms' si' so' _ (by omega) (by omega) g1 g2 g3 g5 hO2 hC' hT2 (fun m m1 m2 m3 => ?_))
      rcases hV2 m m1 m2 m3 with w | w
      · exact Or.inl w
      · exact Or.inr (g6 m m1 m2 (by have := ck_cdle n m; omega) w)
theorem xx_fl {post : SX → Prop} {x : Int32} (hn : n ≤ 8) (hcc : cc ≤ 24) (how : ∀ i, i < cc → ow i < n) (hal : ∀ i, i < cc → al i < 2 ^ n) (hri : ck_Rv n ri)
    (hm : ∀ m, m < 2 ^ n → ck_H n cc ow al ri m → ck_sub m ins) (hcon : con < 2 ^ n) (hre : ∀ p, p < n → re p < n) (hker : ∀ q, ker.testBit q = true ↔ ∃ p, p < n ∧ re p = q)
    (r : Nat) (hr : r < n)
    (h : ∀ (top' lim' : Nat) (cv' cn' ms' si' so' : Nat → Nat), ck_Ot r cv cn cv' cn' → (ker.testBit r = true → ck_FL n (ck_H n cc ow al ri) re con ker r (ck_ls cv' (r * 35) (cn' r))) → post ((nI n), (nI room), (nI dc), (nI cc), (nI fc), (nI ins), (nI con), (nI ker), (nI top'), (nI lim'), (ck_a dO), (ck_a dA), (ck_a dR), (ck_a ow), (ck_a al), (ck_a ri), (ck_a fa), (ck_a re), (ck_a kr), (ck_a cv'), (ck_a cn'), (ck_a ms'), (ck_a si'), (ck_a so')))
    (hx : x = nI r) : wpX_flatten post ((nI n), (nI room), (nI dc), (nI cc), (nI fc), (nI ins), (nI con), (nI ker), (nI top), (nI lim), (ck_a dO), (ck_a dA), (ck_a dR), (ck_a ow), (ck_a al), (ck_a ri), (ck_a fa), (ck_a re), (ck_a kr), (ck_a cv), (ck_a cn), (ck_a ms), (ck_a si), (ck_a so)) x := by
  subst hx
  have hkn : ker < 2 ^ n := ck_bl (fun q hq => by obtain ⟨p, hp, e⟩ := (hker q).mp hq; rw [← e]; exact hre p hp)
  have hOt : ck_Ot r cv cn cv (ck_u cn r 0) := ⟨fun _ _ => rfl, fun j hj => ck_un hj⟩
  have hl0 : ck_ls cv (r * 35) (ck_u cn r 0 r) = [] := by rw [ck_us]; rfl
  refine ⟨vp_in_nI (by omega) (by omega), nm_r (ck_au (v := 0) (by omega)) ?_⟩
  refine xx_has ker r (ck_31 hn hkn) (by omega) (fun hb => ?_) (fun hb => ?_) rfl rfl
  · refine br_f (by decide) (xx_ac (cn := ck_u cn r 0) r 0 (by omega) (by omega) (by rw [ck_us]; omega) (fun c hc => ?_) (fun _ => ?_) (fun hc => ?_) (fun _ cv1 cn1 hO1 hl1 => ?_) rfl rfl)
    · rw [hl0] at hc; exact nomatch hc
    · rw [hl0]; show 1 ≤ 35; omega
    · obtain ⟨c, hc, _⟩ := hc
      rw [hl0] at hc; exact nomatch hc
    · rw [hl0] at hl1
      have hO := ck_Ott hOt hO1
      have hC : ck_CI (ck_dif ker (2 ^ r)) (fun _ => False) (ck_ls cv1 (r * 35) (cn1 r)) := by rw [hl1]; exact ck_CI0 _
      have h2n := ck_2lt hr
      refine xx_os (2 ^ r) hn h2n (fun o1 o2 => ?_) (fun o => ?_) (ck_shl r (by omega))
      · have hS : ck_SS n ri (2 ^ r) 1 (ck_u si 0 (2 ^ r)) (ck_u so 0 0) := fun i hi => by
          have : i = 0 := by omega
          subst this
          rw [ck_us, ck_us]
          exact ⟨h2n, Nat.two_pow_pos n, o2, ck_srf _, by omega⟩
        have hW : ck_Wt n 1 (ck_u si 0 (2 ^ r)) (ck_u so 0 0) ≤ 511 := by
          show 0 + (2 ^ (n - ck_cd n (ck_u si 0 (2 ^ r) 0 ||| ck_u so 0 0 0) + 1) - 1) ≤ 511
          have : 2 ^ (n - ck_cd n (ck_u si 0 (2 ^ r) 0 ||| ck_u so 0 0 0) + 1) ≤ 2 ^ 9 := Nat.pow_le_pow_right (by decide) (by omega)
          omega
        have hV : ∀ m, m.testBit r = true → ck_Cv 1 (ck_u si 0 (2 ^ r)) (ck_u so 0 0) m := fun m hb => ⟨0, by omega, by
          rw [ck_us, ck_us]
          exact ⟨ck_s2 hb, Nat.zero_and m⟩⟩
        refine xx_ni hn hcc how hal hri hm hn (2 ^ r) hW hS (fun si' so' hno => ?_) (fun g top' si' so' g1 g2 g3 g4 g5 g6 g7 => ?_)
        · refine ⟨1, xl_fl0 r 0 0 (by omega) (h 0 n cv1 cn1 ms si' so' hO (fun _ => ⟨_, hC, fun _ w => w.elim, fun m m1 m2 m3 => ?_⟩))⟩
          exact absurd (hV m m3) (hno m m1 m2 (ck_cdle n m))
        · refine ⟨512, xl_fl hn hcc how hal hri hm hcon hre hker rfl r hr cv cn (fun top2 cv2 cn2 ms2 si2 so2 hO2 hF => h top2 n cv2 cn2 ms2 si2 so2 hO2 (fun _ => hF)) 512 0 g top' cv1 cn1 ms si' so' (fun _ => False) (by omega) (by omega) g1 g2 g3 g5 hO hC (fun _ w => w.elim) (fun m m1 m2 m3 => Or.inr (g6 m m1 m2 (ck_cdle n m) (hV m m3)))⟩
      · refine xx_ni (top := 0) hn hcc how hal hri hm hn (2 ^ r) (Nat.zero_le _) ck_n0 (fun si' so' hno => ?_) (fun g top' si' so' g1 g2 g3 g4 g5 g6 g7 => ?_)
        · refine ⟨1, xl_fl0 r 0 0 (by omega) (h 0 n cv1 cn1 ms si' so' hO (fun _ => ⟨_, hC, fun _ w => w.elim, fun m m1 m2 m3 => ?_⟩))⟩
          refine absurd ⟨ck_str (ck_s2 m3) (hm m m1 m2), fun p hp hpt => ?_⟩ o
          have := ck_t2.mp hpt
          subst this
          exact ck_and0.mpr (fun z z1 z2 => by rw [← ck_t2.mp z2] at z1; exact (hri r hp).2.1 z1)
        · have : ck_Wt n 0 si so = 0 := rfl
          omega
  · exact br_t rfl (h top lim cv (ck_u cn r 0) ms si so hOt (fun w => absurd w (ck_ft hb)))
theorem xl_rb {post : SX → Prop} (hn : n ≤ 8) (hcc : cc ≤ 24) (how : ∀ i, i < cc → ow i < n) (hal : ∀ i, i < cc → al i < 2 ^ n) (hri : ck_Rv n ri)
    (hm : ∀ m, m < 2 ^ n → ck_H n cc ow al ri m → ck_sub m ins) (hcon : con < 2 ^ n) (hre : ∀ p, p < n → re p < n) (hker : ∀ q, ker.testBit q = true ↔ ∃ p, p < n ∧ re p = q)
    (h : ∀ (top lim : Nat) (cv cn ms si so : Nat → Nat), (∀ r, r < n → ker.testBit r = true → cn r ≤ 35 ∧ ck_FL n (ck_H n cc ow al ri) re con ker r (ck_ls cv (r * 35) (cn r))) → post ((nI n), (nI room), (nI dc), (nI cc), (nI fc), (nI ins), (nI con), (nI ker), (nI top), (nI lim), (ck_a dO), (ck_a dA), (ck_a dR), (ck_a ow), (ck_a al), (ck_a ri), (ck_a fa), (ck_a re), (ck_a kr), (ck_a cv), (ck_a cn), (ck_a ms), (ck_a si), (ck_a so))) :
    ∀ (d i top lim : Nat) (cv cn ms si so : Nat → Nat), i + d = n → (∀ r, r < i → ker.testBit r = true → cn r ≤ 35 ∧ ck_FL n (ck_H n cc ow al ri) re con ker r (ck_ls cv (r * 35) (cn r))) → wX_rebuild_14 post (d + 1) (nI i) (nI n) (nI room) (nI dc) (nI cc) (nI fc) (nI ins) (nI con) (nI ker) (nI top) (nI lim) (ck_a dO) (ck_a dA) (ck_a dR) (ck_a ow) (ck_a al) (ck_a ri) (ck_a fa) (ck_a re) (ck_a kr) (ck_a cv) (ck_a cn) (ck_a ms) (ck_a si) (ck_a so) := by
  have hkn : ker < 2 ^ n := ck_bl (fun q hq => by obtain ⟨p, hp, e⟩ := (hker q).mp hq; rw [← e]; exact hre p hp)
  intro d
  induction d with
  | zero =>
    intro i top lim cv cn ms si so hi hF
    have : i = n := by omega
    subst this
    exact pk_le i i (fun _ => h top lim cv cn ms si so hF) (fun z => absurd z (by omega))
  | succ d ih =>
    intro i top lim cv cn ms si so hi hF
    refine pk_le n i (fun z => absurd z (by omega)) (fun _ => ?_)
    refine xx_fl hn hcc how hal hri hm hcon hre hker i (by omega) (fun top' lim' cv' cn' ms' si' so' hO hL => ?_) rfl
    refine nm_r (nI_1 i) (ih (i + 1) top' lim' cv' cn' ms' si' so' (by omega) (lt_s (fun r hr hb => ?_) (fun hb => ⟨?_, hL hb⟩)))
    · obtain ⟨a, b⟩ := hF r hr hb
      rw [hO.2 r (by omega), ck_lsc (B := cv) (fun j hj => hO.1 _ (Or.inl (by omega)))]
      exact ⟨a, b⟩
    · obtain ⟨TT, hC, _⟩ := hL hb
      have := ck_EIl (r := i) hn (by omega) (ck_slt (ck_sdf ker (2 ^ i)) hkn) (fun w => (ck_tdf.mp w).2 (ck_t2.mpr rfl)) hC.2.1 hC.1
      rw [ck_lsl] at this
      exact this
/-- what rebuild leaves -/
def ck_RB (n : Nat) (H : Nat → Prop) (ri : Nat → Nat) (fc ins con ker : Nat) (fa re kr cv cn : Nat → Nat) : Prop :=
  ((∀ f, f ∈ ck_ls fa 0 fc → f < 2 ^ n ∧ H f) ∧ ck_AC (ck_ls fa 0 fc) ∧ (∀ m, m < 2 ^ n → H m → ∃ f, f ∈ ck_ls fa 0 fc ∧ ck_sub m f) ∧ fc ≤ 70) ∧
  ((∀ p, p < n → ck_LT fc fa p (re p)) ∧ (∀ q, ker.testBit q = true ↔ ∃ p, p < n ∧ re p = q)) ∧
  (ins < 2 ^ n ∧ con < 2 ^ n ∧ (∀ q, ins.testBit q = true ↔ ∃ i, i < fc ∧ (fa i).testBit q = true) ∧
    (∀ q, con.testBit q = true ↔ ins.testBit q = true ∧ ∃ p, p < n ∧ (ins.testBit p = true ∧ (ri p).testBit q = true)) ∧ ck_KR n ri re ins con kr n) ∧
  (∀ r, r < n → ker.testBit r = true → cn r ≤ 35 ∧ ck_FL n H re con ker r (ck_ls cv (r * 35) (cn r)))
theorem xx_rb {post : SX → Prop} (hn : n ≤ 8) (hcc : cc ≤ 24) (how : ∀ i, i < cc → ow i < n) (hal : ∀ i, i < cc → al i < 2 ^ n) (hri : ck_Rv n ri)
    (h : ∀ (fc ins con ker top lim : Nat) (fa re kr cv cn ms si so : Nat → Nat), ck_RB n (ck_H n cc ow al ri) ri fc ins con ker fa re kr cv cn → post ((nI n), (nI room), (nI dc), (nI cc), (nI fc), (nI ins), (nI con), (nI ker), (nI top), (nI lim), (ck_a dO), (ck_a dA), (ck_a dR), (ck_a ow), (ck_a al), (ck_a ri), (ck_a fa), (ck_a re), (ck_a kr), (ck_a cv), (ck_a cn), (ck_a ms), (ck_a si), (ck_a so))) : wpX_rebuild post ((nI n), (nI room), (nI dc), (nI cc), (nI fc), (nI ins), (nI con), (nI ker), (nI top), (nI lim), (ck_a dO), (ck_a dA), (ck_a dR), (ck_a ow), (ck_a al), (ck_a ri), (ck_a fa), (ck_a re), (ck_a kr), (ck_a cv), (ck_a cn), (ck_a ms), (ck_a si), (ck_a so)) := by
  unfold wpX_rebuild
  refine xx_ff hn hcc how (fun fc fa top si so a1 a2 a3 => ?_)
  have hfc := ck_FIn hn a1 a2
  refine xx_mc hn hfc (fun i hi => ck_31 hn (a1 _ (ck_lsi hi)).1) (fun ker re b1 b2 => ?_)
  have hre : ∀ p, p < n → re p < n := fun p hp => by have := (b1 p hp).1; omega
  refine xx_qc hn hre hfc (fun i hi => (a1 _ (ck_lsi hi)).1) (fun ins con kr c1 c2 c3 c4 c5 => ?_)
  refine ⟨_, xl_rb hn hcc how hal hri (fun m m1 m2 p hp => ?_) c2 hre b2 (fun top lim cv cn ms si so d1 => h fc ins con ker top lim fa re kr cv cn ms si so ⟨⟨a1, a2, a3, hfc⟩, ⟨b1, b2⟩, ⟨c1, c2, c3, c4, c5⟩, d1⟩) n 0 top lim cv cn ms si so (by omega) ck_n0⟩
  obtain ⟨f, hf, hs⟩ := a3 m m1 m2
  obtain ⟨i, hi, e⟩ := ck_lsm.mp hf
  rw [Nat.zero_add] at e
  subst e
  exact (c3 p).mpr ⟨i, hi, hs p hp⟩
end
end
section
/-! the plain law: what rebuild leaves, in the reference's words -/
def ck_Co (n : Nat) (H : Nat → Prop) (s : Nat) : Prop := ∃ m, m < 2 ^ n ∧ H m ∧ ck_sub s m
def ck_Tw (n : Nat) (H : Nat → Prop) (p q : Nat) : Prop := ∀ s, s < 2 ^ n → (ck_Co n H (s ||| 2 ^ p) ↔ ck_Co n H (s ||| 2 ^ q))
def ck_IR (n : Nat) (H : Nat → Prop) (p r : Nat) : Prop := r ≤ p ∧ ck_Tw n H p r ∧ ∀ q, q < r → ¬ ck_Tw n H p q
def ck_Ef (n : Nat) (H : Nat → Prop) (ri : Nat → Nat) (a b : Nat) : Prop := (ri a).testBit b = true ∧ ck_Co n H (2 ^ a) ∧ ck_Co n H (2 ^ b)
def ck_Ct (n : Nat) (H : Nat → Prop) (ri : Nat → Nat) (a : Nat) : Prop := ∃ b, b < n ∧ ck_Ef n H ri a b
def ck_Nd (n : Nat) (H : Nat → Prop) (ri re : Nat → Nat) (r d : Nat) : Prop := ∀ m, m < 2 ^ n → H m → m.testBit r = true → ∃ a, a < n ∧ (m.testBit a = true ∧ ck_Ct n H ri a ∧ d.testBit (re a) = true)
def ck_KC (n : Nat) (H : Nat → Prop) (ri re : Nat → Nat) (r d : Nat) : Prop := (∀ p, p < n → d.testBit p = true → re p = p) ∧ ¬ d.testBit r = true ∧ ck_Nd n H ri re r d ∧ ∀ s, s < d → ck_sub s d → ¬ ck_Nd n H ri re r s
def ck_KQ (n : Nat) (H : Nat → Prop) (ri re : Nat → Nat) (r q : Nat) : Prop := q ≠ r ∧ ∃ a, a < n ∧ ∃ b, b < n ∧ (ck_Ef n H ri a b ∧ re a = r ∧ re b = q)
def ck_XK (n : Nat) (H : Nat → Prop) (ri : Nat → Nat) (fc ins ker : Nat) (fa re kr cv cn : Nat → Nat) : Prop :=
  (fc ≤ 70 ∧ ∀ s, ck_Co n H s ↔ ∃ i, i < fc ∧ ck_sub s (fa i)) ∧ (ins < 2 ^ n ∧ ∀ p, ins.testBit p = true ↔ ck_Co n H (2 ^ p)) ∧
  (ker < 2 ^ n ∧ ∀ q, ker.testBit q = true ↔ q < n ∧ re q = q) ∧ (∀ p, p < n → ck_IR n H p (re p)) ∧
  (∀ r, r < n → ∀ q, (kr r).testBit q = true ↔ ck_KQ n H ri re r q) ∧
  (∀ r, r < n → re r = r → cn r ≤ 35 ∧ ∀ d, (∃ i, i < cn r ∧ cv (r * 35 + i) = d) ↔ (d < 2 ^ n ∧ ck_KC n H ri re r d))
theorem ck_IRu {n : Nat} {H : Nat → Prop} {p a b : Nat} (ha : ck_IR n H p a) (hb : ck_IR n H p b) : a = b := by
  rcases Nat.lt_trichotomy a b with z | z | z
  · exact absurd ha.2.1 (hb.2.2 a z)
  · exact z
  · exact absurd hb.2.1 (ha.2.2 b z)
theorem ck_sle {a b : Nat} (h : ck_sub a b) : a ≤ b := by
  have e : b &&& a = a := ck_andS.mpr h
  rw [← e]
  exact Nat.and_le_left
theorem ck_law {n : Nat} {H : Nat → Prop} {ri : Nat → Nat} {fc ins con ker : Nat} {fa re kr cv cn : Nat → Nat} (hri : ck_Rv n ri)
    (h : ck_RB n H ri fc ins con ker fa re kr cv cn) : ck_XK n H ri fc ins ker fa re kr cv cn := by
  obtain ⟨⟨a1, a2, a3, a4⟩, ⟨b1, b2⟩, ⟨c1, c2, c3, c4, c5⟩, d1⟩ := h
  have fm : ∀ i, i < fc → fa i ∈ ck_ls fa 0 fc := fun i hi => ck_lsi hi
  have mf : ∀ f, f ∈ ck_ls fa 0 fc → ∃ i, i < fc ∧ fa i = f := fun f hf => by
    obtain ⟨i, hi, e⟩ := ck_lsm.mp hf
    rw [Nat.zero_add] at e
    exact ⟨i, hi, e⟩
  have hCo : ∀ s, ck_Co n H s ↔ ∃ i, i < fc ∧ ck_sub s (fa i) := fun s => by
    constructor
    · rintro ⟨m, m1, m2, m3⟩
      obtain ⟨f, hf, hs⟩ := a3 m m1 m2
      obtain ⟨i, hi, e⟩ := mf f hf
      subst e
      exact ⟨i, hi, ck_str m3 hs⟩
    · rintro ⟨i, hi, hs⟩
      obtain ⟨e1, e2⟩ := a1 _ (fm i hi)
      exact ⟨fa i, e1, e2, hs⟩
  have hTw : ∀ p q, p < n → q < n → (ck_Tw n H p q ↔ ck_SF fc fa p q) := by
    have half : ∀ p q, ck_Tw n H p q → ∀ i, i < fc → (fa i).testBit p = true → (fa i).testBit q = true := by
      intro p q ht i hi hb
      have hc : ck_Co n H (fa i ||| 2 ^ p) := (hCo _).mpr ⟨i, hi, ck_sor (ck_srf _) (ck_s2 hb)⟩
      obtain ⟨j, hj, hs⟩ := (hCo _).mp ((ht (fa i) (a1 _ (fm i hi)).1).mp hc)
      have e : fa i = fa j := ck_ACe a2 (fm i hi) (fm j hj) (fun z hz => hs z (ck_tor.mpr (Or.inl hz)))
      rw [e]
      exact hs q (ck_tor.mpr (Or.inr (ck_t2.mpr rfl)))
    intro p q _ _
    constructor
    · intro ht i hi
      exact Bool.eq_iff_iff.mpr ⟨half p q ht i hi, half q p (fun s hs => (ht s hs).symm) i hi⟩
    · intro hs s _
      have one : ∀ p q, ck_SF fc fa p q → ck_Co n H (s ||| 2 ^ p) → ck_Co n H (s ||| 2 ^ q) := by
        intro p q hs hc
        obtain ⟨i, hi, e⟩ := (hCo _).mp hc
        refine (hCo _).mpr ⟨i, hi, ck_sor (fun z hz => e z (ck_tor.mpr (Or.inl hz))) (ck_s2 ?_)⟩
        rw [← hs i hi]
        exact e p (ck_tor.mpr (Or.inr (ck_t2.mpr rfl)))
      exact ⟨one p q hs, one q p (fun i hi => (hs i hi).symm)⟩
  have hIR : ∀ p, p < n → ck_IR n H p (re p) := fun p hp => by
    obtain ⟨e1, e2, e3⟩ := b1 p hp
    exact ⟨e1, (hTw p _ hp (by omega)).mpr e2, fun q hq w => e3 q hq ((hTw p q hp (by omega)).mp w)⟩
  have hre : ∀ p, p < n → re p < n := fun p hp => by have := (b1 p hp).1; omega
  have hker : ∀ q, ker.testBit q = true ↔ q < n ∧ re q = q := fun q => by
    rw [b2 q]
    constructor
    · rintro ⟨p, hp, e⟩
      have hq : q < n := by rw [← e]; exact hre p hp
      refine ⟨hq, ?_⟩
      obtain ⟨e1, e2, e3⟩ := b1 p hp
      obtain ⟨g1, g2, g3⟩ := b1 q hq
      rw [e] at e1 e2 e3
      rcases Nat.lt_or_ge (re q) q with z | z
      · exact absurd (fun i hi => (e2 i hi).trans (g2 i hi)) (e3 _ z)
      · omega
    · rintro ⟨hq, e⟩
      exact ⟨q, hq, e⟩
  have hins : ∀ p, ins.testBit p = true ↔ ck_Co n H (2 ^ p) := fun p => by
    rw [c3 p, hCo]
    constructor
    · rintro ⟨i, hi, e⟩
      exact ⟨i, hi, ck_s2 e⟩
    · rintro ⟨i, hi, e⟩
      exact ⟨i, hi, e p (ck_t2.mpr rfl)⟩
  have insn : ∀ p, ins.testBit p = true → p < n := fun p hp => ck_tl c1 hp
  have hcon : ∀ p, con.testBit p = true ↔ p < n ∧ ck_Ct n H ri p := fun p => by
    rw [c4 p]
    constructor
    · rintro ⟨w, b, b1, b2, b3⟩
      exact ⟨insn p w, b, b1, (hri b b1).2.2 p (insn p w) b3, (hins p).mp w, (hins b).mp b2⟩
    · rintro ⟨hp, b, b1, b2, b3, b4⟩
      exact ⟨(hins p).mpr b3, b, b1, (hins b).mpr b4, (hri p hp).2.2 b b1 b2⟩
  refine ⟨⟨a4, hCo⟩, ⟨c1, hins⟩, ⟨ck_bl (fun p hp => ((hker p).mp hp).1), hker⟩, hIR, fun r hr q => ?_, fun r hr er => ?_⟩
  · rw [c5 r hr q]
    constructor
    · rintro ⟨w, p, p1, p2, p3, b, b1, b2, b3⟩
      obtain ⟨_, b', _, e1, e2, _⟩ := (hcon p).mp p2
      obtain ⟨f1, f2⟩ := ck_tand.mp b2
      exact ⟨w, p, p1, b, b1, ⟨f1, e2, (hins b).mp f2⟩, p3, b3⟩
    · rintro ⟨w, a, ha, b, hb, e, ea, eb⟩
      exact ⟨w, a, ha, (hcon a).mpr ⟨ha, b, hb, e⟩, ea, b, hb, ck_tand.mpr ⟨e.1, (hins b).mpr e.2.2⟩, eb⟩
  · obtain ⟨k35, TT, ⟨x1, x2, x3, x4⟩, y1, y2⟩ := d1 r hr ((hker r).mpr ⟨hr, er⟩)
    refine ⟨k35, fun d => ?_⟩
    rw [← ck_lsm]
    have tn : ∀ d : Nat, (∀ t, TT t → d &&& t ≠ 0) → ck_Nd n H ri re r d := by
      intro d hd m m1 m2 m3
      obtain ⟨f, t, z1, z2, z3⟩ := y2 m m1 m2 m3
      obtain ⟨q, q1, q2⟩ := ck_andN.mp (hd t z3)
      obtain ⟨_, p, p1, ⟨p2, p3⟩, p4⟩ := (z2 q).mp q2
      exact ⟨p, p1, z1 p p2, ((hcon p).mp p3).2, by rw [p4]; exact q1⟩
    have nt : ∀ d : Nat, ¬ d.testBit r = true → ck_Nd n H ri re r d → (∀ t, TT t → d &&& t ≠ 0) := by
      intro d hdr hd t ht
      obtain ⟨f, f1, f2, f3, f4⟩ := y1 t ht
      obtain ⟨a, e1, e2, e3, e4⟩ := hd f f1 f2 f3
      refine ck_andN.mpr ⟨re a, e4, (f4 _).mpr ⟨fun w => hdr (by rw [← w]; exact e4), a, e1, ⟨e2, (hcon a).mpr ⟨e1, e3⟩⟩, rfl⟩⟩
    constructor
    · intro hd
      have hdu := x2 d hd
      have hdr : ¬ d.testBit r = true := fun w => (ck_tdf.mp (hdu r w)).2 (ck_t2.mpr rfl)
      refine ⟨ck_bl (fun p hp => ((hker p).mp (ck_tdf.mp (hdu p hp)).1).1), fun p _ hp => ((hker p).mp (ck_tdf.mp (hdu p hp)).1).2, hdr, tn d (x3 d hd), fun s hs hsd hN => ?_⟩
      obtain ⟨c, hc, hcs⟩ := x4 s (nt s (fun w => hdr (hsd r w)) hN)
      have e : c = d := ck_ACe x1 hc hd (ck_str hcs hsd)
      subst e
      have := ck_sle hcs
      omega
    · rintro ⟨hdn, k1, k2, k3, k4⟩
      obtain ⟨c, hc, hcs⟩ := x4 d (nt d k2 k3)
      rcases Nat.lt_or_ge c d with z | z
      · exact absurd (tn c (x3 c hc)) (k4 c z hcs)
      · have := ck_sle hcs
        have e : c = d := by omega
        rw [← e]; exact hc
end
section
/-! Y: members, isHealthy, interchangeable, reduce -/
def ck_HY (n : Nat) (fo cl : Nat → Nat) (m : Nat) : Prop := ∀ p, p < n → m.testBit p = true → m &&& fo p = 0 ∧ ∀ a, a < 2 ^ n → cl (p * 256 + a) ≠ 0 → m &&& a ≠ 0
theorem ck_iy (r i : Nat) : nI r * 256 + nI i = nI (r * 256 + i) := by
  show nI r * nI 256 + nI i = _
  rw [pk_mul, nI_add]
theorem ck_nb {v : Nat} (h : v ≤ 1) : vp_nar .boolean (nI v) = nI v := by
  have : v = 0 ∨ v = 1 := by omega
  rcases this with e | e <;> subst e <;> rfl
def ck_TG (n : Nat) (gc : Nat → Nat) (p q : Nat) : Prop := ∀ s, s < 2 ^ n → gc (s ||| 2 ^ p) = gc (s ||| 2 ^ q)
def ck_IG (n : Nat) (gc : Nat → Nat) (p r : Nat) : Prop := r ≤ p ∧ ck_TG n gc p r ∧ ∀ q, q < r → ¬ ck_TG n gc p q
def ck_fx (rp : Nat → Nat) : Nat → Nat
  | 0 => 0
  | k + 1 => if rp k = k then ck_fx rp k + 1 else ck_fx rp k
theorem ck_fxc {f g : Nat → Nat} {k : Nat} (h : ∀ i, i < k → g i = f i) : ck_fx g k = ck_fx f k := by
  induction k with
  | zero => rfl
  | succ k ih =>
    show (if g k = k then ck_fx g k + 1 else ck_fx g k) = (if f k = k then ck_fx f k + 1 else ck_fx f k)
    rw [ih (fun i hi => h i (by omega)), h k (by omega)]
theorem ck_fxle (f : Nat → Nat) (k : Nat) : ck_fx f k ≤ k := by
  induction k with
  | zero => exact Nat.le_refl _
  | succ k ih =>
    show (if f k = k then ck_fx f k + 1 else ck_fx f k) ≤ k + 1
    split <;> omega
section
variable {n room : Nat} {dr dF cl fo gd gc rp : Nat → Nat}
theorem yy_has {post : Int32 → Prop} {u : SY} {x y : Int32} (s p : Nat) (hs : s < 2 ^ 31) (hp : p < 31) (h1 : s.testBit p = true → post 1) (h0 : s.testBit p = false → post 0) (hx : x = nI s) (hy : y = nI p) : wpY_has post u x y := by
  subst hx hy
  obtain ⟨q0, q1, q2, q3, q4, q5, q6, q7, q8, q9⟩ := u
  show (((nI s >>> (nI p &&& 31)) &&& 1) = 0 → post 0) ∧ (¬ ((nI s >>> (nI p &&& 31)) &&& 1) = 0 → post 1)
  rw [ck_bit hs hp]
  cases e : s.testBit p with
  | false => exact br_t rfl (h0 e)
  | true => exact br_f (by decide) (h1 e)
theorem yl_me {post : Int32 → Prop} (s : Nat) (hs : s < 2 ^ 31) (hn : n ≤ 8) (h : post (nI (ck_cd n s))) :
    ∀ d i, i + d = n → wY_members_4 post (nI s) (nI n) (nI room) (nI (2 ^ n)) (ck_a dr) (ck_a dF) (ck_a cl) (ck_a fo) (ck_a gd) (ck_a gc) (ck_a rp) (d + 1) (nI (ck_cd i s)) (nI i) := by
  intro d
  induction d with
  | zero =>
    intro i hi
    have : i = n := by omega
    subst this
    exact pk_le i i (fun _ => h) (fun h => absurd h (by omega))
  | succ d ih =>
    intro i hi
    have e : ck_cd (i + 1) s = ck_cd i s + (s.testBit i).toNat := rfl
    have k := ih (i + 1) (by omega)
    refine pk_le n i (fun h => absurd h (by omega)) (fun _ => ?_)
    refine yy_has s i hs (by omega) (fun hb => ?_) (fun hb => ?_) rfl rfl
    · rw [hb] at e
      rw [e] at k
      exact br_f (by decide) (nm_r (nI_1 _) (nm_r (nI_1 i) k))
    · rw [hb] at e
      rw [e] at k
      exact br_t rfl (nm_r (nI_1 i) k)
theorem yy_me {post : Int32 → Prop} {x : Int32} (s : Nat) (hs : s < 2 ^ 31) (hn : n ≤ 8) (h : post (nI (ck_cd n s))) (hx : x = nI s) : wpY_members post ((nI n), (nI room), (nI (2 ^ n)), (ck_a dr), (ck_a dF), (ck_a cl), (ck_a fo), (ck_a gd), (ck_a gc), (ck_a rp)) x := by
  subst hx
  exact ⟨_, yl_me s hs hn h n 0 (by omega)⟩
theorem yl_ih2 {post J : Int32 → Prop} (m p : Nat) (hn : n ≤ 8) (hm : m < 2 ^ n) (hp : p < n) (hcl : ∀ k, k < 2048 → cl k ≤ 1)
    (hJ : (∀ a, a < 2 ^ n → m.testBit p = true → cl (p * 256 + a) ≠ 0 → m &&& a ≠ 0) → J (nI (p + 1)))
    (h0 : (∃ a, a < 2 ^ n ∧ (m.testBit p = true ∧ cl (p * 256 + a) ≠ 0 ∧ m &&& a = 0)) → post 0) :
    ∀ d a, a + d = 2 ^ n → (∀ a', a' < a → m.testBit p = true → cl (p * 256 + a') ≠ 0 → m &&& a' ≠ 0) → wY_isHealthy_34 post J (nI m) (nI p) (nI n) (nI room) (nI (2 ^ n)) (ck_a dr) (ck_a dF) (ck_a cl) (ck_a fo) (ck_a gd) (ck_a gc) (ck_a rp) (d + 1) (nI a) := by
  have h8 := ck_p8 hn
  intro d
  induction d with
  | zero =>
    intro a ha hh
    have : a = 2 ^ n := by omega
    subst this
    exact pk_le (2 ^ n) (2 ^ n) (fun _ => nm_r (nI_1 p) (hJ hh)) (fun h => absurd h (by omega))
  | succ d ih =>
    intro a ha hh
    refine pk_le (2 ^ n) a (fun h => absurd h (by omega)) (fun _ => ?_)
    have nx := fun e => ih (a + 1) (by omega) (lt_s hh e)
    have hk := hcl (p * 256 + a) (by omega)
    refine yy_has m p (by omega) (by omega) (fun hb => ?_) (fun hb => ?_) rfl rfl
    · refine br_f (by decide) ⟨by rw [ck_iy]; exact vp_in_nI (by omega) (by omega), ?_⟩
      refine ck_z (cl (p * 256 + a)) (by rw [ck_iy, ck_ag (by omega)]) (by omega) (fun z => nm_r (nI_1 a) (nx (fun _ w => absurd z w))) (fun z => ?_)
      exact ck_z (m &&& a) (nx_and _ _) (ck_and31 (by omega)) (fun w => h0 ⟨a, by omega, hb, z, w⟩) (fun w => nm_r (nI_1 a) (nx (fun _ _ => w)))
    · exact br_t rfl (nm_r (nI_1 a) (nx (fun w => absurd w (ck_ft hb))))
theorem yl_ih {post : Int32 → Prop} (m : Nat) (hn : n ≤ 8) (hm : m < 2 ^ n) (hcl : ∀ k, k < 2048 → cl k ≤ 1)
    (h1 : ck_HY n fo cl m → post 1) (h0 : ¬ ck_HY n fo cl m → post 0) :
    ∀ d p, p + d = n → (∀ p', p' < p → m.testBit p' = true → m &&& fo p' = 0 ∧ ∀ a, a < 2 ^ n → cl (p' * 256 + a) ≠ 0 → m &&& a ≠ 0) → wY_isHealthy_2 post (nI m) (nI n) (nI room) (nI (2 ^ n)) (ck_a dr) (ck_a dF) (ck_a cl) (ck_a fo) (ck_a gd) (ck_a gc) (ck_a rp) (d + 1) (nI p) := by
  have hm31 := ck_31 hn hm
  intro d
  induction d with
  | zero =>
    intro p hp hh
    have : p = n := by omega
    subst this
    exact pk_le p p (fun _ => h1 hh) (fun h => absurd h (by omega))
  | succ d ih =>
    intro p hp hh
    refine pk_le n p (fun h => absurd h (by omega)) (fun _ => ?_)
    refine yy_has m p hm31 (by omega) (fun hb => ?_) (fun hb => ?_) rfl rfl
    · refine br_f (by decide) ⟨vp_in_nI (by omega) (by omega), ?_⟩
      refine ck_z (m &&& fo p) (by rw [ck_ag (by omega), nx_and]) (Nat.lt_of_le_of_lt Nat.and_le_left hm31) (fun z => ?_) (fun z => h0 (fun w => z (w p (by omega) hb).1))
      refine ⟨_, yl_ih2 m p hn hm (by omega) hcl (fun e => ih (p + 1) (by omega) (lt_s hh (fun _ => ⟨z, fun a ha => e a ha hb⟩))) (fun ⟨a, e1, e2, e3, e4⟩ => h0 (fun w => (w p (by omega) hb).2 a e1 e3 e4)) (2 ^ n) 0 (by omega) ck_n0⟩
    · refine br_t rfl ⟨_, yl_ih2 m p hn hm (by omega) hcl (fun e => ih (p + 1) (by omega) (lt_s hh (fun w => absurd w (ck_ft hb)))) (fun ⟨a, e1, e2, e3, e4⟩ => absurd e2 (ck_ft hb)) (2 ^ n) 0 (by omega) ck_n0⟩
theorem yy_ih {post : Int32 → Prop} {x : Int32} (m : Nat) (hn : n ≤ 8) (hm : m < 2 ^ n) (hcl : ∀ k, k < 2048 → cl k ≤ 1)
    (h1 : ck_HY n fo cl m → post 1) (h0 : ¬ ck_HY n fo cl m → post 0) (hx : x = nI m) : wpY_isHealthy post ((nI n), (nI room), (nI (2 ^ n)), (ck_a dr), (ck_a dF), (ck_a cl), (ck_a fo), (ck_a gd), (ck_a gc), (ck_a rp)) x := by
  subst hx
  exact ⟨_, yl_ih m hn hm hcl h1 h0 n 0 (by omega) ck_n0⟩
theorem yl_ic {post : Int32 → Prop} (p q : Nat) (hn : n ≤ 8) (hp : p < n) (hq : q < n) (hgc : ∀ s, s < 2 ^ n → gc s ≤ 1)
    (h1 : ck_TG n gc p q → post 1) (h0 : ¬ ck_TG n gc p q → post 0) :
    ∀ d s, s + d = 2 ^ n → (∀ s', s' < s → gc (s' ||| 2 ^ p) = gc (s' ||| 2 ^ q)) → wY_interchangeable_2 post (nI p) (nI q) (nI n) (nI room) (nI (2 ^ n)) (ck_a dr) (ck_a dF) (ck_a cl) (ck_a fo) (ck_a gd) (ck_a gc) (ck_a rp) (d + 1) (nI s) := by
  have h8 := ck_p8 hn
  intro d
  induction d with
  | zero =>
    intro s hs hh
    have : s = 2 ^ n := by omega
    subst this
    exact pk_le (2 ^ n) (2 ^ n) (fun _ => h1 hh) (fun h => absurd h (by omega))
  | succ d ih =>
    intro s hs hh
    have b1 : s ||| 2 ^ p < 2 ^ n := ck_orlt (by omega) (ck_2lt hp)
    have b2 : s ||| 2 ^ q < 2 ^ n := ck_orlt (by omega) (ck_2lt hq)
    have g1 := hgc _ b1
    have g2 := hgc _ b2
    have e1 : nI s ||| ((1 : Int32) <<< (nI p &&& 31)) = nI (s ||| 2 ^ p) := by rw [ck_shl p (by omega), ck_or]
    have e2 : nI s ||| ((1 : Int32) <<< (nI q &&& 31)) = nI (s ||| 2 ^ q) := by rw [ck_shl q (by omega), ck_or]
    refine pk_le (2 ^ n) s (fun h => absurd h (by omega)) (fun _ => ⟨by rw [e1]; exact vp_in_nI (by omega) (by omega), by rw [e2]; exact vp_in_nI (by omega) (by omega), ?_⟩)
    exact pk_eq (gc (s ||| 2 ^ p)) (gc (s ||| 2 ^ q)) (fun e => nm_r (nI_1 s) (ih (s + 1) (by omega) (lt_s hh e))) (fun e => h0 (fun w => e (w s (by omega)))) (by rw [e1, ck_ag (by omega)]) (by rw [e2, ck_ag (by omega)]) (by omega) (by omega)
theorem yy_ic {post : Int32 → Prop} {x y : Int32} (p q : Nat) (hn : n ≤ 8) (hp : p < n) (hq : q < n) (hgc : ∀ s, s < 2 ^ n → gc s ≤ 1)
    (h1 : ck_TG n gc p q → post 1) (h0 : ¬ ck_TG n gc p q → post 0) (hx : x = nI p) (hy : y = nI q) : wpY_interchangeable post ((nI n), (nI room), (nI (2 ^ n)), (ck_a dr), (ck_a dF), (ck_a cl), (ck_a fo), (ck_a gd), (ck_a gc), (ck_a rp)) x y := by
  subst hx hy
  exact ⟨_, yl_ic p q hn hp hq hgc h1 h0 (2 ^ n) 0 (by omega) ck_n0⟩
theorem yl_r6 {post : Int32 → SY → Prop} {J : Int32 → Int32 → (Nat → Int32) → (Nat → Int32) → (Nat → Int32) → (Nat → Int32) → (Nat → Int32) → (Nat → Int32) → (Nat → Int32) → Prop} (c p : Nat) (hn : n ≤ 8) (hp : p < n) (hgc : ∀ s, s < 2 ^ n → gc s ≤ 1) (rp0 : Nat → Nat)
    (hJ : ∀ rp : Nat → Nat, (∀ j, j ≠ p → rp j = rp0 j) → ck_IG n gc p (rp p) → J (nI (if rp p = p then c + 1 else c)) (nI (p + 1)) (ck_a dr) (ck_a dF) (ck_a cl) (ck_a fo) (ck_a gd) (ck_a gc) (ck_a rp)) :
    ∀ (j : Nat) (rp : Nat → Nat), j ≤ p → (∀ j', j' ≠ p → rp j' = rp0 j') → j ≤ rp p → rp p ≤ p → ck_TG n gc p (rp p) → (∀ q, j ≤ q → q < rp p → ¬ ck_TG n gc p q) →
      wY_reduce_165 post J (nI c) (nI p) (nI n) (nI room) (nI (2 ^ n)) (j + 1) (nI j - 1) (ck_a dr) (ck_a dF) (ck_a cl) (ck_a fo) (ck_a gd) (ck_a gc) (ck_a rp) := by
  intro j
  induction j with
  | zero =>
    intro rp hj hO h1 h2 h3 h4
    have hJ' := hJ rp hO ⟨h2, h3, fun q hq => h4 q (Nat.zero_le _) hq⟩
    refine br_t (by decide) ⟨vp_in_nI (by omega) (by omega), ?_⟩
    refine pk_eq (rp p) p (fun e => ?_) (fun e => ?_) (ck_ag (by omega)) rfl (by omega) (by omega)
    · rw [if_pos e] at hJ'
      exact nm_r (nI_1 c) (nm_r (nI_1 p) hJ')
    · rw [if_neg e] at hJ'
      exact nm_r (nI_1 p) hJ'
  | succ j ih =>
    intro rp hj hO h1 h2 h3 h4
    rw [nI_pred]
    have em : nI j + (-1) = nI j - 1 := (Int32.sub_eq_add_neg _ _).symm
    refine br_f (nI_pos (by omega)) ?_
    refine yy_ic p j hn hp (by omega) hgc (fun ht => ?_) (fun ht => ?_) rfl rfl
    · refine br_f (by decide) ⟨vp_in_nI (by omega) (by omega), nm_r (ck_au (by omega)) (nm_r em (ih (ck_u rp p j) (by omega) (fun j' hj' => by rw [ck_un hj']; exact hO j' hj') ?_ ?_ ?_ ?_))⟩
      · rw [ck_us]; omega
      · rw [ck_us]; omega
      · rw [ck_us]; exact ht
      · rw [ck_us]
        intro q q1 q2
        omega
    · refine br_t rfl (nm_r em (ih rp (by omega) hO (by omega) h2 h3 (fun q q1 q2 => ?_)))
      rcases Nat.lt_or_ge j q with z | z
      · exact h4 q (by omega) q2
      · have : q = j := by omega
        subst this
        exact ht
theorem yl_r5 {post : Int32 → SY → Prop} (hn : n ≤ 8) (hgc : ∀ s, s < 2 ^ n → gc s ≤ 1)
    (h : ∀ rp : Nat → Nat, (∀ p, p < n → ck_IG n gc p (rp p)) → post (nI (ck_fx rp n)) ((nI n), (nI room), (nI (2 ^ n)), (ck_a dr), (ck_a dF), (ck_a cl), (ck_a fo), (ck_a gd), (ck_a gc), (ck_a rp))) :
    ∀ (d p : Nat) (rp : Nat → Nat), p + d = n → (∀ p', p' < p → ck_IG n gc p' (rp p')) → wY_reduce_146 post (nI n) (nI room) (nI (2 ^ n)) (d + 1) (nI (ck_fx rp p)) (nI p) (ck_a dr) (ck_a dF) (ck_a cl) (ck_a fo) (ck_a gd) (ck_a gc) (ck_a rp) := by
  intro d
  induction d with
  | zero =>
    intro p rp hp hh
    have : p = n := by omega
    subst this
    exact pk_le p p (fun _ => h rp hh) (fun h => absurd h (by omega))
  | succ d ih =>
    intro p rp hp hh
    refine pk_le n p (fun h => absurd h (by omega)) (fun _ => ⟨vp_in_nI (by omega) (by omega), nm_r (ck_au (by omega)) (nm_e ⟨_, yl_r6 (ck_fx rp p) p hn (by omega) hgc rp (fun rp' hO hI => ?_) p (ck_u rp p p) (by omega) (fun j hj => ck_un hj) ?_ ?_ ?_ ?_⟩)⟩)
    · have e : (if rp' p = p then ck_fx rp p + 1 else ck_fx rp p) = ck_fx rp' (p + 1) := by
        show _ = (if rp' p = p then ck_fx rp' p + 1 else ck_fx rp' p)
        rw [ck_fxc (f := rp) (g := rp') (fun i hi => hO i (by omega))]
      rw [e]
      refine ih (p + 1) rp' (by omega) (lt_s (fun p' hp' => ?_) hI)
      rw [hO p' (by omega)]
      exact hh p' hp'
    · rw [ck_us]; omega
    · rw [ck_us]; omega
    · rw [ck_us]; exact fun _ _ => rfl
    · rw [ck_us]; intro q q1 q2; omega
def ck_CG (n : Nat) (gd : Nat → Nat) (s : Nat) (k : Nat) : Prop := ∃ m, m < k ∧ (gd m = 1 ∧ ck_sub s m)
theorem yl_r4 {post : Int32 → SY → Prop} {J : Int32 → (Nat → Int32) → (Nat → Int32) → (Nat → Int32) → (Nat → Int32) → (Nat → Int32) → (Nat → Int32) → (Nat → Int32) → Prop} (s : Nat) (hn : n ≤ 8) (hs : s < 2 ^ n) (hgd : ∀ m, m < 2 ^ n → gd m ≤ 1) (gc0 : Nat → Nat)
    (hJ : ∀ gc : Nat → Nat, (∀ j, j ≠ s → gc j = gc0 j) → gc s ≤ 1 → (gc s = 1 ↔ ck_CG n gd s (2 ^ n)) → J (nI (s + 1)) (ck_a dr) (ck_a dF) (ck_a cl) (ck_a fo) (ck_a gd) (ck_a gc) (ck_a rp)) :
    ∀ (d m : Nat) (gc : Nat → Nat), m + d = 2 ^ n → (∀ j, j ≠ s → gc j = gc0 j) → gc s ≤ 1 → (gc s = 1 ↔ ck_CG n gd s m) → wY_reduce_99 post J (nI s) (nI n) (nI room) (nI (2 ^ n)) (d + 1) (nI m) (ck_a dr) (ck_a dF) (ck_a cl) (ck_a fo) (ck_a gd) (ck_a gc) (ck_a rp) := by
  have h8 := ck_p8 hn
  intro d
  induction d with
  | zero =>
    intro m gc hm hO h1 h2
    have : m = 2 ^ n := by omega
    subst this
    exact pk_le (2 ^ n) (2 ^ n) (fun _ => nm_r (nI_1 s) (hJ gc hO h1 h2)) (fun h => absurd h (by omega))
  | succ d ih =>
    intro m gc hm hO h1 h2
    have hg := hgd m (by omega)
    refine pk_le (2 ^ n) m (fun h => absurd h (by omega)) (fun _ => ⟨vp_in_nI (by omega) (by omega), ?_⟩)
    refine ck_z (gd m) (ck_ag (by omega)) (by omega) (fun z => nm_r (nI_1 m) (ih (m + 1) gc (by omega) hO h1 ?_)) (fun z => ?_)
    · unfold ck_CG
      rw [ck_ex, h2]
      exact ⟨Or.inl, fun w => w.elim id (fun v => by have := v.1; omega)⟩
    · have z1 : gd m = 1 := by omega
      refine pk_eq (m &&& s) s (fun e => ⟨vp_in_nI (by omega) (by omega), nm_r (e' := ck_a (ck_u gc s 1)) (ck_au (v := 1) (by omega)) (nm_r (nI_1 m) (ih (m + 1) (ck_u gc s 1) (by omega) (fun j hj => by rw [ck_un hj]; exact hO j hj) (by rw [ck_us]; omega) ?_))⟩) (fun e => nm_r (nI_1 m) (ih (m + 1) gc (by omega) hO h1 ?_)) (nx_and _ _) rfl (ck_and31 (by omega)) (by omega)
      · rw [ck_us]
        exact ⟨fun _ => ⟨m, by omega, z1, ck_andS.mp e⟩, fun _ => rfl⟩
      · unfold ck_CG
        rw [ck_ex, h2]
        exact ⟨Or.inl, fun w => w.elim id (fun v => absurd (ck_andS.mpr v.2) e)⟩
theorem yl_r3 {post : Int32 → SY → Prop} (hn : n ≤ 8) (hgd : ∀ m, m < 2 ^ n → gd m ≤ 1)
    (h : ∀ gc rp : Nat → Nat, (∀ s, s < 2 ^ n → gc s ≤ 1 ∧ (gc s = 1 ↔ ck_CG n gd s (2 ^ n))) → (∀ p, p < n → ck_IG n gc p (rp p)) → post (nI (ck_fx rp n)) ((nI n), (nI room), (nI (2 ^ n)), (ck_a dr), (ck_a dF), (ck_a cl), (ck_a fo), (ck_a gd), (ck_a gc), (ck_a rp))) :
    ∀ (d s : Nat) (gc : Nat → Nat), s + d = 2 ^ n → (∀ s', s' < s → gc s' ≤ 1 ∧ (gc s' = 1 ↔ ck_CG n gd s' (2 ^ n))) → wY_reduce_82 post (nI n) (nI room) (nI (2 ^ n)) (d + 1) (nI s) (ck_a dr) (ck_a dF) (ck_a cl) (ck_a fo) (ck_a gd) (ck_a gc) (ck_a rp) := by
  have h8 := ck_p8 hn
  intro d
  induction d with
  | zero =>
    intro s gc hs hh
    have : s = 2 ^ n := by omega
    subst this
    exact pk_le (2 ^ n) (2 ^ n) (fun _ => ⟨_, yl_r5 hn (fun s hs => (hh s hs).1) (fun rp hr => h gc rp hh hr) n 0 rp (by omega) ck_n0⟩) (fun h => absurd h (by omega))
  | succ d ih =>
    intro s gc hs hh
    refine pk_le (2 ^ n) s (fun h => absurd h (by omega)) (fun _ => ⟨vp_in_nI (by omega) (by omega), nm_r (e' := ck_a (ck_u gc s 0)) (ck_au (v := 0) (by omega)) ⟨_, yl_r4 s hn (by omega) hgd gc (fun gc' hO h1 h2 => ih (s + 1) gc' (by omega) (lt_s (fun s' hs' => ?_) ⟨h1, h2⟩)) (2 ^ n) 0 (ck_u gc s 0) (by omega) (fun j hj => ck_un hj) ?_ ?_⟩⟩)
    · rw [hO s' (by omega)]
      exact hh s' hs'
    · rw [ck_us]; omega
    · rw [ck_us]
      exact ⟨fun w => absurd w (by omega), fun ⟨m, hm, _⟩ => absurd hm (Nat.not_lt_zero m)⟩
theorem yl_r2 {post : Int32 → SY → Prop} (hn : n ≤ 8) (hcl : ∀ k, k < 2048 → cl k ≤ 1)
    (h : ∀ gd gc rp : Nat → Nat, (∀ m, m < 2 ^ n → gd m ≤ 1 ∧ (gd m = 1 ↔ ck_HY n fo cl m)) → (∀ s, s < 2 ^ n → gc s ≤ 1 ∧ (gc s = 1 ↔ ck_CG n gd s (2 ^ n))) → (∀ p, p < n → ck_IG n gc p (rp p)) → post (nI (ck_fx rp n)) ((nI n), (nI room), (nI (2 ^ n)), (ck_a dr), (ck_a dF), (ck_a cl), (ck_a fo), (ck_a gd), (ck_a gc), (ck_a rp))) :
    ∀ (d m : Nat) (gd : Nat → Nat), m + d = 2 ^ n → (∀ m', m' < m → gd m' ≤ 1 ∧ (gd m' = 1 ↔ ck_HY n fo cl m')) → wY_reduce_55 post (nI n) (nI room) (nI (2 ^ n)) (d + 1) (nI m) (ck_a dr) (ck_a dF) (ck_a cl) (ck_a fo) (ck_a gd) (ck_a gc) (ck_a rp) := by
  have h8 := ck_p8 hn
  intro d
  induction d with
  | zero =>
    intro m gd hm hh
    have : m = 2 ^ n := by omega
    subst this
    exact pk_le (2 ^ n) (2 ^ n) (fun _ => ⟨_, yl_r3 hn (fun m hm => (hh m hm).1) (fun gc rp h1 h2 => h gd gc rp hh h1 h2) (2 ^ n) 0 gc (by omega) ck_n0⟩) (fun h => absurd h (by omega))
  | succ d ih =>
    intro m gd hm hh
    refine pk_le (2 ^ n) m (fun h => absurd h (by omega)) (fun _ => ?_)
    refine yy_ih m hn (by omega) hcl (fun hH => ?_) (fun hH => ?_) rfl
    · refine ⟨vp_in_nI (by omega) (by omega), nm_r (e' := ck_a (ck_u gd m 1)) (ck_au (v := 1) (by omega)) (nm_r (nI_1 m) (ih (m + 1) (ck_u gd m 1) (by omega) (lt_s (fun m' hm' => ?_) ?_)))⟩
      · rw [ck_un (by omega)]; exact hh m' hm'
      · rw [ck_us]; exact ⟨by omega, fun _ => hH, fun _ => rfl⟩
    · refine ⟨vp_in_nI (by omega) (by omega), nm_r (e' := ck_a (ck_u gd m 0)) (ck_au (v := 0) (by omega)) (nm_r (nI_1 m) (ih (m + 1) (ck_u gd m 0) (by omega) (lt_s (fun m' hm' => ?_) ?_)))⟩
      · rw [ck_un (by omega)]; exact hh m' hm'
      · rw [ck_us]; exact ⟨by omega, fun w => absurd w (by omega), fun w => absurd w hH⟩
def ck_YR (n : Nat) (dr dF cl fo gd gc rp : Nat → Nat) : Prop :=
  (∀ k, k < 2048 → cl k = dr k) ∧ (∀ p, p < 8 → fo p = dF p) ∧ (∀ m, m < 2 ^ n → gd m ≤ 1 ∧ (gd m = 1 ↔ ck_HY n fo cl m)) ∧ (∀ s, s < 2 ^ n → gc s ≤ 1 ∧ (gc s = 1 ↔ ck_CG n gd s (2 ^ n))) ∧ (∀ p, p < n → ck_IG n gc p (rp p))
theorem yl_r1 {post : Int32 → SY → Prop} (hn : n ≤ 8) (hcl : ∀ k, k < 2048 → cl k = dr k) (hdr : ∀ k, k < 2048 → dr k ≤ 1)
    (h : ∀ fo gd gc rp : Nat → Nat, ck_YR n dr dF cl fo gd gc rp → post (nI (ck_fx rp n)) ((nI n), (nI room), (nI (2 ^ n)), (ck_a dr), (ck_a dF), (ck_a cl), (ck_a fo), (ck_a gd), (ck_a gc), (ck_a rp))) :
    ∀ (d i : Nat) (fo : Nat → Nat), i + d = 8 → (∀ j, j < i → fo j = dF j) → wY_reduce_29 post (nI n) (nI room) (nI (2 ^ n)) (d + 1) (nI i) (ck_a dr) (ck_a dF) (ck_a cl) (ck_a fo) (ck_a gd) (ck_a gc) (ck_a rp) := by
  intro d
  induction d with
  | zero =>
    intro i fo hi hh
    have : i = 8 := by omega
    subst this
    exact pk_le 8 8 (fun _ => ⟨_, yl_r2 hn (fun k hk => by rw [hcl k hk]; exact hdr k hk) (fun gd gc rp h1 h2 h3 => h fo gd gc rp ⟨hcl, hh, h1, h2, h3⟩) (2 ^ n) 0 gd (by omega) ck_n0⟩) (fun h => absurd h (by omega))
  | succ d ih =>
    intro i fo hi hh
    refine pk_le 8 i (fun h => absurd h (by omega)) (fun _ => ⟨vp_in_nI (by omega) (by omega), vp_in_nI (by omega) (by omega), nm_r (e' := ck_a (ck_u fo i (dF i))) (by rw [ck_ag (by omega), ck_au (by omega)]) (nm_r (nI_1 i) (ih (i + 1) (ck_u fo i (dF i)) (by omega) (lt_s (fun j hj => ?_) ck_us)))⟩)
    rw [ck_un (by omega)]
    exact hh j hj
theorem yl_r0 {post : Int32 → SY → Prop} (hn : n ≤ 8) (hdr : ∀ k, k < 2048 → dr k ≤ 1)
    (h : ∀ cl fo gd gc rp : Nat → Nat, ck_YR n dr dF cl fo gd gc rp → post (nI (ck_fx rp n)) ((nI n), (nI room), (nI (2 ^ n)), (ck_a dr), (ck_a dF), (ck_a cl), (ck_a fo), (ck_a gd), (ck_a gc), (ck_a rp))) :
    ∀ (d i : Nat) (cl : Nat → Nat), i + d = 2048 → (∀ j, j < i → cl j = dr j) → wY_reduce_2 post (nI n) (nI room) (nI (2 ^ n)) (d + 1) (nI i) (ck_a dr) (ck_a dF) (ck_a cl) (ck_a fo) (ck_a gd) (ck_a gc) (ck_a rp) := by
  intro d
  induction d with
  | zero =>
    intro i cl hi hh
    have : i = 2048 := by omega
    subst this
    exact pk_le 2048 2048 (fun _ => ⟨_, yl_r1 hn hh hdr (fun fo gd gc rp => h cl fo gd gc rp) 8 0 fo (by omega) ck_n0⟩) (fun h => absurd h (by omega))
  | succ d ih =>
    intro i cl hi hh
    refine pk_le 2048 i (fun h => absurd h (by omega)) (fun _ => ⟨vp_in_nI (by omega) (by omega), vp_in_nI (by omega) (by omega), nm_r (e' := ck_a (ck_u cl i (dr i))) (by rw [ck_ag (by omega), ck_nb (hdr i (by omega)), ck_au (by omega)]) (nm_r (nI_1 i) (ih (i + 1) (ck_u cl i (dr i)) (by omega) (lt_s (fun j hj => ?_) ck_us)))⟩)
    rw [ck_un (by omega)]
    exact hh j hj
theorem yy_rd {post : Int32 → SY → Prop} (hn : n ≤ 8) (hdr : ∀ k, k < 2048 → dr k ≤ 1)
    (h : ∀ cl fo gd gc rp : Nat → Nat, ck_YR n dr dF cl fo gd gc rp → post (nI (ck_fx rp n)) ((nI n), (nI room), (nI (2 ^ n)), (ck_a dr), (ck_a dF), (ck_a cl), (ck_a fo), (ck_a gd), (ck_a gc), (ck_a rp))) : wpY_reduce post ((nI n), (nI room), (nI (2 ^ n)), (ck_a dr), (ck_a dF), (ck_a cl), (ck_a fo), (ck_a gd), (ck_a gc), (ck_a rp)) :=
  ⟨_, yl_r0 hn hdr h 2048 0 cl (by omega) ck_n0⟩
end
end
section
/-! Y: the queries -/
def ck_YK (n : Nat) (H : Nat → Prop) (ri re fo gd gc rp : Nat → Nat) : Prop :=
  (∀ p, p < n → fo p = ri p ∧ ri p < 2 ^ n ∧ rp p = re p ∧ re p < n) ∧ (∀ m, m < 2 ^ n → gd m ≤ 1 ∧ (gd m = 1 ↔ H m)) ∧ (∀ s, s < 2 ^ n → gc s ≤ 1 ∧ (gc s = 1 ↔ ck_Co n H s))
section
variable {n room : Nat} {dr dF cl fo gd gc rp : Nat → Nat}
variable {H : Nat → Prop} {ri re : Nat → Nat}
theorem yy_ef {post : Int32 → Prop} {x y : Int32} (K : ck_YK n H ri re fo gd gc rp) (hn : n ≤ 8) (a b : Nat) (ha : a < n) (hb : b < n) (h1 : ck_Ef n H ri a b → post 1) (h0 : ¬ ck_Ef n H ri a b → post 0) (hx : x = nI a) (hy : y = nI b) : wpY_effective post ((nI n), (nI room), (nI (2 ^ n)), (ck_a dr), (ck_a dF), (ck_a cl), (ck_a fo), (ck_a gd), (ck_a gc), (ck_a rp)) x y := by
  subst hx hy
  have h8 := ck_p8 hn
  obtain ⟨k1, k2, -, -⟩ := K.1 a ha
  have a2 := ck_2lt ha
  have b2 := ck_2lt hb
  obtain ⟨ca, da⟩ := K.2.2 _ a2
  obtain ⟨cb, db⟩ := K.2.2 _ b2
  refine ⟨vp_in_nI (by omega) (by omega), yy_has (fo a) b (by rw [k1]; omega) (by omega) (fun hb => br_f (by decide) ⟨by rw [ck_shl a (by omega)]; exact vp_in_nI (by omega) (by omega), ?_⟩) (fun hb => br_t rfl (h0 (fun w => ?_))) (ck_ag (by omega)) rfl⟩
  · refine ck_z (gc (2 ^ a)) (by rw [ck_shl a (by omega), ck_ag (by omega)]) (by omega) (fun z => h0 (fun w => ?_)) (fun z => ⟨by rw [ck_shl b (by omega)]; exact vp_in_nI (by omega) (by omega), ck_z (gc (2 ^ b)) (by rw [ck_shl b (by omega), ck_ag (by omega)]) (by omega) (fun z' => h0 (fun w => ?_)) (fun z' => h1 ⟨?_, ?_, ?_⟩)⟩)
    · have := da.mpr w.2.1; omega
    · have := db.mpr w.2.2; omega
    · rw [← k1]; exact hb
    · exact da.mp (by omega)
    · exact db.mp (by omega)
  · have := w.1
    rw [← k1] at this
    exact ck_ft hb this
theorem yl_ct {post : Int32 → Prop} (K : ck_YK n H ri re fo gd gc rp) (hn : n ≤ 8) (a : Nat) (ha : a < n) (h1 : ck_Ct n H ri a → post 1) (h0 : ¬ ck_Ct n H ri a → post 0) :
    ∀ d b, b + d = n → (∀ b', b' < b → ¬ ck_Ef n H ri a b') → wY_contested_2 post (nI a) (nI n) (nI room) (nI (2 ^ n)) (ck_a dr) (ck_a dF) (ck_a cl) (ck_a fo) (ck_a gd) (ck_a gc) (ck_a rp) (d + 1) (nI b) := by
  intro d
  induction d with
  | zero =>
    intro b hb hh
    have : b = n := by omega
    subst this
    exact pk_le b b (fun _ => h0 (fun ⟨q, q1, q2⟩ => hh q q1 q2)) (fun h => absurd h (by omega))
  | succ d ih =>
    intro b hb hh
    refine pk_le n b (fun h => absurd h (by omega)) (fun _ => ?_)
    exact yy_ef K hn a b ha (by omega) (fun e => br_f (by decide) (h1 ⟨b, by omega, e⟩)) (fun e => br_t rfl (nm_r (nI_1 b) (ih (b + 1) (by omega) (lt_s hh e)))) rfl rfl
theorem yy_ct {post : Int32 → Prop} {x : Int32} (K : ck_YK n H ri re fo gd gc rp) (hn : n ≤ 8) (a : Nat) (ha : a < n) (h1 : ck_Ct n H ri a → post 1) (h0 : ¬ ck_Ct n H ri a → post 0) (hx : x = nI a) : wpY_contested post ((nI n), (nI room), (nI (2 ^ n)), (ck_a dr), (ck_a dF), (ck_a cl), (ck_a fo), (ck_a gd), (ck_a gc), (ck_a rp)) x := by
  subst hx
  exact ⟨_, yl_ct K hn a ha h1 h0 n 0 (by omega) ck_n0⟩
theorem yl_nd2 {post : Int32 → Prop} (K : ck_YK n H ri re fo gd gc rp) (hn : n ≤ 8) (r w : Nat) (hr : r < n) (hw : w < 2 ^ n)
    (h1 : (∀ m, m < 2 ^ n → H m → m.testBit r = true → m &&& w ≠ 0) → post 1) (h0 : (∃ m, m < 2 ^ n ∧ (H m ∧ m.testBit r = true ∧ m &&& w = 0)) → post 0) :
    ∀ d m, m + d = 2 ^ n → (∀ m', m' < m → H m' → m'.testBit r = true → m' &&& w ≠ 0) → wY_needs_54 post (nI r) (nI w) (nI n) (nI room) (nI (2 ^ n)) (ck_a dr) (ck_a dF) (ck_a cl) (ck_a fo) (ck_a gd) (ck_a gc) (ck_a rp) (d + 1) (nI m) := by
  have h8 := ck_p8 hn
  intro d
  induction d with
  | zero =>
    intro m hm hh
    have : m = 2 ^ n := by omega
    subst this
    exact pk_le (2 ^ n) (2 ^ n) (fun _ => h1 hh) (fun h => absurd h (by omega))
  | succ d ih =>
    intro m hm hh
    obtain ⟨g1, g2⟩ := K.2.1 m (by omega)
    have nx := fun e => ih (m + 1) (by omega) (lt_s hh e)
    refine pk_le (2 ^ n) m (fun h => absurd h (by omega)) (fun _ => ⟨vp_in_nI (by omega) (by omega), ?_⟩)
    refine ck_z (gd m) (ck_ag (by omega)) (by omega) (fun z => nm_r (nI_1 m) (nx (fun v => by have := g2.mpr v; omega))) (fun z => ?_)
    refine yy_has m r (by omega) (by omega) (fun hb => br_f (by decide) ?_) (fun hb => br_t rfl (nm_r (nI_1 m) (nx (fun _ v => absurd v (ck_ft hb))))) rfl rfl
    exact ck_z (m &&& w) (nx_and _ _) (ck_and31 (by omega)) (fun v => h0 ⟨m, by omega, g2.mp (by omega), hb, v⟩) (fun v => nm_r (nI_1 m) (nx (fun _ _ => v)))
theorem yl_nd {post : Int32 → Prop} (K : ck_YK n H ri re fo gd gc rp) (hn : n ≤ 8) (r e : Nat) (hr : r < n) (he : e < 2 ^ n)
    (h1 : ck_Nd n H ri re r e → post 1) (h0 : ¬ ck_Nd n H ri re r e → post 0) :
    ∀ d a w, a + d = n → (∀ q, w.testBit q = true ↔ ∃ a', a' < a ∧ ((e.testBit (re a') = true ∧ ck_Ct n H ri a') ∧ a' = q)) → wY_needs_5 post (nI r) (nI e) (nI n) (nI room) (nI (2 ^ n)) (ck_a dr) (ck_a dF) (ck_a cl) (ck_a fo) (ck_a gd) (ck_a gc) (ck_a rp) (d + 1) (nI w) (nI a) := by
  have h8 := ck_p8 hn
  intro d
  induction d with
  | zero =>
    intro a w ha hw
    have : a = n := by omega
    subst this
    have hwn : w < 2 ^ a := ck_bl (fun q hq => by obtain ⟨a', e1, _, e2⟩ := (hw q).mp hq; omega)
    refine pk_le a a (fun _ => ⟨_, yl_nd2 K hn r w hr hwn (fun hh => h1 (fun m m1 m2 m3 => ?_)) (fun hh => h0 (fun v => ?_)) (2 ^ a) 0 (by omega) ck_n0⟩) (fun h => absurd h (by omega))
    · obtain ⟨q, q1, q2⟩ := ck_andN.mp (hh m m1 m2 m3)
      obtain ⟨a', e1, ⟨e2, e3⟩, e4⟩ := (hw q).mp q2
      subst e4
      exact ⟨a', e1, q1, e3, e2⟩
    · obtain ⟨m, m1, m2, m3, m4⟩ := hh
      obtain ⟨a', e1, e2, e3, e4⟩ := v m m1 m2 m3
      exact ck_and0.mp m4 a' e2 ((hw a').mpr ⟨a', e1, ⟨e4, e3⟩, rfl⟩)
  | succ d ih =>
    intro a w ha hw
    obtain ⟨-, -, k3, k4⟩ := K.1 a (by omega)
    refine pk_le n a (fun h => absurd h (by omega)) (fun _ => ⟨vp_in_nI (by omega) (by omega), ?_⟩)
    refine yy_has e (re a) (by omega) (by omega) (fun hb => br_f (by decide) ?_) (fun hb => br_t rfl (nm_r (nI_1 a) (ih (a + 1) w (by omega) (fun q => ?_)))) rfl (by rw [ck_ag (by omega), k3])
    · refine yy_ct K hn a (by omega) (fun hc => br_f (by decide) (nm_r (e' := nI (w ||| 2 ^ a)) (by rw [ck_shl a (by omega), ck_or]) (nm_r (nI_1 a) (ih (a + 1) (w ||| 2 ^ a) (by omega) (fun q => ?_))))) (fun hc => br_t rfl (nm_r (nI_1 a) (ih (a + 1) w (by omega) (fun q => ?_)))) rfl
      · rw [ck_tor, hw q, ck_ex, ck_t2]
        exact ⟨fun z => z.elim Or.inl (fun y => Or.inr ⟨⟨hb, hc⟩, y⟩), fun z => z.elim Or.inl (fun y => Or.inr y.2)⟩
      · rw [hw q, ck_ex]
        exact ⟨Or.inl, fun z => z.elim id (fun y => absurd y.1.2 hc)⟩
    · rw [hw q, ck_ex]
      exact ⟨Or.inl, fun z => z.elim id (fun y => absurd y.1.1 (ck_ft hb))⟩
theorem yy_nd {post : Int32 → Prop} {x y : Int32} (K : ck_YK n H ri re fo gd gc rp) (hn : n ≤ 8) (r e : Nat) (hr : r < n) (he : e < 2 ^ n)
    (h1 : ck_Nd n H ri re r e → post 1) (h0 : ¬ ck_Nd n H ri re r e → post 0) (hx : x = nI r) (hy : y = nI e) : wpY_needs post ((nI n), (nI room), (nI (2 ^ n)), (ck_a dr), (ck_a dF), (ck_a cl), (ck_a fo), (ck_a gd), (ck_a gc), (ck_a rp)) x y := by
  subst hx hy
  exact ⟨_, yl_nd K hn r e hr he h1 h0 n 0 0 (by omega) (fun q => ⟨fun z => absurd z (by rw [Nat.zero_testBit]; decide), fun ⟨p, hp, _⟩ => absurd hp (Nat.not_lt_zero p)⟩)⟩
theorem yl_kc2 {post : Int32 → Prop} (K : ck_YK n H ri re fo gd gc rp) (hn : n ≤ 8) (r e : Nat) (hr : r < n) (he : e < 2 ^ n)
    (h1 : (∀ s, s < e → ck_sub s e → ¬ ck_Nd n H ri re r s) → post 1) (h0 : (∃ s, s < e ∧ (ck_sub s e ∧ ck_Nd n H ri re r s)) → post 0) :
    ∀ d s, s + d = e → (∀ s', s' < s → ck_sub s' e → ¬ ck_Nd n H ri re r s') → wY_isKernelClause_59 post (nI r) (nI e) (nI n) (nI room) (nI (2 ^ n)) (ck_a dr) (ck_a dF) (ck_a cl) (ck_a fo) (ck_a gd) (ck_a gc) (ck_a rp) (d + 1) (nI s) := by
  have h8 := ck_p8 hn
  intro d
  induction d with
  | zero =>
    intro s hs hh
    have : s = e := by omega
    subst this
    exact pk_le s s (fun _ => h1 hh) (fun h => absurd h (by omega))
  | succ d ih =>
    intro s hs hh
    have nx := fun z => ih (s + 1) (by omega) (lt_s hh z)
    have eq : s &&& e = s ↔ ck_sub s e := by rw [Nat.and_comm]; exact ck_andS
    refine pk_le e s (fun h => absurd h (by omega)) (fun _ => ?_)
    refine pk_eq (s &&& e) s (fun z => ?_) (fun z => nm_r (nI_1 s) (nx (fun v => absurd (eq.mpr v) z))) (nx_and _ _) rfl (ck_and31 (by omega)) (by omega)
    exact yy_nd K hn r s hr (by omega) (fun v => br_f (by decide) (h0 ⟨s, by omega, eq.mp z, v⟩)) (fun v => br_t rfl (nm_r (nI_1 s) (nx (fun _ => v)))) rfl rfl
theorem yl_kc {post : Int32 → Prop} (K : ck_YK n H ri re fo gd gc rp) (hn : n ≤ 8) (r e : Nat) (hr : r < n) (he : e < 2 ^ n)
    (h1 : ck_KC n H ri re r e → post 1) (h0 : ¬ ck_KC n H ri re r e → post 0) :
    ∀ d p, p + d = n → (∀ p', p' < p → e.testBit p' = true → re p' = p') → wY_isKernelClause_2 post (nI r) (nI e) (nI n) (nI room) (nI (2 ^ n)) (ck_a dr) (ck_a dF) (ck_a cl) (ck_a fo) (ck_a gd) (ck_a gc) (ck_a rp) (d + 1) (nI p) := by
  have h8 := ck_p8 hn
  intro d
  induction d with
  | zero =>
    intro p hp hh
    have : p = n := by omega
    subst this
    refine pk_le p p (fun _ => ?_) (fun h => absurd h (by omega))
    refine yy_has e r (by omega) (by omega) (fun hb => br_f (by decide) (h0 (fun v => v.2.1 hb))) (fun hb => br_t rfl ?_) rfl rfl
    refine yy_nd K hn r e hr he (fun v => br_f (by decide) ⟨_, yl_kc2 K hn r e hr he (fun z => h1 ⟨hh, ck_ft hb, v, z⟩) (fun ⟨s, s1, s2, s3⟩ => h0 (fun z => z.2.2.2 s s1 s2 s3)) e 0 (by omega) ck_n0⟩) (fun v => br_t rfl (h0 (fun z => v z.2.2.1))) rfl rfl
  | succ d ih =>
    intro p hp hh
    obtain ⟨-, -, k3, k4⟩ := K.1 p (by omega)
    have nx := fun z => ih (p + 1) (by omega) (lt_s hh z)
    refine pk_le n p (fun h => absurd h (by omega)) (fun _ => ?_)
    refine yy_has e p (by omega) (by omega) (fun hb => br_f (by decide) ⟨vp_in_nI (by omega) (by omega), ?_⟩) (fun hb => br_t rfl (nm_r (nI_1 p) (nx (fun v => absurd v (ck_ft hb))))) rfl rfl
    exact pk_eq (re p) p (fun z => nm_r (nI_1 p) (nx (fun _ => z))) (fun z => h0 (fun v => z (v.1 p (by omega) hb))) (by rw [ck_ag (by omega), k3]) rfl (by omega) (by omega)
theorem yy_kc {post : Int32 → Prop} {x y : Int32} (K : ck_YK n H ri re fo gd gc rp) (hn : n ≤ 8) (r e : Nat) (hr : r < n) (he : e < 2 ^ n)
    (h1 : ck_KC n H ri re r e → post 1) (h0 : ¬ ck_KC n H ri re r e → post 0) (hx : x = nI r) (hy : y = nI e) : wpY_isKernelClause post ((nI n), (nI room), (nI (2 ^ n)), (ck_a dr), (ck_a dF), (ck_a cl), (ck_a fo), (ck_a gd), (ck_a gc), (ck_a rp)) x y := by
  subst hx hy
  exact ⟨_, yl_kc K hn r e hr he h1 h0 n 0 (by omega) ck_n0⟩
theorem yl_kk2 {post : Int32 → Prop} {J : Int32 → Int32 → Prop} (K : ck_YK n H ri re fo gd gc rp) (hn : n ≤ 8) (r a : Nat) (hr : r < n) (ha : a < n) (Q0 : Nat)
    (hJ : ∀ Q : Nat, (∀ q, Q.testBit q = true ↔ Q0.testBit q = true ∨ ∃ b, b < n ∧ (q ≠ r ∧ (ck_Ef n H ri a b ∧ re a = r ∧ re b = q))) → J (nI Q) (nI (a + 1))) :
    ∀ d b Q, b + d = n → (∀ q, Q.testBit q = true ↔ Q0.testBit q = true ∨ ∃ b', b' < b ∧ (q ≠ r ∧ (ck_Ef n H ri a b' ∧ re a = r ∧ re b' = q))) → wY_kernelConflicts_39 post J (nI r) (nI a) (nI n) (nI room) (nI (2 ^ n)) (ck_a dr) (ck_a dF) (ck_a cl) (ck_a fo) (ck_a gd) (ck_a gc) (ck_a rp) (d + 1) (nI Q) (nI b) := by
  intro d
  induction d with
  | zero =>
    intro b Q hb hQ
    have : b = n := by omega
    subst this
    exact pk_le b b (fun _ => nm_r (nI_1 a) (hJ Q hQ)) (fun h => absurd h (by omega))
  | succ d ih =>
    intro b Q hb hQ
    obtain ⟨-, -, a3, a4⟩ := K.1 a ha
    obtain ⟨-, -, b3, b4⟩ := K.1 b (by omega)
    have sk : (∀ q, ¬ (q ≠ r ∧ (ck_Ef n H ri a b ∧ re a = r ∧ re b = q))) → wY_kernelConflicts_39 post J (nI r) (nI a) (nI n) (nI room) (nI (2 ^ n)) (ck_a dr) (ck_a dF) (ck_a cl) (ck_a fo) (ck_a gd) (ck_a gc) (ck_a rp) (d + 1) (nI Q) (nI (b + 1)) := fun hz => ih (b + 1) Q (by omega) (fun q => by
      rw [hQ q, ck_ex]
      exact ⟨fun z => z.elim Or.inl (fun v => Or.inr (Or.inl v)), fun z => z.elim Or.inl (fun v => v.elim Or.inr (fun y => absurd y (hz q)))⟩)
    refine pk_le n b (fun h => absurd h (by omega)) (fun _ => ?_)
    refine yy_ef K hn a b ha (by omega) (fun e => br_f (by decide) ⟨vp_in_nI (by omega) (by omega), ?_⟩) (fun e => br_t rfl (nm_r (nI_1 b) (sk (fun q v => e v.2.1)))) rfl rfl
    refine pk_eq (re a) r (fun e1 => ⟨vp_in_nI (by omega) (by omega), ?_⟩) (fun e1 => nm_r (nI_1 b) (sk (fun q v => e1 v.2.2.1))) (by rw [ck_ag (by omega), a3]) rfl (by omega) (by omega)
    refine pk_eq (re b) r (fun e2 => nm_r (nI_1 b) (sk (fun q v => v.1 (v.2.2.2.symm.trans e2)))) (fun e2 => ⟨vp_in_nI (by omega) (by omega), nm_r (e' := nI (Q ||| 2 ^ re b)) (by rw [ck_ag (by omega), b3, ck_shl _ (by omega), ck_or]) (nm_r (nI_1 b) (ih (b + 1) (Q ||| 2 ^ re b) (by omega) (fun q => ?_)))⟩) (by rw [ck_ag (by omega), b3]) rfl (by omega) (by omega)
    rw [ck_tor, hQ q, ck_ex, ck_t2]
    constructor
    · rintro ((z | z) | z)
      · exact Or.inl z
      · exact Or.inr (Or.inl z)
      · exact Or.inr (Or.inr ⟨fun v => e2 (z.trans v), e, e1, z⟩)
    · rintro (z | z | z)
      · exact Or.inl (Or.inl z)
      · exact Or.inl (Or.inr z)
      · exact Or.inr z.2.2.2
theorem yl_kk {post : Int32 → Prop} (K : ck_YK n H ri re fo gd gc rp) (hn : n ≤ 8) (r : Nat) (hr : r < n)
    (h : ∀ Q : Nat, (∀ q, Q.testBit q = true ↔ ck_KQ n H ri re r q) → post (nI Q)) :
    ∀ d a Q, a + d = n → (∀ q, Q.testBit q = true ↔ ∃ a', a' < a ∧ ∃ b, b < n ∧ (q ≠ r ∧ (ck_Ef n H ri a' b ∧ re a' = r ∧ re b = q))) → wY_kernelConflicts_28 post (nI r) (nI n) (nI room) (nI (2 ^ n)) (ck_a dr) (ck_a dF) (ck_a cl) (ck_a fo) (ck_a gd) (ck_a gc) (ck_a rp) (d + 1) (nI Q) (nI a) := by
  intro d
  induction d with
  | zero =>
    intro a Q ha hQ
    have : a = n := by omega
    subst this
    refine pk_le a a (fun _ => h Q (fun q => ?_)) (fun h => absurd h (by omega))
    rw [hQ q]
    constructor
    · rintro ⟨a', e1, b, e2, e3, e4⟩
      exact ⟨e3, a', e1, b, e2, e4⟩
    · rintro ⟨e3, a', e1, b, e2, e4⟩
      exact ⟨a', e1, b, e2, e3, e4⟩
  | succ d ih =>
    intro a Q ha hQ
    refine pk_le n a (fun h => absurd h (by omega)) (fun _ => ⟨_, yl_kk2 K hn r a hr (by omega) Q (fun Q' hQ' => ih (a + 1) Q' (by omega) (fun q => ?_)) n 0 Q (by omega) (fun q => ⟨Or.inl, fun z => z.elim id (fun ⟨b, hb, _⟩ => absurd hb (Nat.not_lt_zero b))⟩)⟩)
    rw [hQ' q, hQ q, ck_ex]
theorem yy_kk {post : Int32 → Prop} {x : Int32} (K : ck_YK n H ri re fo gd gc rp) (hn : n ≤ 8) (r : Nat) (hr : r < n) (h0 : re r ≠ r → post (-1))
    (h : re r = r → ∀ Q : Nat, (∀ q, Q.testBit q = true ↔ ck_KQ n H ri re r q) → post (nI Q)) (hx : x = nI r) : wpY_kernelConflicts post ((nI n), (nI room), (nI (2 ^ n)), (ck_a dr), (ck_a dF), (ck_a cl), (ck_a fo), (ck_a gd), (ck_a gc), (ck_a rp)) x := by
  subst hx
  obtain ⟨-, -, k3, k4⟩ := K.1 r hr
  refine br_f (nI_pos (by omega)) (pk_le n r (fun z => absurd z (by omega)) (fun _ => ⟨vp_in_nI (by omega) (by omega), ?_⟩))
  exact pk_eq (re r) r (fun e => ⟨_, yl_kk K hn r hr (h e) n 0 0 (by omega) (fun q => ⟨fun z => absurd z (by rw [Nat.zero_testBit]; decide), fun ⟨p, hp, _⟩ => absurd hp (Nat.not_lt_zero p)⟩)⟩) h0 (by rw [ck_ag (by omega), k3]) rfl (by omega) (by omega)
theorem yl_nk {post : Int32 → Prop} (K : ck_YK n H ri re fo gd gc rp) (hn : n ≤ 8) (r : Nat) (hr : r < n) (af : Int32)
    (h1 : ∀ e, e < 2 ^ n → ¬ nI e ≤ af → ck_KC n H ri re r e → (∀ e', e' < e → ¬ nI e' ≤ af → ¬ ck_KC n H ri re r e') → post (nI e))
    (h0 : (∀ e, e < 2 ^ n → ¬ nI e ≤ af → ¬ ck_KC n H ri re r e) → post (-2)) :
    ∀ d e, e + d = 2 ^ n → (∀ e', e' < e → ¬ nI e' ≤ af → ¬ ck_KC n H ri re r e') → wY_nextKernelClause_26 post (nI r) af (nI n) (nI room) (nI (2 ^ n)) (ck_a dr) (ck_a dF) (ck_a cl) (ck_a fo) (ck_a gd) (ck_a gc) (ck_a rp) (d + 1) (nI e) := by
  have h8 := ck_p8 hn
  intro d
  induction d with
  | zero =>
    intro e he hh
    have : e = 2 ^ n := by omega
    subst this
    exact pk_le (2 ^ n) (2 ^ n) (fun _ => h0 hh) (fun h => absurd h (by omega))
  | succ d ih =>
    intro e he hh
    have nx := fun z => ih (e + 1) (by omega) (lt_s hh z)
    refine pk_le (2 ^ n) e (fun h => absurd h (by omega)) (fun _ => br_c (fun z => nm_r (nI_1 e) (nx (fun v => absurd z v))) (fun z => ?_))
    exact yy_kc K hn r e hr (by omega) (fun v => br_f (by decide) (h1 e (by omega) z v hh)) (fun v => br_t rfl (nm_r (nI_1 e) (nx (fun _ => v)))) rfl rfl
theorem yy_nk {post : Int32 → Prop} {x : Int32} (K : ck_YK n H ri re fo gd gc rp) (hn : n ≤ 8) (r : Nat) (hr : r < n) (af : Int32) (hb : re r ≠ r → post (-1))
    (h1 : re r = r → ∀ e, e < 2 ^ n → ¬ nI e ≤ af → ck_KC n H ri re r e → (∀ e', e' < e → ¬ nI e' ≤ af → ¬ ck_KC n H ri re r e') → post (nI e))
    (h0 : re r = r → (∀ e, e < 2 ^ n → ¬ nI e ≤ af → ¬ ck_KC n H ri re r e) → post (-2)) (hx : x = nI r) : wpY_nextKernelClause post ((nI n), (nI room), (nI (2 ^ n)), (ck_a dr), (ck_a dF), (ck_a cl), (ck_a fo), (ck_a gd), (ck_a gc), (ck_a rp)) x af := by
  subst hx
  obtain ⟨-, -, k3, k4⟩ := K.1 r hr
  refine br_f (nI_pos (by omega)) (pk_le n r (fun z => absurd z (by omega)) (fun _ => ⟨vp_in_nI (by omega) (by omega), ?_⟩))
  exact pk_eq (re r) r (fun e => ⟨_, yl_nk K hn r hr af (h1 e) (h0 e) (2 ^ n) 0 (by omega) ck_n0⟩) hb (by rw [ck_ag (by omega), k3]) rfl (by omega) (by omega)
end
end
section
/-! Y: kernelHealthy, install, nextClause, image, the count of demand -/
def ck_KH (n : Nat) (H : Nat → Prop) (ri re : Nat → Nat) (s : Nat) : Prop :=
  ∀ r, r < n → s.testBit r = true → (∀ q, s.testBit q = true → ¬ ck_KQ n H ri re r q) ∧ (∀ e, e < 2 ^ n → s &&& e = 0 → ¬ ck_KC n H ri re r e)
def ck_LM (n : Nat) (H : Nat → Prop) (s m : Nat) : Prop :=
  m < 2 ^ n ∧ (H m ∧ ck_sub s m) ∧ (∀ m', m' < 2 ^ n → (H m' ∧ ck_sub s m') → ck_cd n m ≤ ck_cd n m') ∧ (∀ m', m' < m → (H m' ∧ ck_sub s m') → ck_cd n m' ≠ ck_cd n m)
theorem ck_LMu {n : Nat} {H : Nat → Prop} {s a b : Nat} (ha : ck_LM n H s a) (hb : ck_LM n H s b) : a = b := by
  have h1 := ha.2.2.1 b hb.1 hb.2.1
  have h2 := hb.2.2.1 a ha.1 ha.2.1
  rcases Nat.lt_trichotomy a b with z | z | z
  · exact absurd (by omega) (hb.2.2.2 a z ha.2.1)
  · exact z
  · exact absurd (by omega) (ha.2.2.2 b z hb.2.1)
/-- the least member of S, or -2 -/
def ck_BI (S : Nat → Prop) (b : Int32) : Prop := (b = -2 ∧ ∀ e, ¬ S e) ∨ (∃ k, b = nI k ∧ k < 2 ^ 31 ∧ S k ∧ ∀ e, S e → k ≤ e)
theorem ck_BIu {S T : Nat → Prop} {a b : Int32} (ha : ck_BI S a) (hb : ck_BI T b) (hST : ∀ e, S e ↔ T e) : a = b := by
  rcases ha with ⟨a1, a2⟩ | ⟨k, a1, a2, a3, a4⟩
  · rcases hb with ⟨b1, b2⟩ | ⟨l, b1, b2, b3, b4⟩
    · rw [a1, b1]
    · exact absurd ((hST l).mpr b3) (a2 l)
  · rcases hb with ⟨b1, b2⟩ | ⟨l, b1, b2, b3, b4⟩
    · exact absurd ((hST k).mp a3) (b2 k)
    · have := a4 l ((hST l).mpr b3)
      have := b4 k ((hST k).mp a3)
      have : k = l := by omega
      rw [a1, b1, this]
def ck_ct (f : Nat → Nat) : Nat → Nat
  | 0 => 0
  | k + 1 => if f k = 0 then ck_ct f k else ck_ct f k + 1
theorem ck_ctc {f g : Nat → Nat} {k : Nat} (h : ∀ i, i < k → g i = f i) : ck_ct g k = ck_ct f k := by
  induction k with
  | zero => rfl
  | succ k ih =>
    show (if g k = 0 then ck_ct g k else ck_ct g k + 1) = (if f k = 0 then ck_ct f k else ck_ct f k + 1)
    rw [ih (fun i hi => h i (by omega)), h k (by omega)]
theorem ck_ctle (f : Nat → Nat) (k : Nat) : ck_ct f k ≤ k := by
  induction k with
  | zero => exact Nat.le_refl _
  | succ k ih =>
    show (if f k = 0 then ck_ct f k else ck_ct f k + 1) ≤ k + 1
    split <;> omega
theorem ck_ct1 {f : Nat → Nat} {j k : Nat} (hj : j < k) (h : f j = 0) : ck_ct (ck_u f j 1) k = ck_ct f k + 1 := by
  induction k with
  | zero => omega
  | succ k ih =>
    show (if ck_u f j 1 k = 0 then ck_ct (ck_u f j 1) k else ck_ct (ck_u f j 1) k + 1) = (if f k = 0 then ck_ct f k else ck_ct f k + 1) + 1
    rcases Nat.lt_or_ge j k with z | z
    · rw [ck_un (by omega), ih z]
      split <;> omega
    · have : j = k := by omega
      subst this
      rw [ck_us, if_neg (by omega), if_pos h, ck_ctc (f := f) (fun i hi => ck_un (by omega))]
theorem ck_ct0 {f : Nat → Nat} {j k : Nat} (hj : j < k) (h : f j ≠ 0) : ck_ct (ck_u f j 0) k + 1 = ck_ct f k := by
  induction k with
  | zero => omega
  | succ k ih =>
    show (if ck_u f j 0 k = 0 then ck_ct (ck_u f j 0) k else ck_ct (ck_u f j 0) k + 1) + 1 = (if f k = 0 then ck_ct f k else ck_ct f k + 1)
    rcases Nat.lt_or_ge j k with z | z
    · rw [ck_un (by omega), ← ih z]
      split <;> rfl
    · have : j = k := by omega
      subst this
      rw [ck_us, if_pos rfl, if_neg h, ck_ctc (f := f) (fun i hi => ck_un (by omega))]
section
variable {n room : Nat} {dr dF cl fo gd gc rp : Nat → Nat}
variable {H : Nat → Prop} {ri re : Nat → Nat}
theorem yl_kh3 {post J : Int32 → Prop} (K : ck_YK n H ri re fo gd gc rp) (hn : n ≤ 8) (s r : Nat) (hs : s < 2 ^ n) (hr : r < n)
    (hJ : (∀ e, e < 2 ^ n → s.testBit r = true → s &&& e = 0 → ¬ ck_KC n H ri re r e) → J (nI (r + 1)))
    (h0 : (∃ e, e < 2 ^ n ∧ (s.testBit r = true ∧ s &&& e = 0 ∧ ck_KC n H ri re r e)) → post 0) :
    ∀ d e, e + d = 2 ^ n → (∀ e', e' < e → s.testBit r = true → s &&& e' = 0 → ¬ ck_KC n H ri re r e') → wY_kernelHealthy_84 post J (nI s) (nI r) (nI n) (nI room) (nI (2 ^ n)) (ck_a dr) (ck_a dF) (ck_a cl) (ck_a fo) (ck_a gd) (ck_a gc) (ck_a rp) (d + 1) (nI e) := by
  have h8 := ck_p8 hn
  intro d
  induction d with
  | zero =>
    intro e he hh
    have : e = 2 ^ n := by omega
    subst this
    exact pk_le (2 ^ n) (2 ^ n) (fun _ => nm_r (nI_1 r) (hJ hh)) (fun h => absurd h (by omega))
  | succ d ih =>
    intro e he hh
    have nx := fun z => ih (e + 1) (by omega) (lt_s hh z)
    refine pk_le (2 ^ n) e (fun h => absurd h (by omega)) (fun _ => ?_)
    refine yy_has s r (by omega) (by omega) (fun hb => br_f (by decide) ?_) (fun hb => br_t rfl (nm_r (nI_1 e) (nx (fun v => absurd v (ck_ft hb))))) rfl rfl
    refine ck_z (s &&& e) (nx_and _ _) (ck_and31 (by omega)) (fun z => ?_) (fun z => nm_r (nI_1 e) (nx (fun _ v => absurd v z)))
    exact yy_kc K hn r e hr (by omega) (fun v => br_f (by decide) (h0 ⟨e, by omega, hb, z, v⟩)) (fun v => br_t rfl (nm_r (nI_1 e) (nx (fun _ _ => v)))) rfl rfl
theorem yl_kh2 {post : Int32 → Prop} (K : ck_YK n H ri re fo gd gc rp) (hn : n ≤ 8) (s : Nat) (hs : s < 2 ^ n) (hre : ∀ p, p < n → s.testBit p = true → re p = p)
    (h1 : ck_KH n H ri re s → post 1) (h0 : ¬ ck_KH n H ri re s → post 0) :
    ∀ d r, r + d = n → (∀ r', r' < r → s.testBit r' = true → (∀ q, s.testBit q = true → ¬ ck_KQ n H ri re r' q) ∧ (∀ e, e < 2 ^ n → s &&& e = 0 → ¬ ck_KC n H ri re r' e)) → wY_kernelHealthy_53 post (nI s) (nI n) (nI room) (nI (2 ^ n)) (ck_a dr) (ck_a dF) (ck_a cl) (ck_a fo) (ck_a gd) (ck_a gc) (ck_a rp) (d + 1) (nI r) := by
  have h8 := ck_p8 hn
  intro d
  induction d with
  | zero =>
    intro r hr hh
    have : r = n := by omega
    subst this
    exact pk_le r r (fun _ => h1 hh) (fun h => absurd h (by omega))
  | succ d ih =>
    intro r hr hh
    refine pk_le n r (fun h => absurd h (by omega)) (fun _ => ?_)
    refine yy_has s r (by omega) (by omega) (fun hb => br_f (by decide) ?_) (fun hb => br_t rfl ⟨_, yl_kh3 K hn s r hs (by omega) (fun z => ih (r + 1) (by omega) (lt_s hh (fun v => absurd v (ck_ft hb)))) (fun ⟨e, _, e2, _⟩ => absurd e2 (ck_ft hb)) (2 ^ n) 0 (by omega) ck_n0⟩) rfl rfl
    refine yy_kk K hn r (by omega) (fun z => absurd (hre r (by omega) hb) z) (fun _ Q hQ => ?_) rfl
    refine ck_z (Q &&& s) (nx_and _ _) (ck_and31 (by omega)) (fun z => ?_) (fun z => h0 (fun v => ?_))
    · exact ⟨_, yl_kh3 K hn s r hs (by omega) (fun v => ih (r + 1) (by omega) (lt_s hh (fun _ => ⟨fun q q1 q2 => ck_and0.mp z q ((hQ q).mpr q2) q1, fun e e1 e2 => v e e1 hb e2⟩))) (fun ⟨e, e1, e2, e3, e4⟩ => h0 (fun v => (v r (by omega) hb).2 e e1 e3 e4)) (2 ^ n) 0 (by omega) ck_n0⟩
    · obtain ⟨q, q1, q2⟩ := ck_andN.mp z
      exact (v r (by omega) hb).1 q q2 ((hQ q).mp q1)
theorem yl_kh1 {post : Int32 → Prop} (K : ck_YK n H ri re fo gd gc rp) (hn : n ≤ 8) (s : Nat) (hs : s < 2 ^ n)
    (hb : (∃ p, p < n ∧ (s.testBit p = true ∧ re p ≠ p)) → post (-1))
    (h1 : (∀ p, p < n → s.testBit p = true → re p = p) → ck_KH n H ri re s → post 1) (h0 : (∀ p, p < n → s.testBit p = true → re p = p) → ¬ ck_KH n H ri re s → post 0) :
    ∀ d p, p + d = n → (∀ p', p' < p → s.testBit p' = true → re p' = p') → wY_kernelHealthy_16 post (nI s) (nI n) (nI room) (nI (2 ^ n)) (ck_a dr) (ck_a dF) (ck_a cl) (ck_a fo) (ck_a gd) (ck_a gc) (ck_a rp) (d + 1) (nI p) := by
  have h8 := ck_p8 hn
  intro d
  induction d with
  | zero =>
    intro p hp hh
    have : p = n := by omega
    subst this
    exact pk_le p p (fun _ => ⟨_, yl_kh2 K hn s hs hh (h1 hh) (h0 hh) p 0 (by omega) ck_n0⟩) (fun h => absurd h (by omega))
  | succ d ih =>
    intro p hp hh
    obtain ⟨-, -, k3, k4⟩ := K.1 p (by omega)
    have nx := fun z => ih (p + 1) (by omega) (lt_s hh z)
    refine pk_le n p (fun h => absurd h (by omega)) (fun _ => ?_)
    refine yy_has s p (by omega) (by omega) (fun hb' => br_f (by decide) ⟨vp_in_nI (by omega) (by omega), ?_⟩) (fun hb' => br_t rfl (nm_r (nI_1 p) (nx (fun v => absurd v (ck_ft hb'))))) rfl rfl
    exact pk_eq (re p) p (fun z => nm_r (nI_1 p) (nx (fun _ => z))) (fun z => hb ⟨p, by omega, hb', z⟩) (by rw [ck_ag (by omega), k3]) rfl (by omega) (by omega)
theorem yy_kh {post : Int32 → Prop} {x : Int32} (K : ck_YK n H ri re fo gd gc rp) (hn : n ≤ 8) (s : Nat) (hs : s < 2 ^ n)
    (hb : (∃ p, p < n ∧ (s.testBit p = true ∧ re p ≠ p)) → post (-1))
    (h1 : (∀ p, p < n → s.testBit p = true → re p = p) → ck_KH n H ri re s → post 1) (h0 : (∀ p, p < n → s.testBit p = true → re p = p) → ¬ ck_KH n H ri re s → post 0) (hx : x = nI s) : wpY_kernelHealthy post ((nI n), (nI room), (nI (2 ^ n)), (ck_a dr), (ck_a dF), (ck_a cl), (ck_a fo), (ck_a gd), (ck_a gc), (ck_a rp)) x := by
  subst hx
  have h8 := ck_p8 hn
  exact br_f (nI_pos (by omega)) (pk_lt s (2 ^ n) (fun _ => ⟨_, yl_kh1 K hn s hs hb h1 h0 n 0 (by omega) ck_n0⟩) (fun z => absurd z (by omega)))
theorem yl_in2 {post J : Int32 → Prop} (K : ck_YK n H ri re fo gd gc rp) (hn : n ≤ 8) (s k : Nat) (hs : s < 2 ^ n) (hk : k ≤ n)
    (hJ : (∀ m, m < 2 ^ n → (H m ∧ ck_sub s m) → ck_cd n m ≠ k) → J (nI (k + 1)))
    (h1 : ∀ m, m < 2 ^ n → (H m ∧ ck_sub s m) → ck_cd n m = k → (∀ m', m' < m → (H m' ∧ ck_sub s m') → ck_cd n m' ≠ k) → post (nI m)) :
    ∀ d m, m + d = 2 ^ n → (∀ m', m' < m → (H m' ∧ ck_sub s m') → ck_cd n m' ≠ k) → wY_install_26 post J (nI s) (nI k) (nI n) (nI room) (nI (2 ^ n)) (ck_a dr) (ck_a dF) (ck_a cl) (ck_a fo) (ck_a gd) (ck_a gc) (ck_a rp) (d + 1) (nI m) := by
  have h8 := ck_p8 hn
  intro d
  induction d with
  | zero =>
    intro m hm hh
    have : m = 2 ^ n := by omega
    subst this
    exact pk_le (2 ^ n) (2 ^ n) (fun _ => nm_r (nI_1 k) (hJ hh)) (fun h => absurd h (by omega))
  | succ d ih =>
    intro m hm hh
    obtain ⟨g1, g2⟩ := K.2.1 m (by omega)
    have nx := fun z => ih (m + 1) (by omega) (lt_s hh z)
    have hc := ck_cdle n m
    refine pk_le (2 ^ n) m (fun h => absurd h (by omega)) (fun _ => ⟨vp_in_nI (by omega) (by omega), ?_⟩)
    refine ck_z (gd m) (ck_ag (by omega)) (by omega) (fun z => nm_r (nI_1 m) (nx (fun v => by have := g2.mpr v.1; omega))) (fun z => ?_)
    refine pk_eq (m &&& s) s (fun e => ?_) (fun e => nm_r (nI_1 m) (nx (fun v => absurd (ck_andS.mpr v.2) e))) (nx_and _ _) rfl (ck_and31 (by omega)) (by omega)
    refine yy_me m (by omega) hn ?_ rfl
    exact pk_eq (ck_cd n m) k (fun e' => h1 m (by omega) ⟨g2.mp (by omega), ck_andS.mp e⟩ e' hh) (fun e' => nm_r (nI_1 m) (nx (fun _ => e'))) rfl rfl (by omega) (by omega)
theorem yl_in1 {post : Int32 → Prop} (K : ck_YK n H ri re fo gd gc rp) (hn : n ≤ 8) (s : Nat) (hs : s < 2 ^ n)
    (h1 : ∀ m, ck_LM n H s m → post (nI m)) (h0 : (∀ m, m < 2 ^ n → ¬ (H m ∧ ck_sub s m)) → post (-2)) :
    ∀ d k, k + d = n + 1 → (∀ k', k' < k → ∀ m, m < 2 ^ n → (H m ∧ ck_sub s m) → ck_cd n m ≠ k') → wY_install_16 post (nI s) (nI n) (nI room) (nI (2 ^ n)) (ck_a dr) (ck_a dF) (ck_a cl) (ck_a fo) (ck_a gd) (ck_a gc) (ck_a rp) (d + 1) (nI k) := by
  intro d
  induction d with
  | zero =>
    intro k hk hh
    refine pk_lt n k (fun _ => h0 (fun m m1 m2 => ?_)) (fun h => absurd h (by omega))
    have := ck_cdle n m
    exact hh (ck_cd n m) (by omega) m m1 m2 rfl
  | succ d ih =>
    intro k hk hh
    refine pk_lt n k (fun h => absurd h (by omega)) (fun _ => ⟨_, yl_in2 K hn s k hs (by omega) (fun z => ih (k + 1) (by omega) (lt_s hh z)) (fun m m1 m2 m3 m4 => h1 m ⟨m1, m2, fun m' a1 a2 => ?_, fun m' a1 a2 => by rw [m3]; exact m4 m' a1 a2⟩) (2 ^ n) 0 (by omega) ck_n0⟩)
    rcases Nat.lt_or_ge (ck_cd n m') (ck_cd n m) with z | z
    · exact absurd rfl (hh (ck_cd n m') (by omega) m' a1 a2)
    · exact z
theorem yy_in {post : Int32 → Prop} {x : Int32} (K : ck_YK n H ri re fo gd gc rp) (hn : n ≤ 8) (s : Nat) (hs : s < 2 ^ n)
    (h1 : ∀ m, ck_LM n H s m → post (nI m)) (h0 : (∀ m, m < 2 ^ n → ¬ (H m ∧ ck_sub s m)) → post (-2)) (hx : x = nI s) : wpY_install post ((nI n), (nI room), (nI (2 ^ n)), (ck_a dr), (ck_a dF), (ck_a cl), (ck_a fo), (ck_a gd), (ck_a gc), (ck_a rp)) x := by
  subst hx
  have h8 := ck_p8 hn
  exact br_f (nI_pos (by omega)) (pk_lt s (2 ^ n) (fun _ => ⟨_, yl_in1 K hn s hs h1 h0 (n + 1) 0 (by omega) ck_n0⟩) (fun z => absurd z (by omega)))
theorem yl_nc {post : Int32 → Prop} (hn : n ≤ 8) (p : Nat) (hp : p < n) (af : Int32) (hdr : ∀ k, k < 2048 → dr k ≤ 1)
    (h : ∀ b, ck_BI (fun a => a < 2 ^ n ∧ ¬ nI a ≤ af ∧ dr (p * 256 + a) ≠ 0) b → post b) :
    ∀ d a, a + d = 2 ^ n → (∀ a', a' < a → ¬ (¬ nI a' ≤ af ∧ dr (p * 256 + a') ≠ 0)) → wY_nextClause_16 post (nI p) af (nI n) (nI room) (nI (2 ^ n)) (ck_a dr) (ck_a dF) (ck_a cl) (ck_a fo) (ck_a gd) (ck_a gc) (ck_a rp) (d + 1) (nI a) := by
  have h8 := ck_p8 hn
  intro d
  induction d with
  | zero =>
    intro a ha hh
    have : a = 2 ^ n := by omega
    subst this
    exact pk_le (2 ^ n) (2 ^ n) (fun _ => h (-2) (Or.inl ⟨rfl, fun e he => hh e he.1 he.2⟩)) (fun h => absurd h (by omega))
  | succ d ih =>
    intro a ha hh
    have hk := hdr (p * 256 + a) (by omega)
    have nx := fun z => ih (a + 1) (by omega) (lt_s hh z)
    refine pk_le (2 ^ n) a (fun h => absurd h (by omega)) (fun _ => br_c (fun z => nm_r (nI_1 a) (nx (fun v => v.1 z))) (fun z => ⟨by rw [ck_iy]; exact vp_in_nI (by omega) (by omega), ?_⟩))
    refine ck_z (dr (p * 256 + a)) (by rw [ck_iy, ck_ag (by omega)]) (by omega) (fun w => nm_r (nI_1 a) (nx (fun v => v.2 w))) (fun w => h (nI a) (Or.inr ⟨a, rfl, by omega, ⟨by omega, z, w⟩, fun e he => ?_⟩))
    rcases Nat.lt_or_ge e a with y | y
    · exact absurd he.2 (hh e y)
    · exact y
theorem yy_nc {post : Int32 → Prop} {x : Int32} (hn : n ≤ 8) (p : Nat) (hp : p < n) (af : Int32) (hdr : ∀ k, k < 2048 → dr k ≤ 1)
    (h : ∀ b, ck_BI (fun a => a < 2 ^ n ∧ ¬ nI a ≤ af ∧ dr (p * 256 + a) ≠ 0) b → post b) (hx : x = nI p) : wpY_nextClause post ((nI n), (nI room), (nI (2 ^ n)), (ck_a dr), (ck_a dF), (ck_a cl), (ck_a fo), (ck_a gd), (ck_a gc), (ck_a rp)) x af := by
  subst hx
  exact br_f (nI_pos (by omega)) (pk_lt p n (fun _ => ⟨_, yl_nc hn p hp af hdr h (2 ^ n) 0 (by omega) ck_n0⟩) (fun z => absurd z (by omega)))
theorem yl_im {post : Int32 → Prop} (s : Nat) (hs : s < 2 ^ 31) (hn : n ≤ 8) (hre : ∀ p, p < n → rp p < 31)
    (h : ∀ R : Nat, (∀ q, R.testBit q = true ↔ ∃ p, p < n ∧ (s.testBit p = true ∧ rp p = q)) → post (nI R)) :
    ∀ d i R, i + d = n → (∀ q, R.testBit q = true ↔ ∃ p, p < i ∧ (s.testBit p = true ∧ rp p = q)) → wY_image_18 post (nI s) (nI n) (nI room) (nI (2 ^ n)) (ck_a dr) (ck_a dF) (ck_a cl) (ck_a fo) (ck_a gd) (ck_a gc) (ck_a rp) (d + 1) (nI R) (nI i) := by
  intro d
  induction d with
  | zero =>
    intro i R hi hp
    have : i = n := by omega
    subst this
    exact pk_le i i (fun _ => h R hp) (fun h => absurd h (by omega))
  | succ d ih =>
    intro i R hi hp
    refine pk_le n i (fun h => absurd h (by omega)) (fun _ => ?_)
    refine yy_has s i hs (by omega) (fun ht => ?_) (fun ht => ?_) rfl rfl
    · refine br_f (by decide) ⟨vp_in_nI (by omega) (by omega), ?_⟩
      refine nm_r (e' := nI (R ||| 2 ^ rp i)) (by rw [ck_ag (by omega), ck_shl _ (hre i (by omega)), ck_or]) (nm_r (nI_1 i) (ih (i + 1) (R ||| 2 ^ rp i) (by omega) (fun q => ?_)))
      rw [ck_tor, hp q, ck_ex, ck_t2]
      exact ⟨fun z => z.elim Or.inl (fun w => Or.inr ⟨ht, w⟩), fun z => z.elim Or.inl (fun w => Or.inr w.2)⟩
    · refine br_t rfl (nm_r (nI_1 i) (ih (i + 1) R (by omega) (fun q => ?_)))
      rw [hp q, ck_ex]
      exact ⟨Or.inl, fun z => z.elim id (fun w => absurd w.1 (ck_ft ht))⟩
theorem yy_im {post : Int32 → Prop} {x : Int32} (s : Nat) (hs : s < 2 ^ n) (hn : n ≤ 8) (hre : ∀ p, p < n → rp p < 31)
    (h : ∀ R : Nat, (∀ q, R.testBit q = true ↔ ∃ p, p < n ∧ (s.testBit p = true ∧ rp p = q)) → post (nI R)) (hx : x = nI s) : wpY_image post ((nI n), (nI room), (nI (2 ^ n)), (ck_a dr), (ck_a dF), (ck_a cl), (ck_a fo), (ck_a gd), (ck_a gc), (ck_a rp)) x := by
  subst hx
  have h8 := ck_p8 hn
  exact br_f (nI_pos (by omega)) (pk_lt s (2 ^ n) (fun _ => ⟨_, yl_im s (by omega) hn hre h n 0 0 (by omega) (fun q => ⟨fun z => absurd z (by rw [Nat.zero_testBit]; decide), fun ⟨p, hp, _⟩ => absurd hp (Nat.not_lt_zero p)⟩)⟩) (fun z => absurd z (by omega)))
theorem yl_dm {post : Int32 → SY → Prop} (hn : n ≤ 8) (p a : Nat) (hp : p < n) (ha : a < 2 ^ n) (hdr : ∀ k, k < 2048 → dr k ≤ 1) (hroom : room ≤ 24)
    (h1 : ck_ct dr 2048 < room → post 1 ((nI n), (nI room), (nI (2 ^ n)), (ck_a (ck_u dr (p * 256 + a) 1)), (ck_a dF), (ck_a cl), (ck_a fo), (ck_a gd), (ck_a gc), (ck_a rp))) (h0 : room ≤ ck_ct dr 2048 → post (-3) ((nI n), (nI room), (nI (2 ^ n)), (ck_a dr), (ck_a dF), (ck_a cl), (ck_a fo), (ck_a gd), (ck_a gc), (ck_a rp))) :
    ∀ d i, i + d = 2048 → wY_demand_48 post (nI p) (nI a) (nI n) (nI room) (nI (2 ^ n)) (ck_a dr) (ck_a dF) (ck_a cl) (ck_a fo) (ck_a gd) (ck_a gc) (ck_a rp) (d + 1) (nI (ck_ct dr i)) (nI i) := by
  have h8 := ck_p8 hn
  intro d
  induction d with
  | zero =>
    intro i hi
    have : i = 2048 := by omega
    subst this
    have := ck_ctle dr 2048
    refine pk_le 2048 2048 (fun _ => ?_) (fun h => absurd h (by omega))
    exact pk_lt (ck_ct dr 2048) room (fun z => ⟨by rw [ck_iy]; exact vp_in_nI (by omega) (by omega), nm_r (e' := ck_a (ck_u dr (p * 256 + a) 1)) (by rw [ck_iy]; exact ck_au (v := 1) (by omega)) (h1 z)⟩) h0
  | succ d ih =>
    intro i hi
    have hk := hdr i (by omega)
    have k := ih (i + 1) (by omega)
    have e : ck_ct dr (i + 1) = if dr i = 0 then ck_ct dr i else ck_ct dr i + 1 := rfl
    refine pk_le 2048 i (fun h => absurd h (by omega)) (fun _ => ⟨vp_in_nI (by omega) (by omega), ?_⟩)
    refine ck_z (dr i) (ck_ag (by omega)) (by omega) (fun z => ?_) (fun z => ?_)
    · rw [if_pos z] at e
      rw [e] at k
      exact nm_r (nI_1 i) k
    · rw [if_neg z] at e
      rw [e] at k
      exact nm_r (nI_1 _) (nm_r (nI_1 i) k)
end
end
section
/-! X: the queries -/
theorem ck_BI1 {S T : Nat → Prop} {b : Int32} {v : Nat} (h : ck_BI S b) (hv : v < 2 ^ 31) (hT : ∀ e, T e ↔ S e ∨ v = e) (hb : b < 0) : ck_BI T (nI v) := by
  rcases h with ⟨_, h2⟩ | ⟨k, h1, h2, _⟩
  · exact Or.inr ⟨v, rfl, hv, (hT v).mpr (Or.inr rfl), fun e he => by rcases (hT e).mp he with z | z; exact absurd z (h2 e); omega⟩
  · rw [h1] at hb
    exact absurd hb (nI_pos h2)
theorem ck_BI2 {S T : Nat → Prop} {b : Int32} {v : Nat} (h : ck_BI S b) (hv : v < 2 ^ 31) (hT : ∀ e, T e ↔ S e ∨ v = e) (hb : ¬ b < 0) : (b ≤ nI v → ck_BI T b) ∧ (¬ b ≤ nI v → ck_BI T (nI v)) := by
  rcases h with ⟨h1, _⟩ | ⟨k, h1, h2, h3, h4⟩
  · rw [h1] at hb
    exact absurd (by decide) hb
  · subst h1
    refine pk_le k v (fun z => Or.inr ⟨k, rfl, h2, (hT k).mpr (Or.inl h3), fun e he => ?_⟩) (fun z => Or.inr ⟨v, rfl, hv, (hT v).mpr (Or.inr rfl), fun e he => ?_⟩)
    · rcases (hT e).mp he with y | y
      · exact h4 e y
      · omega
    · rcases (hT e).mp he with y | y
      · have := h4 e y
        omega
      · omega
theorem ck_BIc {S T : Nat → Prop} {b : Int32} (h : ck_BI S b) (hT : ∀ e, T e ↔ S e) : ck_BI T b := by
  have : T = S := funext fun e => propext (hT e)
  rw [this]; exact h
section
variable {n room dc cc fc ins con ker top lim : Nat} {dO dA dR ow al ri fa re kr cv cn ms si so : Nat → Nat}
theorem xl_nc {post : Int32 → Prop} (p : Nat) (hp : p < 2 ^ 31) (af : Int32) (hdc : dc ≤ 24) (hO : ∀ i, i < dc → dO i < 2 ^ 31) (hA : ∀ i, i < dc → dA i < 2 ^ 31)
    (h : ∀ b, ck_BI (fun e => ∃ i, i < dc ∧ ((dO i = p ∧ ¬ nI (dA i) ≤ af) ∧ dA i = e)) b → post b) :
    ∀ d i b, i + d = dc → ck_BI (fun e => ∃ i', i' < i ∧ ((dO i' = p ∧ ¬ nI (dA i') ≤ af) ∧ dA i' = e)) b → wX_nextClause_16 post (nI p) af (nI n) (nI room) (nI dc) (nI cc) (nI fc) (nI ins) (nI con) (nI ker) (nI top) (nI lim) (ck_a dO) (ck_a dA) (ck_a dR) (ck_a ow) (ck_a al) (ck_a ri) (ck_a fa) (ck_a re) (ck_a kr) (ck_a cv) (ck_a cn) (ck_a ms) (ck_a si) (ck_a so) (d + 1) b (nI i) := by
  intro d
  induction d with
  | zero =>
    intro i b hi hb
    have : i = dc := by omega
    subst this
    exact pk_le i i (fun _ => h b hb) (fun h => absurd h (by omega))
  | succ d ih =>
    intro i b hi hb
    have sk : (¬ (dO i = p ∧ ¬ nI (dA i) ≤ af)) → wX_nextClause_16 post (nI p) af (nI n) (nI room) (nI dc) (nI cc) (nI fc) (nI ins) (nI con) (nI ker) (nI top) (nI lim) (ck_a dO) (ck_a dA) (ck_a dR) (ck_a ow) (ck_a al) (ck_a ri) (ck_a fa) (ck_a re) (ck_a kr) (ck_a cv) (ck_a cn) (ck_a ms) (ck_a si) (ck_a so) (d + 1) b (nI (i + 1)) := fun z => ih (i + 1) b (by omega) (ck_BIc hb (fun e => by
      rw [ck_ex]
      exact ⟨fun y => y.elim id (fun w => absurd w.1 z), Or.inl⟩))
    refine pk_le dc i (fun h => absurd h (by omega)) (fun _ => ⟨vp_in_nI (by omega) (by omega), nm_r (ck_ag (by omega)) ⟨vp_in_nI (by omega) (by omega), ?_⟩⟩)
    refine pk_eq (dO i) p (fun e1 => br_c (fun z => nm_r (nI_1 i) (sk (fun v => v.2 z))) (fun z => ?_)) (fun e1 => nm_r (nI_1 i) (sk (fun v => e1 v.1))) (ck_ag (by omega)) rfl (hO i (by omega)) hp
    have hT : ∀ e, (∃ i', i' < i + 1 ∧ ((dO i' = p ∧ ¬ nI (dA i') ≤ af) ∧ dA i' = e)) ↔ (∃ i', i' < i ∧ ((dO i' = p ∧ ¬ nI (dA i') ≤ af) ∧ dA i' = e)) ∨ dA i = e := fun e => by
      rw [ck_ex]
      exact ⟨fun y => y.elim Or.inl (fun w => Or.inr w.2), fun y => y.elim Or.inl (fun w => Or.inr ⟨⟨e1, z⟩, w⟩)⟩
    refine br_c (fun y => nm_r (nI_1 i) (ih (i + 1) _ (by omega) (ck_BI1 hb (hA i (by omega)) hT y))) (fun y => ?_)
    obtain ⟨g1, g2⟩ := ck_BI2 hb (hA i (by omega)) hT y
    exact br_c (fun w => nm_r (nI_1 i) (ih (i + 1) b (by omega) (g1 w))) (fun w => nm_r (nI_1 i) (ih (i + 1) _ (by omega) (g2 w)))
theorem xx_nc {post : Int32 → Prop} {x : Int32} (p : Nat) (hn : n ≤ 8) (hp : p < n) (af : Int32) (hdc : dc ≤ 24) (hO : ∀ i, i < dc → dO i < 2 ^ 31) (hA : ∀ i, i < dc → dA i < 2 ^ 31)
    (h : ∀ b, ck_BI (fun e => ∃ i, i < dc ∧ ((dO i = p ∧ ¬ nI (dA i) ≤ af) ∧ dA i = e)) b → post b) (hx : x = nI p) : wpX_nextClause post ((nI n), (nI room), (nI dc), (nI cc), (nI fc), (nI ins), (nI con), (nI ker), (nI top), (nI lim), (ck_a dO), (ck_a dA), (ck_a dR), (ck_a ow), (ck_a al), (ck_a ri), (ck_a fa), (ck_a re), (ck_a kr), (ck_a cv), (ck_a cn), (ck_a ms), (ck_a si), (ck_a so)) x af := by
  subst hx
  unfold wpX_nextClause
  refine xx_pk1 p hp hn (br_f (by decide) ⟨_, xl_nc p (by omega) af hdc hO hA h dc 0 (-2) (by omega) (Or.inl ⟨rfl, fun e ⟨i, hi, _⟩ => absurd hi (Nat.not_lt_zero i)⟩)⟩)
theorem xl_nk {post : Int32 → Prop} (r : Nat) (hr : r < 8) (af : Int32) (hk : cn r ≤ 35) (hcv : ∀ i, i < cn r → cv (r * 35 + i) < 2 ^ 31)
    (h : ∀ b, ck_BI (fun e => ∃ i, i < cn r ∧ (¬ nI (cv (r * 35 + i)) ≤ af ∧ cv (r * 35 + i) = e)) b → post b) :
    ∀ d i b, i + d = cn r → ck_BI (fun e => ∃ i', i' < i ∧ (¬ nI (cv (r * 35 + i')) ≤ af ∧ cv (r * 35 + i') = e)) b → wX_nextKernelClause_16 post (nI r) af (nI n) (nI room) (nI dc) (nI cc) (nI fc) (nI ins) (nI con) (nI ker) (nI top) (nI lim) (ck_a dO) (ck_a dA) (ck_a dR) (ck_a ow) (ck_a al) (ck_a ri) (ck_a fa) (ck_a re) (ck_a kr) (ck_a cv) (ck_a cn) (ck_a ms) (ck_a si) (ck_a so) (d + 1) b (nI i) := by
  intro d
  induction d with
  | zero =>
    intro i b hi hb
    have : i = cn r := by omega
    subst this
    exact ⟨vp_in_nI hr (by omega), pk_le (cn r) (cn r) (fun _ => h b hb) (fun h => absurd h (by omega)) (ck_ag (by omega)) rfl⟩
  | succ d ih =>
    intro i b hi hb
    have hv := hcv i (by omega)
    refine ⟨vp_in_nI hr (by omega), pk_le (cn r) i (fun h => absurd h (by omega)) (fun _ => ⟨by rw [ck_ix]; exact vp_in_nI (by omega) (by omega), nm_r (e' := nI (cv (r * 35 + i))) (by rw [ck_ix, ck_ag (by omega)]) ?_⟩) (ck_ag (by omega)) rfl⟩
    refine br_c (fun z => nm_r (nI_1 i) (ih (i + 1) b (by omega) (ck_BIc hb (fun e => ?_)))) (fun z => ?_)
    · rw [ck_ex]
      exact ⟨fun y => y.elim id (fun w => absurd z w.1), Or.inl⟩
    · have hT : ∀ e, (∃ i', i' < i + 1 ∧ (¬ nI (cv (r * 35 + i')) ≤ af ∧ cv (r * 35 + i') = e)) ↔ (∃ i', i' < i ∧ (¬ nI (cv (r * 35 + i')) ≤ af ∧ cv (r * 35 + i') = e)) ∨ cv (r * 35 + i) = e := fun e => by
        rw [ck_ex]
        exact ⟨fun y => y.elim Or.inl (fun w => Or.inr w.2), fun y => y.elim Or.inl (fun w => Or.inr ⟨z, w⟩)⟩
      refine br_c (fun y => nm_r (nI_1 i) (ih (i + 1) _ (by omega) (ck_BI1 hb hv hT y))) (fun y => ?_)
      obtain ⟨g1, g2⟩ := ck_BI2 hb hv hT y
      exact br_c (fun w => nm_r (nI_1 i) (ih (i + 1) b (by omega) (g1 w))) (fun w => nm_r (nI_1 i) (ih (i + 1) _ (by omega) (g2 w)))
theorem xx_ik {post : Int32 → Prop} {x : Int32} (r : Nat) (hn : n ≤ 8) (hr : r < n) (hker : ker < 2 ^ n) (h1 : ker.testBit r = true → post 1) (h0 : ¬ ker.testBit r = true → post 0) (hx : x = nI r) : wpX_isKernel post ((nI n), (nI room), (nI dc), (nI cc), (nI fc), (nI ins), (nI con), (nI ker), (nI top), (nI lim), (ck_a dO), (ck_a dA), (ck_a dR), (ck_a ow), (ck_a al), (ck_a ri), (ck_a fa), (ck_a re), (ck_a kr), (ck_a cv), (ck_a cn), (ck_a ms), (ck_a si), (ck_a so)) x := by
  subst hx
  unfold wpX_isKernel
  refine xx_pk1 r hr hn (br_f (by decide) (xx_has ker r (ck_31 hn hker) (by omega) (fun hb => br_f (by decide) (h1 hb)) (fun hb => br_t rfl (h0 (ck_ft hb))) rfl rfl))
theorem xx_ik0 {post : Int32 → Prop} (x : Int32) (hx : x < 0 ∨ nI n ≤ x) (h0 : post 0) : wpX_isKernel post ((nI n), (nI room), (nI dc), (nI cc), (nI fc), (nI ins), (nI con), (nI ker), (nI top), (nI lim), (ck_a dO), (ck_a dA), (ck_a dR), (ck_a ow), (ck_a al), (ck_a ri), (ck_a fa), (ck_a re), (ck_a kr), (ck_a cv), (ck_a cn), (ck_a ms), (ck_a si), (ck_a so)) x := by
  unfold wpX_isKernel
  exact xx_pk0 x hx (br_t rfl h0)
theorem xx_nk {post : Int32 → Prop} {x : Int32} (r : Nat) (hn : n ≤ 8) (hr : r < n) (af : Int32) (hker : ker < 2 ^ n) (hb : ¬ ker.testBit r = true → post (-1))
    (hk : ker.testBit r = true → cn r ≤ 35 ∧ ∀ i, i < cn r → cv (r * 35 + i) < 2 ^ 31)
    (h : ker.testBit r = true → ∀ b, ck_BI (fun e => ∃ i, i < cn r ∧ (¬ nI (cv (r * 35 + i)) ≤ af ∧ cv (r * 35 + i) = e)) b → post b) (hx : x = nI r) : wpX_nextKernelClause post ((nI n), (nI room), (nI dc), (nI cc), (nI fc), (nI ins), (nI con), (nI ker), (nI top), (nI lim), (ck_a dO), (ck_a dA), (ck_a dR), (ck_a ow), (ck_a al), (ck_a ri), (ck_a fa), (ck_a re), (ck_a kr), (ck_a cv), (ck_a cn), (ck_a ms), (ck_a si), (ck_a so)) x af := by
  subst hx
  unfold wpX_nextKernelClause
  refine xx_ik r hn hr hker (fun z => br_f (by decide) ⟨_, xl_nk r (by omega) af (hk z).1 (hk z).2 (h z) (cn r) 0 (-2) (by omega) (Or.inl ⟨rfl, fun e ⟨i, hi, _⟩ => absurd hi (Nat.not_lt_zero i)⟩)⟩) (fun z => br_t rfl (hb z)) rfl
theorem xl_cm {post : Int32 → Prop} (r s : Nat) (hr : r < 8) (hs : s < 2 ^ 31) (hk : cn r ≤ 35)
    (h1 : (∀ i, i < cn r → cv (r * 35 + i) &&& s ≠ 0) → post 1) (h0 : (∃ i, i < cn r ∧ cv (r * 35 + i) &&& s = 0) → post 0) :
    ∀ d i, i + d = cn r → (∀ j, j < i → cv (r * 35 + j) &&& s ≠ 0) → wX_clausesMet_2 post (nI r) (nI s) (nI n) (nI room) (nI dc) (nI cc) (nI fc) (nI ins) (nI con) (nI ker) (nI top) (nI lim) (ck_a dO) (ck_a dA) (ck_a dR) (ck_a ow) (ck_a al) (ck_a ri) (ck_a fa) (ck_a re) (ck_a kr) (ck_a cv) (ck_a cn) (ck_a ms) (ck_a si) (ck_a so) (d + 1) (nI i) := by
  intro d
  induction d with
  | zero =>
    intro i hi hh
    have : i = cn r := by omega
    subst this
    exact ⟨vp_in_nI hr (by omega), pk_le (cn r) (cn r) (fun _ => h1 hh) (fun h => absurd h (by omega)) (ck_ag (by omega)) rfl⟩
  | succ d ih =>
    intro i hi hh
    refine ⟨vp_in_nI hr (by omega), pk_le (cn r) i (fun h => absurd h (by omega)) (fun _ => ⟨by rw [ck_ix]; exact vp_in_nI (by omega) (by omega), ?_⟩) (ck_ag (by omega)) rfl⟩
    exact ck_z (cv (r * 35 + i) &&& s) (by rw [ck_ix, ck_ag (by omega), nx_and]) (ck_and31 hs) (fun z => h0 ⟨i, by omega, z⟩) (fun z => nm_r (nI_1 i) (ih (i + 1) (by omega) (lt_s hh z)))
theorem xl_kh {post : Int32 → Prop} (s : Nat) (hn : n ≤ 8) (hs : s < 2 ^ n) (hk : ∀ r, r < n → s.testBit r = true → cn r ≤ 35)
    (h1 : (∀ r, r < n → s.testBit r = true → kr r &&& s = 0 ∧ ∀ i, i < cn r → cv (r * 35 + i) &&& s ≠ 0) → post 1)
    (h0 : ¬ (∀ r, r < n → s.testBit r = true → kr r &&& s = 0 ∧ ∀ i, i < cn r → cv (r * 35 + i) &&& s ≠ 0) → post 0) :
    ∀ d r, r + d = n → (∀ r', r' < r → s.testBit r' = true → kr r' &&& s = 0 ∧ ∀ i, i < cn r' → cv (r' * 35 + i) &&& s ≠ 0) → wX_kernelHealthy_23 post (nI s) (nI n) (nI room) (nI dc) (nI cc) (nI fc) (nI ins) (nI con) (nI ker) (nI top) (nI lim) (ck_a dO) (ck_a dA) (ck_a dR) (ck_a ow) (ck_a al) (ck_a ri) (ck_a fa) (ck_a re) (ck_a kr) (ck_a cv) (ck_a cn) (ck_a ms) (ck_a si) (ck_a so) (d + 1) (nI r) := by
  have hs31 := ck_31 hn hs
  intro d
  induction d with
  | zero =>
    intro r hr hh
    have : r = n := by omega
    subst this
    exact pk_le r r (fun _ => h1 hh) (fun h => absurd h (by omega))
  | succ d ih =>
    intro r hr hh
    have nx := fun z => ih (r + 1) (by omega) (lt_s hh z)
    refine pk_le n r (fun h => absurd h (by omega)) (fun _ => ?_)
    refine xx_has s r hs31 (by omega) (fun hb => br_f (by decide) ⟨vp_in_nI (by omega) (by omega), ?_⟩) (fun hb => br_t rfl (nm_r (nI_1 r) (nx (fun v => absurd v (ck_ft hb))))) rfl rfl
    refine ck_z (kr r &&& s) (by rw [ck_ag (by omega), nx_and]) (ck_and31 hs31) (fun z => ?_) (fun z => h0 (fun v => z (v r (by omega) hb).1))
    exact ⟨_, xl_cm r s (by omega) hs31 (hk r (by omega) hb) (fun v => br_f (by decide) (nm_r (nI_1 r) (nx (fun _ => ⟨z, v⟩)))) (fun ⟨i, hi, v⟩ => br_t rfl (h0 (fun w => (w r (by omega) hb).2 i hi v))) (cn r) 0 (by omega) ck_n0⟩
theorem xx_kh {post : Int32 → Prop} {x : Int32} (s : Nat) (hn : n ≤ 8) (hs : s < 2 ^ n) (hb : ¬ ck_sub s ker → post (-1)) (hk : ck_sub s ker → ∀ r, r < n → s.testBit r = true → cn r ≤ 35)
    (h1 : ck_sub s ker → (∀ r, r < n → s.testBit r = true → kr r &&& s = 0 ∧ ∀ i, i < cn r → cv (r * 35 + i) &&& s ≠ 0) → post 1)
    (h0 : ck_sub s ker → ¬ (∀ r, r < n → s.testBit r = true → kr r &&& s = 0 ∧ ∀ i, i < cn r → cv (r * 35 + i) &&& s ≠ 0) → post 0) (hx : x = nI s) : wpX_kernelHealthy post ((nI n), (nI room), (nI dc), (nI cc), (nI fc), (nI ins), (nI con), (nI ker), (nI top), (nI lim), (ck_a dO), (ck_a dA), (ck_a dR), (ck_a ow), (ck_a al), (ck_a ri), (ck_a fa), (ck_a re), (ck_a kr), (ck_a cv), (ck_a cn), (ck_a ms), (ck_a si), (ck_a so)) x := by
  subst hx
  unfold wpX_kernelHealthy
  refine xx_st1 s hn hs (br_f (by decide) (ck_z (ck_dif s ker) (ck_andn s ker) (ck_dif31 (ck_31 hn hs)) (fun z => ?_) (fun z => hb (fun v => z (ck_dif0.mpr v)))))
  have z' := ck_dif0.mp z
  exact ⟨_, xl_kh s hn hs (hk z') (h1 z') (h0 z') n 0 (by omega) ck_n0⟩
/-- the state of install's loop: the best so far (bo: none yet) and what is still to come -/
def ck_NB (n : Nat) (H : Nat → Prop) (s mm lim : Nat) (b : Int32) (Rest : Prop) : Prop :=
  (b = -2 ∧ lim = n ∧ Rest) ∨ (∃ k, b = nI k ∧ k < 2 ^ n ∧ (H k ∧ ck_sub s k) ∧ ck_cd n k = lim ∧ (k = mm ∨ Rest))
theorem xl_in {post : Int32 → SX → Prop} (hn : n ≤ 8) (hcc : cc ≤ 24) (how : ∀ i, i < cc → ow i < n) (hal : ∀ i, i < cc → al i < 2 ^ n) (hri : ck_Rv n ri)
    (hm : ∀ m, m < 2 ^ n → ck_H n cc ow al ri m → ck_sub m ins) (s mm : Nat) (hL : ck_LM n (ck_H n cc ow al ri) s mm)
    (h : ∀ (top lim : Nat) (si so : Nat → Nat), post (nI mm) ((nI n), (nI room), (nI dc), (nI cc), (nI fc), (nI ins), (nI con), (nI ker), (nI top), (nI lim), (ck_a dO), (ck_a dA), (ck_a dR), (ck_a ow), (ck_a al), (ck_a ri), (ck_a fa), (ck_a re), (ck_a kr), (ck_a cv), (ck_a cn), (ck_a ms), (ck_a si), (ck_a so))) :
    ∀ (d i f top lim : Nat) (si so : Nat → Nat) (b : Int32), 511 < i + d → i + 1 + ck_Wt n top si so ≤ 511 → f < 2 ^ n → (ck_H n cc ow al ri f ∧ ck_sub s f) → ck_cd n f ≤ lim → ck_SS n ri s top si so →
      ck_NB n (ck_H n cc ow al ri) s mm lim b (ck_sub f mm ∨ ck_Cv top si so mm) → wX_install_37 post d b (nI f) (nI i) (nI n) (nI room) (nI dc) (nI cc) (nI fc) (nI ins) (nI con) (nI ker) (nI top) (nI lim) (ck_a dO) (ck_a dA) (ck_a dR) (ck_a ow) (ck_a al) (ck_a ri) (ck_a fa) (ck_a re) (ck_a kr) (ck_a cv) (ck_a cn) (ck_a ms) (ck_a si) (ck_a so) := by
  obtain ⟨L1, L2, L3, L4⟩ := hL
  intro d
  induction d with
  | zero =>
    intro i f top lim si so b hd hw
    omega
  | succ d ih =>
    intro i f top lim si so b hd hw f1 f2 f3 hS hB
    have hf31 := ck_31 hn f1
    have hcf := ck_cdle n f
    have hlim : lim ≤ 8 := by
      rcases hB with ⟨_, e, _⟩ | ⟨k, _, _, _, e, _⟩
      · omega
      · have := ck_cdle n k
        omega
    have fin : ∀ k, k < 2 ^ n → (ck_H n cc ow al ri k ∧ ck_sub s k) → (k = mm ∨ ck_Cv top si so mm) → wX_install_82 post (wX_install_37 post d) (nI k) (nI i) (nI n) (nI room) (nI dc) (nI cc) (nI fc) (nI ins) (nI con) (nI ker) (nI top) (nI (ck_cd n k)) (ck_a dO) (ck_a dA) (ck_a dR) (ck_a ow) (ck_a al) (ck_a ri) (ck_a fa) (ck_a re) (ck_a kr) (ck_a cv) (ck_a cn) (ck_a ms) (ck_a si) (ck_a so) := by
      intro k k1 k2 k3
      have hmk := L3 k k1 k2
      have hck := ck_cdle n k
      refine xx_ni hn hcc how hal hri hm (by omega) s (by omega) hS (fun si' so' hno => ?_) (fun g top' si' so' g1 g2 g3 g4 g5 g6 g7 => ?_)
      · have ek : k = mm := by
          rcases k3 with z | z
          · exact z
          · exact absurd z (hno mm L1 L2.1 hmk)
        subst ek
        obtain ⟨d', rfl⟩ : ∃ d', d = d' + 1 := ⟨d - 1, by omega⟩
        exact nm_r (nI_1 i) (pk_le 512 (i + 1) (fun _ => h 0 _ si' so') (fun _ => br_t (by decide) (h 0 _ si' so')))
      · refine nm_r (nI_1 i) (ih (i + 1) g top' (ck_cd n k) si' so' (nI k) (by omega) (by omega) g1 ⟨g2, g3⟩ g4 g5 (Or.inr ⟨k, rfl, k1, k2, rfl, ?_⟩))
        rcases k3 with z | z
        · exact Or.inl z
        · exact Or.inr (g6 mm L1 L2.1 hmk z)
    have take : (∀ k, b = nI k → k < 2 ^ n → ck_cd n k = lim → (k = mm → f = mm)) → wX_install_74 post (wX_install_37 post d) (nI f) (nI i) (nI (ck_cd n f)) (nI n) (nI room) (nI dc) (nI cc) (nI fc) (nI ins) (nI con) (nI ker) (nI top) (nI lim) (ck_a dO) (ck_a dA) (ck_a dR) (ck_a ow) (ck_a al) (ck_a ri) (ck_a fa) (ck_a re) (ck_a kr) (ck_a cv) (ck_a cn) (ck_a ms) (ck_a si) (ck_a so) := by
      intro hh
      refine fin f f1 f2 ?_
      have sf : ck_sub f mm → f = mm := fun z => ck_cdeq L1 z (L3 f f1 f2)
      rcases hB with ⟨_, _, z⟩ | ⟨k, e1, e2, _, e3, z⟩
      · rcases z with z | z
        · exact Or.inl (sf z)
        · exact Or.inr z
      · rcases z with z | z | z
        · exact Or.inl (hh k e1 e2 e3 z)
        · exact Or.inl (sf z)
        · exact Or.inr z
    have hfm := L3 f f1 f2
    refine pk_le 512 i (fun z => absurd z (by omega)) (fun _ => br_f (nI_pos hf31) ?_)
    refine xx_me f hf31 hn ?_ rfl
    refine br_c (fun hb => take (fun k e1 e2 => ?_)) (fun hb => ?_)
    · rw [e1] at hb
      exact absurd hb (nI_pos (ck_31 hn e2))
    · rcases hB with ⟨e, _⟩ | ⟨k, e1, e2, e3, e4, z⟩
      · rw [e] at hb
        exact absurd (by decide) hb
      · subst e1
        have hk31 := ck_31 hn e2
        have kin : ∀ k', nI k = nI k' → k' < 2 ^ n → k' = k := fun k' e e' => ((nI_eq hk31 (ck_31 hn e')).mp e).symm
        refine pk_lt (ck_cd n f) lim (fun y => take (fun k' e5 e6 _ e7 => ?_)) (fun y => ?_)
        · have := kin k' e5 e6
          subst this
          subst e7
          omega
        · refine pk_le k f (fun w => ?_) (fun w => take (fun k' e5 e6 _ e7 => ?_))
          · subst e4
            refine fin k e2 e3 ?_
            rcases z with z | z | z
            · exact Or.inl z
            · have ef : f = mm := ck_cdeq L1 z hfm
              subst ef
              rcases Nat.lt_or_ge k f with v | v
              · exact absurd (by omega) (L4 k v e3)
              · exact Or.inl (by omega)
            · exact Or.inr z
          · have := kin k' e5 e6
            subst this
            subst e7
            exact absurd (by omega) (L4 f w f2)
theorem xx_in {post : Int32 → SX → Prop} {x : Int32} (hn : n ≤ 8) (hcc : cc ≤ 24) (how : ∀ i, i < cc → ow i < n) (hal : ∀ i, i < cc → al i < 2 ^ n) (hri : ck_Rv n ri)
    (hm : ∀ m, m < 2 ^ n → ck_H n cc ow al ri m → ck_sub m ins) (s : Nat) (hs : s < 2 ^ n) (hfc : fc ≤ 70) (hCo : (∃ m, m < 2 ^ n ∧ (ck_H n cc ow al ri m ∧ ck_sub s m)) ↔ ∃ i, i < fc ∧ ck_sub s (fa i))
    (h0 : (∀ m, m < 2 ^ n → ¬ (ck_H n cc ow al ri m ∧ ck_sub s m)) → post (-2) ((nI n), (nI room), (nI dc), (nI cc), (nI fc), (nI ins), (nI con), (nI ker), (nI top), (nI lim), (ck_a dO), (ck_a dA), (ck_a dR), (ck_a ow), (ck_a al), (ck_a ri), (ck_a fa), (ck_a re), (ck_a kr), (ck_a cv), (ck_a cn), (ck_a ms), (ck_a si), (ck_a so)))
    (h : ∀ (mm top lim : Nat) (si so : Nat → Nat), ck_LM n (ck_H n cc ow al ri) s mm → post (nI mm) ((nI n), (nI room), (nI dc), (nI cc), (nI fc), (nI ins), (nI con), (nI ker), (nI top), (nI lim), (ck_a dO), (ck_a dA), (ck_a dR), (ck_a ow), (ck_a al), (ck_a ri), (ck_a fa), (ck_a re), (ck_a kr), (ck_a cv), (ck_a cn), (ck_a ms), (ck_a si), (ck_a so))) (hx : x = nI s) : wpX_install post ((nI n), (nI room), (nI dc), (nI cc), (nI fc), (nI ins), (nI con), (nI ker), (nI top), (nI lim), (ck_a dO), (ck_a dA), (ck_a dR), (ck_a ow), (ck_a al), (ck_a ri), (ck_a fa), (ck_a re), (ck_a kr), (ck_a cv), (ck_a cn), (ck_a ms), (ck_a si), (ck_a so)) x := by
  subst hx
  unfold wpX_install
  refine xx_st1 s hn hs (br_f (by decide) (xx_wf s (ck_31 hn hs) hfc (fun hw => br_f (by decide) ?_) (fun hw => br_t rfl (h0 (fun m m1 m2 => ?_))) rfl))
  rotate_left
  · obtain ⟨i, hi, e⟩ := hCo.mp ⟨m, m1, m2⟩
    exact hw i hi e
  obtain ⟨m0, M1, M2, M3⟩ := hCo.mpr hw
  obtain ⟨k0, ⟨m1, a1, a2, a3⟩, hk⟩ := pk_least (fun k => ∃ m, m < 2 ^ n ∧ (ck_H n cc ow al ri m ∧ ck_sub s m) ∧ ck_cd n m = k) ⟨_, m0, M1, ⟨M2, M3⟩, rfl⟩
  obtain ⟨mm, ⟨b1, b2, b3⟩, hmm⟩ := pk_least (fun m => m < 2 ^ n ∧ (ck_H n cc ow al ri m ∧ ck_sub s m) ∧ ck_cd n m = k0) ⟨m1, a1, a2, a3⟩
  have hL : ck_LM n (ck_H n cc ow al ri) s mm := by
    refine ⟨b1, b2, fun m' c1 c2 => ?_, fun m' c1 c2 c3 => hmm m' c1 ⟨by omega, c2, c3.trans b3⟩⟩
    rcases Nat.lt_or_ge (ck_cd n m') k0 with z | z
    · exact absurd ⟨m', c1, c2, rfl⟩ (hk _ z)
    · omega
  have hind : ck_Ind n ri s := fun p hp hb => ck_and0.mpr (fun z z1 z2 => ck_and0.mp (b2.1.1 p hp (b2.2 p hb)) z z1 (b2.2 z z2))
  have hsi : ck_sub s ins := ck_str b2.2 (hm mm b1 b2.1)
  refine xx_os s hn hs (fun _ _ => ?_) (fun o => absurd ⟨hsi, hind⟩ o) rfl
  have hS : ck_SS n ri s 1 (ck_u si 0 s) (ck_u so 0 0) := fun i hi => by
    have : i = 0 := by omega
    subst this
    rw [ck_us, ck_us]
    exact ⟨hs, Nat.two_pow_pos n, hind, ck_srf _, by omega⟩
  have hW : ck_Wt n 1 (ck_u si 0 s) (ck_u so 0 0) ≤ 511 := by
    show 0 + (2 ^ (n - ck_cd n (ck_u si 0 s 0 ||| ck_u so 0 0 0) + 1) - 1) ≤ 511
    have : 2 ^ (n - ck_cd n (ck_u si 0 s 0 ||| ck_u so 0 0 0) + 1) ≤ 2 ^ 9 := Nat.pow_le_pow_right (by decide) (by omega)
    omega
  have hV : ck_Cv 1 (ck_u si 0 s) (ck_u so 0 0) mm := ⟨0, by omega, by
    rw [ck_us, ck_us]
    exact ⟨b2.2, Nat.zero_and mm⟩⟩
  refine xx_ni hn hcc how hal hri hm hn s hW hS (fun si' so' hno => ?_) (fun g top' si' so' g1 g2 g3 g4 g5 g6 g7 => ?_)
  · exact absurd hV (hno mm b1 b2.1 (ck_cdle n mm))
  · exact ⟨512, xl_in hn hcc how hal hri hm s mm hL (fun top lim si so => h mm top lim si so hL) 512 0 g top' n si' so' (-2) (by omega) (by omega) g1 ⟨g2, g3⟩ g4 g5 (Or.inl ⟨rfl, rfl, g6 mm b1 b2.1 (ck_cdle n mm) hV⟩)⟩
end
end
section
/-! the relation -/
def ck_DR (n room dc : Nat) (dO dA dr : Nat → Nat) : Prop :=
  dc ≤ room ∧ (∀ i, i < dc → dO i < n ∧ dA i < 2 ^ n) ∧ (∀ i j, i < dc → j < dc → dO i = dO j → dA i = dA j → i = j) ∧ (∀ k, k < 2048 → dr k ≤ 1) ∧
  (∀ p a, p < n → a < 2 ^ n → (dr (p * 256 + a) ≠ 0 ↔ ∃ i, i < dc ∧ (dO i = p ∧ dA i = a))) ∧ ck_ct dr 2048 = dc
def ck_RL (n room dc cc fc ins ker : Nat) (dO dA dR ow al ri fa re kr cv cn dr fo gd gc rp : Nat → Nat) : Prop :=
  (2 ≤ n ∧ n ≤ 8) ∧ (4 ≤ room ∧ room ≤ 24) ∧ ck_DR n room dc dO dA dr ∧ ck_Rv n dR ∧ (cc ≤ 24 ∧ (∀ i, i < cc → ow i < n ∧ al i < 2 ^ n) ∧ ck_Rv n ri) ∧
  ck_XK n (ck_H n cc ow al ri) ri fc ins ker fa re kr cv cn ∧ ck_YK n (ck_H n cc ow al ri) ri re fo gd gc rp
def ck_sz (n room dc cc fc ins con ker top lim : Nat) : Nat → Nat
  | 0 => n | 1 => room | 2 => dc | 3 => cc | 4 => fc | 5 => ins | 6 => con | 7 => ker | 8 => top | _ => lim
def ck_sa (dO dA dR ow al ri fa re kr cv cn ms si so dr cl fo gd gc rp : Nat → Nat) : Nat → Nat → Nat
  | 0 => dO | 1 => dA | 2 => dR | 3 => ow | 4 => al | 5 => ri | 6 => fa | 7 => re | 8 => kr | 9 => cv | 10 => cn | 11 => ms | 12 => si | 13 => so | 14 => dr | 15 => cl | 16 => fo | 17 => gd | 18 => gc | _ => rp
def i_Rel (_ : Nat) (u : SX) (v : SY) : Prop := ∃ (z : Nat → Nat) (A : Nat → Nat → Nat),
  u = (nI (z 0), nI (z 1), nI (z 2), nI (z 3), nI (z 4), nI (z 5), nI (z 6), nI (z 7), nI (z 8), nI (z 9), ck_a (A 0), ck_a (A 1), ck_a (A 2), ck_a (A 3), ck_a (A 4), ck_a (A 5), ck_a (A 6), ck_a (A 7), ck_a (A 8), ck_a (A 9), ck_a (A 10), ck_a (A 11), ck_a (A 12), ck_a (A 13)) ∧
  v = (nI (z 0), nI (z 1), nI (2 ^ z 0), ck_a (A 14), ck_a (A 2), ck_a (A 15), ck_a (A 16), ck_a (A 17), ck_a (A 18), ck_a (A 19)) ∧
  ck_RL (z 0) (z 1) (z 2) (z 3) (z 4) (z 5) (z 7) (A 0) (A 1) (A 2) (A 3) (A 4) (A 5) (A 6) (A 7) (A 8) (A 9) (A 10) (A 14) (A 16) (A 17) (A 18) (A 19)
theorem i_up {k : Nat} {u : SX} {v : SY} (h : i_Rel k u v) : i_Rel (k + 3) u v := h
section
variable {n room dc cc fc ins con ker top lim : Nat} {dO dA dR ow al ri fa re kr cv cn ms si so : Nat → Nat}
variable {dr cl fo gd gc rp : Nat → Nat}
theorem ck_mk {k : Nat} (h : ck_RL n room dc cc fc ins ker dO dA dR ow al ri fa re kr cv cn dr fo gd gc rp) : i_Rel k ((nI n), (nI room), (nI dc), (nI cc), (nI fc), (nI ins), (nI con), (nI ker), (nI top), (nI lim), (ck_a dO), (ck_a dA), (ck_a dR), (ck_a ow), (ck_a al), (ck_a ri), (ck_a fa), (ck_a re), (ck_a kr), (ck_a cv), (ck_a cn), (ck_a ms), (ck_a si), (ck_a so)) ((nI n), (nI room), (nI (2 ^ n)), (ck_a dr), (ck_a dR), (ck_a cl), (ck_a fo), (ck_a gd), (ck_a gc), (ck_a rp)) :=
  ⟨ck_sz n room dc cc fc ins con ker top lim, ck_sa dO dA dR ow al ri fa re kr cv cn ms si so dr cl fo gd gc rp, rfl, rfl, h⟩
end
theorem ck_el {P : SX → SY → Prop} {k : Nat} {u : SX} {v : SY} (h : ∀ (n room dc cc fc ins con ker top lim : Nat) (dO dA dR ow al ri fa re kr cv cn ms si so dr cl fo gd gc rp : Nat → Nat), ck_RL n room dc cc fc ins ker dO dA dR ow al ri fa re kr cv cn dr fo gd gc rp → P ((nI n), (nI room), (nI dc), (nI cc), (nI fc), (nI ins), (nI con), (nI ker), (nI top), (nI lim), (ck_a dO), (ck_a dA), (ck_a dR), (ck_a ow), (ck_a al), (ck_a ri), (ck_a fa), (ck_a re), (ck_a kr), (ck_a cv), (ck_a cn), (ck_a ms), (ck_a si), (ck_a so)) ((nI n), (nI room), (nI (2 ^ n)), (ck_a dr), (ck_a dR), (ck_a cl), (ck_a fo), (ck_a gd), (ck_a gc), (ck_a rp))) (I : i_Rel k u v) : P u v := by
  obtain ⟨z, A, rfl, rfl, hh⟩ := I
  exact h (z 0) (z 1) (z 2) (z 3) (z 4) (z 5) (z 6) (z 7) (z 8) (z 9) (A 0) (A 1) (A 2) (A 3) (A 4) (A 5) (A 6) (A 7) (A 8) (A 9) (A 10) (A 11) (A 12) (A 13) (A 14) (A 15) (A 16) (A 17) (A 18) (A 19) hh
theorem ck_b2 {x : Int32} {n : Nat} {A B : Prop} (hx : x < 0 ∨ nI n ≤ x) (h : A) : (x < 0 → A) ∧ (¬ x < 0 → (nI n ≤ x → A) ∧ (¬ nI n ≤ x → B)) := by
  by_cases z : x < 0
  · exact br_t z h
  · exact br_f z (br_t (hx.resolve_left z) h)
theorem ck_b3 {x : Int32} {n : Nat} {A B : Prop} (hx : x < 0 ∨ nI n ≤ x) (h : A) : (x < 0 → A) ∧ (¬ x < 0 → (x < nI n → B) ∧ (¬ x < nI n → A)) := by
  by_cases z : x < 0
  · exact br_t z h
  · exact br_f z (br_f (Int32.not_lt.mpr (hx.resolve_left z)) h)
theorem ck_g2 {p n : Nat} {A B : Prop} (hp : p < n) (hn : n ≤ 8) (h : B) : (nI p < 0 → A) ∧ (¬ nI p < 0 → (nI n ≤ nI p → A) ∧ (¬ nI n ≤ nI p → B)) :=
  br_f (nI_pos (by omega)) (br_f (nI_ge hp (by omega)) h)
theorem ck_g3 {p n : Nat} {A B : Prop} (hp : p < n) (hn : n ≤ 256) (h : B) : (nI p < 0 → A) ∧ (¬ nI p < 0 → (nI p < nI n → B) ∧ (¬ nI p < nI n → A)) :=
  br_f (nI_pos (by omega)) (br_t (nI_lt hp (by omega)) h)
theorem ck_ps (x : Int32) (n : Nat) (hn : n < 2 ^ 31) : (x < 0 ∨ nI n ≤ x) ∨ ∃ j, j < n ∧ x = nI j := by
  rcases pk_ix x hn with z | z | z
  · exact Or.inl (Or.inl z)
  · exact Or.inl (Or.inr z)
  · exact Or.inr z
theorem ck_pa {n p a p' a' : Nat} (hn : n ≤ 8) (ha : a < 2 ^ n) (ha' : a' < 2 ^ n) (h : p * 256 + a = p' * 256 + a') : p = p' ∧ a = a' := by
  have := ck_p8 hn
  omega
/-! demand, withdraw -/
theorem ck_DR1 {n room dc p a : Nat} {dO dA dr : Nat → Nat} (hn : n ≤ 8) (D : ck_DR n room dc dO dA dr) (hp : p < n) (ha : a < 2 ^ n) (hno : ∀ i, i < dc → dO i = p → dA i ≠ a) (hr : dc < room) :
    ck_DR n room (dc + 1) (ck_u dO dc p) (ck_u dA dc a) (ck_u dr (p * 256 + a) 1) := by
  obtain ⟨d1, d2, d3, d4, d5, d6⟩ := D
  have h8 := ck_p8 hn
  have eO : ∀ i, i < dc → ck_u dO dc p i = dO i := fun i hi => ck_un (by omega)
  have eA : ∀ i, i < dc → ck_u dA dc a i = dA i := fun i hi => ck_un (by omega)
  have h0 : dr (p * 256 + a) = 0 := by
    rcases Classical.em (dr (p * 256 + a) = 0) with z | z
    · exact z
    · obtain ⟨i, i1, i2, i3⟩ := (d5 p a hp ha).mp z
      exact absurd i3 (hno i i1 i2)
  refine ⟨by omega, lt_s (fun i hi => ?_) ?_, ?_, fun k hk => ?_, fun p' a' hp' ha' => ?_, ?_⟩
  · rw [eO i hi, eA i hi]; exact d2 i hi
  · rw [ck_us, ck_us]; exact ⟨hp, ha⟩
  · intro i j hi hj e1 e2
    rcases Nat.lt_or_ge i dc with y | y
    · rcases Nat.lt_or_ge j dc with z | z
      · rw [eO i y, eO j z] at e1
        rw [eA i y, eA j z] at e2
        exact d3 i j y z e1 e2
      · have : j = dc := by omega
        subst this
        rw [eO i y, ck_us] at e1
        rw [eA i y, ck_us] at e2
        exact absurd e2 (hno i y e1)
    · have : i = dc := by omega
      subst this
      rcases Nat.lt_or_ge j i with z | z
      · rw [eO j z, ck_us] at e1
        rw [eA j z, ck_us] at e2
        exact absurd e2.symm (hno j z e1.symm)
      · omega
  · rcases Classical.em (k = p * 256 + a) with e | e
    · subst e; rw [ck_us]; omega
    · rw [ck_un e]; exact d4 k hk
  · rcases Classical.em (p' * 256 + a' = p * 256 + a) with e | e
    · obtain ⟨e1, e2⟩ := ck_pa hn ha' ha e
      subst e1 e2
      rw [ck_us]
      exact ⟨fun _ => ⟨dc, by omega, ck_us, ck_us⟩, fun _ => by omega⟩
    · rw [ck_un e, d5 p' a' hp' ha']
      constructor
      · rintro ⟨i, i1, i2, i3⟩
        exact ⟨i, by omega, by rw [eO i i1]; exact i2, by rw [eA i i1]; exact i3⟩
      · rintro ⟨i, i1, i2, i3⟩
        rcases Nat.lt_or_ge i dc with y | y
        · rw [eO i y] at i2
          rw [eA i y] at i3
          exact ⟨i, y, i2, i3⟩
        · have : i = dc := by omega
          subst this
          rw [ck_us] at i2 i3
          subst i2 i3
          exact absurd rfl e
  · rw [ck_ct1 (by omega) h0, d6]
theorem ck_DR0 {n room dc p a i : Nat} {dO dA dr : Nat → Nat} (hn : n ≤ 8) (D : ck_DR n room (dc + 1) dO dA dr) (hi : i < dc + 1) (hp : dO i = p) (ha : dA i = a) :
    ck_DR n room dc (ck_u dO i (dO dc)) (ck_u dA i (dA dc)) (ck_u dr (p * 256 + a) 0) := by
  subst hp ha
  obtain ⟨d1, d2, d3, d4, d5, d6⟩ := D
  have h8 := ck_p8 hn
  obtain ⟨hp, ha⟩ := d2 i hi
  have h0 : dr (dO i * 256 + dA i) ≠ 0 := (d5 _ _ hp ha).mpr ⟨i, hi, rfl, rfl⟩
  -- the new list at j is the old one at g j
  have key : ∀ j, j < dc → ∃ g, g < dc + 1 ∧ g ≠ i ∧ ck_u dO i (dO dc) j = dO g ∧ ck_u dA i (dA dc) j = dA g ∧ (j = i → g = dc) ∧ (j ≠ i → g = j) := by
    intro j hj
    rcases Classical.em (j = i) with e | e
    · subst e
      exact ⟨dc, by omega, by omega, ck_us, ck_us, fun _ => rfl, fun w => absurd rfl w⟩
    · exact ⟨j, by omega, e, ck_un e, ck_un e, fun w => absurd w e, fun _ => rfl⟩
  refine ⟨by omega, fun j hj => ?_, fun j l hj hl e1 e2 => ?_, fun k hk => ?_, fun p' a' hp' ha' => ?_, ?_⟩
  · obtain ⟨g, g1, g2, g3, g4, _⟩ := key j hj
    rw [g3, g4]
    exact d2 g g1
  · obtain ⟨g, g1, g2, g3, g4, g5, g6⟩ := key j hj
    obtain ⟨f, f1, f2, f3, f4, f5, f6⟩ := key l hl
    rw [g3, f3] at e1
    rw [g4, f4] at e2
    have e := d3 g f g1 f1 e1 e2
    rcases Classical.em (j = i) with y | y
    · rcases Classical.em (l = i) with z | z
      · omega
      · have := g5 y
        have := f6 z
        omega
    · rcases Classical.em (l = i) with z | z
      · have := g6 y
        have := f5 z
        omega
      · have := g6 y
        have := f6 z
        omega
  · rcases Classical.em (k = dO i * 256 + dA i) with e | e
    · subst e; rw [ck_us]; omega
    · rw [ck_un e]; exact d4 k hk
  · rcases Classical.em (p' * 256 + a' = dO i * 256 + dA i) with e | e
    · rw [e, ck_us]
      obtain ⟨e1, e2⟩ := ck_pa hn ha' ha e
      refine ⟨fun w => absurd rfl w, fun ⟨j, j1, j2, j3⟩ => ?_⟩
      obtain ⟨g, g1, g2, g3, g4, _⟩ := key j j1
      rw [g3, e1] at j2
      rw [g4, e2] at j3
      exact absurd (d3 g i g1 hi j2 j3) g2
    · rw [ck_un e, d5 p' a' hp' ha']
      constructor
      · rintro ⟨j, j1, j2, j3⟩
        have hji : j ≠ i := fun w => by subst w; rw [j2, j3] at e; exact e rfl
        rcases Nat.lt_or_ge j dc with y | y
        · exact ⟨j, y, by rw [ck_un hji]; exact j2, by rw [ck_un hji]; exact j3⟩
        · have : j = dc := by omega
          subst this
          exact ⟨i, by omega, by rw [ck_us]; exact j2, by rw [ck_us]; exact j3⟩
      · rintro ⟨j, j1, j2, j3⟩
        obtain ⟨g, g1, g2, g3, g4, _⟩ := key j j1
        rw [g3] at j2
        rw [g4] at j3
        exact ⟨g, g1, j2, j3⟩
  · have := ck_ct0 (f := dr) (j := dO i * 256 + dA i) (k := 2048) (by omega) h0
    omega
theorem i_vc_demand {k : Nat} {u : SX} {v : SY} (I : i_Rel k u v) (hk : k + 3 ≤ 1538) (v1 : Int32) (v2 : Int32) : wpX_demand (fun r u' => wpY_demand (fun r' v' => r' = r ∧ i_Rel (k + 3) u' v') v v1 v2) u v1 v2 := by
  refine ck_el (P := fun u v => wpX_demand (fun r u' => wpY_demand (fun r' v' => r' = r ∧ i_Rel (k + 3) u' v') v v1 v2) u v1 v2) ?_ I
  intro n room dc cc fc ins con ker top lim dO dA dR ow al ri fa re kr cv cn ms si so dr cl fo gd gc rp R
  have R0 := R
  obtain ⟨⟨n2, n8⟩, ⟨r4, r24⟩, D, X⟩ := R
  have h8 := ck_p8 n8
  have D0 := D
  obtain ⟨d1, d2, d3, d4, d5, d6⟩ := D
  unfold wpX_demand
  rcases ck_ps v1 n (by omega) with hp | ⟨p, hp, rfl⟩
  · exact xx_pk0 v1 hp (br_t rfl (ck_b2 hp ⟨rfl, ck_mk R0⟩))
  · refine xx_pk1 p hp n8 (br_f (by decide) ?_)
    rcases ck_ps v2 (2 ^ n) (by omega) with ha | ⟨a, ha, rfl⟩
    · exact xx_st0 v2 n8 ha (br_t rfl (ck_g2 hp n8 (ck_b3 ha ⟨rfl, ck_mk R0⟩)))
    · refine xx_st1 a n8 ha (br_f (by decide) ?_)
      have hv : vp_in (nI p * 256 + nI a) 2048 := by rw [ck_iy]; exact vp_in_nI (by omega) (by omega)
      have hg : ck_a dr (nI p * 256 + nI a).toNatClampNeg = nI (dr (p * 256 + a)) := by rw [ck_iy, ck_ag (by omega)]
      have hd := d4 (p * 256 + a) (by omega)
      refine xx_fd p a (by omega) (by omega) (by omega) (fun i hi => by have := (d2 i hi).1; omega) (fun i hi => by have := (d2 i hi).2; omega) (fun i hi e1 e2 => ?_) (fun hno => ?_) rfl rfl
      · refine br_f (nI_pos (by omega)) (ck_g2 hp n8 (ck_g3 ha h8 ⟨hv, ?_⟩))
        exact ck_z _ hg (by omega) (fun z => absurd z ((d5 p a hp ha).mpr ⟨i, hi, e1, e2⟩)) (fun _ => ⟨rfl, ck_mk R0⟩)
      · refine br_t (by decide) ?_
        have hz : dr (p * 256 + a) = 0 := by
          rcases Classical.em (dr (p * 256 + a) = 0) with z | z
          · exact z
          · obtain ⟨i, i1, i2, i3⟩ := (d5 p a hp ha).mp z
            exact absurd i3 (hno i i1 i2)
        refine pk_lt dc room (fun hr => ⟨vp_in_nI (by omega) (by omega), nm_r (ck_au (by omega)) ⟨vp_in_nI (by omega) (by omega), nm_r (ck_au (by omega)) (nm_r (nI_1 dc) ?_)⟩⟩) (fun hr => ?_)
        · refine ck_g2 hp n8 (ck_g3 ha h8 ⟨hv, ck_z _ hg (by omega) (fun _ => ⟨_, yl_dm n8 p a hp ha d4 r24 (fun _ => ⟨rfl, ck_mk ⟨⟨n2, n8⟩, ⟨r4, r24⟩, ck_DR1 n8 D0 hp ha hno hr, X⟩⟩) (fun w => absurd w (by omega)) 2048 0 (by omega)⟩) (fun w => absurd hz w)⟩)
        · refine ck_g2 hp n8 (ck_g3 ha h8 ⟨hv, ck_z _ hg (by omega) (fun _ => ⟨_, yl_dm n8 p a hp ha d4 r24 (fun w => absurd w (by omega)) (fun _ => ⟨rfl, ck_mk R0⟩) 2048 0 (by omega)⟩) (fun w => absurd hz w)⟩)
theorem i_vc_withdraw {k : Nat} {u : SX} {v : SY} (I : i_Rel k u v) (hk : k + 3 ≤ 1538) (v1 : Int32) (v2 : Int32) : wpX_withdraw (fun r u' => wpY_withdraw (fun r' v' => r' = r ∧ i_Rel (k + 3) u' v') v v1 v2) u v1 v2 := by
  refine ck_el (P := fun u v => wpX_withdraw (fun r u' => wpY_withdraw (fun r' v' => r' = r ∧ i_Rel (k + 3) u' v') v v1 v2) u v1 v2) ?_ I
  intro n room dc cc fc ins con ker top lim dO dA dR ow al ri fa re kr cv cn ms si so dr cl fo gd gc rp R
  have R0 := R
  obtain ⟨⟨n2, n8⟩, ⟨r4, r24⟩, D, X⟩ := R
  have h8 := ck_p8 n8
  have D0 := D
  obtain ⟨d1, d2, d3, d4, d5, d6⟩ := D
  unfold wpX_withdraw
  rcases ck_ps v1 n (by omega) with hp | ⟨p, hp, rfl⟩
  · exact xx_pk0 v1 hp (br_t rfl (ck_b2 hp ⟨rfl, ck_mk R0⟩))
  · refine xx_pk1 p hp n8 (br_f (by decide) ?_)
    rcases ck_ps v2 (2 ^ n) (by omega) with ha | ⟨a, ha, rfl⟩
    · exact xx_st0 v2 n8 ha (br_t rfl (ck_g2 hp n8 (ck_b3 ha ⟨rfl, ck_mk R0⟩)))
    · refine xx_st1 a n8 ha (br_f (by decide) ?_)
      have hv : vp_in (nI p * 256 + nI a) 2048 := by rw [ck_iy]; exact vp_in_nI (by omega) (by omega)
      have hg : ck_a dr (nI p * 256 + nI a).toNatClampNeg = nI (dr (p * 256 + a)) := by rw [ck_iy, ck_ag (by omega)]
      have hu : upd (ck_a dr) (nI p * 256 + nI a).toNatClampNeg (vp_nar .boolean 0) = ck_a (ck_u dr (p * 256 + a) 0) := by rw [ck_iy]; exact ck_au (v := 0) (by omega)
      have hd := d4 (p * 256 + a) (by omega)
      refine xx_fd p a (by omega) (by omega) (by omega) (fun i hi => by have := (d2 i hi).1; omega) (fun i hi => by have := (d2 i hi).2; omega) (fun i hi e1 e2 => ?_) (fun hno => ?_) rfl rfl
      · obtain ⟨c, rfl⟩ : ∃ c, dc = c + 1 := ⟨dc - 1, by omega⟩
        refine br_t (nI_pos' (by omega)) (nm_r (nI_pred c) ⟨vp_in_nI (by omega) (by omega), vp_in_nI (by omega) (by omega), nm_r (e' := ck_a (ck_u dO i (dO c))) (by rw [ck_ag (by omega), ck_au (by omega)]) ⟨vp_in_nI (by omega) (by omega), vp_in_nI (by omega) (by omega), nm_r (e' := ck_a (ck_u dA i (dA c))) (by rw [ck_ag (by omega), ck_au (by omega)]) ?_⟩⟩)
        refine ck_g2 hp n8 (ck_g3 ha h8 ⟨hv, ck_z _ hg (by omega) (fun z => absurd z ((d5 p a hp ha).mpr ⟨i, hi, e1, e2⟩)) (fun _ => ⟨hv, nm_r hu ⟨rfl, ck_mk ⟨⟨n2, n8⟩, ⟨r4, r24⟩, ck_DR0 n8 D0 hi e1 e2, X⟩⟩⟩)⟩)
      · refine br_f (by decide) (ck_g2 hp n8 (ck_g3 ha h8 ⟨hv, ck_z _ hg (by omega) (fun _ => ⟨rfl, ck_mk R0⟩) (fun w => ?_)⟩))
        obtain ⟨i, i1, i2, i3⟩ := (d5 p a hp ha).mp w
        exact absurd i3 (hno i i1 i2)
end
section
/-! conflict, unconflict, nextClause, conflictsOf -/
theorem ck_Rvi {n : Nat} {f : Nat → Nat} (h : ∀ i, i < n → ∀ z, (f i).testBit z = true → z < n ∧ z ≠ i ∧ (f z).testBit i = true) : ck_Rv n f :=
  fun p hp => ⟨ck_bl (fun z hz => (h p hp z hz).1), fun w => (h p hp p w).2.1 rfl, fun q _ hq => (h p hp q hq).2.2⟩
theorem ck_Rv1 {n p q : Nat} {f g : Nat → Nat} (hR : ck_Rv n f) (hp : p < n) (hq : q < n) (hne : p ≠ q)
    (hg : ∀ i z, (g i).testBit z = true ↔ (f i).testBit z = true ∨ (i = p ∧ z = q) ∨ (i = q ∧ z = p)) : ck_Rv n g := by
  refine ck_Rvi (fun i hi z hz => ?_)
  rw [hg z i]
  rcases (hg i z).mp hz with w | ⟨w1, w2⟩ | ⟨w1, w2⟩
  · have hzn := ck_tl (hR i hi).1 w
    exact ⟨hzn, fun e => by subst e; exact (hR z hi).2.1 w, Or.inl ((hR i hi).2.2 z hzn w)⟩
  · subst w1 w2
    exact ⟨hq, fun e => hne e.symm, Or.inr (Or.inr ⟨rfl, rfl⟩)⟩
  · subst w1 w2
    exact ⟨hp, hne, Or.inr (Or.inl ⟨rfl, rfl⟩)⟩
theorem ck_Rv0 {n p q : Nat} {f g : Nat → Nat} (hR : ck_Rv n f)
    (hg : ∀ i z, (g i).testBit z = true ↔ (f i).testBit z = true ∧ ¬ (i = p ∧ z = q) ∧ ¬ (i = q ∧ z = p)) : ck_Rv n g := by
  refine ck_Rvi (fun i hi z hz => ?_)
  rw [hg z i]
  obtain ⟨w, w1, w2⟩ := (hg i z).mp hz
  have hzn := ck_tl (hR i hi).1 w
  exact ⟨hzn, fun e => by subst e; exact (hR z hi).2.1 w, (hR i hi).2.2 z hzn w, fun e => w2 ⟨e.2, e.1⟩, fun e => w1 ⟨e.2, e.1⟩⟩
theorem ck_up1 {p q : Nat} {f : Nat → Nat} (hne : p ≠ q) : ∀ i z, (ck_u (ck_u f p (f p ||| 2 ^ q)) q (f q ||| 2 ^ p) i).testBit z = true ↔ (f i).testBit z = true ∨ (i = p ∧ z = q) ∨ (i = q ∧ z = p) := by
  intro i z
  rcases Classical.em (i = q) with e | e
  · subst e
    rw [ck_us, ck_tor, ck_t2]
    constructor
    · rintro (w | w)
      · exact Or.inl w
      · exact Or.inr (Or.inr ⟨rfl, w.symm⟩)
    · rintro (w | ⟨w, _⟩ | ⟨_, w⟩)
      · exact Or.inl w
      · exact absurd w.symm hne
      · exact Or.inr w.symm
  · rw [ck_un e]
    rcases Classical.em (i = p) with e' | e'
    · subst e'
      rw [ck_us, ck_tor, ck_t2]
      constructor
      · rintro (w | w)
        · exact Or.inl w
        · exact Or.inr (Or.inl ⟨rfl, w.symm⟩)
      · rintro (w | ⟨_, w⟩ | ⟨w, _⟩)
        · exact Or.inl w
        · exact Or.inr w.symm
        · exact absurd w e
    · rw [ck_un e']
      constructor
      · exact Or.inl
      · rintro (w | ⟨w, _⟩ | ⟨w, _⟩)
        · exact w
        · exact absurd w e'
        · exact absurd w e
theorem ck_up0 {p q : Nat} {f : Nat → Nat} (hne : p ≠ q) : ∀ i z, (ck_u (ck_u f p (ck_dif (f p) (2 ^ q))) q (ck_dif (f q) (2 ^ p)) i).testBit z = true ↔ (f i).testBit z = true ∧ ¬ (i = p ∧ z = q) ∧ ¬ (i = q ∧ z = p) := by
  intro i z
  rcases Classical.em (i = q) with e | e
  · subst e
    rw [ck_us, ck_tdf, ck_t2]
    constructor
    · rintro ⟨w, w'⟩
      exact ⟨w, fun y => hne y.1.symm, fun y => w' y.2.symm⟩
    · rintro ⟨w, _, w'⟩
      exact ⟨w, fun y => w' ⟨rfl, y.symm⟩⟩
  · rw [ck_un e]
    rcases Classical.em (i = p) with e' | e'
    · subst e'
      rw [ck_us, ck_tdf, ck_t2]
      constructor
      · rintro ⟨w, w'⟩
        exact ⟨w, fun y => w' y.2.symm, fun y => e y.1⟩
      · rintro ⟨w, w', _⟩
        exact ⟨w, fun y => w' ⟨rfl, y.symm⟩⟩
    · rw [ck_un e']
      constructor
      · intro w
        exact ⟨w, fun y => e' y.1, fun y => e y.1⟩
      · exact fun w => w.1
section
variable {n room dc cc fc ins con ker top lim : Nat} {dO dA dR ow al ri fa re kr cv cn ms si so : Nat → Nat}
theorem xx_ip {post : Int32 → Prop} {x y : Int32} (hn : n ≤ 8) (h1 : ∀ p q, p < n → q < n → p ≠ q → x = nI p → y = nI q → post 1) (ha : (x < 0 ∨ nI n ≤ x) → post 0)
    (hb : ∀ p, p < n → x = nI p → (y < 0 ∨ nI n ≤ y) → post 0) (hc : ∀ p, p < n → x = nI p → y = nI p → post 0) : wpX_isPair post ((nI n), (nI room), (nI dc), (nI cc), (nI fc), (nI ins), (nI con), (nI ker), (nI top), (nI lim), (ck_a dO), (ck_a dA), (ck_a dR), (ck_a ow), (ck_a al), (ck_a ri), (ck_a fa), (ck_a re), (ck_a kr), (ck_a cv), (ck_a cn), (ck_a ms), (ck_a si), (ck_a so)) x y := by
  unfold wpX_isPair
  rcases ck_ps x n (by omega) with hx | ⟨p, hp, rfl⟩
  · exact xx_pk0 x hx (br_t rfl (ha hx))
  · refine xx_pk1 p hp hn (br_f (by decide) ?_)
    rcases ck_ps y n (by omega) with hy | ⟨q, hq, rfl⟩
    · exact xx_pk0 y hy (br_t rfl (hb p hp rfl hy))
    · refine xx_pk1 q hq hn (br_f (by decide) ?_)
      exact pk_eq p q (fun e => hc p hp rfl (by rw [e])) (fun e => h1 p q hp hq e rfl rfl)
end
theorem i_vc_conflict {k : Nat} {u : SX} {v : SY} (I : i_Rel k u v) (hk : k + 3 ≤ 1538) (v1 : Int32) (v2 : Int32) : wpX_conflict (fun r u' => wpY_conflict (fun r' v' => r' = r ∧ i_Rel (k + 3) u' v') v v1 v2) u v1 v2 := by
  refine ck_el (P := fun u v => wpX_conflict (fun r u' => wpY_conflict (fun r' v' => r' = r ∧ i_Rel (k + 3) u' v') v v1 v2) u v1 v2) ?_ I
  intro n room dc cc fc ins con ker top lim dO dA dR ow al ri fa re kr cv cn ms si so dr cl fo gd gc rp R
  have R0 := R
  obtain ⟨⟨n2, n8⟩, r24, D, V, X⟩ := R
  have h8 := ck_p8 n8
  unfold wpX_conflict
  refine xx_ip n8 (fun p q hp hq hne e1 e2 => ?_) (fun hx => br_t rfl (ck_b2 hx ⟨rfl, ck_mk R0⟩)) (fun p hp e1 hy => ?_) (fun p hp e1 e2 => ?_)
  · subst e1 e2
    have v31 : ∀ i, i < n → dR i < 2 ^ 31 := fun i hi => ck_31 n8 (V i hi).1
    have hg : ck_a dR (nI p).toNatClampNeg = nI (dR p) := ck_ag (by omega)
    have hv : vp_in (nI p) 8 := vp_in_nI (by omega) (by omega)
    have hw : vp_in (nI q) 8 := vp_in_nI (by omega) (by omega)
    have u1 : upd (ck_a dR) (nI p).toNatClampNeg (ck_a dR (nI p).toNatClampNeg ||| ((1 : Int32) <<< (nI q &&& 31))) = ck_a (ck_u dR p (dR p ||| 2 ^ q)) := by rw [hg, ck_shl q (by omega), ck_or, ck_au (by omega)]
    have u2 : upd (ck_a (ck_u dR p (dR p ||| 2 ^ q))) (nI q).toNatClampNeg (ck_a (ck_u dR p (dR p ||| 2 ^ q)) (nI q).toNatClampNeg ||| ((1 : Int32) <<< (nI p &&& 31))) = ck_a (ck_u (ck_u dR p (dR p ||| 2 ^ q)) q (dR q ||| 2 ^ p)) := by rw [ck_ag (by omega), ck_un (fun e => hne e.symm), ck_shl p (by omega), ck_or, ck_au (by omega)]
    have V' : ck_Rv n (ck_u (ck_u dR p (dR p ||| 2 ^ q)) q (dR q ||| 2 ^ p)) := ck_Rv1 V hp hq hne (ck_up1 hne)
    refine br_f (by decide) ⟨hv, xx_has (dR p) q (v31 p hp) (by omega) (fun hb => br_f (by decide) ?_) (fun hb => br_t rfl ⟨hv, hv, nm_r u1 ⟨hw, hw, nm_r u2 ?_⟩⟩) hg rfl⟩
    · refine ck_g2 hp n8 (ck_g2 hq n8 (pk_eq p q (fun e => absurd e hne) (fun _ => ⟨hv, yy_has (dR p) q (v31 p hp) (by omega) (fun _ => br_f (by decide) ⟨rfl, ck_mk R0⟩) (fun w => absurd hb (ck_ft w)) hg rfl⟩)))
    · refine ck_g2 hp n8 (ck_g2 hq n8 (pk_eq p q (fun e => absurd e hne) (fun _ => ⟨hv, yy_has (dR p) q (v31 p hp) (by omega) (fun w => absurd w (ck_ft hb)) (fun _ => br_t rfl ⟨hv, hv, nm_r u1 ⟨hw, hw, nm_r u2 ⟨rfl, ck_mk ⟨⟨n2, n8⟩, r24, D, V', X⟩⟩⟩⟩) hg rfl⟩)))
  · subst e1
    exact br_t rfl (ck_g2 hp n8 (ck_b2 hy ⟨rfl, ck_mk R0⟩))
  · subst e1 e2
    exact br_t rfl (ck_g2 hp n8 (ck_g2 hp n8 (br_t rfl ⟨rfl, ck_mk R0⟩)))
theorem i_vc_unconflict {k : Nat} {u : SX} {v : SY} (I : i_Rel k u v) (hk : k + 3 ≤ 1538) (v1 : Int32) (v2 : Int32) : wpX_unconflict (fun r u' => wpY_unconflict (fun r' v' => r' = r ∧ i_Rel (k + 3) u' v') v v1 v2) u v1 v2 := by
  refine ck_el (P := fun u v => wpX_unconflict (fun r u' => wpY_unconflict (fun r' v' => r' = r ∧ i_Rel (k + 3) u' v') v v1 v2) u v1 v2) ?_ I
  intro n room dc cc fc ins con ker top lim dO dA dR ow al ri fa re kr cv cn ms si so dr cl fo gd gc rp R
  have R0 := R
  obtain ⟨⟨n2, n8⟩, r24, D, V, X⟩ := R
  have h8 := ck_p8 n8
  unfold wpX_unconflict
  refine xx_ip n8 (fun p q hp hq hne e1 e2 => ?_) (fun hx => br_t rfl (ck_b2 hx ⟨rfl, ck_mk R0⟩)) (fun p hp e1 hy => ?_) (fun p hp e1 e2 => ?_)
  · subst e1 e2
    have v31 : ∀ i, i < n → dR i < 2 ^ 31 := fun i hi => ck_31 n8 (V i hi).1
    have hg : ck_a dR (nI p).toNatClampNeg = nI (dR p) := ck_ag (by omega)
    have hv : vp_in (nI p) 8 := vp_in_nI (by omega) (by omega)
    have hw : vp_in (nI q) 8 := vp_in_nI (by omega) (by omega)
    have u1 : upd (ck_a dR) (nI p).toNatClampNeg (ck_a dR (nI p).toNatClampNeg &&& (((1 : Int32) <<< (nI q &&& 31)) ^^^ (-1))) = ck_a (ck_u dR p (ck_dif (dR p) (2 ^ q))) := by rw [hg, ck_shl q (by omega), ck_andn, ck_au (by omega)]
    have u2 : upd (ck_a (ck_u dR p (ck_dif (dR p) (2 ^ q)))) (nI q).toNatClampNeg (ck_a (ck_u dR p (ck_dif (dR p) (2 ^ q))) (nI q).toNatClampNeg &&& (((1 : Int32) <<< (nI p &&& 31)) ^^^ (-1))) = ck_a (ck_u (ck_u dR p (ck_dif (dR p) (2 ^ q))) q (ck_dif (dR q) (2 ^ p))) := by rw [ck_ag (by omega), ck_un (fun e => hne e.symm), ck_shl p (by omega), ck_andn, ck_au (by omega)]
    have V' : ck_Rv n (ck_u (ck_u dR p (ck_dif (dR p) (2 ^ q))) q (ck_dif (dR q) (2 ^ p))) := ck_Rv0 V (ck_up0 hne)
    refine br_f (by decide) ⟨hv, xx_has (dR p) q (v31 p hp) (by omega) (fun hb => br_f (by decide) ⟨hv, hv, nm_r u1 ⟨hw, hw, nm_r u2 ?_⟩⟩) (fun hb => br_t rfl ?_) hg rfl⟩
    · refine ck_g2 hp n8 (ck_g2 hq n8 (pk_eq p q (fun e => absurd e hne) (fun _ => ⟨hv, yy_has (dR p) q (v31 p hp) (by omega) (fun _ => br_f (by decide) ⟨hv, hv, nm_r u1 ⟨hw, hw, nm_r u2 ⟨rfl, ck_mk ⟨⟨n2, n8⟩, r24, D, V', X⟩⟩⟩⟩) (fun w => absurd hb (ck_ft w)) hg rfl⟩)))
    · refine ck_g2 hp n8 (ck_g2 hq n8 (pk_eq p q (fun e => absurd e hne) (fun _ => ⟨hv, yy_has (dR p) q (v31 p hp) (by omega) (fun w => absurd w (ck_ft hb)) (fun _ => br_t rfl ⟨rfl, ck_mk R0⟩) hg rfl⟩)))
  · subst e1
    exact br_t rfl (ck_g2 hp n8 (ck_b2 hy ⟨rfl, ck_mk R0⟩))
  · subst e1 e2
    exact br_t rfl (ck_g2 hp n8 (ck_g2 hp n8 (br_t rfl ⟨rfl, ck_mk R0⟩)))
theorem i_vc_nextClause {k : Nat} {u : SX} {v : SY} (I : i_Rel k u v) (hk : k + 3 ≤ 1538) (v1 : Int32) (v2 : Int32) : wpX_nextClause (fun r => wpY_nextClause (fun r' => r' = r ∧ i_Rel (k + 3) u v) v v1 v2) u v1 v2 := by
  refine ck_el (P := fun u v => wpX_nextClause (fun r => wpY_nextClause (fun r' => r' = r ∧ i_Rel (k + 3) u v) v v1 v2) u v1 v2) ?_ I
  intro n room dc cc fc ins con ker top lim dO dA dR ow al ri fa re kr cv cn ms si so dr cl fo gd gc rp R
  have R0 := R
  obtain ⟨⟨n2, n8⟩, ⟨r4, r24⟩, ⟨d1, d2, d3, d4, d5, d6⟩, V, X⟩ := R
  have h8 := ck_p8 n8
  rcases ck_ps v1 n (by omega) with hp | ⟨p, hp, rfl⟩
  · unfold wpX_nextClause
    exact xx_pk0 v1 hp (br_t rfl (ck_b3 hp ⟨rfl, ck_mk R0⟩))
  · refine xx_nc p n8 hp v2 (by omega) (fun i hi => by have := (d2 i hi).1; omega) (fun i hi => by have := (d2 i hi).2; omega) (fun b hb => ?_) rfl
    refine yy_nc n8 p hp v2 d4 (fun b' hb' => ⟨ck_BIu hb' hb (fun e => ?_), ck_mk R0⟩) rfl
    constructor
    · rintro ⟨e1, e2, e3⟩
      obtain ⟨i, i1, i2, i3⟩ := (d5 p e hp e1).mp e3
      exact ⟨i, i1, ⟨i2, by rw [i3]; exact e2⟩, i3⟩
    · rintro ⟨i, i1, ⟨i2, i3⟩, i4⟩
      subst i4
      exact ⟨(d2 i i1).2, i3, (d5 p _ hp (d2 i i1).2).mpr ⟨i, i1, i2, rfl⟩⟩
theorem i_vc_conflictsOf {k : Nat} {u : SX} {v : SY} (I : i_Rel k u v) (hk : k + 3 ≤ 1538) (v1 : Int32) : wpX_conflictsOf (fun r => wpY_conflictsOf (fun r' => r' = r ∧ i_Rel (k + 3) u v) v v1) u v1 := by
  refine ck_el (P := fun u v => wpX_conflictsOf (fun r => wpY_conflictsOf (fun r' => r' = r ∧ i_Rel (k + 3) u v) v v1) u v1) ?_ I
  intro n room dc cc fc ins con ker top lim dO dA dR ow al ri fa re kr cv cn ms si so dr cl fo gd gc rp R
  have R0 := R
  obtain ⟨⟨n2, n8⟩, X⟩ := R
  unfold wpX_conflictsOf
  rcases ck_ps v1 n (by omega) with hp | ⟨p, hp, rfl⟩
  · exact xx_pk0 v1 hp (br_t rfl (ck_b3 hp ⟨rfl, ck_mk R0⟩))
  · have hv : vp_in (nI p) 8 := vp_in_nI (by omega) (by omega)
    exact xx_pk1 p hp n8 (br_f (by decide) ⟨hv, ck_g3 hp (by omega) ⟨hv, rfl, ck_mk R0⟩⟩)
end
section
/-! reduce and the constructors -/
theorem ck_hy {n cc : Nat} {ow al ri fo cl : Nat → Nat} (how : ∀ i, i < cc → ow i < n ∧ al i < 2 ^ n) (hfo : ∀ p, p < n → fo p = ri p)
    (hcl : ∀ p a, p < n → a < 2 ^ n → (cl (p * 256 + a) ≠ 0 ↔ ∃ i, i < cc ∧ (ow i = p ∧ al i = a))) (m : Nat) : ck_HY n fo cl m ↔ ck_H n cc ow al ri m := by
  constructor
  · intro h
    refine ⟨fun p hp hb => ?_, fun i hi hb => ?_⟩
    · rw [← hfo p hp, Nat.and_comm]
      exact (h p hp hb).1
    · obtain ⟨e1, e2⟩ := how i hi
      rw [Nat.and_comm]
      exact (h _ e1 hb).2 _ e2 ((hcl _ _ e1 e2).mpr ⟨i, hi, rfl, rfl⟩)
  · intro h p hp hb
    refine ⟨?_, fun a ha hc => ?_⟩
    · rw [hfo p hp, Nat.and_comm]
      exact h.1 p hp hb
    · obtain ⟨i, hi, e1, e2⟩ := (hcl p a hp ha).mp hc
      subst e1 e2
      rw [Nat.and_comm]
      exact h.2 i hi hb
theorem ck_yk {n : Nat} {H : Nat → Prop} {ri re dr dF cl fo gd gc rp : Nat → Nat} (hY : ck_YR n dr dF cl fo gd gc rp) (hH : ∀ m, ck_HY n fo cl m ↔ H m) (hfo : ∀ p, p < n → fo p = ri p) (hri : ck_Rv n ri)
    (hIR : ∀ p, p < n → ck_IR n H p (re p)) : ck_YK n H ri re fo gd gc rp := by
  obtain ⟨-, -, y3, y4, y5⟩ := hY
  have g1 : ∀ m, m < 2 ^ n → gd m ≤ 1 ∧ (gd m = 1 ↔ H m) := fun m hm => ⟨(y3 m hm).1, (y3 m hm).2.trans (hH m)⟩
  have g2 : ∀ s, s < 2 ^ n → gc s ≤ 1 ∧ (gc s = 1 ↔ ck_Co n H s) := fun s hs => ⟨(y4 s hs).1, (y4 s hs).2.trans (by
    constructor
    · rintro ⟨m, m1, m2, m3⟩
      exact ⟨m, m1, (g1 m m1).2.mp m2, m3⟩
    · rintro ⟨m, m1, m2, m3⟩
      exact ⟨m, m1, (g1 m m1).2.mpr m2, m3⟩)⟩
  have tw : ∀ p q, p < n → q < n → (ck_TG n gc p q ↔ ck_Tw n H p q) := by
    intro p q hp hq
    constructor
    · intro h s hs
      have a := g2 _ (ck_orlt hs (ck_2lt hp))
      have b := g2 _ (ck_orlt hs (ck_2lt hq))
      rw [← a.2, ← b.2, h s hs]
    · intro h s hs
      have a := g2 _ (ck_orlt hs (ck_2lt hp))
      have b := g2 _ (ck_orlt hs (ck_2lt hq))
      have c := h s hs
      rw [← a.2, ← b.2] at c
      have := a.1
      have := b.1
      rcases Classical.em (gc (s ||| 2 ^ p) = 1) with z | z
      · rw [z, c.mp z]
      · have : gc (s ||| 2 ^ q) ≠ 1 := fun w => z (c.mpr w)
        omega
  refine ⟨fun p hp => ⟨hfo p hp, (hri p hp).1, ?_, ?_⟩, g1, g2⟩
  · obtain ⟨e1, e2, e3⟩ := y5 p hp
    exact ck_IRu (p := p) ⟨e1, (tw p _ hp (by omega)).mp e2, fun q hq w => e3 q hq ((tw p q hp (by omega)).mpr w)⟩ (hIR p hp)
  · have := (hIR p hp).1
    omega
theorem ck_fxk {rp : Nat → Nat} {ker k : Nat} (h : ∀ p, p < k → (ker.testBit p = true ↔ rp p = p)) : ck_fx rp k = ck_cd k ker := by
  induction k with
  | zero => rfl
  | succ k ih =>
    show (if rp k = k then ck_fx rp k + 1 else ck_fx rp k) = ck_cd k ker + (ker.testBit k).toNat
    rw [ih (fun p hp => h p (by omega))]
    have := h k (by omega)
    rcases Classical.em (rp k = k) with z | z
    · rw [if_pos z, this.mpr z]; rfl
    · rw [if_neg z, ck_nf (fun w => z (this.mp w))]; rfl
section
variable {n room dc cc fc ins con ker top lim : Nat} {dO dA dR ow al ri fa re kr cv cn ms si so : Nat → Nat}
theorem xl_rd2 {post : Int32 → SX → Prop} (hn : n ≤ 8) (hcc : cc ≤ 24) (how : ∀ i, i < cc → ow i < n) (hal : ∀ i, i < cc → al i < 2 ^ n) (hR : ck_Rv n dR)
    (h : ∀ (fc ins con ker top lim : Nat) (ri fa re kr cv cn ms si so : Nat → Nat), (∀ p, p < n → ri p = dR p) → ck_Rv n ri → ck_XK n (ck_H n cc ow al ri) ri fc ins ker fa re kr cv cn → post (nI (ck_cd n ker)) ((nI n), (nI room), (nI dc), (nI cc), (nI fc), (nI ins), (nI con), (nI ker), (nI top), (nI lim), (ck_a dO), (ck_a dA), (ck_a dR), (ck_a ow), (ck_a al), (ck_a ri), (ck_a fa), (ck_a re), (ck_a kr), (ck_a cv), (ck_a cn), (ck_a ms), (ck_a si), (ck_a so))) :
    ∀ (d i : Nat) (ri : Nat → Nat), i + d = n → (∀ p, p < i → ri p = dR p) → wX_reduce_50 post (nI n) (nI room) (nI dc) (nI cc) (nI fc) (nI ins) (nI con) (nI ker) (nI top) (nI lim) (d + 1) (nI i) (ck_a dO) (ck_a dA) (ck_a dR) (ck_a ow) (ck_a al) (ck_a ri) (ck_a fa) (ck_a re) (ck_a kr) (ck_a cv) (ck_a cn) (ck_a ms) (ck_a si) (ck_a so) := by
  intro d
  induction d with
  | zero =>
    intro i ri hi hh
    have : i = n := by omega
    subst this
    have hri : ck_Rv i ri := fun p hp => by
      rw [hh p hp]
      obtain ⟨a, b, c⟩ := hR p hp
      exact ⟨a, b, fun q hq w => by rw [hh q hq]; exact c q hq w⟩
    refine pk_le i i (fun _ => ?_) (fun z => absurd z (by omega))
    refine xx_rb hn hcc how hal hri (fun fc ins con ker top lim fa re kr cv cn ms si so hB => ?_)
    have hX := ck_law hri hB
    exact xx_me ker (ck_31 hn hX.2.2.1.1) hn (h fc ins con ker top lim ri fa re kr cv cn ms si so hh hri hX) rfl
  | succ d ih =>
    intro i ri hi hh
    refine pk_le n i (fun z => absurd z (by omega)) (fun _ => ⟨vp_in_nI (by omega) (by omega), vp_in_nI (by omega) (by omega), nm_r (e' := ck_a (ck_u ri i (dR i))) (by rw [ck_ag (by omega), ck_au (by omega)]) (nm_r (nI_1 i) (ih (i + 1) (ck_u ri i (dR i)) (by omega) (lt_s (fun p hp => ?_) ck_us)))⟩)
    rw [ck_un (by omega)]
    exact hh p hp
theorem xl_rd1 {post : Int32 → SX → Prop} (hdc : dc ≤ 24)
    (h : ∀ (ow al : Nat → Nat), (∀ i, i < dc → ow i = dO i ∧ al i = dA i) → ∃ f, wX_reduce_50 post (nI n) (nI room) (nI dc) (nI dc) (nI fc) (nI ins) (nI con) (nI ker) (nI top) (nI lim) f 0 (ck_a dO) (ck_a dA) (ck_a dR) (ck_a ow) (ck_a al) (ck_a ri) (ck_a fa) (ck_a re) (ck_a kr) (ck_a cv) (ck_a cn) (ck_a ms) (ck_a si) (ck_a so)) :
    ∀ (d i : Nat) (ow al : Nat → Nat), i + d = dc → (∀ j, j < i → ow j = dO j ∧ al j = dA j) → wX_reduce_2 post (nI n) (nI room) (nI dc) (nI cc) (nI fc) (nI ins) (nI con) (nI ker) (nI top) (nI lim) (d + 1) (nI i) (ck_a dO) (ck_a dA) (ck_a dR) (ck_a ow) (ck_a al) (ck_a ri) (ck_a fa) (ck_a re) (ck_a kr) (ck_a cv) (ck_a cn) (ck_a ms) (ck_a si) (ck_a so) := by
  intro d
  induction d with
  | zero =>
    intro i ow al hi hh
    have : i = dc := by omega
    subst this
    exact pk_le i i (fun _ => h ow al hh) (fun z => absurd z (by omega))
  | succ d ih =>
    intro i ow al hi hh
    refine pk_le dc i (fun z => absurd z (by omega)) (fun _ => ⟨vp_in_nI (by omega) (by omega), vp_in_nI (by omega) (by omega), nm_r (e' := ck_a (ck_u ow i (dO i))) (by rw [ck_ag (by omega), ck_au (by omega)]) ⟨vp_in_nI (by omega) (by omega), vp_in_nI (by omega) (by omega), nm_r (e' := ck_a (ck_u al i (dA i))) (by rw [ck_ag (by omega), ck_au (by omega)]) (nm_r (nI_1 i) (ih (i + 1) (ck_u ow i (dO i)) (ck_u al i (dA i)) (by omega) (lt_s (fun j hj => ?_) ⟨ck_us, ck_us⟩)))⟩⟩)
    rw [ck_un (by omega), ck_un (by omega)]
    exact hh j hj
theorem xx_rd {post : Int32 → SX → Prop} (hn : n ≤ 8) (hdc : dc ≤ 24) (hO : ∀ i, i < dc → dO i < n ∧ dA i < 2 ^ n) (hR : ck_Rv n dR)
    (h : ∀ (fc ins con ker top lim : Nat) (ow al ri fa re kr cv cn ms si so : Nat → Nat), (∀ i, i < dc → ow i = dO i ∧ al i = dA i) → (∀ p, p < n → ri p = dR p) → ck_Rv n ri → ck_XK n (ck_H n dc ow al ri) ri fc ins ker fa re kr cv cn → post (nI (ck_cd n ker)) ((nI n), (nI room), (nI dc), (nI dc), (nI fc), (nI ins), (nI con), (nI ker), (nI top), (nI lim), (ck_a dO), (ck_a dA), (ck_a dR), (ck_a ow), (ck_a al), (ck_a ri), (ck_a fa), (ck_a re), (ck_a kr), (ck_a cv), (ck_a cn), (ck_a ms), (ck_a si), (ck_a so))) : wpX_reduce post ((nI n), (nI room), (nI dc), (nI cc), (nI fc), (nI ins), (nI con), (nI ker), (nI top), (nI lim), (ck_a dO), (ck_a dA), (ck_a dR), (ck_a ow), (ck_a al), (ck_a ri), (ck_a fa), (ck_a re), (ck_a kr), (ck_a cv), (ck_a cn), (ck_a ms), (ck_a si), (ck_a so)) := by
  refine ⟨_, xl_rd1 hdc (fun ow al e => ⟨_, xl_rd2 (cc := dc) hn hdc (fun i hi => by rw [(e i hi).1]; exact (hO i hi).1) (fun i hi => by rw [(e i hi).2]; exact (hO i hi).2) hR (fun fc ins con ker top lim ri fa re kr cv cn ms si so h1 h2 h3 => h fc ins con ker top lim ow al ri fa re kr cv cn ms si so e h1 h2 h3) n 0 ri (by omega) ck_n0⟩) dc 0 ow al (by omega) ck_n0⟩
end
theorem i_vc_reduce {k : Nat} {u : SX} {v : SY} (I : i_Rel k u v) (hk : k + 3 ≤ 1538) : wpX_reduce (fun r u' => wpY_reduce (fun r' v' => r' = r ∧ i_Rel (k + 3) u' v') v) u := by
  refine ck_el (P := fun u v => wpX_reduce (fun r u' => wpY_reduce (fun r' v' => r' = r ∧ i_Rel (k + 3) u' v') v) u) ?_ I
  intro n room dc cc fc ins con ker top lim dO dA dR ow al ri fa re kr cv cn ms si so dr cl fo gd gc rp R
  obtain ⟨⟨n2, n8⟩, ⟨r4, r24⟩, D, V, -⟩ := R
  have D0 := D
  obtain ⟨d1, d2, d3, d4, d5, d6⟩ := D
  have h8 := ck_p8 n8
  refine xx_rd n8 (by omega) d2 V (fun fc ins con ker top lim ow al ri fa re kr cv cn ms si so e1 e2 e3 e4 => ?_)
  refine yy_rd n8 d4 (fun cl fo gd gc rp hY => ?_)
  have hfo : ∀ p, p < n → fo p = ri p := fun p hp => by rw [hY.2.1 p (by omega), e2 p hp]
  have how : ∀ i, i < dc → ow i < n ∧ al i < 2 ^ n := fun i hi => by rw [(e1 i hi).1, (e1 i hi).2]; exact d2 i hi
  have hH : ∀ m, ck_HY n fo cl m ↔ ck_H n dc ow al ri m := ck_hy how hfo (fun p a hp ha => by
    rw [hY.1 _ (by omega), d5 p a hp ha]
    constructor
    · rintro ⟨i, i1, i2, i3⟩
      exact ⟨i, i1, by rw [(e1 i i1).1]; exact i2, by rw [(e1 i i1).2]; exact i3⟩
    · rintro ⟨i, i1, i2, i3⟩
      rw [(e1 i i1).1] at i2
      rw [(e1 i i1).2] at i3
      exact ⟨i, i1, i2, i3⟩)
  have hK := ck_yk hY hH hfo e3 e4.2.2.2.1
  refine ⟨congrArg nI (ck_fxk (fun p hp => ?_)), ck_mk ⟨⟨n2, n8⟩, ⟨r4, r24⟩, D0, V, ⟨by omega, how, e3⟩, e4, hK⟩⟩
  rw [e4.2.2.1.2 p, (hK.1 p hp).2.2.1]
  exact ⟨fun w => w.2, fun w => ⟨hp, w⟩⟩
theorem ck_cl (lo hi : Nat) (h : lo ≤ hi) (hh : hi < 2 ^ 31) (x : Int32) : ∃ n, lo ≤ n ∧ n ≤ hi ∧ ∀ Z : Int32 → Prop, Z (nI n) → (nI lo ≤ x → (x ≤ nI hi → Z x) ∧ (¬ x ≤ nI hi → Z (nI hi))) ∧ (¬ nI lo ≤ x → Z (nI lo)) := by
  by_cases z : nI lo ≤ x
  · have h0 : ¬ x < 0 := fun w => by
      have := Int32.lt_of_le_of_lt z w
      exact nI_pos (by omega) this
    obtain ⟨j, hj, rfl⟩ := nI_of h0
    have hl := (nI_leI (by omega) hj).mp z
    by_cases y : nI j ≤ nI hi
    · exact ⟨j, hl, (nI_leI hj hh).mp y, fun Z hZ => br_t z (br_t y hZ)⟩
    · exact ⟨hi, h, Nat.le_refl _, fun Z hZ => br_t z (br_f y hZ)⟩
  · exact ⟨lo, Nat.le_refl _, h, fun Z hZ => br_f z hZ⟩
theorem xx_cl {post : Int32 → Prop} {u : SX} {x : Int32} {lo hi n : Nat} (hN : ∀ Z : Int32 → Prop, Z (nI n) → (nI lo ≤ x → (x ≤ nI hi → Z x) ∧ (¬ x ≤ nI hi → Z (nI hi))) ∧ (¬ nI lo ≤ x → Z (nI lo))) (h : post (nI n)) : wpX_clamp post u x (nI lo) (nI hi) := by
  obtain ⟨q0, q1, q2, q3, q4, q5, q6, q7, q8, q9, q10, q11, q12, q13, q14, q15, q16, q17, q18, q19, q20, q21, q22, q23⟩ := u
  exact hN post h
theorem yy_init {post : SY → Prop} {n room : Nat} (k0 k1 : Int32) (hn : n ≤ 8)
    (hN : ∀ Z : Int32 → Prop, Z (nI n) → (nI 2 ≤ k0 → (k0 ≤ nI 8 → Z k0) ∧ (¬ k0 ≤ nI 8 → Z (nI 8))) ∧ (¬ nI 2 ≤ k0 → Z (nI 2)))
    (hM : ∀ Z : Int32 → Prop, Z (nI room) → (nI 4 ≤ k1 → (k1 ≤ nI 24 → Z k1) ∧ (¬ k1 ≤ nI 24 → Z (nI 24))) ∧ (¬ nI 4 ≤ k1 → Z (nI 4)))
    (h : ∀ cl fo gd gc rp : Nat → Nat, ck_YR n (fun _ => 0) (fun _ => 0) cl fo gd gc rp → post ((nI n), (nI room), (nI (2 ^ n)), (ck_a (fun _ => 0)), (ck_a (fun _ => 0)), (ck_a cl), (ck_a fo), (ck_a gd), (ck_a gc), (ck_a rp))) : wpY_init post k0 k1 := by
  refine hN (fun z => wY_init_86 post k1 z 0 0 0 (fun _ => 0) (fun _ => 0) (fun _ => 0) (fun _ => 0) (fun _ => 0) (fun _ => 0) (fun _ => 0)) ?_
  refine hM (fun z => wY_init_111 post z (nI n) 0 0 (fun _ => 0) (fun _ => 0) (fun _ => 0) (fun _ => 0) (fun _ => 0) (fun _ => 0) (fun _ => 0)) ?_
  refine nm_r (ck_shl n (by omega)) ?_
  exact yy_rd (n := n) (room := room) (dr := fun _ => 0) (dF := fun _ => 0) (cl := fun _ => 0) (fo := fun _ => 0) (gd := fun _ => 0) (gc := fun _ => 0) (rp := fun _ => 0) hn (fun _ _ => Nat.zero_le _) h
theorem ck_ctz (k : Nat) : ck_ct (fun _ => 0) k = 0 := by
  induction k with
  | zero => rfl
  | succ k ih => exact ih
theorem i_vc0 (k0 : Int32) (k1 : Int32) : wpX_init (fun u => wpY_init (fun v => i_Rel 2 u v) k0 k1) k0 k1 := by
  obtain ⟨n, n2, n8, hN⟩ := ck_cl 2 8 (by omega) (by omega) k0
  obtain ⟨room, r4, r24, hM⟩ := ck_cl 4 24 (by omega) (by omega) k1
  have h8 := ck_p8 n8
  have V : ck_Rv n (fun _ => 0) := ck_Rvi (fun i _ z hz => absurd hz (by rw [Nat.zero_testBit]; decide))
  unfold wpX_init
  refine xx_cl hN ?_
  refine xx_cl hM ?_
  refine xx_rb (n := n) (room := room) (dc := 0) (cc := 0) (fc := 0) (ins := 0) (con := 0) (ker := 0) (top := 0) (lim := 0) (dO := fun _ => 0) (dA := fun _ => 0) (dR := fun _ => 0) (ow := fun _ => 0) (al := fun _ => 0) (ri := fun _ => 0) (fa := fun _ => 0) (re := fun _ => 0) (kr := fun _ => 0) (cv := fun _ => 0) (cn := fun _ => 0) (ms := fun _ => 0) (si := fun _ => 0) (so := fun _ => 0) n8 (by omega) ck_n0 ck_n0 V (fun fc ins con ker top lim fa re kr cv cn ms si so hB => ?_)
  have e4 := ck_law V hB
  refine yy_init (n := n) (room := room) k0 k1 n8 hN hM (fun cl fo gd gc rp hY => ?_)
  have hfo : ∀ p, p < n → fo p = (fun _ => 0 : Nat → Nat) p := fun p hp => hY.2.1 p (by omega)
  have hH : ∀ m, ck_HY n fo cl m ↔ ck_H n 0 (fun _ => 0) (fun _ => 0) (fun _ => 0) m := ck_hy ck_n0 hfo (fun p a hp ha => by
    rw [hY.1 _ (by omega)]
    exact ⟨fun w => absurd rfl w, fun ⟨i, hi, _⟩ => absurd hi (Nat.not_lt_zero i)⟩)
  have hK := ck_yk hY hH hfo V e4.2.2.2.1
  have D : ck_DR n room 0 (fun _ => 0) (fun _ => 0) (fun _ => 0) := ⟨Nat.zero_le _, ck_n0, fun i j hi => absurd hi (Nat.not_lt_zero i), fun _ _ => Nat.zero_le _, fun p a _ _ => ⟨fun w => absurd rfl w, fun ⟨i, hi, _⟩ => absurd hi (Nat.not_lt_zero i)⟩, ck_ctz 2048⟩
  exact ck_mk ⟨⟨n2, n8⟩, ⟨r4, r24⟩, D, V, ⟨by omega, ck_n0, V⟩, e4, hK⟩
end
section
/-! the queries, both sides -/
theorem ck_hin {n : Nat} {H : Nat → Prop} {ins : Nat} (h : ∀ p, ins.testBit p = true ↔ ck_Co n H (2 ^ p)) : ∀ m, m < 2 ^ n → H m → ck_sub m ins :=
  fun m m1 m2 p hp => (h p).mpr ⟨m, m1, m2, ck_s2 hp⟩
theorem i_vc_classOf {k : Nat} {u : SX} {v : SY} (I : i_Rel k u v) (hk : k + 3 ≤ 1538) (v1 : Int32) : wpX_classOf (fun r => wpY_classOf (fun r' => r' = r ∧ i_Rel (k + 3) u v) v v1) u v1 := by
  refine ck_el (P := fun u v => wpX_classOf (fun r => wpY_classOf (fun r' => r' = r ∧ i_Rel (k + 3) u v) v v1) u v1) ?_ I
  intro n room dc cc fc ins con ker top lim dO dA dR ow al ri fa re kr cv cn ms si so dr cl fo gd gc rp R
  have R0 := R
  obtain ⟨⟨n2, n8⟩, -, -, -, -, X, K⟩ := R
  unfold wpX_classOf
  rcases ck_ps v1 n (by omega) with hp | ⟨p, hp, rfl⟩
  · exact xx_pk0 v1 hp (br_t rfl (ck_b3 hp ⟨rfl, ck_mk R0⟩))
  · have hv : vp_in (nI p) 8 := vp_in_nI (by omega) (by omega)
    exact xx_pk1 p hp n8 (br_f (by decide) ⟨hv, ck_g3 hp (by omega) ⟨hv, by rw [ck_ag (by omega), ck_ag (by omega), (K.1 p hp).2.2.1], ck_mk R0⟩⟩)
theorem i_vc_image {k : Nat} {u : SX} {v : SY} (I : i_Rel k u v) (hk : k + 3 ≤ 1538) (v1 : Int32) : wpX_image (fun r => wpY_image (fun r' => r' = r ∧ i_Rel (k + 3) u v) v v1) u v1 := by
  refine ck_el (P := fun u v => wpX_image (fun r => wpY_image (fun r' => r' = r ∧ i_Rel (k + 3) u v) v v1) u v1) ?_ I
  intro n room dc cc fc ins con ker top lim dO dA dR ow al ri fa re kr cv cn ms si so dr cl fo gd gc rp R
  have R0 := R
  obtain ⟨⟨n2, n8⟩, -, -, -, -, X, K⟩ := R
  have h8 := ck_p8 n8
  unfold wpX_image
  rcases ck_ps v1 (2 ^ n) (by omega) with hs | ⟨s, hs, rfl⟩
  · exact xx_st0 v1 n8 hs (br_t rfl (ck_b3 hs ⟨rfl, ck_mk R0⟩))
  · refine xx_st1 s n8 hs (br_f (by decide) ?_)
    refine xx_qu s (by omega) n8 (fun p hp => by have := (K.1 p hp).2.2.2; omega) (fun Q hQ => ?_) rfl
    refine yy_im s hs n8 (fun p hp => by have := (K.1 p hp).2.2; omega) (fun Q' hQ' => ⟨congrArg nI (ck_ext (fun q => ?_)), ck_mk R0⟩) rfl
    rw [hQ q, hQ' q]
    constructor
    · rintro ⟨p, p1, p2, p3⟩
      exact ⟨p, p1, p2, by rw [← (K.1 p p1).2.2.1]; exact p3⟩
    · rintro ⟨p, p1, p2, p3⟩
      exact ⟨p, p1, p2, by rw [(K.1 p p1).2.2.1]; exact p3⟩
theorem i_vc_kernelConflicts {k : Nat} {u : SX} {v : SY} (I : i_Rel k u v) (hk : k + 3 ≤ 1538) (v1 : Int32) : wpX_kernelConflicts (fun r => wpY_kernelConflicts (fun r' => r' = r ∧ i_Rel (k + 3) u v) v v1) u v1 := by
  refine ck_el (P := fun u v => wpX_kernelConflicts (fun r => wpY_kernelConflicts (fun r' => r' = r ∧ i_Rel (k + 3) u v) v v1) u v1) ?_ I
  intro n room dc cc fc ins con ker top lim dO dA dR ow al ri fa re kr cv cn ms si so dr cl fo gd gc rp R
  have R0 := R
  obtain ⟨⟨n2, n8⟩, -, -, -, -, ⟨-, -, ⟨x1, x2⟩, -, x4, -⟩, K⟩ := R
  unfold wpX_kernelConflicts
  rcases ck_ps v1 n (by omega) with hp | ⟨r, hr, rfl⟩
  · exact xx_ik0 v1 hp (br_t rfl (ck_b2 hp ⟨rfl, ck_mk R0⟩))
  · refine xx_ik r n8 hr x1 (fun hb => br_f (by decide) ⟨vp_in_nI (by omega) (by omega), ?_⟩) (fun hb => br_t rfl ?_) rfl
    · refine yy_kk K n8 r hr (fun e => absurd ((x2 r).mp hb).2 e) (fun _ Q hQ => ⟨?_, ck_mk R0⟩) rfl
      rw [ck_ag (by omega)]
      exact congrArg nI (ck_ext (fun q => (hQ q).trans (x4 r hr q).symm))
    · exact yy_kk K n8 r hr (fun _ => ⟨rfl, ck_mk R0⟩) (fun e => absurd ((x2 r).mpr ⟨hr, e⟩) hb) rfl
theorem i_vc_nextKernelClause {k : Nat} {u : SX} {v : SY} (I : i_Rel k u v) (hk : k + 3 ≤ 1538) (v1 : Int32) (v2 : Int32) : wpX_nextKernelClause (fun r => wpY_nextKernelClause (fun r' => r' = r ∧ i_Rel (k + 3) u v) v v1 v2) u v1 v2 := by
  refine ck_el (P := fun u v => wpX_nextKernelClause (fun r => wpY_nextKernelClause (fun r' => r' = r ∧ i_Rel (k + 3) u v) v v1 v2) u v1 v2) ?_ I
  intro n room dc cc fc ins con ker top lim dO dA dR ow al ri fa re kr cv cn ms si so dr cl fo gd gc rp R
  have R0 := R
  obtain ⟨⟨n2, n8⟩, -, -, -, -, ⟨-, -, ⟨x1, x2⟩, -, -, x5⟩, K⟩ := R
  have h8 := ck_p8 n8
  rcases ck_ps v1 n (by omega) with hp | ⟨r, hr, rfl⟩
  · unfold wpX_nextKernelClause
    exact xx_ik0 v1 hp (br_t rfl (ck_b2 hp ⟨rfl, ck_mk R0⟩))
  · refine xx_nk r n8 hr v2 x1 (fun hb => ?_) (fun hb => ?_) (fun hb b hB => ?_) rfl
    · exact yy_nk K n8 r hr v2 (fun _ => ⟨rfl, ck_mk R0⟩) (fun e => absurd ((x2 r).mpr ⟨hr, e⟩) hb) (fun e => absurd ((x2 r).mpr ⟨hr, e⟩) hb) rfl
    · obtain ⟨y1, y2⟩ := x5 r hr ((x2 r).mp hb).2
      refine ⟨y1, fun i hi => ?_⟩
      have := ((y2 _).mp ⟨i, hi, rfl⟩).1
      omega
    · obtain ⟨y1, y2⟩ := x5 r hr ((x2 r).mp hb).2
      have hS : ∀ e, (e < 2 ^ n ∧ ¬ nI e ≤ v2 ∧ ck_KC n (ck_H n cc ow al ri) ri re r e) ↔ ∃ i, i < cn r ∧ (¬ nI (cv (r * 35 + i)) ≤ v2 ∧ cv (r * 35 + i) = e) := by
        intro e
        constructor
        · rintro ⟨e1, e2, e3⟩
          obtain ⟨i, hi, e⟩ := (y2 e).mpr ⟨e1, e3⟩
          exact ⟨i, hi, by rw [e]; exact e2, e⟩
        · rintro ⟨i, hi, e1, e2⟩
          obtain ⟨z1, z2⟩ := (y2 e).mp ⟨i, hi, e2⟩
          exact ⟨z1, by rw [← e2]; exact e1, z2⟩
      refine yy_nk K n8 r hr v2 (fun e => absurd ((x2 r).mp hb).2 e) (fun _ e e1 e2 e3 e4 => ⟨ck_BIu (S := fun e => e < 2 ^ n ∧ ¬ nI e ≤ v2 ∧ ck_KC n (ck_H n cc ow al ri) ri re r e) (Or.inr ⟨e, rfl, by omega, ⟨e1, e2, e3⟩, fun e' he' => ?_⟩) hB hS, ck_mk R0⟩) (fun _ h0 => ⟨ck_BIu (S := fun e => e < 2 ^ n ∧ ¬ nI e ≤ v2 ∧ ck_KC n (ck_H n cc ow al ri) ri re r e) (Or.inl ⟨rfl, fun e he => h0 e he.1 he.2.1 he.2.2⟩) hB hS, ck_mk R0⟩) rfl
      rcases Nat.lt_or_ge e' e with z | z
      · exact absurd he'.2.2 (e4 e' z he'.2.1)
      · exact z
theorem i_vc_kernelHealthy {k : Nat} {u : SX} {v : SY} (I : i_Rel k u v) (hk : k + 3 ≤ 1538) (v1 : Int32) : wpX_kernelHealthy (fun r => wpY_kernelHealthy (fun r' => r' = r ∧ i_Rel (k + 3) u v) v v1) u v1 := by
  refine ck_el (P := fun u v => wpX_kernelHealthy (fun r => wpY_kernelHealthy (fun r' => r' = r ∧ i_Rel (k + 3) u v) v v1) u v1) ?_ I
  intro n room dc cc fc ins con ker top lim dO dA dR ow al ri fa re kr cv cn ms si so dr cl fo gd gc rp R
  have R0 := R
  obtain ⟨⟨n2, n8⟩, -, -, -, -, ⟨-, -, ⟨x1, x2⟩, -, x4, x5⟩, K⟩ := R
  have h8 := ck_p8 n8
  rcases ck_ps v1 (2 ^ n) (by omega) with hs | ⟨s, hs, rfl⟩
  · unfold wpX_kernelHealthy
    exact xx_st0 v1 n8 hs (br_t rfl (ck_b3 hs ⟨rfl, ck_mk R0⟩))
  · have hsk : ck_sub s ker ↔ ∀ p, p < n → s.testBit p = true → re p = p := by
      constructor
      · intro h p hp hb
        exact ((x2 p).mp (h p hb)).2
      · intro h p hb
        have hp := ck_tl hs hb
        exact (x2 p).mpr ⟨hp, h p hp hb⟩
    have hKH : ck_sub s ker → ((∀ r, r < n → s.testBit r = true → kr r &&& s = 0 ∧ ∀ i, i < cn r → cv (r * 35 + i) &&& s ≠ 0) ↔ ck_KH n (ck_H n cc ow al ri) ri re s) := by
      intro hsub
      have one : ∀ r, r < n → s.testBit r = true → ((kr r &&& s = 0 ∧ ∀ i, i < cn r → cv (r * 35 + i) &&& s ≠ 0) ↔ ((∀ q, s.testBit q = true → ¬ ck_KQ n (ck_H n cc ow al ri) ri re r q) ∧ (∀ e, e < 2 ^ n → s &&& e = 0 → ¬ ck_KC n (ck_H n cc ow al ri) ri re r e))) := by
        intro r hr hb
        obtain ⟨y1, y2⟩ := x5 r hr (hsk.mp hsub r hr hb)
        constructor
        · rintro ⟨z1, z2⟩
          refine ⟨fun q q1 q2 => ck_and0.mp z1 q ((x4 r hr q).mpr q2) q1, fun e e1 e2 e3 => ?_⟩
          obtain ⟨i, hi, e⟩ := (y2 e).mpr ⟨e1, e3⟩
          refine z2 i hi ?_
          rw [e, Nat.and_comm]
          exact e2
        · rintro ⟨z1, z2⟩
          refine ⟨ck_and0.mpr (fun q q1 q2 => z1 q q2 ((x4 r hr q).mp q1)), fun i hi w => ?_⟩
          obtain ⟨w1, w2⟩ := (y2 _).mp ⟨i, hi, rfl⟩
          refine z2 _ w1 ?_ w2
          rw [Nat.and_comm]
          exact w
      exact ⟨fun h r hr hb => (one r hr hb).mp (h r hr hb), fun h r hr hb => (one r hr hb).mpr (h r hr hb)⟩
    have nb : (∃ p, p < n ∧ (s.testBit p = true ∧ re p ≠ p)) → ¬ ck_sub s ker := fun ⟨p, p1, p2, p3⟩ w => p3 (hsk.mp w p p1 p2)
    refine xx_kh s n8 hs (fun hb => ?_) (fun hb r hr hb' => (x5 r hr (hsk.mp hb r hr hb')).1) (fun hb h1 => ?_) (fun hb h0 => ?_) rfl
    · exact yy_kh K n8 s hs (fun _ => ⟨rfl, ck_mk R0⟩) (fun w => absurd (hsk.mpr w) hb) (fun w => absurd (hsk.mpr w) hb) rfl
    · exact yy_kh K n8 s hs (fun w => absurd hb (nb w)) (fun _ _ => ⟨rfl, ck_mk R0⟩) (fun _ w => absurd ((hKH hb).mp h1) w) rfl
    · exact yy_kh K n8 s hs (fun w => absurd hb (nb w)) (fun _ w => absurd ((hKH hb).mpr w) h0) (fun _ _ => ⟨rfl, ck_mk R0⟩) rfl
theorem i_vc_healthy {k : Nat} {u : SX} {v : SY} (I : i_Rel k u v) (hk : k + 3 ≤ 1538) (v1 : Int32) : wpX_healthy (fun r => wpY_healthy (fun r' => r' = r ∧ i_Rel (k + 3) u v) v v1) u v1 := by
  refine ck_el (P := fun u v => wpX_healthy (fun r => wpY_healthy (fun r' => r' = r ∧ i_Rel (k + 3) u v) v v1) u v1) ?_ I
  intro n room dc cc fc ins con ker top lim dO dA dR ow al ri fa re kr cv cn ms si so dr cl fo gd gc rp R
  have R0 := R
  obtain ⟨⟨n2, n8⟩, -, -, -, ⟨c1, c2, c3⟩, X, K⟩ := R
  have h8 := ck_p8 n8
  unfold wpX_healthy
  rcases ck_ps v1 (2 ^ n) (by omega) with hs | ⟨s, hs, rfl⟩
  · exact xx_st0 v1 n8 hs (br_t rfl (ck_b3 hs ⟨rfl, ck_mk R0⟩))
  · obtain ⟨g1, g2⟩ := K.2.1 s hs
    have hv : vp_in (nI s) 256 := vp_in_nI (by omega) (by omega)
    have yes : ck_H n cc ow al ri s → wpY_healthy (fun r' => r' = 1 ∧ i_Rel (k + 3) ((nI n), (nI room), (nI dc), (nI cc), (nI fc), (nI ins), (nI con), (nI ker), (nI top), (nI lim), (ck_a dO), (ck_a dA), (ck_a dR), (ck_a ow), (ck_a al), (ck_a ri), (ck_a fa), (ck_a re), (ck_a kr), (ck_a cv), (ck_a cn), (ck_a ms), (ck_a si), (ck_a so)) ((nI n), (nI room), (nI (2 ^ n)), (ck_a dr), (ck_a dR), (ck_a cl), (ck_a fo), (ck_a gd), (ck_a gc), (ck_a rp))) ((nI n), (nI room), (nI (2 ^ n)), (ck_a dr), (ck_a dR), (ck_a cl), (ck_a fo), (ck_a gd), (ck_a gc), (ck_a rp)) (nI s) := fun h => ck_g3 hs h8 ⟨hv, ck_z (gd s) (ck_ag (by omega)) (by omega) (fun z => by have := g2.mpr h; omega) (fun _ => ⟨rfl, ck_mk R0⟩)⟩
    have no : ¬ ck_H n cc ow al ri s → wpY_healthy (fun r' => r' = 0 ∧ i_Rel (k + 3) ((nI n), (nI room), (nI dc), (nI cc), (nI fc), (nI ins), (nI con), (nI ker), (nI top), (nI lim), (ck_a dO), (ck_a dA), (ck_a dR), (ck_a ow), (ck_a al), (ck_a ri), (ck_a fa), (ck_a re), (ck_a kr), (ck_a cv), (ck_a cn), (ck_a ms), (ck_a si), (ck_a so)) ((nI n), (nI room), (nI (2 ^ n)), (ck_a dr), (ck_a dR), (ck_a cl), (ck_a fo), (ck_a gd), (ck_a gc), (ck_a rp))) ((nI n), (nI room), (nI (2 ^ n)), (ck_a dr), (ck_a dR), (ck_a cl), (ck_a fo), (ck_a gd), (ck_a gc), (ck_a rp)) (nI s) := fun h => ck_g3 hs h8 ⟨hv, ck_z (gd s) (ck_ag (by omega)) (by omega) (fun _ => ⟨rfl, ck_mk R0⟩) (fun z => absurd (g2.mp (by omega)) h)⟩
    refine xx_st1 s n8 hs (br_f (by decide) ?_)
    refine xx_fi s (by omega) n8 (fun p p1 p2 p3 => br_t (nI_pos' (by omega)) (no (fun w => p3 (w.1 p p1 p2)))) (fun hi => br_f (by decide) ?_) rfl
    exact xx_bc s (by omega) c1 (fun i hi => by have := (c2 i hi).1; omega) (fun i i1 i2 i3 => br_f (nI_pos (by omega)) (no (fun w => w.2 i i1 i2 i3))) (fun hu => br_t (by decide) (yes ⟨hi, hu⟩)) rfl
theorem i_vc_coinstallable {k : Nat} {u : SX} {v : SY} (I : i_Rel k u v) (hk : k + 3 ≤ 1538) (v1 : Int32) : wpX_coinstallable (fun r => wpY_coinstallable (fun r' => r' = r ∧ i_Rel (k + 3) u v) v v1) u v1 := by
  refine ck_el (P := fun u v => wpX_coinstallable (fun r => wpY_coinstallable (fun r' => r' = r ∧ i_Rel (k + 3) u v) v v1) u v1) ?_ I
  intro n room dc cc fc ins con ker top lim dO dA dR ow al ri fa re kr cv cn ms si so dr cl fo gd gc rp R
  have R0 := R
  obtain ⟨⟨n2, n8⟩, -, -, -, -, ⟨⟨x0, x1⟩, -⟩, K⟩ := R
  have h8 := ck_p8 n8
  unfold wpX_coinstallable
  rcases ck_ps v1 (2 ^ n) (by omega) with hs | ⟨s, hs, rfl⟩
  · exact xx_st0 v1 n8 hs (br_t rfl (ck_b3 hs ⟨rfl, ck_mk R0⟩))
  · obtain ⟨g1, g2⟩ := K.2.2 s hs
    have hv : vp_in (nI s) 256 := vp_in_nI (by omega) (by omega)
    refine xx_st1 s n8 hs (br_f (by decide) ?_)
    refine xx_wf s (by omega) x0 (fun hw => br_f (by decide) ?_) (fun hw => br_t rfl ?_) rfl
    · exact ck_g3 hs h8 ⟨hv, ck_z (gc s) (ck_ag (by omega)) (by omega) (fun z => by have := g2.mpr ((x1 s).mpr hw); omega) (fun _ => ⟨rfl, ck_mk R0⟩)⟩
    · refine ck_g3 hs h8 ⟨hv, ck_z (gc s) (ck_ag (by omega)) (by omega) (fun _ => ⟨rfl, ck_mk R0⟩) (fun z => ?_)⟩
      obtain ⟨i, hi, e⟩ := (x1 s).mp (g2.mp (by omega))
      exact absurd e (hw i hi)
theorem i_vc_install {k : Nat} {u : SX} {v : SY} (I : i_Rel k u v) (hk : k + 3 ≤ 1538) (v1 : Int32) : wpX_install (fun r u' => wpY_install (fun r' => r' = r ∧ i_Rel (k + 3) u' v) v v1) u v1 := by
  refine ck_el (P := fun u v => wpX_install (fun r u' => wpY_install (fun r' => r' = r ∧ i_Rel (k + 3) u' v) v v1) u v1) ?_ I
  intro n room dc cc fc ins con ker top lim dO dA dR ow al ri fa re kr cv cn ms si so dr cl fo gd gc rp R
  have R0 := R
  obtain ⟨⟨n2, n8⟩, r24, D, V, ⟨c1, c2, c3⟩, X, K⟩ := R
  have X0 := X
  obtain ⟨⟨x0, x1⟩, ⟨x2, x3⟩, -⟩ := X
  have h8 := ck_p8 n8
  rcases ck_ps v1 (2 ^ n) (by omega) with hs | ⟨s, hs, rfl⟩
  · unfold wpX_install
    exact xx_st0 v1 n8 hs (br_t rfl (ck_b3 hs ⟨rfl, ck_mk R0⟩))
  · refine xx_in n8 c1 (fun i hi => (c2 i hi).1) (fun i hi => (c2 i hi).2) c3 (ck_hin x3) s hs x0 (x1 s) (fun h0 => ?_) (fun mm top' lim' si' so' hL => ?_) rfl
    · exact yy_in K n8 s hs (fun m hm => absurd hm.2.1 (h0 m hm.1)) (fun _ => ⟨rfl, ck_mk R0⟩) rfl
    · exact yy_in K n8 s hs (fun m hm => ⟨congrArg nI (ck_LMu hm hL), ck_mk ⟨⟨n2, n8⟩, r24, D, V, ⟨c1, c2, c3⟩, X0, K⟩⟩) (fun h0 => absurd hL.2.1 (h0 mm hL.1)) rfl
end
