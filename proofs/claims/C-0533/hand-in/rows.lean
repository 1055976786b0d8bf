section
section TZA
/-! A: numbers, stores, counts (the pk_ rows began as rows of kit/rows) -/
theorem pk_us {f : Nat → Int32} {k : Nat} {x : Int32} : upd f k x k = x := if_pos rfl
theorem pk_un {f : Nat → Int32} {k j : Nat} {x : Int32} (h : j ≠ k) : upd f k x j = f j := if_neg h
theorem pk_m1 (n : Nat) : nI (n + 1) + (-1) = nI n := by
  rw [← nI_1, Int32.add_assoc, show (1 : Int32) + (-1) = 0 from rfl, Int32.add_zero]
theorem pk_ix (x : Int32) {n : Nat} (hn : n < 2 ^ 31) : x < 0 ∨ nI n ≤ x ∨ ∃ j : Nat, j < n ∧ x = nI j := by
  by_cases h : x < 0
  · exact Or.inl h
  · obtain ⟨j, hj, rfl⟩ := nI_of h
    by_cases h2 : j < n
    · exact Or.inr (Or.inr ⟨j, h2, rfl⟩)
    · exact Or.inr (Or.inl (nI_le (by omega) hj))
theorem pk_le {x y : Int32} {A B : Prop} (a b : Nat) (f : a ≤ b → A) (g : b < a → B) (hx : x = nI a := by rfl) (hy : y = nI b := by rfl) (ha : a < 2 ^ 31 := by omega) (hb : b < 2 ^ 31 := by omega) : (x ≤ y → A) ∧ (¬ x ≤ y → B) := by
  subst hx hy
  rw [nI_leI ha hb]
  exact ⟨f, fun z => g (by omega)⟩
theorem pk_lt {x y : Int32} {A B : Prop} (a b : Nat) (f : a < b → A) (g : b ≤ a → B) (hx : x = nI a := by rfl) (hy : y = nI b := by rfl) (ha : a < 2 ^ 31 := by omega) (hb : b < 2 ^ 31 := by omega) : (x < y → A) ∧ (¬ x < y → B) := by
  subst hx hy
  rw [nI_ltI ha hb]
  exact ⟨f, fun z => g (by omega)⟩
theorem pk_tn {n : Nat} (h : n < 2 ^ 32) : (nI n).toBitVec.toNat = n := Nat.mod_eq_of_lt h
theorem pk_and (x : Int32) {m : Int32} (k : Nat) (hm : m.toBitVec.toNat = 2 ^ k - 1) : x &&& m = nI (x.toBitVec.toNat % 2 ^ k) := by
  apply Int32.toBitVec_inj.mp
  apply BitVec.eq_of_toNat_eq
  rw [Int32.toBitVec_and, BitVec.toNat_and, hm, Nat.and_two_pow_sub_one_eq_mod]
  show _ = (BitVec.ofNat 32 _).toNat
  rw [BitVec.toNat_ofNat]
  exact (Nat.mod_eq_of_lt (Nat.lt_of_le_of_lt (Nat.mod_le _ _) x.toBitVec.isLt)).symm
theorem tz_and3 (x : Int32) : x &&& 3 = 0 ∨ x &&& 3 = 1 ∨ x &&& 3 = 2 ∨ x &&& 3 = 3 := by
  rw [pk_and x (m := 3) 2 (by decide)]
  have h : x.toBitVec.toNat % 2 ^ 2 < 4 := Nat.mod_lt _ (by decide)
  generalize x.toBitVec.toNat % 2 ^ 2 = m at h
  have : m = 0 ∨ m = 1 ∨ m = 2 ∨ m = 3 := by omega
  rcases this with rfl | rfl | rfl | rfl
  · exact Or.inl rfl
  · exact Or.inr (Or.inl rfl)
  · exact Or.inr (Or.inr (Or.inl rfl))
  · exact Or.inr (Or.inr (Or.inr rfl))
theorem tz_vb0 : vp_nar .boolean 0 = 0 := by decide
theorem tz_vb1 : vp_nar .boolean 1 = 1 := by decide
theorem tz_n1lt : (-1 : Int32) < 0 := by decide
theorem tz_n1le : ¬ (0 : Int32) ≤ -1 := by decide
theorem tz_ne1 {a : Nat} (h : a < 2 ^ 31) : ¬ nI a = -1 := by
  intro e
  have := nI_pos (n := a) h
  rw [e] at this
  exact this tz_n1lt
theorem tz_im {a b : Nat} (h : nI a = nI b) (ha : a < 2 ^ 31) (hb : b < 2 ^ 31) : a = b := (nI_eq ha hb).mp h
theorem tz_nn {a b : Nat} (h : a ≠ b) (ha : a < 2 ^ 31) (hb : b < 2 ^ 31) : ¬ nI a = nI b := fun e => h (tz_im e ha hb)
/-- an argument: below, above, or a number of a node -/
theorem tz_arg (x : Int32) : x < 0 ∨ (¬ x < 0 ∧ ¬ x ≤ 30 ∧ 31 ≤ x) ∨ ∃ j : Nat, j < 31 ∧ x = nI j := by
  rcases pk_ix x (n := 31) (by omega) with h | h | h
  · exact Or.inl h
  · refine Or.inr (Or.inl ⟨?_, ?_, h⟩)
    · intro z
      have h2 : (nI 31).toInt ≤ x.toInt := Int32.le_iff_toInt_le.mp h
      have h3 : x.toInt < (0 : Int32).toInt := Int32.lt_iff_toInt_lt.mp z
      rw [nI_toInt (by omega)] at h2
      rw [show (0 : Int32).toInt = 0 from by decide] at h3
      omega
    · intro z
      have h2 : (nI 31).toInt ≤ x.toInt := Int32.le_iff_toInt_le.mp h
      have h3 : x.toInt ≤ (30 : Int32).toInt := Int32.le_iff_toInt_le.mp z
      rw [nI_toInt (by omega)] at h2
      rw [show (30 : Int32).toInt = 30 from by decide] at h3
      omega
  · exact Or.inr (Or.inr h)
/-- the number that an array holds -/
def tz_c (a : Nat → Int32) (j : Nat) : Nat := (a j).toNatClampNeg
theorem tz_c_of {a : Nat → Int32} {j n : Nat} (h : a j = nI n) (hn : n < 2 ^ 31) : tz_c a j = n := by
  unfold tz_c; rw [h]; exact nI_clamp hn
theorem tz_c_us {a : Nat → Int32} {k n : Nat} (hn : n < 2 ^ 31) : tz_c (upd a k (nI n)) k = n := tz_c_of pk_us hn
theorem tz_c_un {a : Nat → Int32} {k j : Nat} {x : Int32} (h : j ≠ k) : tz_c (upd a k x) j = tz_c a j := by
  unfold tz_c; rw [pk_un h]

/-! counting -/
def tz_cn (P : Nat → Bool) : Nat → Nat
  | 0 => 0
  | n + 1 => tz_cn P n + (if P n = true then 1 else 0)
theorem tz_cn_s (P : Nat → Bool) (n : Nat) : tz_cn P (n + 1) = tz_cn P n + (if P n = true then 1 else 0) := rfl
theorem tz_cn_mono {P Q : Nat → Bool} : ∀ {n : Nat}, (∀ i, i < n → P i = true → Q i = true) → tz_cn P n ≤ tz_cn Q n := by
  intro n
  induction n with
  | zero => intro _; exact Nat.le_refl _
  | succ n ih =>
    intro h
    have h1 := ih (fun i hi => h i (by omega))
    have h2 := h n (by omega)
    rw [tz_cn_s, tz_cn_s]
    by_cases hp : P n = true
    · rw [if_pos hp, if_pos (h2 hp)]; omega
    · rw [if_neg hp]; omega
theorem tz_cn_congr {P Q : Nat → Bool} {n : Nat} (h : ∀ i, i < n → P i = Q i) : tz_cn P n = tz_cn Q n :=
  Nat.le_antisymm (tz_cn_mono fun i hi hp => by rw [← h i hi]; exact hp) (tz_cn_mono fun i hi hp => by rw [h i hi]; exact hp)
theorem tz_cn_le (P : Nat → Bool) : ∀ n, tz_cn P n ≤ n := by
  intro n
  induction n with
  | zero => exact Nat.le_refl _
  | succ n ih => rw [tz_cn_s]; split <;> omega
theorem tz_cn_ins {P Q : Nat → Bool} {i : Nat} (hP : P i = false) (hQ : Q i = true) : ∀ {n : Nat}, i < n → (∀ j, j < n → j ≠ i → Q j = P j) → tz_cn Q n = tz_cn P n + 1 := by
  intro n
  induction n with
  | zero => intro h; omega
  | succ n ih =>
    intro hi h
    rw [tz_cn_s, tz_cn_s]
    by_cases e : i = n
    · subst e
      have := tz_cn_congr (P := Q) (Q := P) (n := i) (fun j hj => h j (by omega) (by omega))
      rw [this, hP, hQ, if_pos rfl, if_neg (by decide)]
    · rw [ih (by omega) (fun j hj hne => h j (by omega) hne), h n (by omega) (fun z => e z.symm)]
      omega
theorem tz_cn_pos {P : Nat → Bool} {i : Nat} (hP : P i = true) : ∀ {n : Nat}, i < n → 0 < tz_cn P n := by
  intro n
  induction n with
  | zero => intro h; omega
  | succ n ih =>
    intro hi
    rw [tz_cn_s]
    by_cases e : i = n
    · subst e; rw [if_pos hP]; omega
    · have := ih (by omega); omega
theorem tz_cn_ex {P : Nat → Bool} : ∀ {n : Nat}, tz_cn P n < n → ∃ i, i < n ∧ P i = false := by
  intro n
  induction n with
  | zero => intro h; omega
  | succ n ih =>
    intro h
    rw [tz_cn_s] at h
    by_cases hp : P n = true
    · rw [if_pos hp] at h
      obtain ⟨i, hi, e⟩ := ih (by omega)
      exact ⟨i, by omega, e⟩
    · exact ⟨n, by omega, by simpa using hp⟩
/-- the least free number -/
theorem tz_cn_least {P : Nat → Bool} : ∀ {n : Nat}, (∃ i, i < n ∧ P i = false) → ∃ i, i < n ∧ P i = false ∧ ∀ j, j < i → P j = true := by
  intro n
  induction n with
  | zero => rintro ⟨i, hi, _⟩; omega
  | succ n ih =>
    rintro ⟨i, hi, e⟩
    by_cases h : ∃ j, j < n ∧ P j = false
    · obtain ⟨j, hj, e1, e2⟩ := ih h
      exact ⟨j, by omega, e1, e2⟩
    · have hall : ∀ j, j < n → P j = true := by
        intro j hj
        cases hq : P j with
        | true => rfl
        | false => exact absurd ⟨j, hj, hq⟩ h
      have : i = n := by
        by_cases hn : i < n
        · have := hall i hn; rw [e] at this; exact absurd this (by decide)
        · omega
      subst this
      exact ⟨i, by omega, e, hall⟩
/-- the one of greatest rank -/
theorem tz_max (P : Nat → Bool) (d : Nat → Nat) : ∀ N, (∃ i, i < N ∧ P i = true) → ∃ i, i < N ∧ P i = true ∧ ∀ j, j < N → P j = true → d j ≤ d i := by
  intro N
  induction N with
  | zero => rintro ⟨i, hi, _⟩; omega
  | succ N ih =>
    rintro ⟨i, hi, e⟩
    by_cases h : ∃ j, j < N ∧ P j = true
    · obtain ⟨j, hj, e1, e2⟩ := ih h
      by_cases hN : P N = true ∧ d j < d N
      · refine ⟨N, by omega, hN.1, fun m hm pm => ?_⟩
        by_cases hmN : m = N
        · rw [hmN]; exact Nat.le_refl _
        · have := e2 m (by omega) pm; omega
      · refine ⟨j, by omega, e1, fun m hm pm => ?_⟩
        by_cases hmN : m = N
        · subst hmN
          have : ¬ d j < d m := fun z => hN ⟨pm, z⟩
          omega
        · exact e2 m (by omega) pm
    · have hiN : i = N := by
        by_cases hn : i < N
        · exact absurd ⟨i, hn, e⟩ h
        · omega
      subst hiN
      refine ⟨i, by omega, e, fun m hm pm => ?_⟩
      by_cases hmN : m = i
      · rw [hmN]; exact Nat.le_refl _
      · exact absurd ⟨m, by omega, pm⟩ h
end TZA
end
section
section TZB
/-! B: what a joint works out, what a step works out -/
def tz_calc (s x y : Int32) : Int32 := if s = 0 then x + y else if s = 1 then x * y else if s = 2 then x - y else y - x
def tz_ord (il s leaf other : Int32) : Int32 := if il = 0 then tz_calc s other leaf else tz_calc s leaf other
/-- the joint is turned round: its other child is taken off -/
def tz_ng (s il : Int32) : Int32 := if s = 2 then (if il = 0 then 0 else 1) else if s = 3 then (if il = 0 then 1 else 0) else 0
def tz_oF (s il x : Int32) : Int32 := if s = 1 then x else if tz_ng s il = 0 then 1 else -1
def tz_oS (s il x : Int32) : Int32 := if s = 1 then 0 else if s = 0 then x else if tz_ng s il = 0 then -x else x
def tz_oC (s x : Int32) : Int32 := if s = 1 then x else 0
def tz_S4 (s : Int32) : Prop := s = 0 ∨ s = 1 ∨ s = 2 ∨ s = 3
theorem tz_oFS {s : Int32} (hs : tz_S4 s) (il x y : Int32) : tz_oF s il x * y + tz_oS s il x = tz_ord il s x y := by
  rcases hs with rfl | rfl | rfl | rfl <;> by_cases h : il = 0 <;> simp [tz_oF, tz_oS, tz_ng, tz_ord, tz_calc, h] <;> grind
theorem tz_oF_add (s il x c : Int32) : tz_oF s il (x + c) = tz_oF s il x + tz_oC s c := by
  unfold tz_oF tz_oC
  by_cases h : s = 1
  · rw [if_pos h, if_pos h, if_pos h]
  · rw [if_neg h, if_neg h, if_neg h, Int32.add_zero]
theorem tz_oS_add (s il x c : Int32) : tz_oS s il (x + c) = tz_oS s il x + tz_oS s il c := by
  unfold tz_oS
  by_cases h : s = 1
  · rw [if_pos h, if_pos h, if_pos h]; rfl
  · rw [if_neg h, if_neg h, if_neg h]
    by_cases h0 : s = 0
    · rw [if_pos h0, if_pos h0, if_pos h0]
    · rw [if_neg h0, if_neg h0, if_neg h0]
      by_cases hi : tz_ng s il = 0
      · rw [if_pos hi, if_pos hi, if_pos hi]; grind
      · rw [if_neg hi, if_neg hi, if_neg hi]
theorem tz_oC_0 (s : Int32) : tz_oC s 0 = 0 := by unfold tz_oC; split <;> rfl
theorem tz_oS_0 (s il : Int32) : tz_oS s il 0 = 0 := by
  have h := tz_oS_add s il 0 0
  rw [Int32.add_zero] at h
  grind

/-- a step: its leaf, joint, other child, the three slots, and whether the leaf is the left child -/
abbrev tz_R : Type := Nat × Nat × Nat × Nat × Nat × Nat × Int32
def tz_G (lA jA oA lS jS oS iL : Nat → Int32) (e : Nat) : tz_R := (tz_c lA e, tz_c jA e, tz_c oA e, tz_c lS e, tz_c jS e, tz_c oS e, iL e)
/-- the equations of a step's function -/
def tz_WE (w s F S : Nat → Int32) (g : tz_R) (k : Nat) : Prop := match g with
  | (l, p, _, ls, js, os, il) => F k = F js * tz_oF (s p) il (F ls * w l + S ls) * F os ∧ S k = F js * (tz_oF (s p) il (F ls * w l + S ls) * S os + tz_oS (s p) il (F ls * w l + S ls)) + S js
/-- what a step writes -/
def tz_nF (w s F S : Nat → Int32) (g : tz_R) : Int32 := match g with
  | (l, p, _, ls, js, os, il) => F js * tz_oF (s p) il (F ls * w l + S ls) * F os
def tz_nS (w s F S : Nat → Int32) (g : tz_R) : Int32 := match g with
  | (l, p, _, ls, js, os, il) => F js * (tz_oF (s p) il (F ls * w l + S ls) * S os + tz_oS (s p) il (F ls * w l + S ls)) + S js
/-- the change of a step's leaf -/
def tz_ch (nd : Nat) (w F dF dS : Nat → Int32) (l ls : Nat) : Int32 := dF ls * w l + (if l = nd then F ls else 0) + dS ls
/-- the equations of a step's change -/
def tz_CE (nd : Nat) (w s F S dF dS : Nat → Int32) (g : tz_R) (k : Nat) : Prop := match g with
  | (l, p, _, ls, js, os, il) =>
    dF k = dF js * tz_oF (s p) il (F ls * w l + S ls) * F os + F js * tz_oC (s p) (tz_ch nd w F dF dS l ls) * F os + F js * tz_oF (s p) il (F ls * w l + S ls) * dF os ∧
    dS k = dF js * (tz_oF (s p) il (F ls * w l + S ls) * S os + tz_oS (s p) il (F ls * w l + S ls)) + F js * (tz_oC (s p) (tz_ch nd w F dF dS l ls) * S os + tz_oF (s p) il (F ls * w l + S ls) * dS os + tz_oS (s p) il (tz_ch nd w F dF dS l ls)) + dS js
/-- the function of a step: first the other's, then the joint, then the one above the joint -/
theorem tz_WE_ap {w s F S : Nat → Int32} {l p o ls js os k : Nat} {il : Int32} (hs : tz_S4 (s p)) (h : tz_WE w s F S (l, p, o, ls, js, os, il) k) (x : Int32) : F k * x + S k = F js * tz_ord il (s p) (F ls * w l + S ls) (F os * x + S os) + S js := by
  obtain ⟨h1, h2⟩ := h
  rw [h1, h2, ← tz_oFS hs]
  generalize tz_oF (s p) il (F ls * w l + S ls) = a
  generalize tz_oS (s p) il (F ls * w l + S ls) = b
  grind
/-- no change at all -/
theorem tz_CE_0 {nd : Nat} {w s F S dF dS : Nat → Int32} {l p o ls js os k : Nat} {il : Int32} (h : tz_CE nd w s F S dF dS (l, p, o, ls, js, os, il) k) (hc : tz_ch nd w F dF dS l ls = 0) (h1 : dF js = 0) (h2 : dS js = 0) (h3 : dF os = 0) (h4 : dS os = 0) : dF k = 0 ∧ dS k = 0 := by
  obtain ⟨a, b⟩ := h
  rw [hc, tz_oC_0, h1, h3] at a
  rw [hc, tz_oC_0, tz_oS_0, h1, h2, h4] at b
  constructor
  · rw [a]; grind
  · rw [b]; grind
/-- at most one of the three depends on the leaf: the new functions satisfy the equations too -/
theorem tz_CE_WE {nd : Nat} {w w' s F S dF dS : Nat → Int32} {l p o ls js os k : Nat} {il : Int32} (hW : tz_WE w s F S (l, p, o, ls, js, os, il) k) (h : tz_CE nd w s F S dF dS (l, p, o, ls, js, os, il) k)
    (hw : F ls * w' l = F ls * w l + (if l = nd then F ls else 0)) (hw2 : dF ls * w' l = dF ls * w l)
    (hz : (tz_ch nd w F dF dS l ls = 0 ∧ dF js = 0 ∧ dS js = 0) ∨ (tz_ch nd w F dF dS l ls = 0 ∧ dF os = 0 ∧ dS os = 0) ∨ (dF js = 0 ∧ dS js = 0 ∧ dF os = 0 ∧ dS os = 0)) :
    tz_WE w' s (fun i => F i + dF i) (fun i => S i + dS i) (l, p, o, ls, js, os, il) k := by
  have e : (F ls + dF ls) * w' l + (S ls + dS ls) = (F ls * w l + S ls) + tz_ch nd w F dF dS l ls := by
    unfold tz_ch
    generalize (if l = nd then F ls else (0 : Int32)) = q at hw ⊢
    grind
  obtain ⟨a, b⟩ := h
  obtain ⟨c, d⟩ := hW
  show (F k + dF k) = (F js + dF js) * tz_oF (s p) il ((F ls + dF ls) * w' l + (S ls + dS ls)) * (F os + dF os) ∧ (S k + dS k) = (F js + dF js) * (tz_oF (s p) il ((F ls + dF ls) * w' l + (S ls + dS ls)) * (S os + dS os) + tz_oS (s p) il ((F ls + dF ls) * w' l + (S ls + dS ls))) + (S js + dS js)
  rw [e, tz_oF_add, tz_oS_add, a, b, c, d]
  generalize tz_ch nd w F dF dS l ls = q at *
  generalize tz_oF (s p) il (F ls * w l + S ls) = f1 at *
  generalize tz_oS (s p) il (F ls * w l + S ls) = f2 at *
  rcases hz with ⟨h0, h1, h2⟩ | ⟨h0, h1, h2⟩ | ⟨h1, h2, h3, h4⟩
  · rw [h0, tz_oC_0, tz_oS_0, h1, h2]
    constructor <;> grind
  · rw [h0, tz_oC_0, tz_oS_0, h1, h2]
    constructor <;> grind
  · rw [h1, h2, h3, h4]
    generalize tz_oC (s p) q = f3
    generalize tz_oS (s p) il q = f4
    constructor <;> grind
end TZB
end
section
section TZC
/-! C: the tree as local facts; taking a leaf and its joint away -/
def tz_PT (K : Nat → Int32) (d l r q : Nat → Nat) (A : Nat → Bool) (tp : Nat) : Prop :=
  A tp = true ∧ (∀ n, A n = true → n < 31 ∧ (K n = 1 ∨ K n = 2)) ∧
  (∀ j, A j = true → K j = 2 → A (l j) = true ∧ A (r j) = true ∧ l j ≠ r j ∧ q (l j) = j ∧ q (r j) = j ∧ l j ≠ tp ∧ r j ≠ tp ∧ d j < d (l j) ∧ d j < d (r j)) ∧
  (∀ n, A n = true → n ≠ tp → A (q n) = true ∧ K (q n) = 2 ∧ (l (q n) = n ∨ r (q n) = n))
def tz_rm (A : Nat → Bool) (p x : Nat) : Nat → Bool := fun n => A n && (decide (n ≠ p) && decide (n ≠ x))
theorem tz_rm_iff {A : Nat → Bool} {p x n : Nat} : tz_rm A p x n = true ↔ A n = true ∧ n ≠ p ∧ n ≠ x := by
  unfold tz_rm
  rw [Bool.and_eq_true, Bool.and_eq_true, decide_eq_true_iff, decide_eq_true_iff]
/-- the facts around a joint, its leaf x and its other child o -/
def tz_XO (d : Nat → Nat) (l r q : Nat → Nat) (A : Nat → Bool) (tp p x o : Nat) : Prop :=
  A x = true ∧ A o = true ∧ x ≠ o ∧ q x = p ∧ q o = p ∧ x ≠ tp ∧ o ≠ tp ∧ d p < d o ∧ x ≠ p ∧ o ≠ p ∧ (∀ n, l p = n ∨ r p = n → n = x ∨ n = o)
theorem tz_xo {K : Nat → Int32} {d l r q : Nat → Nat} {A : Nat → Bool} {tp p x o : Nat} (h : tz_PT K d l r q A tp) (hp : A p = true) (hJ : K p = 2) (hl : K x = 1)
    (hx : (x = l p ∧ o = r p) ∨ (x = r p ∧ o = l p)) : tz_XO d l r q A tp p x o := by
  obtain ⟨t1, t2, t3, t4⟩ := h
  obtain ⟨a1, a2, a3, a4, a5, a6, a7, a8, a9⟩ := t3 p hp hJ
  have hxp : x ≠ p := by
    intro e; rw [e, hJ] at hl; exact absurd hl (by decide)
  rcases hx with ⟨e1, e2⟩ | ⟨e1, e2⟩
  · subst e1 e2
    refine ⟨a1, a2, a3, a4, a5, a6, a7, a9, hxp, ?_, ?_⟩
    · intro e; rw [e] at a9; omega
    · rintro n (e | e)
      · exact Or.inl e.symm
      · exact Or.inr e.symm
  · subst e1 e2
    refine ⟨a2, a1, fun e => a3 e.symm, a5, a4, a7, a6, a8, hxp, ?_, ?_⟩
    · intro e; rw [e] at a8; omega
    · rintro n (e | e)
      · exact Or.inr e.symm
      · exact Or.inl e.symm
/-- the links with p replaced by o -/
def tz_LK (K : Nat → Int32) (A : Nat → Bool) (p o : Nat) (l l' : Nat → Nat) : Prop :=
  ∀ j, A j = true → K j = 2 → j ≠ p → (l j = p → l' j = o) ∧ (l j ≠ p → l' j = l j)
theorem tz_PT_sp {K : Nat → Int32} {d l r q l' r' q' : Nat → Nat} {A : Nat → Bool} {tp p x o tp' : Nat} (h : tz_PT K d l r q A tp) (hp : A p = true) (hJ : K p = 2) (hl : K x = 1)
    (hX : tz_XO d l r q A tp p x o) (ht : (p = tp → tp' = o) ∧ (p ≠ tp → tp' = tp))
    (hL : tz_LK K A p o l l') (hR : tz_LK K A p o r r')
    (hQ : ∀ n, A n = true → n ≠ p → n ≠ x → n ≠ tp' → (n = o → q' n = q p) ∧ (n ≠ o → q' n = q n)) : tz_PT K d l' r' q' (tz_rm A p x) tp' := by
  obtain ⟨t1, t2, t3, t4⟩ := h
  obtain ⟨x1, x2, x3, x4, x5, x6, x7, x8, x9, x10, x11⟩ := hX
  -- a child of another joint
  have ch : ∀ j c c', A j = true → K j = 2 → j ≠ p → A c = true → q c = j → c ≠ tp → d j < d c → ((c = p → c' = o) ∧ (c ≠ p → c' = c)) → tz_rm A p x c' = true ∧ q' c' = j ∧ c' ≠ tp' ∧ d j < d c' ∧ (c' = o → c = p) := by
    intro j c c' aj kj jp ac qc ct dc hc
    by_cases e : c = p
    · have e2 := hc.1 e
      subst e2
      have hpt : p ≠ tp := fun z => ct (e.trans z)
      have htp := ht.2 hpt
      have h1 : c' ≠ tp' := fun z => x7 (z.trans htp)
      refine ⟨tz_rm_iff.mpr ⟨x2, x10, fun z => x3 z.symm⟩, ?_, h1, ?_, fun _ => e⟩
      · rw [(hQ c' x2 x10 (fun z => x3 z.symm) h1).1 rfl, ← e]; exact qc
      · rw [e] at dc; omega
    · have e2 := hc.2 e
      subst e2
      have hcx : c' ≠ x := fun z => jp (by rw [← qc, z]; exact x4)
      have hco : c' ≠ o := fun z => jp (by rw [← qc, z]; exact x5)
      have h1 : c' ≠ tp' := by
        by_cases hpt : p = tp
        · rw [ht.1 hpt]; exact hco
        · rw [ht.2 hpt]; exact ct
      refine ⟨tz_rm_iff.mpr ⟨ac, e, hcx⟩, ?_, h1, dc, fun z => absurd z hco⟩
      rw [(hQ c' ac e hcx h1).2 hco]; exact qc
  refine ⟨?_, ?_, ?_, ?_⟩
  · by_cases hpt : p = tp
    · rw [ht.1 hpt]; exact tz_rm_iff.mpr ⟨x2, x10, fun z => x3 z.symm⟩
    · rw [ht.2 hpt]; exact tz_rm_iff.mpr ⟨t1, fun z => hpt z.symm, fun z => x6 z.symm⟩
  · intro n hn
    exact t2 n (tz_rm_iff.mp hn).1
  · intro j hj kj
    obtain ⟨aj, jp, jx⟩ := tz_rm_iff.mp hj
    obtain ⟨b1, b2, b3, b4, b5, b6, b7, b8, b9⟩ := t3 j aj kj
    have c1 := ch j (l j) (l' j) aj kj jp b1 b4 b6 b8 (hL j aj kj jp)
    have c2 := ch j (r j) (r' j) aj kj jp b2 b5 b7 b9 (hR j aj kj jp)
    refine ⟨c1.1, c2.1, ?_, c1.2.1, c2.2.1, c1.2.2.1, c2.2.2.1, c1.2.2.2.1, c2.2.2.2.1⟩
    intro e
    by_cases el : l j = p
    · have h1 : l' j = o := (hL j aj kj jp).1 el
      have h2 : r j = p := c2.2.2.2.2 (e.symm.trans h1)
      exact b3 (el.trans h2.symm)
    · have h1 : l' j = l j := (hL j aj kj jp).2 el
      by_cases er : r j = p
      · have h2 : r' j = o := (hR j aj kj jp).1 er
        exact el (c1.2.2.2.2 (e.trans h2))
      · have h2 : r' j = r j := (hR j aj kj jp).2 er
        exact b3 (by rw [← h1, ← h2]; exact e)
  · intro n hn nt
    obtain ⟨an, np, nx⟩ := tz_rm_iff.mp hn
    by_cases no : n = o
    · subst no
      have hpt : p ≠ tp := fun z => nt (ht.1 z).symm
      obtain ⟨c1, c2, c3⟩ := t4 p hp hpt
      have hqp : q p ≠ p := by
        intro z
        obtain ⟨b1, b2, b3, b4, b5, b6, b7, b8, b9⟩ := t3 (q p) c1 c2
        rcases c3 with c3 | c3
        · rw [c3, z] at b8; omega
        · rw [c3, z] at b9; omega
      have hqx : q p ≠ x := fun z => by rw [z, hl] at c2; exact absurd c2 (by decide)
      have e := (hQ n an np nx nt).1 rfl
      rw [e]
      refine ⟨tz_rm_iff.mpr ⟨c1, hqp, hqx⟩, c2, ?_⟩
      rcases c3 with c3 | c3
      · exact Or.inl ((hL (q p) c1 c2 hqp).1 c3)
      · exact Or.inr ((hR (q p) c1 c2 hqp).1 c3)
    · have nt2 : n ≠ tp := by
        by_cases hpt : p = tp
        · rw [← hpt]; exact np
        · rw [← ht.2 hpt]; exact nt
      obtain ⟨c1, c2, c3⟩ := t4 n an nt2
      have hqp : q n ≠ p := by
        intro z
        rw [z] at c3
        rcases x11 n c3 with e | e
        · exact nx e
        · exact no e
      have hqx : q n ≠ x := fun z => by rw [z, hl] at c2; exact absurd c2 (by decide)
      rw [(hQ n an np nx nt).2 no]
      refine ⟨tz_rm_iff.mpr ⟨c1, hqp, hqx⟩, c2, ?_⟩
      rcases c3 with c3 | c3
      · exact Or.inl (((hL (q n) c1 c2 hqp).2 (by rw [c3]; exact np)).trans c3)
      · exact Or.inr (((hR (q n) c1 c2 hqp).2 (by rw [c3]; exact np)).trans c3)
/-- if the top is no joint, none is left -/
theorem tz_PT_end {K : Nat → Int32} {d l r q : Nat → Nat} {A : Nat → Bool} {tp : Nat} (h : tz_PT K d l r q A tp) (ht : K tp ≠ 2) : ∀ m n, d n < m → A n = true → K n ≠ 2 := by
  obtain ⟨t1, t2, t3, t4⟩ := h
  intro m
  induction m with
  | zero => intro n hn; omega
  | succ m ih =>
    intro n hn an kn
    have nt : n ≠ tp := fun e => ht (by rw [← e]; exact kn)
    obtain ⟨c1, c2, c3⟩ := t4 n an nt
    obtain ⟨b1, b2, b3, b4, b5, b6, b7, b8, b9⟩ := t3 (q n) c1 c2
    refine ih (q n) ?_ c1 c2
    rcases c3 with c3 | c3
    · rw [c3] at b8; omega
    · rw [c3] at b9; omega

/-! the two laws of a contraction, for all values -/
def tz_TE (K : Nat → Int32) (lf rt : Nat → Nat) (w s v : Nat → Int32) : Prop := ∀ n, n < 31 → (K n = 1 → v n = w n) ∧ (K n = 2 → v n = tz_calc (s n) (v (lf n)) (v (rt n)))
def tz_BS (F S : Nat → Int32) : Prop := ∀ n, n < 31 → F n = 1 ∧ S n = 0
def tz_SR (s : Nat → Int32) : Prop := ∀ n, n < 31 → tz_S4 (s n)
def tz_SV (w s F S v : Nat → Int32) (g : tz_R) : Prop := match g with
  | (l, p, o, ls, _, os, il) => v p = tz_ord il (s p) (F ls * w l + S ls) (F os * v o + S os)
def tz_SEM (K : Nat → Int32) (lf rt : Nat → Nat) (G : Nat → tz_R) (T : Nat) (A : Nat → Bool) (l r sl : Nat → Nat) (tp : Nat) : Prop :=
  ∀ w s F S v : Nat → Int32, tz_SR s → tz_BS F S → (∀ e, e < T → tz_WE w s F S (G e) (31 + e)) → tz_TE K lf rt w s v →
    (∀ e, e < T → tz_SV w s F S v (G e)) ∧
    (∀ p, A p = true → K p = 2 → v p = tz_calc (s p) (F (sl (l p)) * v (l p) + S (sl (l p))) (F (sl (r p)) * v (r p) + S (sl (r p)))) ∧
    v 0 = F (sl tp) * v tp + S (sl tp)
theorem tz_SEM_0 {K : Nat → Int32} {d lf rt q l r sl : Nat → Nat} {G : Nat → tz_R} {A : Nat → Bool} (h : tz_PT K d lf rt q A 0)
    (hl : ∀ j, A j = true → K j = 2 → l j = lf j ∧ r j = rt j) (hs : ∀ n, A n = true → sl n = n) : tz_SEM K lf rt G 0 A l r sl 0 := by
  obtain ⟨t1, t2, t3, t4⟩ := h
  intro w s F S v _ hb _ hT
  have ap : ∀ n, A n = true → F (sl n) * v n + S (sl n) = v n := by
    intro n an
    obtain ⟨e1, e2⟩ := hb n (t2 n an).1
    rw [hs n an, e1, e2]; grind
  refine ⟨fun e he => by omega, ?_, (ap 0 t1).symm⟩
  intro p ap1 kp
  obtain ⟨b1, b2, -⟩ := t3 p ap1 kp
  rw [(hl p ap1 kp).1, (hl p ap1 kp).2, ap _ b1, ap _ b2]
  exact (hT p (t2 p ap1).1).2 kp
theorem tz_SEM_st {K : Nat → Int32} {d lf rt l r q l' r' sl sl' : Nat → Nat} {G G' : Nat → tz_R} {T : Nat} {A : Nat → Bool} {tp p x o tp' : Nat} {il : Int32} (h : tz_PT K d l r q A tp) (hp : A p = true) (hJ : K p = 2) (hl : K x = 1)
    (hx : (il ≠ 0 ∧ x = l p ∧ o = r p) ∨ (il = 0 ∧ x = r p ∧ o = l p))
    (hX : tz_XO d l r q A tp p x o) (ht : (p = tp → tp' = o) ∧ (p ≠ tp → tp' = tp))
    (hL : tz_LK K A p o l l') (hR : tz_LK K A p o r r')
    (hs : ∀ n, A n = true → (n = o → sl' n = 31 + T) ∧ (n ≠ o → sl' n = sl n))
    (hG : ∀ e, e < T → G' e = G e) (hGT : G' T = (x, p, o, sl x, sl p, sl o, il))
    (hS : tz_SEM K lf rt G T A l r sl tp) : tz_SEM K lf rt G' (T + 1) (tz_rm A p x) l' r' sl' tp' := by
  intro w s F S v h1 h2 h3 h4
  obtain ⟨s1, s2, s3⟩ := hS w s F S v h1 h2 (fun e he => by rw [← hG e he]; exact h3 e (by omega)) h4
  obtain ⟨t1, t2, t3, t4⟩ := h
  obtain ⟨x1, x2, x3, x4, x5, x6, x7, x8, x9, x10, x11⟩ := hX
  have hv : v x = w x := (h4 x (t2 x x1).1).1 hl
  have hS4 : tz_S4 (s p) := h1 p (t2 p hp).1
  have hvp : v p = tz_ord il (s p) (F (sl x) * w x + S (sl x)) (F (sl o) * v o + S (sl o)) := by
    have e := s2 p hp hJ
    rcases hx with ⟨hi, e1, e2⟩ | ⟨hi, e1, e2⟩
    · rw [e, ← e1, ← e2, hv]; unfold tz_ord; rw [if_neg hi]
    · rw [e, ← e1, ← e2, hv]; unfold tz_ord; rw [if_pos hi]
  have hT := h3 T (by omega)
  rw [hGT] at hT
  have hap : F (31 + T) * v o + S (31 + T) = F (sl p) * v p + S (sl p) := by
    rw [tz_WE_ap hS4 hT (v o), ← hvp]
  have hso : sl' o = 31 + T := (hs o x2).1 rfl
  have apc : ∀ j c c', K j = 2 → j ≠ p → A c = true → q c = j → ((c = p → c' = o) ∧ (c ≠ p → c' = c)) → F (sl' c') * v c' + S (sl' c') = F (sl c) * v c + S (sl c) := by
    intro j c c' kj jp ac qc hc
    by_cases e : c = p
    · rw [hc.1 e, hso, e]; exact hap
    · have hco : c ≠ o := fun z => jp (by rw [← qc, z]; exact x5)
      rw [hc.2 e, (hs c ac).2 hco]
  refine ⟨?_, ?_, ?_⟩
  · intro e he
    by_cases heT : e = T
    · subst heT; rw [hGT]; exact hvp
    · rw [hG e (by omega)]; exact s1 e (by omega)
  · intro j hj kj
    obtain ⟨aj, jp, jx⟩ := tz_rm_iff.mp hj
    obtain ⟨b1, b2, b3, b4, b5, b6, b7, b8, b9⟩ := t3 j aj kj
    rw [apc j (l j) (l' j) kj jp b1 b4 (hL j aj kj jp), apc j (r j) (r' j) kj jp b2 b5 (hR j aj kj jp)]
    exact s2 j aj kj
  · by_cases hpt : p = tp
    · rw [ht.1 hpt, hso, hap, hpt]; exact s3
    · have hto : tp ≠ o := fun z => x7 z.symm
      rw [ht.2 hpt, (hs tp t1).2 hto]; exact s3
def tz_SLP (K : Nat → Int32) (G : Nat → tz_R) (T : Nat) (A : Nat → Bool) (sl : Nat → Nat) : Prop :=
  ∀ (nd : Nat) (w s F S dF dS : Nat → Int32), nd < 31 → K nd = 1 → (∀ n, n < 31 → dF n = 0 ∧ dS n = 0) → (∀ e, e < T → tz_WE w s F S (G e) (31 + e)) → (∀ e, e < T → tz_CE nd w s F S dF dS (G e) (31 + e)) →
    (∀ e, e < T → tz_WE (upd w nd (w nd + 1)) s (fun i => F i + dF i) (fun i => S i + dS i) (G e) (31 + e)) ∧
    ∃ n0, A n0 = true ∧ (∀ n, A n = true → n ≠ n0 → dF (sl n) = 0 ∧ dS (sl n) = 0) ∧ (A nd = true → n0 = nd ∧ dF (sl nd) = 0 ∧ dS (sl nd) = 0)
theorem tz_SLP_0 {K : Nat → Int32} {sl : Nat → Nat} {G : Nat → tz_R} {A : Nat → Bool} (hA : ∀ n, n < 31 → K n = 1 → A n = true) (h31 : ∀ n, A n = true → n < 31) (hs : ∀ n, A n = true → sl n = n) : tz_SLP K G 0 A sl := by
  intro nd w s F S dF dS hn hK hz _ _
  have an := hA nd hn hK
  refine ⟨fun e he => by omega, nd, an, fun n hn2 _ => ?_, fun _ => ⟨rfl, ?_⟩⟩
  · rw [hs n hn2]; exact hz n (h31 n hn2)
  · rw [hs nd an]; exact hz nd hn
theorem tz_SLP_st {K : Nat → Int32} {d l r q sl sl' : Nat → Nat} {G G' : Nat → tz_R} {T : Nat} {A : Nat → Bool} {tp p x o : Nat} {il : Int32} (hp : A p = true) (hJ : K p = 2)
    (hX : tz_XO d l r q A tp p x o)
    (hs : ∀ n, A n = true → (n = o → sl' n = 31 + T) ∧ (n ≠ o → sl' n = sl n))
    (hG : ∀ e, e < T → G' e = G e) (hGT : G' T = (x, p, o, sl x, sl p, sl o, il))
    (hS : tz_SLP K G T A sl) : tz_SLP K G' (T + 1) (tz_rm A p x) sl' := by
  intro nd w s F S dF dS hn hK hz hW hC
  obtain ⟨w1, n0, a0, z0, m0⟩ := hS nd w s F S dF dS hn hK hz (fun e he => by rw [← hG e he]; exact hW e (by omega)) (fun e he => by rw [← hG e he]; exact hC e (by omega))
  obtain ⟨x1, x2, x3, x4, x5, x6, x7, x8, x9, x10, x11⟩ := hX
  have hWT := hW T (by omega)
  have hCT := hC T (by omega)
  rw [hGT] at hWT hCT
  have hnp : nd ≠ p := fun e => by rw [e, hJ] at hK; exact absurd hK (by decide)
  have hndx : x = nd → n0 = x ∧ dF (sl x) = 0 ∧ dS (sl x) = 0 := by
    intro e
    have := m0 (by rw [← e]; exact x1)
    rw [← e] at this; exact this
  have hc0 : x ≠ n0 → tz_ch nd w F dF dS x (sl x) = 0 := by
    intro e
    obtain ⟨e1, e2⟩ := z0 x x1 e
    have e3 : x ≠ nd := fun z => e (hndx z).1.symm
    unfold tz_ch
    rw [e1, e2, if_neg e3]; grind
  have hso : sl' o = 31 + T := (hs o x2).1 rfl
  have hor : tz_rm A p x o = true := tz_rm_iff.mpr ⟨x2, x10, fun z => x3 z.symm⟩
  constructor
  · intro e he
    by_cases heT : e = T
    · subst heT
      rw [hGT]
      refine tz_CE_WE hWT hCT ?_ ?_ ?_
      · by_cases ex : x = nd
        · rw [if_pos ex, ← ex, pk_us]; grind
        · rw [if_neg ex, pk_un ex, Int32.add_zero]
      · by_cases ex : x = nd
        · rw [(hndx ex).2.1]; grind
        · rw [pk_un ex]
      · by_cases e1 : x = n0
        · refine Or.inr (Or.inr ?_)
          have hp0 := z0 p hp (fun z => x9 (e1.trans z.symm))
          have ho0 := z0 o x2 (fun z => x3 (e1.trans z.symm))
          exact ⟨hp0.1, hp0.2, ho0.1, ho0.2⟩
        · by_cases e2 : p = n0
          · exact Or.inr (Or.inl ⟨hc0 e1, z0 o x2 (fun z => x10 (z.trans e2.symm))⟩)
          · exact Or.inl ⟨hc0 e1, z0 p hp e2⟩
    · rw [hG e (by omega)]; exact w1 e (by omega)
  · by_cases hin : n0 = x ∨ n0 = p ∨ n0 = o
    · refine ⟨o, hor, ?_, ?_⟩
      · intro n hn2 hne
        obtain ⟨an, np, nx⟩ := tz_rm_iff.mp hn2
        rw [(hs n an).2 hne]
        refine z0 n an ?_
        rcases hin with e | e | e
        · rw [e]; exact nx
        · rw [e]; exact np
        · rw [e]; exact hne
      · intro ha
        obtain ⟨an, np, nx⟩ := tz_rm_iff.mp ha
        obtain ⟨e1, e2, e3⟩ := m0 an
        have hno : n0 = o := by
          rcases hin with e | e | e
          · exact absurd (e1.symm.trans e) nx
          · exact absurd (e1.symm.trans e) np
          · exact e
        have hod : o = nd := hno.symm.trans e1
        refine ⟨hod, ?_⟩
        rw [← hod, hso]
        rw [← hod] at e2 e3
        have hp0 := z0 p hp (fun z => x10 (hno.symm.trans z.symm))
        exact tz_CE_0 hCT (hc0 (fun z => x3 (z.trans hno))) hp0.1 hp0.2 e2 e3
    · have h1 : x ≠ n0 := fun z => hin (Or.inl z.symm)
      have h2 : p ≠ n0 := fun z => hin (Or.inr (Or.inl z.symm))
      have h3 : o ≠ n0 := fun z => hin (Or.inr (Or.inr z.symm))
      have hp0 := z0 p hp h2
      have ho0 := z0 o x2 h3
      refine ⟨n0, tz_rm_iff.mpr ⟨a0, fun z => h2 z.symm, fun z => h1 z.symm⟩, ?_, ?_⟩
      · intro n hn2 hne
        obtain ⟨an, np, nx⟩ := tz_rm_iff.mp hn2
        by_cases no : n = o
        · rw [no, hso]
          exact tz_CE_0 hCT (hc0 h1) hp0.1 hp0.2 ho0.1 ho0.2
        · rw [(hs n an).2 no]; exact z0 n an hne
      · intro ha
        obtain ⟨an, np, nx⟩ := tz_rm_iff.mp ha
        obtain ⟨e1, e2, e3⟩ := m0 an
        have hno : nd ≠ o := fun z => h3 (z.symm.trans e1.symm)
        rw [(hs nd an).2 hno]
        exact ⟨e1, e2, e3⟩
end TZC
end
section
section TZD
/-! D: the invariant of a contraction over the arrays, and one step -/
theorem tz_vl {x : Int32} {n : Nat} (h : vp_in x n) : x.toNatClampNeg < n := by
  unfold vp_in at h
  omega
theorem tz_v0 {x : Int32} {n : Nat} (h : vp_in x n) : ¬ x < 0 := fun z => h (Or.inl z)
theorem tz_v0' {x : Int32} {n : Nat} (h : vp_in x n) : 0 ≤ x := Int32.not_lt.mp (tz_v0 h)
theorem tz_ve {x : Int32} {n : Nat} (h : vp_in x n) : x = nI x.toNatClampNeg := by
  obtain ⟨j, hj, rfl⟩ := nI_of (tz_v0 h)
  rw [nI_clamp hj]
theorem tz_vm {x : Int32} {n m : Nat} (h : vp_in x n) (hm : n ≤ m) : vp_in x m := fun z => h (z.imp id (fun q => Nat.le_trans hm q))
theorem tz_vn {n : Nat} {x : Int32} {m : Nat} (h : vp_in x m) (hn : x.toNatClampNeg < n) : vp_in x n := fun z => z.elim (tz_v0 h) (fun q => by omega)
theorem tz_WE_c {w s F S F' S' : Nat → Int32} {g : tz_R} {k : Nat} (h : tz_WE w s F S g k) (hk : F' k = F k ∧ S' k = S k) (hl : F' g.2.2.2.1 = F g.2.2.2.1 ∧ S' g.2.2.2.1 = S g.2.2.2.1) (hj : F' g.2.2.2.2.1 = F g.2.2.2.2.1 ∧ S' g.2.2.2.2.1 = S g.2.2.2.2.1) (ho : F' g.2.2.2.2.2.1 = F g.2.2.2.2.2.1 ∧ S' g.2.2.2.2.2.1 = S g.2.2.2.2.2.1) : tz_WE w s F' S' g k := by
  obtain ⟨l, p, o, ls, js, os, il⟩ := g
  obtain ⟨h1, h2⟩ := h
  dsimp only at hl hj ho
  show F' k = F' js * tz_oF (s p) il (F' ls * w l + S' ls) * F' os ∧ S' k = F' js * (tz_oF (s p) il (F' ls * w l + S' ls) * S' os + tz_oS (s p) il (F' ls * w l + S' ls)) + S' js
  rw [hk.1, hk.2, hl.1, hl.2, hj.1, hj.2, ho.1, ho.2]
  exact ⟨h1, h2⟩
/-- the ranges of a step's entries -/
def tz_RG (K lA jA oA lS jS oS : Nat → Int32) (e : Nat) : Prop :=
  vp_in (lA e) 31 ∧ vp_in (jA e) 31 ∧ vp_in (oA e) 31 ∧ vp_in (lS e) (31 + e) ∧ vp_in (jS e) (31 + e) ∧ vp_in (oS e) (31 + e) ∧ (K (tz_c oA e) = 1 ∨ K (tz_c oA e) = 2)
/-- the links of the tree that is left, in the arrays -/
def tz_NT (K : Nat → Int32) (d : Nat → Nat) (T : Nat) (A : Nat → Bool) (tp : Nat) (nL nR nP sL : Nat → Int32) : Prop :=
  tz_PT K d (tz_c nL) (tz_c nR) (tz_c nP) A tp ∧
  (∀ j, A j = true → K j = 2 → vp_in (nL j) 31 ∧ vp_in (nR j) 31) ∧
  (∀ n, A n = true → n ≠ tp → vp_in (nP n) 31) ∧
  (∀ n, n < 31 → K n = 1 → A n = false → nP n = -1) ∧ nP tp = -1 ∧
  (∀ n, A n = true → vp_in (sL n) (31 + T)) ∧
  tz_cn (fun n => A n && decide (K n = 2)) 31 + T ≤ 15
/-- which step took a joint away -/
def tz_SO (K : Nat → Int32) (T : Nat) (A : Nat → Bool) (jA oA sO : Nat → Int32) : Prop :=
  (∀ j, j < 31 → K j = 2 → A j = true ∨ (vp_in (sO j) T ∧ tz_c jA (tz_c sO j) = j)) ∧
  (∀ e, e < T → K (tz_c oA e) = 2 → A (tz_c oA e) = true ∨ e < tz_c sO (tz_c oA e))
variable {K aL aR aS aV nL nR nP sL lA jA oA iL lS jS oS sO fF fS nL' nR' : Nat → Int32} {d : Nat → Nat} {T : Nat} {A : Nat → Bool} {tp p x o tp' : Nat} {il f s : Int32}
/-- the three ways in which the joint's place is taken -/
def tz_TP (nL nR nP nL' nR' : Nat → Int32) (p o tp tp' : Nat) : Prop :=
  (p = tp ∧ nL' = nL ∧ nR' = nR ∧ tp' = o) ∨
  (p ≠ tp ∧ tz_c nL (tz_c nP p) = p ∧ nL' = upd nL (tz_c nP p) (nI o) ∧ nR' = nR ∧ tp' = tp) ∨
  (p ≠ tp ∧ tz_c nL (tz_c nP p) ≠ p ∧ nR' = upd nR (tz_c nP p) (nI o) ∧ nL' = nL ∧ tp' = tp)
theorem tz_TP_t (h : tz_TP nL nR nP nL' nR' p o tp tp') : (p = tp → tp' = o) ∧ (p ≠ tp → tp' = tp) := by
  rcases h with ⟨h1, -, -, h4⟩ | ⟨h1, -, -, -, h4⟩ | ⟨h1, -, -, -, h4⟩
  · exact ⟨fun _ => h4, fun z => absurd h1 z⟩
  · exact ⟨fun z => absurd z h1, fun _ => h4⟩
  · exact ⟨fun z => absurd z h1, fun _ => h4⟩
theorem tz_TP_l (hP : tz_PT K d (tz_c nL) (tz_c nR) (tz_c nP) A tp) (hp : A p = true) (ho : o < 31) (h : tz_TP nL nR nP nL' nR' p o tp tp') :
    tz_LK K A p o (tz_c nL) (tz_c nL') ∧ tz_LK K A p o (tz_c nR) (tz_c nR') := by
  obtain ⟨t1, t2, t3, t4⟩ := hP
  rcases h with ⟨h1, rfl, rfl, h4⟩ | ⟨h1, h2, rfl, rfl, h4⟩ | ⟨h1, h2, rfl, rfl, h4⟩
  · constructor
    · intro j aj kj jp
      obtain ⟨b1, b2, b3, b4, b5, b6, b7, b8, b9⟩ := t3 j aj kj
      exact ⟨fun z => absurd (z.trans h1) b6, fun _ => rfl⟩
    · intro j aj kj jp
      obtain ⟨b1, b2, b3, b4, b5, b6, b7, b8, b9⟩ := t3 j aj kj
      exact ⟨fun z => absurd (z.trans h1) b7, fun _ => rfl⟩
  · constructor
    · intro j aj kj jp
      obtain ⟨b1, b2, b3, b4, b5, b6, b7, b8, b9⟩ := t3 j aj kj
      constructor
      · intro z
        rw [z] at b4
        rw [b4]
        exact tz_c_us (by omega)
      · intro z
        exact tz_c_un (fun e => z (by rw [e]; exact h2))
    · intro j aj kj jp
      obtain ⟨b1, b2, b3, b4, b5, b6, b7, b8, b9⟩ := t3 j aj kj
      refine ⟨fun z => ?_, fun _ => rfl⟩
      rw [z] at b5
      rw [b5] at h2
      exact absurd (h2.trans z.symm) b3
  · obtain ⟨c1, c2, c3⟩ := t4 p hp h1
    have h3 : tz_c nR (tz_c nP p) = p := c3.resolve_left h2
    constructor
    · intro j aj kj jp
      obtain ⟨b1, b2, b3, b4, b5, b6, b7, b8, b9⟩ := t3 j aj kj
      refine ⟨fun z => ?_, fun _ => rfl⟩
      rw [z] at b4
      rw [b4] at h2
      exact absurd z h2
    · intro j aj kj jp
      obtain ⟨b1, b2, b3, b4, b5, b6, b7, b8, b9⟩ := t3 j aj kj
      constructor
      · intro z
        rw [z] at b5
        rw [b5]
        exact tz_c_us (by omega)
      · intro z
        exact tz_c_un (fun e => z (by rw [e]; exact h3))
/-- one step keeps the links -/
theorem tz_NT_st (h : tz_NT K d T A tp nL nR nP sL) (hp : A p = true) (hJ : K p = 2) (hl : K x = 1) (hX : tz_XO d (tz_c nL) (tz_c nR) (tz_c nP) A tp p x o) (hT : T < 15) (ht : tz_TP nL nR nP nL' nR' p o tp tp') :
    tz_NT K d (T + 1) (tz_rm A p x) tp' nL' nR' (upd (upd nP o (nP p)) x (-1)) (upd sL o (nI (31 + T))) := by
  obtain ⟨hP, h2, h3, h4, h5, h6, h7⟩ := h
  have hX' := hX
  obtain ⟨x1, x2, x3, x4, x5, x6, x7, x8, x9, x10, x11⟩ := hX'
  have hP' := hP
  obtain ⟨t1, t2, t3, t4⟩ := hP'
  have o31 : o < 31 := (t2 o x2).1
  have hLK := tz_TP_l hP hp o31 ht
  have htt := tz_TP_t ht
  have nPo : upd (upd nP o (nP p)) x (-1) o = nP p := by rw [pk_un (fun z => x3 z.symm), pk_us]
  have nPn : ∀ n, n ≠ x → n ≠ o → upd (upd nP o (nP p)) x (-1) n = nP n := fun n a b => by rw [pk_un a, pk_un b]
  refine ⟨?_, ?_, ?_, ?_, ?_, ?_, ?_⟩
  · refine tz_PT_sp hP hp hJ hl hX htt hLK.1 hLK.2 ?_
    intro n an np nx nt
    constructor
    · intro e
      subst e
      unfold tz_c
      rw [nPo]
    · intro e
      unfold tz_c
      rw [nPn n nx e]
  · intro j hj kj
    obtain ⟨aj, jp, jx⟩ := tz_rm_iff.mp hj
    obtain ⟨g1, g2⟩ := h2 j aj kj
    have io : vp_in (nI o) 31 := vp_in_nI o31 (by omega)
    rcases ht with ⟨e1, rfl, rfl, e4⟩ | ⟨e1, e2, rfl, rfl, e4⟩ | ⟨e1, e2, rfl, rfl, e4⟩
    · exact ⟨g1, g2⟩
    · refine ⟨?_, g2⟩
      by_cases e : j = tz_c nP p
      · rw [e, pk_us]; exact io
      · rw [pk_un e]; exact g1
    · refine ⟨g1, ?_⟩
      by_cases e : j = tz_c nP p
      · rw [e, pk_us]; exact io
      · rw [pk_un e]; exact g2
  · intro n hn nt
    obtain ⟨an, np, nx⟩ := tz_rm_iff.mp hn
    by_cases no : n = o
    · subst no
      rw [nPo]
      exact h3 p hp (fun z => nt (htt.1 z).symm)
    · rw [nPn n nx no]
      refine h3 n an ?_
      by_cases hpt : p = tp
      · rw [← hpt]; exact np
      · rw [← htt.2 hpt]; exact nt
  · intro n n31 kn hn
    by_cases nx : n = x
    · rw [nx, pk_us]
    · have np : n ≠ p := fun e => by rw [e, hJ] at kn; exact absurd kn (by decide)
      have an : A n = false := by
        cases hA : A n with
        | false => rfl
        | true =>
          have := tz_rm_iff.mpr ⟨hA, np, nx⟩
          rw [hn] at this
          exact absurd this (by decide)
      have no : n ≠ o := fun e => by rw [e, x2] at an; exact absurd an (by decide)
      rw [nPn n nx no]
      exact h4 n n31 kn an
  · by_cases hpt : p = tp
    · rw [htt.1 hpt, nPo, hpt]; exact h5
    · rw [htt.2 hpt, nPn tp (fun z => x6 z.symm) (fun z => x7 z.symm)]; exact h5
  · intro n hn
    obtain ⟨an, np, nx⟩ := tz_rm_iff.mp hn
    by_cases no : n = o
    · rw [no, pk_us]; exact vp_in_nI (by omega) (by omega)
    · rw [pk_un no]; exact tz_vm (h6 n an) (by omega)
  · have hc := tz_cn_ins (P := fun n => tz_rm A p x n && decide (K n = 2)) (Q := fun n => A n && decide (K n = 2)) (i := p) (by
        have : tz_rm A p x p = false := by
          cases hA : tz_rm A p x p with
          | false => rfl
          | true => exact absurd rfl (tz_rm_iff.mp hA).2.1
        show (tz_rm A p x p && decide (K p = 2)) = false
        rw [this]; rfl) (by
        show (A p && decide (K p = 2)) = true
        rw [hp, decide_eq_true hJ]; rfl) (n := 31) (t2 p hp).1 (by
        intro j _ jp
        show (A j && decide (K j = 2)) = (tz_rm A p x j && decide (K j = 2))
        by_cases jx : j = x
        · have : decide (K j = 2) = false := by
            rw [jx, hl]; decide
          rw [this, Bool.and_false, Bool.and_false]
        · unfold tz_rm
          rw [decide_eq_true jp, decide_eq_true jx, Bool.and_true, Bool.and_true])
    omega
/-- a step that may be taken is below 15 -/
theorem tz_NT_lt (h : tz_NT K d T A tp nL nR nP sL) (hp : A p = true) (hJ : K p = 2) : T < 15 := by
  obtain ⟨hP, h2, h3, h4, h5, h6, h7⟩ := h
  have := tz_cn_pos (P := fun n => A n && decide (K n = 2)) (i := p) (by
    show (A p && decide (K p = 2)) = true
    rw [hp, decide_eq_true hJ]; rfl) (n := 31) (hP.2.1 p hp).1
  omega
theorem tz_SO_st (h : tz_SO K T A jA oA sO) (hp : p < 31) (hA : A o = true) (hJ : K p = 2) (hl : K x = 1) (hxo : x ≠ o) (hpo : o ≠ p) (ho : o < 31) (hT : T < 15) : tz_SO K (T + 1) (tz_rm A p x) (upd jA T (nI p)) (upd oA T (nI o)) (upd sO p (nI T)) := by
  obtain ⟨h1, h2⟩ := h
  have kx : ∀ j, K j = 2 → j ≠ x := fun j kj e => by rw [e, hl] at kj; exact absurd kj (by decide)
  constructor
  · intro j hj kj
    by_cases jp : j = p
    · refine Or.inr ?_
      rw [jp, pk_us, tz_c_us (by omega)]
      exact ⟨vp_in_nI (by omega) (by omega), tz_c_us (by omega)⟩
    · rcases h1 j hj kj with a | ⟨b1, b2⟩
      · exact Or.inl (tz_rm_iff.mpr ⟨a, jp, kx j kj⟩)
      · refine Or.inr ?_
        rw [pk_un jp, tz_c_un jp]
        have : tz_c sO j < T := tz_vl b1
        rw [tz_c_un (by omega)]
        exact ⟨tz_vm b1 (by omega), b2⟩
  · intro e he ke
    by_cases eT : e = T
    · subst eT
      rw [tz_c_us (by omega)] at ke ⊢
      exact Or.inl (tz_rm_iff.mpr ⟨hA, hpo, fun z => hxo z.symm⟩)
    · rw [tz_c_un eT] at ke ⊢
      by_cases ep : tz_c oA e = p
      · rw [ep, tz_c_us (by omega)]
        exact Or.inr (by omega)
      · rw [tz_c_un ep]
        rcases h2 e (by omega) ke with a | a
        · exact Or.inl (tz_rm_iff.mpr ⟨a, ep, kx _ ke⟩)
        · exact Or.inr a
/-- the steps so far -/
def tz_ST (K aL aR aS aV : Nat → Int32) (T : Nat) (A : Nat → Bool) (tp : Nat) (nL nR sL lA jA oA iL lS jS oS fF fS : Nat → Int32) : Prop :=
  (∀ e, e < T → tz_RG K lA jA oA lS jS oS e) ∧ tz_BS fF fS ∧
  (∀ e, e < T → tz_WE aV aS fF fS (tz_G lA jA oA lS jS oS iL e) (31 + e)) ∧
  tz_SEM K (tz_c aL) (tz_c aR) (tz_G lA jA oA lS jS oS iL) T A (tz_c nL) (tz_c nR) (tz_c sL) tp ∧
  tz_SLP K (tz_G lA jA oA lS jS oS iL) T A (tz_c sL)
theorem tz_G_un {e T : Nat} {a1 a2 a3 a4 a5 a6 a7 : Int32} (h : e ≠ T) : tz_G (upd lA T a1) (upd jA T a2) (upd oA T a3) (upd lS T a4) (upd jS T a5) (upd oS T a6) (upd iL T a7) e = tz_G lA jA oA lS jS oS iL e := by
  unfold tz_G
  rw [tz_c_un h, tz_c_un h, tz_c_un h, tz_c_un h, tz_c_un h, tz_c_un h, pk_un h]
theorem tz_G_us {T : Nat} {x p o : Nat} (hx : x < 31) (hp : p < 31) (ho : o < 31) : tz_G (upd lA T (nI x)) (upd jA T (nI p)) (upd oA T (nI o)) (upd lS T (sL x)) (upd jS T (sL p)) (upd oS T (sL o)) (upd iL T il) T = (x, p, o, tz_c sL x, tz_c sL p, tz_c sL o, il) := by
  unfold tz_G
  rw [tz_c_us (by omega), tz_c_us (by omega), tz_c_us (by omega), pk_us]
  unfold tz_c
  rw [pk_us, pk_us, pk_us]
theorem tz_ST_st (h : tz_ST K aL aR aS aV T A tp nL nR sL lA jA oA iL lS jS oS fF fS) (hN : tz_NT K d T A tp nL nR nP sL) (hp : A p = true) (hJ : K p = 2) (hl : K x = 1)
    (hx : (il ≠ 0 ∧ x = tz_c nL p ∧ o = tz_c nR p) ∨ (il = 0 ∧ x = tz_c nR p ∧ o = tz_c nL p))
    (hX : tz_XO d (tz_c nL) (tz_c nR) (tz_c nP) A tp p x o) (ht : tz_TP nL nR nP nL' nR' p o tp tp') (hT : T < 15)
    (hW : f = fF (tz_c sL p) * tz_oF (aS p) il (fF (tz_c sL x) * aV x + fS (tz_c sL x)) * fF (tz_c sL o) ∧ s = fF (tz_c sL p) * (tz_oF (aS p) il (fF (tz_c sL x) * aV x + fS (tz_c sL x)) * fS (tz_c sL o) + tz_oS (aS p) il (fF (tz_c sL x) * aV x + fS (tz_c sL x))) + fS (tz_c sL p)) :
    tz_ST K aL aR aS aV (T + 1) (tz_rm A p x) tp' nL' nR' (upd sL o (nI (31 + T))) (upd lA T (nI x)) (upd jA T (nI p)) (upd oA T (nI o)) (upd iL T il) (upd lS T (sL x)) (upd jS T (sL p)) (upd oS T (sL o)) (upd fF (31 + T) f) (upd fS (31 + T) s) := by
  obtain ⟨h1, h2, h3, h4, h5⟩ := h
  have hN' := hN
  obtain ⟨hP, n2, n3, n4, n5, n6, n7⟩ := hN'
  have hX' := hX
  obtain ⟨x1, x2, x3, x4, x5, x6, x7, x8, x9, x10, x11⟩ := hX'
  have x31 := (hP.2.1 x x1).1
  have p31 := (hP.2.1 p hp).1
  have o31 := (hP.2.1 o x2).1
  have hG : ∀ e, e < T → tz_G (upd lA T (nI x)) (upd jA T (nI p)) (upd oA T (nI o)) (upd lS T (sL x)) (upd jS T (sL p)) (upd oS T (sL o)) (upd iL T il) e = tz_G lA jA oA lS jS oS iL e := fun e he => tz_G_un (by omega)
  have hGT := tz_G_us (lA := lA) (jA := jA) (oA := oA) (iL := iL) (lS := lS) (jS := jS) (oS := oS) (sL := sL) (il := il) (T := T) x31 p31 o31
  have hs : ∀ n, A n = true → (n = o → tz_c (upd sL o (nI (31 + T))) n = 31 + T) ∧ (n ≠ o → tz_c (upd sL o (nI (31 + T))) n = tz_c sL n) := by
    intro n _
    constructor
    · intro e; rw [e]; exact tz_c_us (by omega)
    · intro e; exact tz_c_un e
  have hLK := tz_TP_l hP hp o31 ht
  have htt := tz_TP_t ht
  refine ⟨?_, ?_, ?_, ?_, ?_⟩
  · intro e he
    by_cases eT : e = T
    · subst eT
      unfold tz_RG
      rw [pk_us, pk_us, pk_us, pk_us, pk_us, pk_us, tz_c_us (by omega)]
      exact ⟨vp_in_nI x31 (by omega), vp_in_nI p31 (by omega), vp_in_nI o31 (by omega), n6 x x1, n6 p hp, n6 o x2, (hP.2.1 o x2).2⟩
    · unfold tz_RG
      rw [pk_un eT, pk_un eT, pk_un eT, pk_un eT, pk_un eT, pk_un eT, tz_c_un eT]
      exact h1 e (by omega)
  · intro n hn
    rw [pk_un (by omega), pk_un (by omega)]
    exact h2 n hn
  · intro e he
    by_cases eT : e = T
    · subst eT
      rw [hGT]
      have i1 : tz_c sL x < 31 + e := tz_vl (n6 x x1)
      have i2 : tz_c sL p < 31 + e := tz_vl (n6 p hp)
      have i3 : tz_c sL o < 31 + e := tz_vl (n6 o x2)
      show upd fF (31 + e) f (31 + e) = upd fF (31 + e) f (tz_c sL p) * tz_oF (aS p) il (upd fF (31 + e) f (tz_c sL x) * aV x + upd fS (31 + e) s (tz_c sL x)) * upd fF (31 + e) f (tz_c sL o) ∧ upd fS (31 + e) s (31 + e) = upd fF (31 + e) f (tz_c sL p) * (tz_oF (aS p) il (upd fF (31 + e) f (tz_c sL x) * aV x + upd fS (31 + e) s (tz_c sL x)) * upd fS (31 + e) s (tz_c sL o) + tz_oS (aS p) il (upd fF (31 + e) f (tz_c sL x) * aV x + upd fS (31 + e) s (tz_c sL x))) + upd fS (31 + e) s (tz_c sL p)
      rw [pk_us, pk_us, pk_un (f := fF) (j := tz_c sL p) (by omega), pk_un (f := fF) (j := tz_c sL x) (by omega), pk_un (f := fF) (j := tz_c sL o) (by omega), pk_un (f := fS) (j := tz_c sL p) (by omega), pk_un (f := fS) (j := tz_c sL x) (by omega), pk_un (f := fS) (j := tz_c sL o) (by omega)]
      exact hW
    · rw [hG e (by omega)]
      obtain ⟨r1, r2, r3, r4, r5, r6, r7⟩ := h1 e (by omega)
      have i1 : tz_c lS e < 31 + e := tz_vl r4
      have i2 : tz_c jS e < 31 + e := tz_vl r5
      have i3 : tz_c oS e < 31 + e := tz_vl r6
      refine tz_WE_c (h3 e (by omega)) ⟨pk_un (by omega), pk_un (by omega)⟩ ⟨?_, ?_⟩ ⟨?_, ?_⟩ ⟨?_, ?_⟩
      · exact pk_un (by show tz_c lS e ≠ _; omega)
      · exact pk_un (by show tz_c lS e ≠ _; omega)
      · exact pk_un (by show tz_c jS e ≠ _; omega)
      · exact pk_un (by show tz_c jS e ≠ _; omega)
      · exact pk_un (by show tz_c oS e ≠ _; omega)
      · exact pk_un (by show tz_c oS e ≠ _; omega)
  · exact tz_SEM_st hP hp hJ hl hx hX htt hLK.1 hLK.2 hs hG hGT h4
  · exact tz_SLP_st hp hJ hX hs hG hGT h5
end TZD
end
section
section TZE
/-! E: the small methods of the component -/
variable {post : SX → Prop} {qost : Int32 → Prop}
variable {fj ft fl fc fs o1 o2 o3 o4 : Int32} {aK aS aV aL aR nL nR nP sL lr sk fF fS dF dS tc lA jA oA iL lS jS oS sO : Nat → Int32} {e p : Nat}
theorem tx_kind (hp : p < 31) (h : qost (aK p)) : wpX_kindOf qost (fj, ft, fl, fc, fs, o1, o2, o3, o4, aK, aS, aV, aL, aR, nL, nR, nP, sL, lr, sk, fF, fS, dF, dS, tc, lA, jA, oA, iL, lS, jS, oS, sO) (nI p) := by
  refine br_f (nI_pos (by omega)) (br_t (nI_le (b := 30) (by omega) (by omega)) ⟨vp_in_nI hp (by omega), ?_⟩)
  rw [nI_clamp (by omega)]
  exact h
theorem tx_kindn {x : Int32} (hx : x < 0) (h : qost 0) : wpX_kindOf qost (fj, ft, fl, fc, fs, o1, o2, o3, o4, aK, aS, aV, aL, aR, nL, nR, nP, sL, lr, sk, fF, fS, dF, dS, tc, lA, jA, oA, iL, lS, jS, oS, sO) x := br_t hx h
theorem tx_kindg {x : Int32} (hx : ¬ x < 0) (hx2 : ¬ x ≤ 30) (h : qost 0) : wpX_kindOf qost (fj, ft, fl, fc, fs, o1, o2, o3, o4, aK, aS, aV, aL, aR, nL, nR, nP, sL, lr, sk, fF, fS, dF, dS, tc, lA, jA, oA, iL, lS, jS, oS, sO) x := br_f hx (br_f hx2 h)
theorem tx_calc {s x y : Int32} (h : qost (tz_calc s x y)) : wpX_calculate qost s x y := by
  unfold tz_calc at h
  by_cases h0 : s = 0
  · rw [if_pos h0] at h; exact br_t h0 h
  · rw [if_neg h0] at h
    by_cases h1 : s = 1
    · rw [if_pos h1] at h; exact br_f h0 (br_t h1 h)
    · rw [if_neg h1] at h
      by_cases h2 : s = 2
      · rw [if_pos h2] at h; exact br_f h0 (br_f h1 (br_t h2 h))
      · rw [if_neg h2] at h; exact br_f h0 (br_f h1 (br_f h2 h))
theorem tx_lv (he : e < 15) (h1 : vp_in (lA e) 31) (h2 : vp_in (lS e) 46) (h : qost (fF (tz_c lS e) * aV (tz_c lA e) + fS (tz_c lS e))) : wpX_leafValue qost (fj, ft, fl, fc, fs, o1, o2, o3, o4, aK, aS, aV, aL, aR, nL, nR, nP, sL, lr, sk, fF, fS, dF, dS, tc, lA, jA, oA, iL, lS, jS, oS, sO) (nI e) := by
  have hc : (nI e).toNatClampNeg = e := nI_clamp (by omega)
  have i : vp_in (nI e) 15 := vp_in_nI he (by omega)
  unfold wpX_leafValue
  dsimp only
  rw [hc]
  exact ⟨i, nm_e ⟨h2, i, h1, h2, h⟩⟩
theorem tx_fix48 {x2 x3 x4 z0 : Int32} (h : post (fj, ft, fl, fc, fs, if x4 = 1 then x2 else if z0 = 0 then 1 else -1, if x4 = 1 then 0 else if x4 = 0 then x2 else if z0 = 0 then -x2 else x2, if x4 = 1 then x3 else 0, if x4 = 1 then 0 else if x4 = 0 then x3 else if z0 = 0 then -x3 else x3, aK, aS, aV, aL, aR, nL, nR, nP, sL, lr, sk, fF, fS, dF, dS, tc, lA, jA, oA, iL, lS, jS, oS, sO)) : wX_fixLeaf_48 post x2 x3 x4 z0 fj ft fl fc fs o1 o2 o3 o4 aK aS aV aL aR nL nR nP sL lr sk fF fS dF dS tc lA jA oA iL lS jS oS sO := by
  unfold wX_fixLeaf_48
  by_cases h1 : x4 = 1
  · simp only [if_pos h1] at h
    refine br_t h1 ?_
    unfold wX_fixLeaf_71
    refine br_t h1 ?_
    unfold wX_fixLeaf_101
    refine br_t h1 ?_
    unfold wX_fixLeaf_116
    exact br_t h1 h
  · simp only [if_neg h1] at h
    refine br_f h1 ?_
    by_cases h0 : x4 = 0
    · simp only [if_pos h0] at h
      by_cases hz : z0 = 0
      · simp only [if_pos hz] at h
        refine br_t hz ?_
        unfold wX_fixLeaf_71
        refine br_f h1 (br_t h0 ?_)
        unfold wX_fixLeaf_95 wX_fixLeaf_101
        refine br_f h1 ?_
        unfold wX_fixLeaf_116
        exact br_f h1 (br_t h0 h)
      · simp only [if_neg hz] at h
        refine br_f hz ?_
        unfold wX_fixLeaf_71
        refine br_f h1 (br_t h0 ?_)
        unfold wX_fixLeaf_95 wX_fixLeaf_101
        refine br_f h1 ?_
        unfold wX_fixLeaf_116
        exact br_f h1 (br_t h0 h)
    · simp only [if_neg h0] at h
      by_cases hz : z0 = 0
      · simp only [if_pos hz] at h
        refine br_t hz ?_
        unfold wX_fixLeaf_71
        refine br_f h1 (br_f h0 (br_t hz ?_))
        unfold wX_fixLeaf_101
        refine br_f h1 ?_
        unfold wX_fixLeaf_116
        exact br_f h1 (br_f h0 (br_t hz (nm_e h)))
      · simp only [if_neg hz] at h
        refine br_f hz ?_
        unfold wX_fixLeaf_71
        refine br_f h1 (br_f h0 (br_f hz ?_))
        unfold wX_fixLeaf_95 wX_fixLeaf_101
        refine br_f h1 ?_
        unfold wX_fixLeaf_116
        exact br_f h1 (br_f h0 (br_f hz h))
theorem tx_fix {x c : Int32} (he : e < 15) (h1 : vp_in (jA e) 31) (h : post (fj, ft, fl, fc, fs, tz_oF (aS (tz_c jA e)) (iL e) x, tz_oS (aS (tz_c jA e)) (iL e) x, tz_oC (aS (tz_c jA e)) c, tz_oS (aS (tz_c jA e)) (iL e) c, aK, aS, aV, aL, aR, nL, nR, nP, sL, lr, sk, fF, fS, dF, dS, tc, lA, jA, oA, iL, lS, jS, oS, sO)) : wpX_fixLeaf post (fj, ft, fl, fc, fs, o1, o2, o3, o4, aK, aS, aV, aL, aR, nL, nR, nP, sL, lr, sk, fF, fS, dF, dS, tc, lA, jA, oA, iL, lS, jS, oS, sO) (nI e) x c := by
  have hc : (nI e).toNatClampNeg = e := nI_clamp (by omega)
  have i : vp_in (nI e) 15 := vp_in_nI he (by omega)
  unfold wpX_fixLeaf
  dsimp only
  rw [hc]
  refine ⟨i, h1, ?_⟩
  intro s es
  have es2 : aS (tz_c jA e) = s := es.symm
  rw [es2] at h
  unfold tz_oF tz_oS tz_oC at h
  by_cases hil : iL e = 0
  · by_cases h2 : s = 2
    · have hz : tz_ng s (iL e) = 0 := by unfold tz_ng; rw [if_pos h2, if_pos hil]
      rw [hz] at h
      refine br_t h2 ⟨i, br_t hil ?_⟩
      unfold wX_fixLeaf_28
      refine br_f (by rw [h2]; decide) ?_
      unfold wX_fixLeaf_47
      exact tx_fix48 h
    · refine br_f h2 ?_
      unfold wX_fixLeaf_28
      rw [hc]
      by_cases h3 : s = 3
      · have hz : tz_ng s (iL e) = 1 := by unfold tz_ng; rw [if_neg h2, if_pos h3, if_pos hil]
        rw [hz] at h
        refine br_t h3 ⟨i, br_t hil ?_⟩
        unfold wX_fixLeaf_43
        exact tx_fix48 h
      · have hz : tz_ng s (iL e) = 0 := by unfold tz_ng; rw [if_neg h2, if_neg h3]
        rw [hz] at h
        refine br_f h3 ?_
        unfold wX_fixLeaf_47
        exact tx_fix48 h
  · by_cases h2 : s = 2
    · have hz : tz_ng s (iL e) = 1 := by unfold tz_ng; rw [if_pos h2, if_neg hil]
      rw [hz] at h
      refine br_t h2 ⟨i, br_f hil ?_⟩
      unfold wX_fixLeaf_43
      exact tx_fix48 h
    · refine br_f h2 ?_
      unfold wX_fixLeaf_28
      rw [hc]
      by_cases h3 : s = 3
      · have hz : tz_ng s (iL e) = 0 := by unfold tz_ng; rw [if_neg h2, if_pos h3, if_neg hil]
        rw [hz] at h
        refine br_t h3 ⟨i, br_f hil ?_⟩
        unfold wX_fixLeaf_47
        exact tx_fix48 h
      · have hz : tz_ng s (iL e) = 0 := by unfold tz_ng; rw [if_neg h2, if_neg h3]
        rw [hz] at h
        refine br_f h3 ?_
        unfold wX_fixLeaf_47
        exact tx_fix48 h
theorem tx_31 (e : Nat) : (31 : Int32) + nI e = nI (31 + e) := nI_add 31 e
theorem tx_work (he : e < 15) (h1 : vp_in (lA e) 31) (h2 : vp_in (jA e) 31) (h4 : vp_in (lS e) 46) (h5 : vp_in (jS e) 46) (h6 : vp_in (oS e) 46)
    (h : ∀ q1 q2 q3 q4 : Int32, post (fj, ft, fl, fc, fs, q1, q2, q3, q4, aK, aS, aV, aL, aR, nL, nR, nP, sL, lr, sk, upd fF (31 + e) (tz_nF aV aS fF fS (tz_G lA jA oA lS jS oS iL e)), upd fS (31 + e) (tz_nS aV aS fF fS (tz_G lA jA oA lS jS oS iL e)), dF, dS, tc, lA, jA, oA, iL, lS, jS, oS, sO)) : wpX_workOut post (fj, ft, fl, fc, fs, o1, o2, o3, o4, aK, aS, aV, aL, aR, nL, nR, nP, sL, lr, sk, fF, fS, dF, dS, tc, lA, jA, oA, iL, lS, jS, oS, sO) (nI e) := by
  have hc : (nI e).toNatClampNeg = e := nI_clamp (by omega)
  have hc2 : (nI (31 + e)).toNatClampNeg = 31 + e := nI_clamp (by omega)
  have i : vp_in (nI e) 15 := vp_in_nI he (by omega)
  have i2 : vp_in (nI (31 + e)) 46 := vp_in_nI (by omega) (by omega)
  unfold wpX_workOut
  dsimp only
  refine tx_lv he h1 h4 (tx_fix he h2 ?_)
  dsimp only
  rw [hc, tx_31, hc2]
  exact ⟨i, h6, nm_e ⟨i, h6, nm_e ⟨i, h5, nm_e ⟨i2, nm_e ⟨i, h5, i2, nm_e (h _ _ _ _)⟩⟩⟩⟩⟩
end TZE
end
section
section TZF
/-! F: takeLeaf, takeLeaves -/
def tz_CV (K aL aR aS aV : Nat → Int32) (d : Nat → Nat) (T : Nat) (A : Nat → Bool) (tp : Nat) (nL nR nP sL lA jA oA iL lS jS oS sO fF fS : Nat → Int32) : Prop :=
  tz_NT K d T A tp nL nR nP sL ∧ tz_ST K aL aR aS aV T A tp nL nR sL lA jA oA iL lS jS oS fF fS ∧ tz_SO K T A jA oA sO
variable {post : SX → Prop}
variable {fj ft fl fc fs o1 o2 o3 o4 : Int32} {aK aS aV aL aR nL nR nP sL lr sk fF fS dF dS tc lA jA oA iL lS jS oS sO : Nat → Int32} {e p x o T tp : Nat} {il : Int32} {d : Nat → Nat} {A : Nat → Bool}
theorem tx_t181 (hx : x < 31) (ho : o < 31) (he : e < 15) (h1 : vp_in (lA e) 31) (h2 : vp_in (jA e) 31) (h4 : vp_in (lS e) 46) (h5 : vp_in (jS e) 46) (h6 : vp_in (oS e) 46)
    (h : ∀ q1 q2 q3 q4 : Int32, post (fj, ft, fl, fc, fs, q1, q2, q3, q4, aK, aS, aV, aL, aR, nL, nR, upd nP x (-1), upd sL o (nI (31 + e)), lr, sk, upd fF (31 + e) (tz_nF aV aS fF fS (tz_G lA jA oA lS jS oS iL e)), upd fS (31 + e) (tz_nS aV aS fF fS (tz_G lA jA oA lS jS oS iL e)), dF, dS, tc, lA, jA, oA, iL, lS, jS, oS, sO)) : wX_takeLeaf_181 post (nI x) (nI o) (nI e) fj ft fl fc fs o1 o2 o3 o4 aK aS aV aL aR nL nR nP sL lr sk fF fS dF dS tc lA jA oA iL lS jS oS sO := by
  unfold wX_takeLeaf_181
  rw [nI_clamp (n := x) (by omega), nI_clamp (n := o) (by omega), tx_31]
  exact ⟨vp_in_nI hx (by omega), nm_e ⟨vp_in_nI ho (by omega), nm_e (tx_work he h1 h2 h4 h5 h6 h)⟩⟩
theorem tx_t19 (hx : x < 31) (hp : p < 31) (ho : o < 31) (hT : T < 15) (hil : vp_nar .boolean il = il) (h4 : vp_in (sL x) 46) (h5 : vp_in (sL p) 46) (h6 : vp_in (sL o) 46)
    (hn : (p = tp ∧ nP p = -1) ∨ (p ≠ tp ∧ vp_in (nP p) 31 ∧ vp_in (nL (tz_c nP p)) 31))
    (h : ∀ (tp' : Nat) (q1 q2 q3 q4 : Int32) (nL' nR' : Nat → Int32), tz_TP nL nR nP nL' nR' p o tp tp' → post (fj, nI tp', fl, fc, nI (T + 1), q1, q2, q3, q4, aK, aS, aV, aL, aR, nL', nR', upd (upd nP o (nP p)) x (-1), upd sL o (nI (31 + T)), lr, sk, upd fF (31 + T) (tz_nF aV aS fF fS (tz_G (upd lA T (nI x)) (upd jA T (nI p)) (upd oA T (nI o)) (upd lS T (sL x)) (upd jS T (sL p)) (upd oS T (sL o)) (upd iL T il) T)), upd fS (31 + T) (tz_nS aV aS fF fS (tz_G (upd lA T (nI x)) (upd jA T (nI p)) (upd oA T (nI o)) (upd lS T (sL x)) (upd jS T (sL p)) (upd oS T (sL o)) (upd iL T il) T)), dF, dS, tc, upd lA T (nI x), upd jA T (nI p), upd oA T (nI o), upd iL T il, upd lS T (sL x), upd jS T (sL p), upd oS T (sL o), upd sO p (nI T))) :
    wX_takeLeaf_19 post (nI x) (nI p) il (nI o) fj (nI tp) fl fc (nI T) o1 o2 o3 o4 aK aS aV aL aR nL nR nP sL lr sk fF fS dF dS tc lA jA oA iL lS jS oS sO := by
  have iT : vp_in (nI T) 15 := vp_in_nI hT (by omega)
  have ix : vp_in (nI x) 31 := vp_in_nI hx (by omega)
  have ip : vp_in (nI p) 31 := vp_in_nI hp (by omega)
  have io : vp_in (nI o) 31 := vp_in_nI ho (by omega)
  have g1 : vp_in (upd lA T (nI x) T) 31 := by rw [pk_us]; exact ix
  have g2 : vp_in (upd jA T (nI p) T) 31 := by rw [pk_us]; exact ip
  have g4 : vp_in (upd lS T (sL x) T) 46 := by rw [pk_us]; exact h4
  have g5 : vp_in (upd jS T (sL p) T) 46 := by rw [pk_us]; exact h5
  have g6 : vp_in (upd oS T (sL o) T) 46 := by rw [pk_us]; exact h6
  unfold wX_takeLeaf_19
  rw [nI_clamp (n := T) (by omega), nI_clamp (n := x) (by omega), nI_clamp (n := p) (by omega), nI_clamp (n := o) (by omega), hil]
  refine ⟨iT, nm_e ⟨iT, nm_e ⟨iT, nm_e ⟨iT, nm_e ⟨ix, iT, nm_e ⟨ip, iT, nm_e ⟨io, iT, nm_e ⟨ip, nm_e (nm_r (nI_1 T) ⟨ip, nm_e ⟨io, nm_e ?_⟩⟩)⟩⟩⟩⟩⟩⟩⟩⟩
  rcases hn with ⟨e1, e2⟩ | ⟨e1, e2, e3⟩
  · refine br_f (by rw [e2]; exact tz_n1le) ?_
    exact tx_t181 hx ho hT g1 g2 g4 g5 g6 (fun q1 q2 q3 q4 => h o q1 q2 q3 q4 nL nR (Or.inl ⟨e1, rfl, rfl, rfl⟩))
  · refine br_t (tz_v0' e2) ⟨e2, ?_⟩
    by_cases hq : tz_c nL (tz_c nP p) = p
    · refine br_t ((tz_ve e3).trans (congrArg nI hq)) ⟨e2, nm_e ?_⟩
      exact tx_t181 hx ho hT g1 g2 g4 g5 g6 (fun q1 q2 q3 q4 => h tp q1 q2 q3 q4 (upd nL (tz_c nP p) (nI o)) nR (Or.inr (Or.inl ⟨e1, hq, rfl, rfl, rfl⟩)))
    · refine br_f (fun z => hq (tz_c_of z (by omega))) ⟨e2, nm_e ?_⟩
      exact tx_t181 hx ho hT g1 g2 g4 g5 g6 (fun q1 q2 q3 q4 => h tp q1 q2 q3 q4 nL (upd nR (tz_c nP p) (nI o)) (Or.inr (Or.inr ⟨e1, hq, rfl, rfl, rfl⟩)))
theorem tx_take (hC : tz_CV aK aL aR aS aV d T A tp nL nR nP sL lA jA oA iL lS jS oS sO fF fS) (ax : A x = true) (kx : aK x = 1) (xt : x ≠ tp)
    (hi : (il = 1 ∧ tz_c nL (tz_c nP x) = x) ∨ (il = 0 ∧ tz_c nL (tz_c nP x) ≠ x))
    (h : ∀ (tp' : Nat) (A' : Nat → Bool) (o1' o2' o3' o4' : Int32) (nL' nR' nP' sL' lA' jA' oA' iL' lS' jS' oS' sO' fF' fS' : Nat → Int32), tz_CV aK aL aR aS aV d (T + 1) A' tp' nL' nR' nP' sL' lA' jA' oA' iL' lS' jS' oS' sO' fF' fS' → post (fj, nI tp', fl, fc, nI (T + 1), o1', o2', o3', o4', aK, aS, aV, aL, aR, nL', nR', nP', sL', lr, sk, fF', fS', dF, dS, tc, lA', jA', oA', iL', lS', jS', oS', sO')) :
    wpX_takeLeaf post (fj, nI tp, fl, fc, nI T, o1, o2, o3, o4, aK, aS, aV, aL, aR, nL, nR, nP, sL, lr, sk, fF, fS, dF, dS, tc, lA, jA, oA, iL, lS, jS, oS, sO) (nI x) (nI (tz_c nP x)) il := by
  obtain ⟨hN, hS, hO⟩ := hC
  have hN' := hN
  obtain ⟨hP, n2, n3, n4, n5, n6, n7⟩ := hN'
  obtain ⟨c1, c2, c3⟩ := hP.2.2.2 x ax xt
  generalize hpe : tz_c nP x = p at *
  have hT : T < 15 := tz_NT_lt hN c1 c2
  have p31 := (hP.2.1 p c1).1
  have x31 := (hP.2.1 x ax).1
  have s46 : ∀ n, A n = true → vp_in (sL n) 46 := fun n an => tz_vm (n6 n an) (by omega)
  have hn : (p = tp ∧ nP p = -1) ∨ (p ≠ tp ∧ vp_in (nP p) 31 ∧ vp_in (nL (tz_c nP p)) 31) := by
    by_cases e : p = tp
    · exact Or.inl ⟨e, by rw [e]; exact n5⟩
    · obtain ⟨d1, d2, d3⟩ := hP.2.2.2 p c1 e
      exact Or.inr ⟨e, n3 p c1 e, (n2 _ d1 d2).1⟩
  have fin : ∀ (o : Nat) (il : Int32), ((il ≠ 0 ∧ x = tz_c nL p ∧ o = tz_c nR p) ∨ (il = 0 ∧ x = tz_c nR p ∧ o = tz_c nL p)) → vp_nar .boolean il = il → wX_takeLeaf_19 post (nI x) (nI p) il (nI o) fj (nI tp) fl fc (nI T) o1 o2 o3 o4 aK aS aV aL aR nL nR nP sL lr sk fF fS dF dS tc lA jA oA iL lS jS oS sO := by
    intro o il hx hil
    have hX : tz_XO d (tz_c nL) (tz_c nR) (tz_c nP) A tp p x o := tz_xo hP c1 c2 kx (by
      rcases hx with ⟨-, a, b⟩ | ⟨-, a, b⟩
      · exact Or.inl ⟨a, b⟩
      · exact Or.inr ⟨a, b⟩)
    have hX' := hX
    obtain ⟨x1, x2, x3, x4, x5, x6, x7, x8, x9, x10, x11⟩ := hX'
    have o31 := (hP.2.1 o x2).1
    refine tx_t19 x31 p31 o31 hT hil (s46 x x1) (s46 p c1) (s46 o x2) hn ?_
    intro tp' q1 q2 q3 q4 nL' nR' ht
    refine h tp' (tz_rm A p x) q1 q2 q3 q4 nL' nR' _ _ _ _ _ _ _ _ _ _ _ _ ⟨tz_NT_st hN c1 c2 kx hX hT ht, ?_, tz_SO_st hO p31 x2 c2 kx x3 x10 o31 hT⟩
    refine tz_ST_st hS hN c1 c2 kx hx hX ht hT ?_
    rw [tz_G_us x31 p31 o31]
    exact ⟨rfl, rfl⟩
  have cp : (nI p).toNatClampNeg = p := nI_clamp (by omega)
  have ip : vp_in (nI p) 31 := vp_in_nI p31 (by omega)
  unfold wpX_takeLeaf
  dsimp only
  rw [cp]
  rcases hi with ⟨rfl, e⟩ | ⟨rfl, e⟩
  · refine br_f (by decide) ⟨ip, ?_⟩
    rw [tz_ve (n2 p c1 c2).2]
    exact fin (tz_c nR p) 1 (Or.inl ⟨by decide, e.symm, rfl⟩) tz_vb1
  · refine br_t rfl ⟨ip, ?_⟩
    rw [tz_ve (n2 p c1 c2).1]
    exact fin (tz_c nL p) 0 (Or.inr ⟨rfl, (c3.resolve_left e).symm, rfl⟩) tz_vb0
end TZF
end
section
section TZG
/-! G: takeLeaves -/
variable {post : SX → Prop} {x1 : Int32} {ll T0 : Nat} {d : Nat → Nat}
variable {fj fc : Int32} {aK aS aV aL aR lr sk dF dS tc : Nat → Int32}
theorem tx_takes (hll : ll ≤ 16) (hx1 : x1 = 0 ∨ x1 = 1) (hlr : ∀ k, k < ll → ∃ x, lr k = nI x ∧ x < 31 ∧ aK x = 1)
    (h : ∀ (T tp : Nat) (A : Nat → Bool) (o1' o2' o3' o4' : Int32) (nL' nR' nP' sL' lA' jA' oA' iL' lS' jS' oS' sO' fF' fS' : Nat → Int32), T0 < T → tz_CV aK aL aR aS aV d T A tp nL' nR' nP' sL' lA' jA' oA' iL' lS' jS' oS' sO' fF' fS' → post (fj, nI tp, nI ll, fc, nI T, o1', o2', o3', o4', aK, aS, aV, aL, aR, nL', nR', nP', sL', lr, sk, fF', fS', dF, dS, tc, lA', jA', oA', iL', lS', jS', oS', sO')) :
    ∀ (n k T tp : Nat) (A : Nat → Bool) (o1 o2 o3 o4 : Int32) (nL nR nP sL lA jA oA iL lS jS oS sO fF fS : Nat → Int32), ll + 2 ≤ k + 2 * n → k ≤ ll + 1 → tz_CV aK aL aR aS aV d T A tp nL nR nP sL lA jA oA iL lS jS oS sO fF fS →
      (T0 < T ∨ (k = 0 ∧ 0 < ll ∧ x1 = 1 ∧ T0 = T ∧ ∀ x, lr 0 = nI x → x < 31 → A x = true ∧ x ≠ tp ∧ tz_c nL (tz_c nP x) = x)) →
      wX_takeLeaves_2 post x1 n (nI k) fj (nI tp) (nI ll) fc (nI T) o1 o2 o3 o4 aK aS aV aL aR nL nR nP sL lr sk fF fS dF dS tc lA jA oA iL lS jS oS sO := by
  intro n
  induction n with
  | zero => intro k T tp A o1 o2 o3 o4 nL nR nP sL lA jA oA iL lS jS oS sO fF fS h1 h2; omega
  | succ n ih =>
    intro k T tp A o1 o2 o3 o4 nL nR nP sL lA jA oA iL lS jS oS sO fF fS h1 h2 hC hG
    unfold wX_takeLeaves_2
    by_cases hk : ll ≤ k
    · refine br_t (nI_le hk (by omega)) ?_
      rcases hG with hG | ⟨a, b, -⟩
      · exact h T tp A o1 o2 o3 o4 nL nR nP sL lA jA oA iL lS jS oS sO fF fS hG hC
      · omega
    · have hk2 : k < ll := by omega
      obtain ⟨x, e1, x31, kx⟩ := hlr k hk2
      have hcx : (nI x).toNatClampNeg = x := nI_clamp (by omega)
      have h22 : nI k + 2 = nI (k + 2) := nI_add k 2
      have hC' := hC
      obtain ⟨⟨hP, n2, n3, n4, n5, n6, n7⟩, -, -⟩ := hC'
      refine br_f (nI_ge hk2 (by omega)) ⟨vp_in_nI (by omega) (by omega), ?_⟩
      rw [nI_clamp (n := k) (by omega), e1]
      refine nm_e ⟨vp_in_nI x31 (by omega), ?_⟩
      rw [hcx]
      refine nm_e ?_
      -- nothing is taken here
      have skip : T0 < T → wX_takeLeaves_2 post x1 n (nI k + 2) fj (nI tp) (nI ll) fc (nI T) o1 o2 o3 o4 aK aS aV aL aR nL nR nP sL lr sk fF fS dF dS tc lA jA oA iL lS jS oS sO := by
        intro z
        rw [h22]
        exact ih (k + 2) T tp A o1 o2 o3 o4 nL nR nP sL lA jA oA iL lS jS oS sO fF fS (by omega) (by omega) hC (Or.inl z)
      by_cases hA : A x = true ∧ x ≠ tp
      · obtain ⟨ax, xt⟩ := hA
        obtain ⟨c1, c2, c3⟩ := hP.2.2.2 x ax xt
        have ip : vp_in (nP x) 31 := n3 x ax xt
        have ep : nP x = nI (tz_c nP x) := tz_ve ip
        have ip2 : vp_in (nL (tz_c nP x)) 31 := (n2 _ c1 c2).1
        have take : ∀ il : Int32, ((il = 1 ∧ tz_c nL (tz_c nP x) = x) ∨ (il = 0 ∧ tz_c nL (tz_c nP x) ≠ x)) → wpX_takeLeaf (fun u => match u with | (fj8, ft8, fl8, fc8, fs8, o18, o28, o38, o48, aK8, aS8, aV8, aL8, aR8, nL8, nR8, nP8, sL8, lr8, sk8, fF8, fS8, dF8, dS8, tc8, lA8, jA8, oA8, iL8, lS8, jS8, oS8, sO8) => ∀ x2_45 : Int32, x2_45 = nI k + 2 → wX_takeLeaves_2 post x1 n x2_45 fj8 ft8 fl8 fc8 fs8 o18 o28 o38 o48 aK8 aS8 aV8 aL8 aR8 nL8 nR8 nP8 sL8 lr8 sk8 fF8 fS8 dF8 dS8 tc8 lA8 jA8 oA8 iL8 lS8 jS8 oS8 sO8) (fj, nI tp, nI ll, fc, nI T, o1, o2, o3, o4, aK, aS, aV, aL, aR, nL, nR, nP, sL, lr, sk, fF, fS, dF, dS, tc, lA, jA, oA, iL, lS, jS, oS, sO) (nI x) (nI (tz_c nP x)) il := by
          intro il hi
          refine tx_take hC ax kx xt hi ?_
          intro tp' A' o1' o2' o3' o4' nL' nR' nP' sL' lA' jA' oA' iL' lS' jS' oS' sO' fF' fS' hC'
          refine nm_r h22 ?_
          exact ih (k + 2) (T + 1) tp' A' o1' o2' o3' o4' nL' nR' nP' sL' lA' jA' oA' iL' lS' jS' oS' sO' fF' fS' (by omega) (by omega) hC' (Or.inl (by
            rcases hG with hG | ⟨-, -, -, hG, -⟩ <;> omega))
        refine br_f (tz_v0 ip) ⟨ip, ?_⟩
        by_cases hq : tz_c nL (tz_c nP x) = x
        · refine br_t ((tz_ve ip2).trans (congrArg nI hq)) ?_
          unfold wX_takeLeaves_46
          refine br_f (tz_v0 ip) ?_
          rcases hx1 with hx1 | hx1
          · refine br_f (by rw [hx1]; decide) (nm_e (skip ?_))
            rcases hG with hG | ⟨-, -, hG, -⟩
            · exact hG
            · rw [hx1] at hG; exact absurd hG (by decide)
          · refine br_t hx1.symm ?_
            rw [ep]
            exact take 1 (Or.inl ⟨rfl, hq⟩)
        · refine br_f (fun z => hq (tz_c_of z (by omega))) ?_
          unfold wX_takeLeaves_45 wX_takeLeaves_46
          refine br_f (tz_v0 ip) ?_
          rcases hx1 with hx1 | hx1
          · refine br_t hx1.symm ?_
            rw [ep]
            exact take 0 (Or.inr ⟨rfl, hq⟩)
          · refine br_f (by rw [hx1]; decide) (nm_e (skip ?_))
            rcases hG with hG | ⟨e0, -, -, -, hG⟩
            · exact hG
            · exact absurd (hG x (by rw [← e0]; exact e1) x31).2.2 hq
      · have en : nP x = -1 := by
          by_cases ax : A x = true
          · have : x = tp := by
              by_cases xt : x = tp
              · exact xt
              · exact absurd ⟨ax, xt⟩ hA
            rw [this]; exact n5
          · exact n4 x x31 kx (by simpa using ax)
        have hneg : nP x < 0 := by rw [en]; exact tz_n1lt
        refine br_t hneg ?_
        unfold wX_takeLeaves_45 wX_takeLeaves_46
        refine br_t hneg (nm_e (skip ?_))
        rcases hG with hG | ⟨e0, -, -, -, hG⟩
        · exact hG
        · have := hG x (by rw [← e0]; exact e1) x31
          exact absurd ⟨this.1, this.2.1⟩ hA
theorem tx_takesw {T tp : Nat} {A : Nat → Bool} {o1 o2 o3 o4 : Int32} {nL nR nP sL lA jA oA iL lS jS oS sO fF fS : Nat → Int32} (hll : ll ≤ 16) (hx1 : x1 = 0 ∨ x1 = 1) (hlr : ∀ k, k < ll → ∃ x, lr k = nI x ∧ x < 31 ∧ aK x = 1)
    (hC : tz_CV aK aL aR aS aV d T A tp nL nR nP sL lA jA oA iL lS jS oS sO fF fS)
    (hG : T0 < T ∨ (0 < ll ∧ x1 = 1 ∧ T0 = T ∧ ∀ x, lr 0 = nI x → x < 31 → A x = true ∧ x ≠ tp ∧ tz_c nL (tz_c nP x) = x))
    (h : ∀ (T tp : Nat) (A : Nat → Bool) (o1' o2' o3' o4' : Int32) (nL' nR' nP' sL' lA' jA' oA' iL' lS' jS' oS' sO' fF' fS' : Nat → Int32), T0 < T → tz_CV aK aL aR aS aV d T A tp nL' nR' nP' sL' lA' jA' oA' iL' lS' jS' oS' sO' fF' fS' → post (fj, nI tp, nI ll, fc, nI T, o1', o2', o3', o4', aK, aS, aV, aL, aR, nL', nR', nP', sL', lr, sk, fF', fS', dF, dS, tc, lA', jA', oA', iL', lS', jS', oS', sO')) :
    wpX_takeLeaves post (fj, nI tp, nI ll, fc, nI T, o1, o2, o3, o4, aK, aS, aV, aL, aR, nL, nR, nP, sL, lr, sk, fF, fS, dF, dS, tc, lA, jA, oA, iL, lS, jS, oS, sO) x1 := by
  refine ⟨20, ?_⟩
  have := tx_takes (fj := fj) (fc := fc) (sk := sk) (dF := dF) (dS := dS) (tc := tc) hll hx1 hlr h 20 0 T tp A o1 o2 o3 o4 nL nR nP sL lA jA oA iL lS jS oS sO fF fS (by omega) (by omega) hC (by
    rcases hG with hG | ⟨a, b, c, e⟩
    · exact Or.inl hG
    · exact Or.inr ⟨rfl, a, b, c, e⟩)
  rw [nI_0] at this
  exact this
end TZG
end
section
section TZH
/-! H: listLeaves: a walk with a stack; V: the joints that were opened -/
def tz_DF (K : Nat → Int32) (A : Nat → Bool) (l q : Nat → Nat) (tp : Nat) (V : Nat → Bool) (D s ll : Nat) (sk lr : Nat → Int32) : Prop :=
  (∀ i, i < D → vp_in (sk i) 31 ∧ A (tz_c sk i) = true ∧ V (tz_c sk i) = false ∧ (tz_c sk i = tp ∨ V (q (tz_c sk i)) = true)) ∧
  (∀ i j, i < D → j < D → tz_c sk i = tz_c sk j → i = j) ∧
  (∀ n, V n = true → A n = true ∧ K n = 2 ∧ (n = tp ∨ V (q n) = true)) ∧
  D + ll = 1 + tz_cn V 31 ∧ s = tz_cn V 31 + ll ∧
  (∀ k, k < ll → ∃ x, lr k = nI x ∧ x < 31 ∧ K x = 1) ∧
  (ll = 0 → 0 < D ∧ (tz_c sk (D - 1) = tp ∨ l (q (tz_c sk (D - 1))) = tz_c sk (D - 1))) ∧
  (0 < ll → ∀ x, lr 0 = nI x → x < 31 → A x = true ∧ x ≠ tp ∧ l (q x) = x)
theorem tz_DF_cn {K : Nat → Int32} {A V : Nat → Bool} {l q : Nat → Nat} {tp D s ll T : Nat} {sk lr : Nat → Int32} (h : tz_DF K A l q tp V D s ll sk lr) (hc : tz_cn (fun n => A n && decide (K n = 2)) 31 + T ≤ 15) : tz_cn V 31 ≤ 15 := by
  obtain ⟨h1, h2, h3, h4, h5, h6, h7, h8⟩ := h
  have := tz_cn_mono (P := V) (Q := fun n => A n && decide (K n = 2)) (n := 31) (by
    intro i _ hi
    obtain ⟨a, b, -⟩ := h3 i hi
    show (A i && decide (K i = 2)) = true
    rw [a, decide_eq_true b]; rfl)
  omega
theorem tz_DF_0 {K : Nat → Int32} {A : Nat → Bool} {l q : Nat → Nat} {tp : Nat} {sk lr : Nat → Int32} (ht : tp < 31) (hA : A tp = true) : tz_DF K A l q tp (fun _ => false) 1 0 0 (upd sk 0 (nI tp)) lr := by
  have e : tz_c (upd sk 0 (nI tp)) 0 = tp := tz_c_us (by omega)
  have e0 : tz_cn (fun _ => false) 31 = 0 := by
    have h2 : ∀ n, tz_cn (fun _ => false) n = 0 := by
      intro n
      induction n with
      | zero => rfl
      | succ n ih => rw [tz_cn_s, ih]; rfl
    exact h2 31
  refine ⟨?_, ?_, ?_, ?_, ?_, ?_, ?_, ?_⟩
  · intro i hi
    have : i = 0 := by omega
    subst this
    rw [e, pk_us]
    exact ⟨vp_in_nI ht (by omega), hA, rfl, Or.inl rfl⟩
  · intro i j hi hj _; omega
  · intro n hn; exact absurd (show false = true from hn) (by decide)
  · rw [e0]
  · rw [e0]
  · intro k hk; omega
  · intro _; exact ⟨by omega, Or.inl e⟩
  · intro z; omega
theorem tz_DF_leaf {K : Nat → Int32} {A V : Nat → Bool} {l q : Nat → Nat} {tp D s ll : Nat} {sk lr : Nat → Int32} (h : tz_DF K A l q tp V (D + 1) s ll sk lr) (ht : K tp = 2) (hk : K (tz_c sk D) = 1) (hA : ∀ n, A n = true → n < 31) :
    tz_DF K A l q tp V D (s + 1) (ll + 1) sk (upd lr ll (nI (tz_c sk D))) := by
  obtain ⟨h1, h2, h3, h4, h5, h6, h7, h8⟩ := h
  obtain ⟨b1, b2, b3, b4⟩ := h1 D (by omega)
  have x31 := hA _ b2
  have xt : tz_c sk D ≠ tp := fun e => by rw [e, ht] at hk; exact absurd hk (by decide)
  refine ⟨fun i hi => h1 i (by omega), fun i j hi hj => h2 i j (by omega) (by omega), h3, by omega, by omega, ?_, fun z => by omega, ?_⟩
  · intro k hk2
    by_cases e : k = ll
    · rw [e, pk_us]; exact ⟨_, rfl, x31, hk⟩
    · rw [pk_un e]; exact h6 k (by omega)
  · intro _ x ex hx
    by_cases e : ll = 0
    · subst e
      rw [pk_us] at ex
      have : tz_c sk D = x := tz_im ex (by omega) (by omega)
      subst this
      have h70 := (h7 rfl).2
      rw [Nat.add_sub_cancel] at h70
      exact ⟨b2, xt, h70.resolve_left xt⟩
    · rw [pk_un (fun z => e z.symm)] at ex
      exact h8 (by omega) x ex hx
theorem tz_DF_joint {K : Nat → Int32} {A V : Nat → Bool} {d : Nat → Nat} {tp D s ll : Nat} {nL nR sk lr : Nat → Int32} {q : Nat → Nat} (hP : tz_PT K d (tz_c nL) (tz_c nR) q A tp) (hv : ∀ j, A j = true → K j = 2 → vp_in (nL j) 31 ∧ vp_in (nR j) 31)
    (h : tz_DF K A (tz_c nL) q tp V (D + 1) s ll sk lr) (hk : K (tz_c sk D) ≠ 1) :
    tz_DF K A (tz_c nL) q tp (fun n => V n || decide (n = tz_c sk D)) (D + 2) (s + 1) ll (upd (upd sk D (nR (tz_c sk D))) (D + 1) (nL (tz_c sk D))) lr := by
  obtain ⟨h1, h2, h3, h4, h5, h6, h7, h8⟩ := h
  obtain ⟨b1, b2, b3, b4⟩ := h1 D (by omega)
  obtain ⟨t1, t2, t3, t4⟩ := hP
  have h2y := h2
  generalize hy : tz_c sk D = y at *
  have ky : K y = 2 := (t2 y b2).2.resolve_left hk
  have y31 := (t2 y b2).1
  obtain ⟨v1, v2⟩ := hv y b2 ky
  obtain ⟨c1, c2, c3, c4, c5, c6, c7, c8, c9⟩ := t3 y b2 ky
  have eL : tz_c (upd (upd sk D (nR y)) (D + 1) (nL y)) (D + 1) = tz_c nL y := by
    unfold tz_c; rw [pk_us]
  have eR : tz_c (upd (upd sk D (nR y)) (D + 1) (nL y)) D = tz_c nR y := by
    unfold tz_c; rw [pk_un (by omega), pk_us]
  have eo : ∀ i, i < D → upd (upd sk D (nR y)) (D + 1) (nL y) i = sk i := fun i hi => by rw [pk_un (by omega), pk_un (by omega)]
  have eoc : ∀ i, i < D → tz_c (upd (upd sk D (nR y)) (D + 1) (nL y)) i = tz_c sk i := fun i hi => by unfold tz_c; rw [eo i hi]
  have ny : ∀ i, i < D → tz_c sk i ≠ y := fun i hi e => by
    have := h2 i D (by omega) (by omega) (by rw [e, hy]); omega
  -- a child of y was not met before
  have new : ∀ c, q c = y → c ≠ tp → V c = false ∧ ∀ i, i < D → tz_c sk i ≠ c := by
    intro c qc ct
    constructor
    · cases hV : V c with
      | false => rfl
      | true =>
        rcases (h3 c hV).2.2 with e | e
        · exact absurd e ct
        · rw [qc, b3] at e; exact absurd e (by decide)
    · intro i hi e
      obtain ⟨-, -, -, g4⟩ := h1 i (by omega)
      rw [e] at g4
      rcases g4 with g4 | g4
      · exact ct g4
      · rw [qc, b3] at g4; exact absurd g4 (by decide)
  have nl := new _ c4 c6
  have nr := new _ c5 c7
  have dl : tz_c nL y ≠ y := fun e => by rw [e] at c8; omega
  have dr : tz_c nR y ≠ y := fun e => by rw [e] at c9; omega
  have Vy : ∀ n, n ≠ y → V n = false → (V n || decide (n = y)) = false := fun n hn hV => by rw [hV, decide_eq_false hn]; rfl
  have Vm : ∀ n, V n = true → (V n || decide (n = y)) = true := fun n hV => by rw [hV]; rfl
  have Vyy : (V y || decide (y = y)) = true := by rw [decide_eq_true rfl, Bool.or_true]
  have hcn := tz_cn_ins (P := V) (Q := fun n => V n || decide (n = y)) (i := y) b3 Vyy (n := 31) y31 (fun j _ hj => by
    show (V j || decide (j = y)) = V j
    rw [decide_eq_false hj, Bool.or_false])
  refine ⟨?_, ?_, ?_, ?_, ?_, h6, ?_, h8⟩
  · intro i hi
    by_cases i1 : i = D + 1
    · subst i1
      rw [eL, pk_us]
      exact ⟨v1, c1, Vy _ dl nl.1, Or.inr (by rw [c4]; exact Vyy)⟩
    · by_cases i2 : i = D
      · subst i2
        rw [eR, pk_un i1, pk_us]
        exact ⟨v2, c2, Vy _ dr nr.1, Or.inr (by rw [c5]; exact Vyy)⟩
      · have hi3 : i < D := by omega
        obtain ⟨g1, g2, g3, g4⟩ := h1 i (by omega)
        rw [eoc i hi3, eo i hi3]
        exact ⟨g1, g2, Vy _ (ny i hi3) g3, g4.imp id (Vm _)⟩
  · intro i j hi hj e
    by_cases i1 : i = D + 1
    · subst i1
      rw [eL] at e
      by_cases j1 : j = D + 1
      · exact j1.symm
      · by_cases j2 : j = D
        · subst j2; rw [eR] at e; exact absurd e c3
        · rw [eoc j (by omega)] at e; exact absurd e.symm (nl.2 j (by omega))
    · by_cases i2 : i = D
      · subst i2
        rw [eR] at e
        by_cases j1 : j = i + 1
        · subst j1; rw [eL] at e; exact absurd e.symm c3
        · by_cases j2 : j = i
          · exact j2.symm
          · rw [eoc j (by omega)] at e; exact absurd e.symm (nr.2 j (by omega))
      · rw [eoc i (by omega)] at e
        by_cases j1 : j = D + 1
        · subst j1; rw [eL] at e; exact absurd e (nl.2 i (by omega))
        · by_cases j2 : j = D
          · subst j2; rw [eR] at e; exact absurd e (nr.2 i (by omega))
          · rw [eoc j (by omega)] at e; exact h2 i j (by omega) (by omega) e
  · intro n hn
    by_cases e : n = y
    · subst e
      exact ⟨b2, ky, b4.imp id (Vm _)⟩
    · have hV : V n = true := by
        have hn2 : (V n || decide (n = y)) = true := hn
        rw [decide_eq_false e, Bool.or_false] at hn2
        exact hn2
      obtain ⟨g1, g2, g3⟩ := h3 n hV
      exact ⟨g1, g2, g3.imp id (Vm _)⟩
  · rw [hcn]; omega
  · rw [hcn]; omega
  · intro z
    refine ⟨by omega, Or.inr ?_⟩
    have : D + 2 - 1 = D + 1 := by omega
    rw [this, eL, c4]
variable {post : SX → Prop} {d : Nat → Nat} {T tp : Nat} {A : Nat → Bool}
variable {fj ft fl fc fs o1 o2 o3 o4 : Int32} {aK aS aV aL aR nL nR nP sL lr sk fF fS dF dS tc lA jA oA iL lS jS oS sO : Nat → Int32}
theorem tx_list (hP : tz_PT aK d (tz_c nL) (tz_c nR) (tz_c nP) A tp) (hv : ∀ j, A j = true → aK j = 2 → vp_in (nL j) 31 ∧ vp_in (nR j) 31) (hc : tz_cn (fun n => A n && decide (aK n = 2)) 31 + T ≤ 15) (ht : aK tp = 2)
    (h : ∀ (ll : Nat) (lr sk : Nat → Int32), ll ≤ 16 → 0 < ll → (∀ k, k < ll → ∃ x, lr k = nI x ∧ x < 31 ∧ aK x = 1) → (∀ x, lr 0 = nI x → x < 31 → A x = true ∧ x ≠ tp ∧ tz_c nL (tz_c nP x) = x) → post (fj, ft, nI ll, fc, fs, o1, o2, o3, o4, aK, aS, aV, aL, aR, nL, nR, nP, sL, lr, sk, fF, fS, dF, dS, tc, lA, jA, oA, iL, lS, jS, oS, sO)) :
    ∀ (n D s ll : Nat) (V : Nat → Bool) (sk lr : Nat → Int32), 40 ≤ s + n → tz_DF aK A (tz_c nL) (tz_c nP) tp V D s ll sk lr →
      wX_listLeaves_19 post fj ft fc fs o1 o2 o3 o4 n (nI D) (nI s) (nI ll) aK aS aV aL aR nL nR nP sL lr sk fF fS dF dS tc lA jA oA iL lS jS oS sO := by
  intro n
  induction n with
  | zero =>
    intro D s ll V sk lr h1 h2
    have h15 := tz_DF_cn h2 hc
    obtain ⟨g1, g2, g3, g4, g5, g6, g7, g8⟩ := h2
    omega
  | succ n ih =>
    intro D s ll V sk lr h1 h2
    have h15 := tz_DF_cn h2 hc
    have h2' := h2
    obtain ⟨g1, g2, g3, g4, g5, g6, g7, g8⟩ := h2'
    have hs : s < 32 := by omega
    have hll : ll ≤ 16 := by omega
    unfold wX_listLeaves_19
    refine br_f (nI_ge (b := 32) hs (by omega)) ?_
    cases D with
    | zero =>
      have l0 : 0 < ll := by
        cases ll with
        | zero => have := (g7 rfl).1; omega
        | succ m => omega
      exact br_t (nI_le (b := 0) (Nat.le_refl _) (by omega)) (h ll lr sk hll l0 g6 (g8 l0))
    | succ D =>
      refine br_f (nI_nle (by omega) (by omega)) (nm_r (pk_m1 D) ⟨vp_in_nI (by omega) (by omega), ?_⟩)
      rw [nI_clamp (n := D) (by omega)]
      obtain ⟨b1, b2, b3, b4⟩ := g1 D (by omega)
      refine nm_e ⟨b1, ?_⟩
      by_cases hk : aK (tz_c sk D) = 1
      · refine br_t hk ⟨vp_in_nI (by omega) (by omega), ?_⟩
        rw [nI_clamp (n := ll) (by omega), tz_ve b1]
        exact nm_e (nm_r (nI_1 ll) (nm_r (nI_1 s) (ih D (s + 1) (ll + 1) V sk _ (by omega) (tz_DF_leaf h2 ht hk (fun n an => (hP.2.1 n an).1)))))
      · refine br_f hk ⟨b1, vp_in_nI (by omega) (by omega), nm_e ⟨b1, ?_⟩⟩
        rw [nI_1 D, nI_clamp (n := D + 1) (by omega)]
        exact ⟨vp_in_nI (by omega) (by omega), nm_e (nm_r (nI_add D 2) (nm_r (nI_1 s) (ih (D + 2) (s + 1) ll _ _ lr (by omega) (tz_DF_joint hP hv h2 hk))))⟩
theorem tx_listw (hP : tz_PT aK d (tz_c nL) (tz_c nR) (tz_c nP) A tp) (hv : ∀ j, A j = true → aK j = 2 → vp_in (nL j) 31 ∧ vp_in (nR j) 31) (hc : tz_cn (fun n => A n && decide (aK n = 2)) 31 + T ≤ 15) (ht : aK tp = 2)
    (h : ∀ (ll : Nat) (lr sk : Nat → Int32), ll ≤ 16 → 0 < ll → (∀ k, k < ll → ∃ x, lr k = nI x ∧ x < 31 ∧ aK x = 1) → (∀ x, lr 0 = nI x → x < 31 → A x = true ∧ x ≠ tp ∧ tz_c nL (tz_c nP x) = x) → post (fj, nI tp, nI ll, fc, fs, o1, o2, o3, o4, aK, aS, aV, aL, aR, nL, nR, nP, sL, lr, sk, fF, fS, dF, dS, tc, lA, jA, oA, iL, lS, jS, oS, sO)) :
    wpX_listLeaves post (fj, nI tp, fl, fc, fs, o1, o2, o3, o4, aK, aS, aV, aL, aR, nL, nR, nP, sL, lr, sk, fF, fS, dF, dS, tc, lA, jA, oA, iL, lS, jS, oS, sO) := by
  refine nm_e ⟨40, ?_⟩
  have := tx_list (fj := fj) (ft := nI tp) (fc := fc) (fs := fs) (o1 := o1) (o2 := o2) (o3 := o3) (o4 := o4) hP hv hc ht h 40 1 0 0 (fun _ => false) (upd sk 0 (nI tp)) lr (by omega) (tz_DF_0 (hP.2.1 tp hP.1).1 hP.1)
  rw [nI_0] at this
  exact this
end TZH
end
section
section TZI
/-! I: contract -/
def tz_At (K : Nat → Int32) : Nat → Bool := fun n => decide (n < 31) && decide (K n ≠ 0)
theorem tz_At_iff {K : Nat → Int32} {n : Nat} : tz_At K n = true ↔ n < 31 ∧ K n ≠ 0 := by
  unfold tz_At
  rw [Bool.and_eq_true, decide_eq_true_iff, decide_eq_true_iff]
/-- the tree of the nodes that are there -/
def tz_TR (K aL aR : Nat → Int32) (d P : Nat → Nat) (jc : Nat) : Prop :=
  tz_PT K d (tz_c aL) (tz_c aR) P (tz_At K) 0 ∧ (∀ j, j < 31 → K j = 2 → vp_in (aL j) 31 ∧ vp_in (aR j) 31) ∧
  (∀ n, n < 31 → K n = 0 ∨ K n = 1 ∨ K n = 2) ∧ tz_cn (fun n => decide (K n = 2)) 31 = jc ∧ tz_cn (fun n => decide (K n ≠ 0)) 31 = 2 * jc + 1 ∧ jc ≤ 15
theorem tz_J_At {K : Nat → Int32} {j : Nat} (hj : j < 31) (kj : K j = 2) : tz_At K j = true := tz_At_iff.mpr ⟨hj, by rw [kj]; decide⟩
theorem tz_PT_c {K : Nat → Int32} {d l r q l' r' q' : Nat → Nat} {A : Nat → Bool} {tp : Nat} (h : tz_PT K d l r q A tp) (hl : ∀ j, A j = true → K j = 2 → l' j = l j ∧ r' j = r j) (hq : ∀ n, A n = true → n ≠ tp → q' n = q n) : tz_PT K d l' r' q' A tp := by
  obtain ⟨t1, t2, t3, t4⟩ := h
  refine ⟨t1, t2, ?_, ?_⟩
  · intro j aj kj
    obtain ⟨b1, b2, b3, b4, b5, b6, b7, b8, b9⟩ := t3 j aj kj
    obtain ⟨e1, e2⟩ := hl j aj kj
    rw [e1, e2, hq _ b1 b6, hq _ b2 b7]
    exact ⟨b1, b2, b3, b4, b5, b6, b7, b8, b9⟩
  · intro n an nt
    obtain ⟨c1, c2, c3⟩ := t4 n an nt
    obtain ⟨e1, e2⟩ := hl _ c1 c2
    rw [hq n an nt, e1, e2]
    exact ⟨c1, c2, c3⟩
/-- the contraction begins -/
theorem tz_CV_0 {K aL aR aS aV nL nR nP sL lA jA oA iL lS jS oS sO fF fS : Nat → Int32} {d P : Nat → Nat} {jc : Nat} (h : tz_TR K aL aR d P jc)
    (hi : ∀ n, n < 31 → nL n = aL n ∧ nR n = aR n ∧ sL n = nI n ∧ fF n = 1 ∧ fS n = 0) (hp0 : nP 0 = -1) (hp : ∀ n, tz_At K n = true → n ≠ 0 → nP n = nI (P n)) :
    tz_CV K aL aR aS aV d 0 (tz_At K) 0 nL nR nP sL lA jA oA iL lS jS oS sO fF fS := by
  obtain ⟨hP, h2, h3, h4, h5, h6⟩ := h
  have hP' := hP
  obtain ⟨t1, t2, t3, t4⟩ := hP'
  have hl : ∀ j, tz_At K j = true → K j = 2 → tz_c nL j = tz_c aL j ∧ tz_c nR j = tz_c aR j := by
    intro j aj _
    obtain ⟨a, b, -⟩ := hi j (t2 j aj).1
    unfold tz_c
    rw [a, b]
    exact ⟨rfl, rfl⟩
  have hq : ∀ n, tz_At K n = true → n ≠ 0 → P n < 31 := fun n an n0 => (t2 _ (t4 n an n0).1).1
  have hs : ∀ n, tz_At K n = true → tz_c sL n = n := by
    intro n an
    have n31 := (t2 n an).1
    exact tz_c_of (hi n n31).2.2.1 (by omega)
  have hPT : tz_PT K d (tz_c nL) (tz_c nR) (tz_c nP) (tz_At K) 0 := tz_PT_c hP hl (fun n an n0 => tz_c_of (hp n an n0) (by have := hq n an n0; omega))
  refine ⟨⟨hPT, ?_, ?_, ?_, hp0, ?_, ?_⟩, ⟨?_, ?_, ?_, ?_, ?_⟩, ?_, ?_⟩
  · intro j aj kj
    have j31 := (t2 j aj).1
    obtain ⟨a, b, -⟩ := hi j j31
    rw [a, b]; exact h2 j j31 kj
  · intro n an n0
    rw [hp n an n0]; exact vp_in_nI (hq n an n0) (by omega)
  · intro n n31 kn hn
    have := tz_At_iff.mpr ⟨n31, (by rw [kn]; decide : K n ≠ 0)⟩
    rw [hn] at this
    exact absurd this (by decide)
  · intro n an
    have n31 := (t2 n an).1
    rw [(hi n n31).2.2.1]; exact vp_in_nI n31 (by omega)
  · have := tz_cn_mono (P := fun n => tz_At K n && decide (K n = 2)) (Q := fun n => decide (K n = 2)) (n := 31) (by
      intro i _ h
      exact ((Bool.and_eq_true _ _).mp h).2)
    omega
  · intro e he; omega
  · intro n hn
    exact (hi n hn).2.2.2
  · intro e he; omega
  · exact tz_SEM_0 hP hl hs
  · exact tz_SLP_0 (fun n n31 kn => tz_At_iff.mpr ⟨n31, by rw [kn]; decide⟩) (fun n an => (t2 n an).1) hs
  · intro j j31 kj
    exact Or.inl (tz_J_At j31 kj)
  · intro e he; omega
end TZI
section TZI2
variable {post : SX → Prop} {d : Nat → Nat}
variable {fj fc : Int32} {aK aS aV aL aR dF dS tc : Nat → Int32}
theorem tx_c88 (h : ∀ (T tp : Nat) (A : Nat → Bool) (fl : Int32) (lr sk : Nat → Int32) (o1' o2' o3' o4' : Int32) (nL' nR' nP' sL' lA' jA' oA' iL' lS' jS' oS' sO' fF' fS' : Nat → Int32), aK tp = 1 → tz_CV aK aL aR aS aV d T A tp nL' nR' nP' sL' lA' jA' oA' iL' lS' jS' oS' sO' fF' fS' → post (fj, nI tp, fl, fc, nI T, o1', o2', o3', o4', aK, aS, aV, aL, aR, nL', nR', nP', sL', lr, sk, fF', fS', dF, dS, tc, lA', jA', oA', iL', lS', jS', oS', sO')) :
    ∀ (n r T tp : Nat) (A : Nat → Bool) (fl o1 o2 o3 o4 : Int32) (lr sk nL nR nP sL lA jA oA iL lS jS oS sO fF fS : Nat → Int32), 17 ≤ r + n → r ≤ T → tz_CV aK aL aR aS aV d T A tp nL nR nP sL lA jA oA iL lS jS oS sO fF fS →
      wX_contract_88 post n (nI r) fj (nI tp) fl fc (nI T) o1 o2 o3 o4 aK aS aV aL aR nL nR nP sL lr sk fF fS dF dS tc lA jA oA iL lS jS oS sO := by
  intro n
  induction n with
  | zero =>
    intro r T tp A fl o1 o2 o3 o4 lr sk nL nR nP sL lA jA oA iL lS jS oS sO fF fS h1 h2 hC
    obtain ⟨⟨hP, n2, n3, n4, n5, n6, n7⟩, -, -⟩ := hC
    omega
  | succ n ih =>
    intro r T tp A fl o1 o2 o3 o4 lr sk nL nR nP sL lA jA oA iL lS jS oS sO fF fS h1 h2 hC
    have hC' := hC
    obtain ⟨⟨hP, n2, n3, n4, n5, n6, n7⟩, -, -⟩ := hC'
    have t31 := (hP.2.1 tp hP.1).1
    unfold wX_contract_88
    refine br_f (nI_ge (b := 16) (by omega) (by omega)) ⟨vp_in_nI t31 (by omega), ?_⟩
    rw [nI_clamp (n := tp) (by omega)]
    by_cases hk : aK tp = 2
    · refine br_t hk ?_
      refine tx_listw hP n2 n7 hk ?_
      intro ll lr' sk' l16 l0 hlr hl0
      refine tx_takesw (T0 := T) l16 (Or.inr rfl) hlr hC (Or.inr ⟨l0, rfl, rfl, hl0⟩) ?_
      intro T1 tp1 A1 o1a o2a o3a o4a nLa nRa nPa sLa lAa jAa oAa iLa lSa jSa oSa sOa fFa fSa hT1 hC1
      refine tx_takesw (T0 := T) l16 (Or.inl rfl) hlr hC1 (Or.inl hT1) ?_
      intro T2 tp2 A2 o1b o2b o3b o4b nLb nRb nPb sLb lAb jAb oAb iLb lSb jSb oSb sOb fFb fSb hT2 hC2
      refine nm_r (nI_1 r) ?_
      exact ih (r + 1) T2 tp2 A2 (nI ll) o1b o2b o3b o4b lr' sk' nLb nRb nPb sLb lAb jAb oAb iLb lSb jSb oSb sOb fFb fSb (by omega) (by omega) hC2
    · refine br_f hk ?_
      exact h T tp A fl lr sk o1 o2 o3 o4 nL nR nP sL lA jA oA iL lS jS oS sO fF fS ((hP.2.1 tp hP.1).2.resolve_right hk) hC
end TZI2
section TZI3
variable {post : SX → Prop} {d P : Nat → Nat} {jc : Nat}
variable {fj ft fl fc fs o1 o2 o3 o4 : Int32} {aK aS aV aL aR nL nR nP sL lr sk fF fS dF dS tc lA jA oA iL lS jS oS sO : Nat → Int32}
theorem tx_link (hT : tz_TR aK aL aR d P jc) (h : ∀ nP : Nat → Int32, nP 0 = -1 → (∀ n, tz_At aK n = true → n ≠ 0 → nP n = nI (P n)) → post (fj, ft, fl, fc, fs, o1, o2, o3, o4, aK, aS, aV, aL, aR, nL, nR, nP, sL, lr, sk, fF, fS, dF, dS, tc, lA, jA, oA, iL, lS, jS, oS, sO)) :
    ∀ (n i : Nat) (nP : Nat → Int32), 32 ≤ i + n → i ≤ 31 → nP 0 = -1 → (∀ j, j < i → aK j = 2 → nP (tz_c aL j) = nI j ∧ nP (tz_c aR j) = nI j) → wX_linkParents_9 post fj ft fl fc fs o1 o2 o3 o4 n (nI i) aK aS aV aL aR nL nR nP sL lr sk fF fS dF dS tc lA jA oA iL lS jS oS sO := by
  obtain ⟨⟨t1, t2, t3, t4⟩, h2, h3, h4, h5, h6⟩ := hT
  intro n
  induction n with
  | zero => intro i nP h1 hi; omega
  | succ n ih =>
    intro i nP h1 hi hn0 hn
    unfold wX_linkParents_9
    by_cases hi2 : i < 31
    · have hcl : (nI i).toNatClampNeg = i := nI_clamp (by omega)
      have ii : vp_in (nI i) 31 := vp_in_nI hi2 (by omega)
      refine br_f (nI_ge (b := 31) hi2 (by omega)) ⟨ii, ?_⟩
      rw [hcl]
      by_cases hk : aK i = 2
      · obtain ⟨v1, v2⟩ := h2 i hi2 hk
        obtain ⟨b1, b2, b3, b4, b5, b6, b7, b8, b9⟩ := t3 i (tz_J_At hi2 hk) hk
        refine br_t hk ⟨ii, v1, nm_e ⟨ii, v2, nm_e (nm_r (nI_1 i) ?_)⟩⟩
        refine ih (i + 1) _ (by omega) (by omega) ?_ ?_
        · show upd (upd nP (tz_c aL i) (nI i)) (tz_c aR i) (nI i) 0 = -1
          rw [pk_un (fun z => b7 z.symm), pk_un (fun z => b6 z.symm)]; exact hn0
        · intro j hj kj
          show upd (upd nP (tz_c aL i) (nI i)) (tz_c aR i) (nI i) (tz_c aL j) = nI j ∧ upd (upd nP (tz_c aL i) (nI i)) (tz_c aR i) (nI i) (tz_c aR j) = nI j
          by_cases e : j = i
          · subst e
            rw [pk_un b3, pk_us, pk_us]
            exact ⟨rfl, rfl⟩
          · obtain ⟨c1, c2, c3, c4, c5, c6, c7, c8, c9⟩ := t3 j (tz_J_At (by omega) kj) kj
            rw [pk_un (fun z => e (by rw [← c4, z, b5])), pk_un (fun z => e (by rw [← c4, z, b4])), pk_un (fun z => e (by rw [← c5, z, b5])), pk_un (fun z => e (by rw [← c5, z, b4]))]
            exact hn j (by omega) kj
      · refine br_f hk (nm_r (nI_1 i) ?_)
        refine ih (i + 1) nP (by omega) (by omega) hn0 ?_
        intro j hj kj
        by_cases e : j = i
        · rw [e] at kj; exact absurd kj hk
        · exact hn j (by omega) kj
    · have : i = 31 := by omega
      subst this
      refine br_t (nI_le (a := 31) (Nat.le_refl _) (by omega)) ?_
      refine h nP hn0 ?_
      intro n an n0
      obtain ⟨c1, c2, c3⟩ := t4 n an n0
      obtain ⟨e1, e2⟩ := hn (P n) (t2 _ c1).1 c2
      rcases c3 with c3 | c3
      · rw [c3] at e1; exact e1
      · rw [c3] at e2; exact e2
theorem tx_linkw (hT : tz_TR aK aL aR d P jc) (h : ∀ nP : Nat → Int32, nP 0 = -1 → (∀ n, tz_At aK n = true → n ≠ 0 → nP n = nI (P n)) → post (fj, ft, fl, fc, fs, o1, o2, o3, o4, aK, aS, aV, aL, aR, nL, nR, nP, sL, lr, sk, fF, fS, dF, dS, tc, lA, jA, oA, iL, lS, jS, oS, sO)) : wpX_linkParents post (fj, ft, fl, fc, fs, o1, o2, o3, o4, aK, aS, aV, aL, aR, nL, nR, nP, sL, lr, sk, fF, fS, dF, dS, tc, lA, jA, oA, iL, lS, jS, oS, sO) := by
  refine nm_e ⟨32, ?_⟩
  have := tx_link (fj := fj) (ft := ft) (fl := fl) (fc := fc) (fs := fs) (o1 := o1) (o2 := o2) (o3 := o3) (o4 := o4) hT h 32 0 (upd nP 0 (-1)) (by omega) (by omega) pk_us (fun j hj => by omega)
  rw [nI_0] at this
  exact this
theorem tx_c25 (hT : tz_TR aK aL aR d P jc)
    (h : ∀ (T tp : Nat) (A : Nat → Bool) (fl : Int32) (lr sk : Nat → Int32) (o1' o2' o3' o4' : Int32) (nL' nR' nP' sL' lA' jA' oA' iL' lS' jS' oS' sO' fF' fS' : Nat → Int32), aK tp = 1 → tz_CV aK aL aR aS aV d T A tp nL' nR' nP' sL' lA' jA' oA' iL' lS' jS' oS' sO' fF' fS' → post (fj, nI tp, fl, 1, nI T, o1', o2', o3', o4', aK, aS, aV, aL, aR, nL', nR', nP', sL', lr, sk, fF', fS', dF, dS, tc, lA', jA', oA', iL', lS', jS', oS', sO')) :
    ∀ (n i : Nat) (nL nR sL fF fS : Nat → Int32), 32 ≤ i + n → i ≤ 31 → (∀ j, j < i → nL j = aL j ∧ nR j = aR j ∧ sL j = nI j ∧ fF j = 1 ∧ fS j = 0) → wX_contract_25 post fj 0 fl 1 0 o1 o2 o3 o4 n (nI i) aK aS aV aL aR nL nR nP sL lr sk fF fS dF dS tc lA jA oA iL lS jS oS sO := by
  intro n
  induction n with
  | zero => intro i nL nR sL fF fS h1 hi; omega
  | succ n ih =>
    intro i nL nR sL fF fS h1 hi hn
    unfold wX_contract_25
    by_cases hi2 : i < 31
    · have hcl : (nI i).toNatClampNeg = i := nI_clamp (by omega)
      have ii : vp_in (nI i) 31 := vp_in_nI hi2 (by omega)
      have i6 : vp_in (nI i) 46 := vp_in_nI (by omega) (by omega)
      refine br_f (nI_ge (b := 31) hi2 (by omega)) ?_
      rw [hcl]
      refine ⟨ii, ii, nm_e ⟨ii, ii, nm_e ⟨ii, nm_e ⟨i6, nm_e ⟨i6, nm_e (nm_r (nI_1 i) ?_)⟩⟩⟩⟩⟩
      refine ih (i + 1) _ _ _ _ _ (by omega) (by omega) ?_
      intro j hj
      by_cases e : j = i
      · subst e
        rw [pk_us, pk_us, pk_us, pk_us, pk_us]
        exact ⟨rfl, rfl, rfl, rfl, rfl⟩
      · rw [pk_un e, pk_un e, pk_un e, pk_un e, pk_un e]
        exact hn j (by omega)
    · have : i = 31 := by omega
      subst this
      refine br_t (nI_le (a := 31) (Nat.le_refl _) (by omega)) ?_
      refine tx_linkw hT ?_
      intro nP' hp0 hp
      refine ⟨17, ?_⟩
      have := tx_c88 (fj := fj) (fc := 1) (dF := dF) (dS := dS) (tc := tc) h 17 0 0 0 (tz_At aK) fl o1 o2 o3 o4 lr sk nL nR nP' sL lA jA oA iL lS jS oS sO fF fS (by omega) (by omega) (tz_CV_0 hT hn hp0 hp)
      rw [nI_0] at this
      exact this
theorem tx_contract (hT : tz_TR aK aL aR d P jc) (hc : fc = 0 ∨ (fc = 1 ∧ ∃ (T tp : Nat) (A : Nat → Bool) (d : Nat → Nat), fs = nI T ∧ ft = nI tp ∧ aK tp = 1 ∧ tz_CV aK aL aR aS aV d T A tp nL nR nP sL lA jA oA iL lS jS oS sO fF fS))
    (h : ∀ (T tp : Nat) (A : Nat → Bool) (d : Nat → Nat) (fl : Int32) (lr sk : Nat → Int32) (o1' o2' o3' o4' : Int32) (nL' nR' nP' sL' lA' jA' oA' iL' lS' jS' oS' sO' fF' fS' : Nat → Int32), aK tp = 1 → tz_CV aK aL aR aS aV d T A tp nL' nR' nP' sL' lA' jA' oA' iL' lS' jS' oS' sO' fF' fS' → post (fj, nI tp, fl, 1, nI T, o1', o2', o3', o4', aK, aS, aV, aL, aR, nL', nR', nP', sL', lr, sk, fF', fS', dF, dS, tc, lA', jA', oA', iL', lS', jS', oS', sO')) : wpX_contract post (fj, ft, fl, fc, fs, o1, o2, o3, o4, aK, aS, aV, aL, aR, nL, nR, nP, sL, lr, sk, fF, fS, dF, dS, tc, lA, jA, oA, iL, lS, jS, oS, sO) := by
  rcases hc with rfl | ⟨rfl, T, tp, A, d', rfl, rfl, kt, hC⟩
  · refine br_t rfl ⟨32, ?_⟩
    have := tx_c25 (fj := fj) (fl := fl) (o1 := o1) (o2 := o2) (o3 := o3) (o4 := o4) (nP := nP) (lr := lr) (sk := sk) (lA := lA) (jA := jA) (oA := oA) (iL := iL) (lS := lS) (jS := jS) (oS := oS) (sO := sO) (dF := dF) (dS := dS) (tc := tc) hT (fun T tp A => h T tp A d) 32 0 nL nR sL fF fS (by omega) (by omega) (fun j hj => by omega)
    rw [nI_0] at this
    exact this
  · exact br_f (by decide) (h T tp A d' fl lr sk o1 o2 o3 o4 nL nR nP sL lA jA oA iL lS jS oS sO fF fS kt hC)
end TZI3
end
section
section TZJ
/-! J: the component's value -/
/-- what a finished contraction holds of the joints -/
theorem tz_end {K aL aR aS aV nL nR nP sL lA jA oA iL lS jS oS sO fF fS : Nat → Int32} {d : Nat → Nat} {T tp : Nat} {A : Nat → Bool} (h : tz_CV K aL aR aS aV d T A tp nL nR nP sL lA jA oA iL lS jS oS sO fF fS) (kt : K tp = 1) :
    (∀ j, j < 31 → K j = 2 → vp_in (sO j) T ∧ tz_c jA (tz_c sO j) = j) ∧ (∀ e, e < T → K (tz_c oA e) = 2 → e < tz_c sO (tz_c oA e)) ∧ T ≤ 15 := by
  obtain ⟨⟨hP, n2, n3, n4, n5, n6, n7⟩, -, hO1, hO2⟩ := h
  have hk : K tp ≠ 2 := by rw [kt]; decide
  have hE := tz_PT_end hP hk
  refine ⟨?_, ?_, by omega⟩
  · intro j j31 kj
    rcases hO1 j j31 kj with a | a
    · exact absurd kj (hE (d j + 1) j (by omega) a)
    · exact a
  · intro e he ke
    rcases hO2 e he ke with a | a
    · exact absurd ke (hE (d (tz_c oA e) + 1) _ (by omega) a)
    · exact a
/-- the node that the path reaches after i steps -/
def tz_at (nd : Nat) (oA sk : Nat → Int32) : Nat → Nat
  | 0 => nd
  | i + 1 => tz_c oA (tz_c sk i)
def tz_PA (nd T : Nat) (jA oA sk : Nat → Int32) (D : Nat) : Prop :=
  ∀ i, i < D → vp_in (sk i) T ∧ tz_c jA (tz_c sk i) = tz_at nd oA sk i ∧ i ≤ tz_c sk i
theorem tz_at_c {nd : Nat} {oA sk : Nat → Int32} {D : Nat} {x : Int32} : ∀ i, i ≤ D → tz_at nd oA (upd sk D x) i = tz_at nd oA sk i := by
  intro i hi
  cases i with
  | zero => rfl
  | succ i => show tz_c oA (tz_c (upd sk D x) i) = tz_c oA (tz_c sk i); rw [tz_c_un (by omega)]
variable {post : Int32 → SX → Prop} {d : Nat → Nat} {T tp nd D : Nat} {A : Nat → Bool}
variable {fj ft fl fc fs o1 o2 o3 o4 : Int32} {aK aS aV aL aR nL nR nP sL lr sk fF fS dF dS tc lA jA oA iL lS jS oS sO : Nat → Int32}
theorem tx_v92 (hS : tz_ST aK aL aR aS aV T A tp nL nR sL lA jA oA iL lS jS oS fF fS) (hR : tz_SR aS) (hT : T ≤ 15) (hD : D ≤ 15) (hA : tz_PA nd T jA oA sk D)
    (h : ∀ r, (∀ v, tz_TE aK (tz_c aL) (tz_c aR) aV aS v → r = v nd) → post r (fj, ft, fl, fc, fs, o1, o2, o3, o4, aK, aS, aV, aL, aR, nL, nR, nP, sL, lr, sk, fF, fS, dF, dS, tc, lA, jA, oA, iL, lS, jS, oS, sO)) :
    ∀ (n m : Nat) (x5 : Int32), m < n → m ≤ D → (∀ v, tz_TE aK (tz_c aL) (tz_c aR) aV aS v → x5 = v (tz_at nd oA sk m)) → wX_value_92 post fj ft fl fc fs o1 o2 o3 o4 aK aS aV aL aR nL nR nP sL lr sk fF fS dF dS tc lA jA oA iL lS jS oS sO n x5 (nI m + (-1)) := by
  obtain ⟨h1, h2, h3, h4, h5⟩ := hS
  intro n
  induction n with
  | zero => intro m x5 hm; omega
  | succ n ih =>
    intro m x5 hm hmD hx
    unfold wX_value_92
    cases m with
    | zero => exact br_t (by decide) (h x5 hx)
    | succ m =>
      obtain ⟨p1, p2, p3⟩ := hA m (by omega)
      obtain ⟨e, heT, hse⟩ := vp_in_of p1 (by omega)
      have hce : tz_c sk m = e := tz_c_of hse (by omega)
      rw [hce] at p2 p3
      obtain ⟨r1, r2, r3, r4, r5, r6, r7⟩ := h1 e heT
      have ie : vp_in (nI e) 15 := vp_in_nI (by omega) (by omega)
      have i6 : vp_in (oS e) 46 := tz_vm r6 (by omega)
      have i4 : vp_in (lS e) 46 := tz_vm r4 (by omega)
      have hcm : (nI e).toNatClampNeg = e := nI_clamp (by omega)
      have nxt : ∀ y : Int32, y = tz_ord (iL e) (aS (tz_c jA e)) (fF (tz_c lS e) * aV (tz_c lA e) + fS (tz_c lS e)) (fF (tz_c oS e) * x5 + fS (tz_c oS e)) → wX_value_92 post fj ft fl fc fs o1 o2 o3 o4 aK aS aV aL aR nL nR nP sL lr sk fF fS dF dS tc lA jA oA iL lS jS oS sO n y (nI m + (-1)) := by
        intro y ey
        refine ih m y (by omega) (by omega) ?_
        intro v hv
        have hsv := (h4 aV aS fF fS v hR h2 h3 hv).1 e heT
        have hsv2 : v (tz_c jA e) = tz_ord (iL e) (aS (tz_c jA e)) (fF (tz_c lS e) * aV (tz_c lA e) + fS (tz_c lS e)) (fF (tz_c oS e) * v (tz_c oA e) + fS (tz_c oS e)) := hsv
        have hx2 : x5 = v (tz_c oA e) := by
          have := hx v hv
          rw [this]
          show v (tz_c oA (tz_c sk m)) = _
          rw [hce]
        rw [ey, hx2, ← hsv2, p2]
      rw [pk_m1 m]
      refine br_f (nI_pos (by omega)) ⟨vp_in_nI (by omega) (by omega), ?_⟩
      rw [nI_clamp (n := m) (by omega), hse]
      refine nm_e ?_
      rw [hcm]
      refine ⟨ie, i6, ie, i6, nm_e ?_⟩
      refine tx_lv (by omega) r1 i4 ⟨ie, ?_⟩
      by_cases hil : iL e = 0
      · refine br_t hil ⟨ie, r2, tx_calc (nm_e (nxt _ ?_))⟩
        unfold tz_ord
        rw [if_pos hil]; rfl
      · refine br_f hil ⟨ie, r2, tx_calc (nm_e (nxt _ ?_))⟩
        unfold tz_ord
        rw [if_neg hil]; rfl
theorem tx_v78 {y : Nat} (hS : tz_ST aK aL aR aS aV T A tp nL nR sL lA jA oA iL lS jS oS fF fS) (hR : tz_SR aS) (hT : T ≤ 15) (hD : D ≤ 15) (hA : tz_PA nd T jA oA sk D) (hy : y < 31) (ky : aK y = 1) (hat : y = tz_at nd oA sk D)
    (h : ∀ r, (∀ v, tz_TE aK (tz_c aL) (tz_c aR) aV aS v → r = v nd) → post r (fj, ft, fl, fc, fs, o1, o2, o3, o4, aK, aS, aV, aL, aR, nL, nR, nP, sL, lr, sk, fF, fS, dF, dS, tc, lA, jA, oA, iL, lS, jS, oS, sO)) : wX_value_78 post (nI D) (nI y) fj ft fl fc fs o1 o2 o3 o4 aK aS aV aL aR nL nR nP sL lr sk fF fS dF dS tc lA jA oA iL lS jS oS sO := by
  unfold wX_value_78
  rw [nI_clamp (n := y) (by omega)]
  refine ⟨vp_in_nI hy (by omega), nm_e (nm_r (Int32.sub_eq_add_neg (a := nI D) (b := 1)) ⟨D + 1, ?_⟩)⟩
  refine tx_v92 hS hR hT hD hA h (D + 1) D (aV y) (by omega) (Nat.le_refl _) ?_
  intro v hv
  rw [← hat]
  exact ((hv y hy).1 ky).symm
theorem tx_v24 (hC : tz_CV aK aL aR aS aV d T A tp nL nR nP sL lA jA oA iL lS jS oS sO fF fS) (kt : aK tp = 1) (hR : tz_SR aS)
    (h : ∀ (r : Int32) (sk : Nat → Int32), (∀ v, tz_TE aK (tz_c aL) (tz_c aR) aV aS v → r = v nd) → post r (fj, ft, fl, fc, fs, o1, o2, o3, o4, aK, aS, aV, aL, aR, nL, nR, nP, sL, lr, sk, fF, fS, dF, dS, tc, lA, jA, oA, iL, lS, jS, oS, sO)) :
    ∀ (n D y : Nat) (sk : Nat → Int32), 17 ≤ D + n → D ≤ 15 → tz_PA nd T jA oA sk D → y < 31 → (aK y = 1 ∨ aK y = 2) → y = tz_at nd oA sk D → (aK y = 2 → D ≤ tz_c sO y) → wX_value_24 post fj ft fl fc fs o1 o2 o3 o4 n (nI D) (nI y) (nI D) aK aS aV aL aR nL nR nP sL lr sk fF fS dF dS tc lA jA oA iL lS jS oS sO := by
  obtain ⟨hE1, hE2, hT⟩ := tz_end hC kt
  obtain ⟨hN, hS, -⟩ := hC
  intro n
  induction n with
  | zero => intro D y sk h1 h2; omega
  | succ n ih =>
    intro D y sk h1 hD hA hy ky hat hDs
    have iy : vp_in (nI y) 31 := vp_in_nI hy (by omega)
    unfold wX_value_24
    refine br_f (nI_ge (b := 16) (by omega) (by omega)) ⟨iy, ?_⟩
    rw [nI_clamp (n := y) (by omega), nI_clamp (n := D) (by omega)]
    by_cases k2 : aK y = 2
    · obtain ⟨o1', o2'⟩ := hE1 y hy k2
      have hlt : tz_c sO y < T := tz_vl o1'
      have hDs2 := hDs k2
      obtain ⟨r1, r2, r3, r4, r5, r6, r7⟩ := hS.1 _ hlt
      have hoy : (oA (tz_c sO y)) = nI (tz_c oA (tz_c sO y)) := tz_ve r3
      have hsc : tz_c (upd sk D (sO y)) D = tz_c sO y := by unfold tz_c; rw [pk_us]
      refine br_t k2 ⟨iy, vp_in_nI (by omega) (by omega), nm_e (nm_r (nI_1 D) ⟨iy, tz_vm o1' hT, nm_r hoy (nm_r (nI_1 D) ?_)⟩)⟩
      refine ih (D + 1) (tz_c oA (tz_c sO y)) _ (by omega) (by omega) ?_ (tz_vl r3) r7 ?_ ?_
      · intro i hi
        by_cases e : i = D
        · subst e
          rw [hsc, pk_us, tz_at_c i (Nat.le_refl _)]
          exact ⟨o1', o2'.trans hat, hDs2⟩
        · rw [tz_c_un e, pk_un e, tz_at_c i (by omega)]
          exact hA i (by omega)
      · show _ = tz_c oA (tz_c (upd sk D (sO y)) D)
        rw [hsc]
      · intro k2'
        have := hE2 _ hlt k2'
        omega
    · refine br_f k2 ?_
      exact tx_v78 hS hR hT hD hA hy (ky.resolve_right k2) hat (fun r hr => h r sk hr)
end TZJ
end
section
section TZK
/-! K: the component's slope -/
def tz_cF (nd : Nat) (w s F S dF dS : Nat → Int32) (g : tz_R) : Int32 := match g with
  | (l, p, _, ls, js, os, il) => dF js * tz_oF (s p) il (F ls * w l + S ls) * F os + F js * tz_oC (s p) (tz_ch nd w F dF dS l ls) * F os + F js * tz_oF (s p) il (F ls * w l + S ls) * dF os
def tz_cS (nd : Nat) (w s F S dF dS : Nat → Int32) (g : tz_R) : Int32 := match g with
  | (l, p, _, ls, js, os, il) => dF js * (tz_oF (s p) il (F ls * w l + S ls) * S os + tz_oS (s p) il (F ls * w l + S ls)) + F js * (tz_oC (s p) (tz_ch nd w F dF dS l ls) * S os + tz_oF (s p) il (F ls * w l + S ls) * dS os + tz_oS (s p) il (tz_ch nd w F dF dS l ls)) + dS js
theorem tz_CE_c {nd : Nat} {w s F S dF dS dF' dS' : Nat → Int32} {g : tz_R} {k : Nat} (h : tz_CE nd w s F S dF dS g k) (hk : dF' k = dF k ∧ dS' k = dS k) (hl : dF' g.2.2.2.1 = dF g.2.2.2.1 ∧ dS' g.2.2.2.1 = dS g.2.2.2.1) (hj : dF' g.2.2.2.2.1 = dF g.2.2.2.2.1 ∧ dS' g.2.2.2.2.1 = dS g.2.2.2.2.1) (ho : dF' g.2.2.2.2.2.1 = dF g.2.2.2.2.2.1 ∧ dS' g.2.2.2.2.2.1 = dS g.2.2.2.2.2.1) : tz_CE nd w s F S dF' dS' g k := by
  obtain ⟨l, p, o, ls, js, os, il⟩ := g
  obtain ⟨h1, h2⟩ := h
  dsimp only at hl hj ho
  have hc : tz_ch nd w F dF' dS' l ls = tz_ch nd w F dF dS l ls := by unfold tz_ch; rw [hl.1, hl.2]
  unfold tz_CE
  dsimp only
  rw [hc, hk.1, hk.2, hj.1, hj.2, ho.1, ho.2]
  exact ⟨h1, h2⟩
/-- the step's change is worked out of changes below its slot -/
theorem tz_CE_u {nd : Nat} {w s F S dF dS : Nat → Int32} {g : tz_R} {k : Nat} (hl : g.2.2.2.1 < k) (hj : g.2.2.2.2.1 < k) (ho : g.2.2.2.2.2.1 < k) : tz_CE nd w s F S (upd dF k (tz_cF nd w s F S dF dS g)) (upd dS k (tz_cS nd w s F S dF dS g)) g k := by
  obtain ⟨l, p, o, ls, js, os, il⟩ := g
  dsimp only at hl hj ho
  have el : ∀ (f : Nat → Int32) (x : Int32), upd f k x ls = f ls := fun f x => pk_un (by omega)
  have ej : ∀ (f : Nat → Int32) (x : Int32), upd f k x js = f js := fun f x => pk_un (by omega)
  have eo : ∀ (f : Nat → Int32) (x : Int32), upd f k x os = f os := fun f x => pk_un (by omega)
  unfold tz_CE tz_ch
  dsimp only
  rw [pk_us, pk_us, el, el, ej, ej, eo, eo]
  exact ⟨rfl, rfl⟩
variable {post : SX → Prop} {qost : Int32 → SX → Prop} {d : Nat → Nat} {T tp nd e : Nat} {A : Nat → Bool}
variable {fj ft fl fc fs o1 o2 o3 o4 : Int32} {aK aS aV aL aR nL nR nP sL lr sk fF fS dF dS tc lA jA oA iL lS jS oS sO : Nat → Int32}
theorem tx_ch27 {z : Int32} (he : e < 15) (h1 : vp_in (lA e) 31) (h2 : vp_in (jA e) 31) (h4 : vp_in (lS e) 46) (h5 : vp_in (jS e) 46) (h6 : vp_in (oS e) 46) (hz : z = if tz_c lA e = nd then fF (tz_c lS e) else 0)
    (h : ∀ q1 q2 q3 q4 : Int32, post (fj, ft, fl, fc, fs, q1, q2, q3, q4, aK, aS, aV, aL, aR, nL, nR, nP, sL, lr, sk, fF, fS, upd dF (31 + e) (tz_cF nd aV aS fF fS dF dS (tz_G lA jA oA lS jS oS iL e)), upd dS (31 + e) (tz_cS nd aV aS fF fS dF dS (tz_G lA jA oA lS jS oS iL e)), tc, lA, jA, oA, iL, lS, jS, oS, sO)) : wX_changeStep_27 post (nI e) (lS e) z fj ft fl fc fs o1 o2 o3 o4 aK aS aV aL aR nL nR nP sL lr sk fF fS dF dS tc lA jA oA iL lS jS oS sO := by
  have hc : (nI e).toNatClampNeg = e := nI_clamp (by omega)
  have hc2 : (nI (31 + e)).toNatClampNeg = 31 + e := nI_clamp (by omega)
  have i : vp_in (nI e) 15 := vp_in_nI he (by omega)
  have i2 : vp_in (nI (31 + e)) 46 := vp_in_nI (by omega) (by omega)
  unfold wX_changeStep_27
  rw [hc]
  refine tx_lv he h1 h4 ⟨h4, i, h1, h4, tx_fix he h2 ?_⟩
  subst hz
  rw [tx_31, hc2]
  exact ⟨i, h6, nm_e ⟨i, h6, nm_e ⟨i, h6, nm_e ⟨i, h6, nm_e ⟨i, h5, nm_e ⟨i, h5, nm_e (nm_e (nm_e ⟨i2, nm_e ⟨i, h5, i2, nm_e (h _ _ _ _)⟩⟩))⟩⟩⟩⟩⟩⟩
theorem tx_ch (hn : nd < 31) (he : e < 15) (h1 : vp_in (lA e) 31) (h2 : vp_in (jA e) 31) (h4 : vp_in (lS e) 46) (h5 : vp_in (jS e) 46) (h6 : vp_in (oS e) 46)
    (h : ∀ q1 q2 q3 q4 : Int32, post (fj, ft, fl, fc, fs, q1, q2, q3, q4, aK, aS, aV, aL, aR, nL, nR, nP, sL, lr, sk, fF, fS, upd dF (31 + e) (tz_cF nd aV aS fF fS dF dS (tz_G lA jA oA lS jS oS iL e)), upd dS (31 + e) (tz_cS nd aV aS fF fS dF dS (tz_G lA jA oA lS jS oS iL e)), tc, lA, jA, oA, iL, lS, jS, oS, sO)) : wpX_changeStep post (fj, ft, fl, fc, fs, o1, o2, o3, o4, aK, aS, aV, aL, aR, nL, nR, nP, sL, lr, sk, fF, fS, dF, dS, tc, lA, jA, oA, iL, lS, jS, oS, sO) (nI e) (nI nd) := by
  have hc : (nI e).toNatClampNeg = e := nI_clamp (by omega)
  have i : vp_in (nI e) 15 := vp_in_nI he (by omega)
  unfold wpX_changeStep
  dsimp only
  rw [hc]
  refine ⟨i, nm_e ⟨i, ?_⟩⟩
  by_cases hl : tz_c lA e = nd
  · refine br_t ((tz_ve h1).trans (congrArg nI hl)) ⟨h4, ?_⟩
    exact tx_ch27 he h1 h2 h4 h5 h6 (by rw [if_pos hl]; rfl) h
  · refine br_f (fun z => hl (tz_c_of z (by omega))) ?_
    exact tx_ch27 he h1 h2 h4 h5 h6 (by rw [if_neg hl]) h
end TZK
section TZK2
variable {post : Int32 → SX → Prop} {d : Nat → Nat} {T tp nd : Nat} {A : Nat → Bool}
variable {fj ft fl fc fs o1 o2 o3 o4 : Int32} {aK aS aV aL aR nL nR nP sL lr sk fF fS dF dS tc lA jA oA iL lS jS oS sO : Nat → Int32}
/-- the answer of the slope, for all values that fit -/
def tz_SA (K aL aR aS aV : Nat → Int32) (nd : Nat) (r : Int32) : Prop :=
  ∀ v v', tz_TE K (tz_c aL) (tz_c aR) aV aS v → tz_TE K (tz_c aL) (tz_c aR) (upd aV nd (aV nd + 1)) aS v' → r = v' 0 - v 0
theorem tz_SA_of (hC : tz_CV aK aL aR aS aV d T A tp nL nR nP sL lA jA oA iL lS jS oS sO fF fS) (kt : aK tp = 1) (hR : tz_SR aS) (hn : nd < 31) (kn : aK nd = 1) (hz : ∀ n, n < 31 → dF n = 0 ∧ dS n = 0) (hE : ∀ e, e < T → tz_CE nd aV aS fF fS dF dS (tz_G lA jA oA lS jS oS iL e) (31 + e)) :
    tz_SA aK aL aR aS aV nd (dF (tz_c sL tp) * aV tp + (if tp = nd then fF (tz_c sL tp) else 0) + dS (tz_c sL tp)) := by
  obtain ⟨⟨hP, n2, n3, n4, n5, n6, n7⟩, ⟨h1, h2, h3, h4, h5⟩, -⟩ := hC
  have t31 := (hP.2.1 tp hP.1).1
  intro v v' hv hv'
  obtain ⟨g1, n0, g2, g3, g4⟩ := h5 nd aV aS fF fS dF dS hn kn hz h3 hE
  have b2 : tz_BS (fun i => fF i + dF i) (fun i => fS i + dS i) := by
    intro n hn
    obtain ⟨a, b⟩ := h2 n hn
    obtain ⟨c, e⟩ := hz n hn
    show fF n + dF n = 1 ∧ fS n + dS n = 0
    rw [a, b, c, e]
    exact ⟨rfl, rfl⟩
  have e1 := (h4 aV aS fF fS v hR h2 h3 hv).2.2
  have e2 := (h4 (upd aV nd (aV nd + 1)) aS _ _ v' hR b2 g1 hv').2.2
  have e3 : v tp = aV tp := (hv tp t31).1 kt
  have e4 : v' tp = upd aV nd (aV nd + 1) tp := (hv' tp t31).1 kt
  rw [e1, e2, e3, e4]
  by_cases ht : tp = nd
  · rw [if_pos ht]
    have := g4 (by rw [← ht]; exact hP.1)
    rw [← ht] at this ⊢
    rw [this.2.1, this.2.2, pk_us]
    grind
  · rw [if_neg ht, pk_un ht]
    grind
theorem tx_s45 (hC : tz_CV aK aL aR aS aV d T A tp nL nR nP sL lA jA oA iL lS jS oS sO fF fS) (kt : aK tp = 1) (hR : tz_SR aS) (hn : nd < 31) (kn : aK nd = 1)
    (h : ∀ (r o1 o2 o3 o4 : Int32) (dF dS : Nat → Int32), tz_SA aK aL aR aS aV nd r → post r (fj, nI tp, fl, fc, nI T, o1, o2, o3, o4, aK, aS, aV, aL, aR, nL, nR, nP, sL, lr, sk, fF, fS, dF, dS, tc, lA, jA, oA, iL, lS, jS, oS, sO)) :
    ∀ (n e : Nat) (o1 o2 o3 o4 : Int32) (dF dS : Nat → Int32), T + 1 ≤ e + n → e ≤ T → (∀ n, n < 31 → dF n = 0 ∧ dS n = 0) → (∀ i, i < e → tz_CE nd aV aS fF fS dF dS (tz_G lA jA oA lS jS oS iL i) (31 + i)) →
      wX_slope_45 post (nI nd) n (nI e) fj (nI tp) fl fc (nI T) o1 o2 o3 o4 aK aS aV aL aR nL nR nP sL lr sk fF fS dF dS tc lA jA oA iL lS jS oS sO := by
  obtain ⟨-, -, hT⟩ := tz_end hC kt
  have hC' := hC
  obtain ⟨⟨hP, n2, n3, n4, n5, n6, n7⟩, ⟨h1, h2, h3, h4, h5⟩, -⟩ := hC'
  have t31 := (hP.2.1 tp hP.1).1
  have it : vp_in (nI tp) 31 := vp_in_nI t31 (by omega)
  have is : vp_in (sL tp) 46 := tz_vm (n6 tp hP.1) (by omega)
  intro n
  induction n with
  | zero => intro e o1 o2 o3 o4 dF dS g1 g2; omega
  | succ n ih =>
    intro e o1 o2 o3 o4 dF dS g1 g2 hz hE
    unfold wX_slope_45
    by_cases heT : e < T
    · obtain ⟨r1, r2, r3, r4, r5, r6, r7⟩ := h1 e heT
      refine br_f (nI_ge heT (by omega)) ?_
      refine tx_ch hn (by omega) r1 r2 (tz_vm r4 (by omega)) (tz_vm r5 (by omega)) (tz_vm r6 (by omega)) ?_
      intro q1 q2 q3 q4
      refine nm_r (nI_1 e) ?_
      refine ih (e + 1) q1 q2 q3 q4 _ _ (by omega) (by omega) ?_ ?_
      · intro m hm
        rw [pk_un (by omega), pk_un (by omega)]
        exact hz m hm
      · intro i hi
        by_cases ei : i = e
        · subst ei
          exact tz_CE_u (tz_vl r4) (tz_vl r5) (tz_vl r6)
        · obtain ⟨s1, s2, s3, s4, s5, s6, s7⟩ := h1 i (by omega)
          have i1 : tz_c lS i < 31 + i := tz_vl s4
          have i2 : tz_c jS i < 31 + i := tz_vl s5
          have i3 : tz_c oS i < 31 + i := tz_vl s6
          refine tz_CE_c (hE i (by omega)) ⟨pk_un (by omega), pk_un (by omega)⟩ ⟨?_, ?_⟩ ⟨?_, ?_⟩ ⟨?_, ?_⟩
          · exact pk_un (by show tz_c lS i ≠ _; omega)
          · exact pk_un (by show tz_c lS i ≠ _; omega)
          · exact pk_un (by show tz_c jS i ≠ _; omega)
          · exact pk_un (by show tz_c jS i ≠ _; omega)
          · exact pk_un (by show tz_c oS i ≠ _; omega)
          · exact pk_un (by show tz_c oS i ≠ _; omega)
    · have : e = T := by omega
      subst this
      have hA := tz_SA_of hC kt hR hn kn hz hE
      refine br_t (nI_le (Nat.le_refl _) (by omega)) ⟨it, ?_⟩
      rw [nI_clamp (n := tp) (by omega)]
      refine nm_e ?_
      by_cases ht : tp = nd
      · rw [if_pos ht] at hA
        refine br_t (congrArg nI ht) ⟨is, ?_⟩
        unfold wX_slope_93
        rw [nI_clamp (n := tp) (by omega)]
        exact ⟨is, it, is, h _ o1 o2 o3 o4 dF dS hA⟩
      · rw [if_neg ht] at hA
        refine br_f (tz_nn ht (by omega) (by omega)) ?_
        unfold wX_slope_93
        rw [nI_clamp (n := tp) (by omega)]
        exact ⟨is, it, is, h _ o1 o2 o3 o4 dF dS hA⟩
theorem tx_s17 (hC : tz_CV aK aL aR aS aV d T A tp nL nR nP sL lA jA oA iL lS jS oS sO fF fS) (kt : aK tp = 1) (hR : tz_SR aS) (hn : nd < 31) (kn : aK nd = 1)
    (h : ∀ (r o1 o2 o3 o4 : Int32) (dF dS : Nat → Int32), tz_SA aK aL aR aS aV nd r → post r (fj, nI tp, fl, fc, nI T, o1, o2, o3, o4, aK, aS, aV, aL, aR, nL, nR, nP, sL, lr, sk, fF, fS, dF, dS, tc, lA, jA, oA, iL, lS, jS, oS, sO)) :
    ∀ (n i : Nat) (dF dS : Nat → Int32), 47 ≤ i + n → i ≤ 46 → (∀ j, j < i → dF j = 0 ∧ dS j = 0) → wX_slope_17 post (nI nd) fj (nI tp) fl fc (nI T) o1 o2 o3 o4 n (nI i) aK aS aV aL aR nL nR nP sL lr sk fF fS dF dS tc lA jA oA iL lS jS oS sO := by
  intro n
  induction n with
  | zero => intro i dF dS g1 g2; omega
  | succ n ih =>
    intro i dF dS g1 g2 hz
    unfold wX_slope_17
    by_cases hi : i < 46
    · have ii : vp_in (nI i) 46 := vp_in_nI hi (by omega)
      refine br_f (nI_ge (b := 46) hi (by omega)) ?_
      rw [nI_clamp (n := i) (by omega)]
      refine ⟨ii, nm_e ⟨ii, nm_e (nm_r (nI_1 i) ?_)⟩⟩
      refine ih (i + 1) _ _ (by omega) (by omega) ?_
      intro j hj
      by_cases e : j = i
      · subst e; rw [pk_us, pk_us]; exact ⟨rfl, rfl⟩
      · rw [pk_un e, pk_un e]; exact hz j (by omega)
    · have : i = 46 := by omega
      subst this
      refine br_t (nI_le (a := 46) (Nat.le_refl _) (by omega)) ⟨T + 1, ?_⟩
      have := tx_s45 (fj := fj) (fl := fl) (fc := fc) (lr := lr) (sk := sk) (tc := tc) hC kt hR hn kn h (T + 1) 0 o1 o2 o3 o4 dF dS (by omega) (by omega) (fun n hn => hz n (by omega)) (fun i hi => by omega)
      rw [nI_0] at this
      exact this
end TZK2
end
section
section TZL
/-! L: renew: the steps that depend on a changed node are worked out again -/
def tz_RN (T e : Nat) (lA jA oA lS jS oS iL w s F0 S0 fF fS tc : Nat → Int32) : Prop :=
  (∀ i, i < e → tz_WE w s fF fS (tz_G lA jA oA lS jS oS iL i) (31 + i)) ∧
  (∀ k, 31 + e ≤ k → fF k = F0 k ∧ fS k = S0 k) ∧ (∀ k, k < 31 + e → tc k = 0 → fF k = F0 k ∧ fS k = S0 k) ∧ (∀ k, k < 31 → fF k = F0 k ∧ fS k = S0 k) ∧ (∀ k, 31 + e ≤ k → k < 46 → tc k = 0)
theorem tz_WE_u {w s F S : Nat → Int32} {g : tz_R} {k : Nat} (hl : g.2.2.2.1 < k) (hj : g.2.2.2.2.1 < k) (ho : g.2.2.2.2.2.1 < k) : tz_WE w s (upd F k (tz_nF w s F S g)) (upd S k (tz_nS w s F S g)) g k := by
  obtain ⟨l, p, o, ls, js, os, il⟩ := g
  dsimp only at hl hj ho
  have el : ∀ (f : Nat → Int32) (x : Int32), upd f k x ls = f ls := fun f x => pk_un (by omega)
  have ej : ∀ (f : Nat → Int32) (x : Int32), upd f k x js = f js := fun f x => pk_un (by omega)
  have eo : ∀ (f : Nat → Int32) (x : Int32), upd f k x os = f os := fun f x => pk_un (by omega)
  unfold tz_WE
  dsimp only
  rw [pk_us, pk_us, el, el, ej, ej, eo, eo]
  exact ⟨rfl, rfl⟩
section
variable {K lA jA oA lS jS oS iL w s w0 s0 F0 S0 fF fS tc : Nat → Int32} {T e nd : Nat}
theorem tz_RN_skip (h : tz_RN T e lA jA oA lS jS oS iL w s F0 S0 fF fS tc) (hr : tz_RG K lA jA oA lS jS oS e) (h0 : tz_WE w0 s0 F0 S0 (tz_G lA jA oA lS jS oS iL e) (31 + e)) (he : e < 15)
    (hw : w (tz_c lA e) = w0 (tz_c lA e)) (hs : s (tz_c jA e) = s0 (tz_c jA e)) (t1 : tc (tz_c lS e) = 0) (t2 : tc (tz_c jS e) = 0) (t3 : tc (tz_c oS e) = 0) : tz_RN T (e + 1) lA jA oA lS jS oS iL w s F0 S0 fF fS tc := by
  obtain ⟨h1, h2, h3, h4, h5⟩ := h
  obtain ⟨r1, r2, r3, r4, r5, r6, r7⟩ := hr
  have k1 := h3 (tz_c lS e) (tz_vl r4) t1
  have k2 := h3 (tz_c jS e) (tz_vl r5) t2
  have k3 := h3 (tz_c oS e) (tz_vl r6) t3
  have k4 := h2 (31 + e) (Nat.le_refl _)
  refine ⟨?_, fun k hk => h2 k (by omega), ?_, h4, fun k hk => h5 k (by omega)⟩
  · intro i hi
    by_cases ei : i = e
    · subst ei
      have h6 : tz_WE w0 s0 fF fS (tz_G lA jA oA lS jS oS iL i) (31 + i) := tz_WE_c h0 k4 k1 k2 k3
      unfold tz_WE tz_G at h6 ⊢
      dsimp only at h6 ⊢
      rw [hw, hs]
      exact h6
    · exact h1 i (by omega)
  · intro k hk hc
    by_cases ek : k = 31 + e
    · rw [ek]; exact k4
    · exact h3 k (by omega) hc
theorem tz_RN_do (h : tz_RN T e lA jA oA lS jS oS iL w s F0 S0 fF fS tc) (hR : ∀ i, i ≤ e → tz_RG K lA jA oA lS jS oS i) (he : e < 15) :
    tz_RN T (e + 1) lA jA oA lS jS oS iL w s F0 S0 (upd fF (31 + e) (tz_nF w s fF fS (tz_G lA jA oA lS jS oS iL e))) (upd fS (31 + e) (tz_nS w s fF fS (tz_G lA jA oA lS jS oS iL e))) (upd tc (31 + e) 1) := by
  obtain ⟨h1, h2, h3, h4, h5⟩ := h
  refine ⟨?_, ?_, ?_, ?_, ?_⟩
  · intro i hi
    by_cases ei : i = e
    · subst ei
      obtain ⟨r1, r2, r3, r4, r5, r6, r7⟩ := hR i (Nat.le_refl _)
      exact tz_WE_u (tz_vl r4) (tz_vl r5) (tz_vl r6)
    · obtain ⟨s1, s2, s3, s4, s5, s6, s7⟩ := hR i (by omega)
      have i1 : tz_c lS i < 31 + i := tz_vl s4
      have i2 : tz_c jS i < 31 + i := tz_vl s5
      have i3 : tz_c oS i < 31 + i := tz_vl s6
      refine tz_WE_c (h1 i (by omega)) ⟨pk_un (by omega), pk_un (by omega)⟩ ⟨?_, ?_⟩ ⟨?_, ?_⟩ ⟨?_, ?_⟩
      · exact pk_un (by show tz_c lS i ≠ _; omega)
      · exact pk_un (by show tz_c lS i ≠ _; omega)
      · exact pk_un (by show tz_c jS i ≠ _; omega)
      · exact pk_un (by show tz_c jS i ≠ _; omega)
      · exact pk_un (by show tz_c oS i ≠ _; omega)
      · exact pk_un (by show tz_c oS i ≠ _; omega)
  · intro k hk
    rw [pk_un (by omega), pk_un (by omega)]
    exact h2 k (by omega)
  · intro k hk hc
    by_cases ek : k = 31 + e
    · rw [ek, pk_us] at hc; exact absurd hc (by decide)
    · rw [pk_un ek] at hc
      rw [pk_un ek, pk_un ek]
      exact h3 k (by omega) hc
  · intro k hk
    rw [pk_un (by omega), pk_un (by omega)]
    exact h4 k hk
  · intro k hk hk2
    rw [pk_un (by omega)]
    exact h5 k (by omega) hk2
end
variable {post : SX → Prop} {d : Nat → Nat} {T tp nd : Nat} {A : Nat → Bool} {w0 s0 F0 S0 : Nat → Int32}
variable {fj ft fl fc fs o1 o2 o3 o4 : Int32} {aK aS aV aL aR nL nR nP sL lr sk fF fS dF dS tc lA jA oA iL lS jS oS sO : Nat → Int32}
theorem tx_r23 (hR : ∀ i, i < T → tz_RG aK lA jA oA lS jS oS i) (h0 : ∀ i, i < T → tz_WE w0 s0 F0 S0 (tz_G lA jA oA lS jS oS iL i) (31 + i)) (hT : T ≤ 15) (hn : nd < 31)
    (hw : ∀ n, n ≠ nd → aV n = w0 n) (hs : ∀ n, n ≠ nd → aS n = s0 n)
    (h : ∀ (o1 o2 o3 o4 : Int32) (fF fS tc : Nat → Int32), tz_RN T T lA jA oA lS jS oS iL aV aS F0 S0 fF fS tc → post (fj, ft, fl, fc, nI T, o1, o2, o3, o4, aK, aS, aV, aL, aR, nL, nR, nP, sL, lr, sk, fF, fS, dF, dS, tc, lA, jA, oA, iL, lS, jS, oS, sO)) :
    ∀ (n e : Nat) (o1 o2 o3 o4 : Int32) (fF fS tc : Nat → Int32), T + 1 ≤ e + n → e ≤ T → tz_RN T e lA jA oA lS jS oS iL aV aS F0 S0 fF fS tc → wX_renew_23 post (nI nd) n (nI e) fj ft fl fc (nI T) o1 o2 o3 o4 aK aS aV aL aR nL nR nP sL lr sk fF fS dF dS tc lA jA oA iL lS jS oS sO := by
  intro n
  induction n with
  | zero => intro e o1 o2 o3 o4 fF fS tc g1 g2; omega
  | succ n ih =>
    intro e o1 o2 o3 o4 fF fS tc g1 g2 hN
    unfold wX_renew_23
    by_cases heT : e < T
    · have hrg := hR e heT
      obtain ⟨r1, r2, r3, r4, r5, r6, r7⟩ := hrg
      have ie : vp_in (nI e) 15 := vp_in_nI (by omega) (by omega)
      have i2 : vp_in (nI (31 + e)) 46 := vp_in_nI (by omega) (by omega)
      have hc : (nI e).toNatClampNeg = e := nI_clamp (by omega)
      have hc2 : (nI (31 + e)).toNatClampNeg = 31 + e := nI_clamp (by omega)
      have v4 : vp_in (lS e) 46 := tz_vm r4 (by omega)
      have v5 : vp_in (jS e) 46 := tz_vm r5 (by omega)
      have v6 : vp_in (oS e) 46 := tz_vm r6 (by omega)
      -- worked out again
      have go : wX_renew_103 post (wX_renew_23 post (nI nd) n) (nI nd) (nI e) fj ft fl fc (nI T) o1 o2 o3 o4 aK aS aV aL aR nL nR nP sL lr sk fF fS dF dS tc lA jA oA iL lS jS oS sO := by
        unfold wX_renew_103
        refine tx_work (by omega) r1 r2 v4 v5 v6 ?_
        intro q1 q2 q3 q4
        dsimp only
        rw [tx_31, hc2, tz_vb1]
        refine ⟨i2, nm_e (nm_r (nI_1 e) ?_)⟩
        exact ih (e + 1) q1 q2 q3 q4 _ _ _ (by omega) (by omega) (tz_RN_do hN (fun i hi => hR i (by omega)) (by omega))
      have go73 : wX_renew_73 post (wX_renew_23 post (nI nd) n) (nI nd) (nI e) fj ft fl fc (nI T) o1 o2 o3 o4 aK aS aV aL aR nL nR nP sL lr sk fF fS dF dS tc lA jA oA iL lS jS oS sO := by
        unfold wX_renew_73 wX_renew_78
        exact br_f (by decide) go
      refine br_f (nI_ge heT (by omega)) ?_
      rw [hc]
      refine ⟨ie, v4, ?_⟩
      by_cases t1 : tc (tz_c lS e) = 0
      · refine br_t t1 ⟨ie, v5, ?_⟩
        by_cases t2 : tc (tz_c jS e) = 0
        · refine br_t t2 ⟨ie, v6, ?_⟩
          by_cases t3 : tc (tz_c oS e) = 0
          · refine br_t t3 ?_
            unfold wX_renew_78
            refine br_t rfl ?_
            rw [hc]
            refine ⟨ie, ?_⟩
            by_cases hl : tz_c lA e = nd
            · exact br_t ((tz_ve r1).trans (congrArg nI hl)) go
            · refine br_f (fun z => hl (tz_c_of z (by omega))) ⟨ie, ?_⟩
              by_cases hj : tz_c jA e = nd
              · exact br_t ((tz_ve r2).trans (congrArg nI hj)) go
              · refine br_f (fun z => hj (tz_c_of z (by omega))) (nm_r (nI_1 e) ?_)
                exact ih (e + 1) o1 o2 o3 o4 fF fS tc (by omega) (by omega) (tz_RN_skip hN (hR e heT) (h0 e heT) (by omega) (hw _ hl) (hs _ hj) t1 t2 t3)
          · exact br_f t3 go73
        · exact br_f t2 go73
      · exact br_f t1 go73
    · have : e = T := by omega
      subst this
      exact br_t (nI_le (Nat.le_refl _) (by omega)) (h o1 o2 o3 o4 fF fS tc hN)
theorem tx_r2 (hR : ∀ i, i < T → tz_RG aK lA jA oA lS jS oS i) (h0 : ∀ i, i < T → tz_WE w0 s0 fF fS (tz_G lA jA oA lS jS oS iL i) (31 + i)) (hT : T ≤ 15) (hn : nd < 31)
    (hw : ∀ n, n ≠ nd → aV n = w0 n) (hs : ∀ n, n ≠ nd → aS n = s0 n)
    (h : ∀ (o1 o2 o3 o4 : Int32) (fF' fS' tc : Nat → Int32), tz_RN T T lA jA oA lS jS oS iL aV aS fF fS fF' fS' tc → post (fj, ft, fl, fc, nI T, o1, o2, o3, o4, aK, aS, aV, aL, aR, nL, nR, nP, sL, lr, sk, fF', fS', dF, dS, tc, lA, jA, oA, iL, lS, jS, oS, sO)) :
    ∀ (n i : Nat) (tc : Nat → Int32), 47 ≤ i + n → i ≤ 46 → (∀ j, j < i → tc j = 0) → wX_renew_2 post (nI nd) fj ft fl fc (nI T) o1 o2 o3 o4 n (nI i) aK aS aV aL aR nL nR nP sL lr sk fF fS dF dS tc lA jA oA iL lS jS oS sO := by
  intro n
  induction n with
  | zero => intro i tc g1 g2; omega
  | succ n ih =>
    intro i tc g1 g2 hz
    unfold wX_renew_2
    by_cases hi : i < 46
    · have ii : vp_in (nI i) 46 := vp_in_nI hi (by omega)
      refine br_f (nI_ge (b := 46) hi (by omega)) ?_
      rw [nI_clamp (n := i) (by omega), tz_vb0]
      refine ⟨ii, nm_e (nm_r (nI_1 i) ?_)⟩
      refine ih (i + 1) _ (by omega) (by omega) ?_
      intro j hj
      by_cases e : j = i
      · subst e; rw [pk_us]
      · rw [pk_un e]; exact hz j (by omega)
    · have : i = 46 := by omega
      subst this
      refine br_t (nI_le (a := 46) (Nat.le_refl _) (by omega)) ⟨T + 1, ?_⟩
      have := tx_r23 (fj := fj) (ft := ft) (fl := fl) (fc := fc) (aL := aL) (aR := aR) (nL := nL) (nR := nR) (nP := nP) (sL := sL) (lr := lr) (sk := sk) (dF := dF) (dS := dS) (sO := sO) hR h0 hT hn hw hs h (T + 1) 0 o1 o2 o3 o4 fF fS tc (by omega) (by omega) ⟨fun i hi => by omega, fun k _ => ⟨rfl, rfl⟩, fun k _ _ => ⟨rfl, rfl⟩, fun k _ => ⟨rfl, rfl⟩, fun k _ hk => hz k hk⟩
      rw [nI_0] at this
      exact this
/-- renew keeps the contraction -/
theorem tx_renew {w0 s0 : Nat → Int32} (hC : tz_CV aK aL aR s0 w0 d T A tp nL nR nP sL lA jA oA iL lS jS oS sO fF fS) (kt : aK tp = 1) (hn : nd < 31)
    (hw : ∀ n, n ≠ nd → aV n = w0 n) (hs : ∀ n, n ≠ nd → aS n = s0 n)
    (h : ∀ (o1 o2 o3 o4 : Int32) (fF' fS' tc : Nat → Int32), tz_CV aK aL aR aS aV d T A tp nL nR nP sL lA jA oA iL lS jS oS sO fF' fS' → post (fj, ft, fl, fc, nI T, o1, o2, o3, o4, aK, aS, aV, aL, aR, nL, nR, nP, sL, lr, sk, fF', fS', dF, dS, tc, lA, jA, oA, iL, lS, jS, oS, sO)) : wpX_renew post (fj, ft, fl, fc, nI T, o1, o2, o3, o4, aK, aS, aV, aL, aR, nL, nR, nP, sL, lr, sk, fF, fS, dF, dS, tc, lA, jA, oA, iL, lS, jS, oS, sO) (nI nd) := by
  obtain ⟨-, -, hT⟩ := tz_end hC kt
  obtain ⟨hN, ⟨h1, h2, h3, h4, h5⟩, hO⟩ := hC
  refine ⟨47, ?_⟩
  have := tx_r2 (post := post) (fj := fj) (ft := ft) (fl := fl) (fc := fc) (o1 := o1) (o2 := o2) (o3 := o3) (o4 := o4) (aL := aL) (aR := aR) (nL := nL) (nR := nR) (nP := nP) (sL := sL) (lr := lr) (sk := sk) (dF := dF) (dS := dS) (sO := sO) h1 h3 hT hn hw hs (fun q1 q2 q3 q4 fF' fS' tc' hN' => h q1 q2 q3 q4 fF' fS' tc' ⟨hN, ⟨h1, (fun n hn2 => by
    obtain ⟨a, b⟩ := hN'.2.2.2.1 n hn2
    rw [a, b]; exact h2 n hn2), hN'.1, h4, h5⟩, hO⟩) 47 0 tc (by omega) (by omega) (fun j hj => by omega)
  rw [nI_0] at this
  exact this
end TZL
end
section
section TZM
/-! M: the reference: kinds, counts, evaluate -/
def tz_XY (K aL aR yT yJ yL yR : Nat → Int32) : Prop := ∀ n, n < 31 → (yT n = 0 ↔ K n = 0) ∧ (yJ n = 0 ↔ K n ≠ 2) ∧ (K n = 2 → yL n = aL n ∧ yR n = aR n)
variable {post : SY → Prop} {qost : Int32 → Prop} {rost : Int32 → SY → Prop} {K aL aR : Nat → Int32} {d P : Nat → Nat} {jc p : Nat}
variable {yT yJ aV aS yL yR yK yE : Nat → Int32}
theorem ty_leaf1 (h : tz_XY K aL aR yT yJ yL yR) (hp : p < 31) (kp : K p = 1) (hq : qost 1) : wpY_isLeaf qost (yT, yJ, aV, aS, yL, yR, yK, yE) (nI p) := by
  obtain ⟨h1, h2, -⟩ := h p hp
  have i : vp_in (nI p) 31 := vp_in_nI hp (by omega)
  refine br_f (nI_pos (by omega)) (br_f (nI_ge (b := 31) hp (by omega)) ⟨i, ?_⟩)
  rw [nI_clamp (n := p) (by omega)]
  exact br_f (fun z => by rw [h1.mp z] at kp; exact absurd kp (by decide)) ⟨i, br_t (h2.mpr (by rw [kp]; decide)) hq⟩
theorem ty_leaf0 (h : tz_XY K aL aR yT yJ yL yR) (hp : p < 31) (kp : K p = 0 ∨ K p = 2) (hq : qost 0) : wpY_isLeaf qost (yT, yJ, aV, aS, yL, yR, yK, yE) (nI p) := by
  obtain ⟨h1, h2, -⟩ := h p hp
  have i : vp_in (nI p) 31 := vp_in_nI hp (by omega)
  refine br_f (nI_pos (by omega)) (br_f (nI_ge (b := 31) hp (by omega)) ⟨i, ?_⟩)
  rw [nI_clamp (n := p) (by omega)]
  rcases kp with kp | kp
  · exact br_t (h1.mpr kp) hq
  · exact br_f (fun z => by rw [h1.mp z] at kp; exact absurd kp (by decide)) ⟨i, br_f (fun z => h2.mp z kp) hq⟩
theorem ty_joint1 (h : tz_XY K aL aR yT yJ yL yR) (hp : p < 31) (kp : K p = 2) (hq : qost 1) : wpY_isJoint qost (yT, yJ, aV, aS, yL, yR, yK, yE) (nI p) := by
  obtain ⟨h1, h2, -⟩ := h p hp
  have i : vp_in (nI p) 31 := vp_in_nI hp (by omega)
  refine br_f (nI_pos (by omega)) (br_f (nI_ge (b := 31) hp (by omega)) ⟨i, ?_⟩)
  rw [nI_clamp (n := p) (by omega)]
  exact br_f (fun z => by rw [h1.mp z] at kp; exact absurd kp (by decide)) ⟨i, br_f (fun z => h2.mp z kp) hq⟩
theorem ty_joint0 (h : tz_XY K aL aR yT yJ yL yR) (hp : p < 31) (kp : K p ≠ 2) (hq : qost 0) : wpY_isJoint qost (yT, yJ, aV, aS, yL, yR, yK, yE) (nI p) := by
  obtain ⟨h1, h2, -⟩ := h p hp
  have i : vp_in (nI p) 31 := vp_in_nI hp (by omega)
  refine br_f (nI_pos (by omega)) (br_f (nI_ge (b := 31) hp (by omega)) ⟨i, ?_⟩)
  rw [nI_clamp (n := p) (by omega)]
  exact br_c (fun _ => hq) (fun _ => ⟨i, br_t (h2.mpr kp) hq⟩)
theorem ty_leafo {x : Int32} (hx : x < 0 ∨ (¬ x < 0 ∧ ¬ x ≤ 30 ∧ 31 ≤ x)) (hq : qost 0) : wpY_isLeaf qost (yT, yJ, aV, aS, yL, yR, yK, yE) x := by
  rcases hx with hx | ⟨h1, -, h2⟩
  · exact br_t hx hq
  · exact br_f h1 (br_t h2 hq)
theorem ty_jointo {x : Int32} (hx : x < 0 ∨ (¬ x < 0 ∧ ¬ x ≤ 30 ∧ 31 ≤ x)) (hq : qost 0) : wpY_isJoint qost (yT, yJ, aV, aS, yL, yR, yK, yE) x := by
  rcases hx with hx | ⟨h1, -, h2⟩
  · exact br_t hx hq
  · exact br_f h1 (br_t h2 hq)
theorem ty_worked {s x y : Int32} (h : qost (tz_calc s x y)) : wpY_worked qost s x y := by
  unfold tz_calc at h
  by_cases h0 : s = 0
  · rw [if_pos h0] at h; exact br_t h0 h
  · rw [if_neg h0] at h
    by_cases h1 : s = 1
    · rw [if_pos h1] at h; exact br_f h0 (br_t h1 h)
    · rw [if_neg h1] at h
      by_cases h2 : s = 2
      · rw [if_pos h2] at h; exact br_f h0 (br_f h1 (br_t h2 h))
      · rw [if_neg h2] at h; exact br_f h0 (br_f h1 (br_f h2 h))
theorem ty_nodes (hX : tz_XY K aL aR yT yJ yL yR) (h : qost (nI (tz_cn (fun n => decide (K n ≠ 0)) 31))) : wpY_nodes qost (yT, yJ, aV, aS, yL, yR, yK, yE) := by
  have L : ∀ n i, 32 ≤ i + n → i ≤ 31 → wY_nodes_4 qost yT yJ aV aS yL yR yK yE n (nI (tz_cn (fun n => decide (K n ≠ 0)) i)) (nI i) := by
    intro n
    induction n with
    | zero => intro i h1 h2; omega
    | succ n ih =>
      intro i h1 h2
      unfold wY_nodes_4
      by_cases hi : i < 31
      · refine br_f (nI_ge (b := 31) hi (by omega)) ⟨vp_in_nI hi (by omega), ?_⟩
        rw [nI_clamp (n := i) (by omega)]
        have h3 := ih (i + 1) (by omega) (by omega)
        rw [tz_cn_s] at h3
        by_cases k0 : K i = 0
        · refine br_t ((hX i hi).1.mpr k0) (nm_r (nI_1 i) ?_)
          rw [if_neg (by rw [decide_eq_true_iff]; exact fun z => z k0)] at h3
          exact h3
        · refine br_f (fun z => k0 ((hX i hi).1.mp z)) (nm_r (nI_1 _) (nm_r (nI_1 i) ?_))
          rw [if_pos (decide_eq_true k0)] at h3
          exact h3
      · have : i = 31 := by omega
        subst this
        exact br_t (nI_le (a := 31) (Nat.le_refl _) (by omega)) h
  refine ⟨32, ?_⟩
  have := L 32 0 (by omega) (by omega)
  exact this
theorem ty_joints (hX : tz_XY K aL aR yT yJ yL yR) (h : qost (nI (tz_cn (fun n => decide (K n = 2)) 31))) : wpY_joints qost (yT, yJ, aV, aS, yL, yR, yK, yE) := by
  have L : ∀ n i, 32 ≤ i + n → i ≤ 31 → wY_joints_4 qost yT yJ aV aS yL yR yK yE n (nI (tz_cn (fun n => decide (K n = 2)) i)) (nI i) := by
    intro n
    induction n with
    | zero => intro i h1 h2; omega
    | succ n ih =>
      intro i h1 h2
      unfold wY_joints_4
      by_cases hi : i < 31
      · refine br_f (nI_ge (b := 31) hi (by omega)) ?_
        have h3 := ih (i + 1) (by omega) (by omega)
        rw [tz_cn_s] at h3
        by_cases k2 : K i = 2
        · refine ty_joint1 hX hi k2 ?_
          refine br_f (by decide) (nm_r (nI_1 _) (nm_r (nI_1 i) ?_))
          rw [if_pos (decide_eq_true k2)] at h3
          exact h3
        · refine ty_joint0 hX hi k2 ?_
          refine br_t rfl (nm_r (nI_1 i) ?_)
          rw [if_neg (by rw [decide_eq_true_iff]; exact k2)] at h3
          exact h3
      · have : i = 31 := by omega
        subst this
        exact br_t (nI_le (a := 31) (Nat.le_refl _) (by omega)) h
  refine ⟨32, ?_⟩
  have := L 32 0 (by omega) (by omega)
  exact this
/-- a new leaf takes the least free number -/
theorem ty_new {a : Nat} {x : Int32} (ha : a < 31) (h0 : yT a = 0) (hl : ∀ j, j < a → yT j ≠ 0) (h : rost (nI a) (upd yT a 1, upd yJ a 0, upd aV a x, aS, yL, yR, yK, yE)) : wpY_leaf rost (yT, yJ, aV, aS, yL, yR, yK, yE) x := by
  have L : ∀ n i, a + 1 ≤ i + n → i ≤ a → wY_leaf_2 rost x yT yJ aV aS yL yR yK yE n (nI i) := by
    intro n
    induction n with
    | zero => intro i h1 h2; omega
    | succ n ih =>
      intro i h1 h2
      have ii : vp_in (nI i) 31 := vp_in_nI (by omega) (by omega)
      unfold wY_leaf_2
      refine br_f (nI_ge (b := 31) (by omega) (by omega)) ⟨ii, ?_⟩
      rw [nI_clamp (n := i) (by omega), tz_vb0, tz_vb1]
      by_cases e : i = a
      · subst e
        exact br_t h0 ⟨ii, nm_e ⟨ii, nm_e ⟨ii, nm_e h⟩⟩⟩
      · exact br_f (hl i (by omega)) (nm_r (nI_1 i) (ih (i + 1) (by omega) (by omega)))
  refine ⟨a + 1, ?_⟩
  have := L (a + 1) 0 (by omega) (by omega)
  rw [nI_0] at this
  exact this

/-! evaluate -/
def tz_EV (K : Nat → Int32) (l r : Nat → Nat) (w s kn rs : Nat → Int32) : Prop := ∀ n, n < 31 →
  (K n = 1 → kn n ≠ 0 ∧ rs n = w n) ∧ (K n = 2 → kn n ≠ 0 → kn (l n) ≠ 0 ∧ kn (r n) ≠ 0 ∧ rs n = tz_calc (s n) (rs (l n)) (rs (r n)))
def tz_un (K kn : Nat → Int32) : Nat → Bool := fun n => decide (K n ≠ 0) && decide (kn n = 0)
theorem tz_un_iff {K kn : Nat → Int32} {n : Nat} : tz_un K kn n = true ↔ K n ≠ 0 ∧ kn n = 0 := by
  unfold tz_un
  rw [Bool.and_eq_true, decide_eq_true_iff, decide_eq_true_iff]
theorem tz_EV_do {l r : Nat → Nat} {w s kn rs : Nat → Int32} {i : Nat} (h : tz_EV K l r w s kn rs) (hi : i < 31) (ki : K i = 2) (h1 : kn (l i) ≠ 0) (h2 : kn (r i) ≠ 0) (d1 : l i ≠ i) (d2 : r i ≠ i) :
    tz_EV K l r w s (upd kn i 1) (upd rs i (tz_calc (s i) (rs (l i)) (rs (r i)))) := by
  have hk : ∀ n, kn n ≠ 0 → upd kn i 1 n ≠ 0 := by
    intro n hn
    by_cases e : n = i
    · rw [e, pk_us]; decide
    · rw [pk_un e]; exact hn
  have hr : ∀ n, kn n ≠ 0 → upd rs i (tz_calc (s i) (rs (l i)) (rs (r i))) n = rs n := by
    intro n hn
    by_cases e : n = i
    · rw [e, pk_us]; rw [e] at hn
      exact (((h i hi).2 ki hn).2.2).symm
    · rw [pk_un e]
  intro n hn
  obtain ⟨g1, g2⟩ := h n hn
  constructor
  · intro kn1
    obtain ⟨a, b⟩ := g1 kn1
    exact ⟨hk n a, (hr n a).trans b⟩
  · intro k2 hn2
    by_cases e : n = i
    · subst e
      refine ⟨hk _ h1, hk _ h2, ?_⟩
      rw [pk_us, pk_un d1, pk_un d2]
    · rw [pk_un e] at hn2
      obtain ⟨a, b, c⟩ := g2 k2 hn2
      refine ⟨hk _ a, hk _ b, ?_⟩
      rw [hr _ a, hr _ b, pk_un e]
      exact c
/-- a round makes at least one more known -/
theorem tz_EV_pr {l r q : Nat → Nat} {w s k0 r0 k1 : Nat → Int32} {U : Nat} (hP : tz_PT K d l r q (tz_At K) 0) (h : tz_EV K l r w s k0 r0) (hm : ∀ n, k0 n ≠ 0 → k1 n ≠ 0) (hd : ∀ n, n < 31 → K n = 2 → k0 (l n) ≠ 0 → k0 (r n) ≠ 0 → k1 n ≠ 0) (hU : tz_cn (tz_un K k0) 31 ≤ U + 1) : tz_cn (tz_un K k1) 31 ≤ U := by
  obtain ⟨t1, t2, t3, t4⟩ := hP
  by_cases hex : ∃ i, i < 31 ∧ tz_un K k0 i = true
  · obtain ⟨i, hi, ui, mx⟩ := tz_max (tz_un K k0) d 31 hex
    obtain ⟨ki, ni⟩ := tz_un_iff.mp ui
    have ai : tz_At K i = true := tz_At_iff.mpr ⟨hi, ki⟩
    have k2 : K i = 2 := by
      rcases (t2 i ai).2 with e | e
      · exact absurd ni ((h i hi).1 e).1
      · exact e
    obtain ⟨b1, b2, b3, b4, b5, b6, b7, b8, b9⟩ := t3 i ai k2
    have known : ∀ c, tz_At K c = true → d i < d c → k0 c ≠ 0 := by
      intro c ac dc z
      have := mx c (t2 c ac).1 (tz_un_iff.mpr ⟨(tz_At_iff.mp ac).2, z⟩)
      omega
    have hk1 := hd i hi k2 (known _ b1 b8) (known _ b2 b9)
    have hc := tz_cn_ins (P := fun n => tz_un K k0 n && decide (n ≠ i)) (Q := tz_un K k0) (i := i) (by
      show (tz_un K k0 i && decide (i ≠ i)) = false
      rw [decide_eq_false (fun z => z rfl), Bool.and_false]) ui (n := 31) hi (fun j _ hj => by
      show tz_un K k0 j = (tz_un K k0 j && decide (j ≠ i))
      rw [decide_eq_true hj, Bool.and_true])
    have hm2 := tz_cn_mono (P := tz_un K k1) (Q := fun n => tz_un K k0 n && decide (n ≠ i)) (n := 31) (by
      intro j _ uj
      obtain ⟨a, b⟩ := tz_un_iff.mp uj
      have e1 : k0 j = 0 := by
        by_cases z : k0 j = 0
        · exact z
        · exact absurd b (hm j z)
      have e2 : j ≠ i := fun z => by rw [z] at b; exact hk1 b
      show (tz_un K k0 j && decide (j ≠ i)) = true
      rw [tz_un_iff.mpr ⟨a, e1⟩, decide_eq_true e2]; rfl)
    omega
  · have h0 : ∀ m, m ≤ 31 → tz_cn (tz_un K k1) m = 0 := by
      intro m
      induction m with
      | zero => intro _; rfl
      | succ m ih =>
        intro hm31
        rw [tz_cn_s, ih (by omega)]
        have : ¬ tz_un K k1 m = true := by
          intro um
          obtain ⟨a, b⟩ := tz_un_iff.mp um
          refine hex ⟨m, by omega, tz_un_iff.mpr ⟨a, ?_⟩⟩
          by_cases z : k0 m = 0
          · exact z
          · exact absurd b (hm m z)
        rw [if_neg this]
    rw [h0 31 (Nat.le_refl _)]; omega
theorem tz_EV_TE {l r : Nat → Nat} {w s kn rs : Nat → Int32} (h : tz_EV K l r w s kn rs) (hU : tz_cn (tz_un K kn) 31 ≤ 0) : tz_TE K l r w s rs := by
  intro n hn
  obtain ⟨g1, g2⟩ := h n hn
  refine ⟨fun k1 => (g1 k1).2, fun k2 => (g2 k2 ?_).2.2⟩
  intro z
  have := tz_cn_pos (P := tz_un K kn) (i := n) (tz_un_iff.mpr ⟨by rw [k2]; decide, z⟩) (n := 31) hn
  omega
theorem ty_e65 {J : Int32 → (Nat → Int32) → (Nat → Int32) → (Nat → Int32) → (Nat → Int32) → (Nat → Int32) → (Nat → Int32) → (Nat → Int32) → (Nat → Int32) → Prop} {x1 : Int32} {k0 : Nat → Int32} (hT : tz_TR K aL aR d P jc) (hX : tz_XY K aL aR yT yJ yL yR)
    (h : ∀ yK yE : Nat → Int32, tz_EV K (tz_c aL) (tz_c aR) aV aS yK yE → (∀ n, k0 n ≠ 0 → yK n ≠ 0) → (∀ n, n < 31 → K n = 2 → k0 (tz_c aL n) ≠ 0 → k0 (tz_c aR n) ≠ 0 → yK n ≠ 0) → J (x1 + 1) yT yJ aV aS yL yR yK yE) :
    ∀ (n i : Nat) (yK yE : Nat → Int32), 32 ≤ i + n → i ≤ 31 → tz_EV K (tz_c aL) (tz_c aR) aV aS yK yE → (∀ n, k0 n ≠ 0 → yK n ≠ 0) → (∀ n, n < i → K n = 2 → k0 (tz_c aL n) ≠ 0 → k0 (tz_c aR n) ≠ 0 → yK n ≠ 0) → wY_evaluate_65 post J x1 n (nI i) yT yJ aV aS yL yR yK yE := by
  obtain ⟨⟨t1, t2, t3, t4⟩, h2, h3, h4, h5, h6⟩ := hT
  intro n
  induction n with
  | zero => intro i yK yE g1 g2; omega
  | succ n ih =>
    intro i yK yE g1 g2 hE hm hd
    unfold wY_evaluate_65
    by_cases hi : i < 31
    · have ii : vp_in (nI i) 31 := vp_in_nI hi (by omega)
      obtain ⟨xT, xJ, xL⟩ := hX i hi
      refine br_f (nI_ge (b := 31) hi (by omega)) ⟨ii, ?_⟩
      rw [nI_clamp (n := i) (by omega)]
      have skip : (K i = 2 → k0 (tz_c aL i) ≠ 0 → k0 (tz_c aR i) ≠ 0 → yK i ≠ 0) → wY_evaluate_65 post J x1 n (nI i + 1) yT yJ aV aS yL yR yK yE := by
        intro hs
        rw [nI_1 i]
        refine ih (i + 1) yK yE (by omega) (by omega) hE hm ?_
        intro m hmi km
        by_cases e : m = i
        · rw [e] at km ⊢; exact hs km
        · exact hd m (by omega) km
      by_cases k0' : K i = 0
      · exact br_t (xT.mpr k0') (nm_e (skip (fun z => by rw [k0'] at z; exact absurd z (by decide))))
      · refine br_f (fun z => k0' (xT.mp z)) ⟨ii, ?_⟩
        by_cases k2 : K i = 2
        · obtain ⟨eL, eR⟩ := xL k2
          obtain ⟨v1, v2⟩ := h2 i hi k2
          obtain ⟨b1, b2, b3, b4, b5, b6, b7, b8, b9⟩ := t3 i (tz_J_At hi k2) k2
          have d1 : tz_c aL i ≠ i := fun e => by rw [e] at b8; omega
          have d2 : tz_c aR i ≠ i := fun e => by rw [e] at b9; omega
          refine br_f (fun z => xJ.mp z k2) ?_
          rw [eL, eR]
          refine ⟨ii, v1, ?_⟩
          by_cases kl : yK (tz_c aL i) = 0
          · exact br_t kl (nm_e (skip (fun _ z => absurd kl (hm _ z))))
          · refine br_f kl ⟨ii, v2, ?_⟩
            by_cases kr : yK (tz_c aR i) = 0
            · exact br_t kr (nm_e (skip (fun _ _ z => absurd kr (hm _ z))))
            · refine br_f kr ⟨ii, ii, v1, ii, v2, ty_worked ⟨ii, nm_e ⟨ii, ?_⟩⟩⟩
              rw [tz_vb1]
              refine nm_e (nm_r (nI_1 i) ?_)
              refine ih (i + 1) _ _ (by omega) (by omega) (tz_EV_do hE hi k2 kl kr d1 d2) ?_ ?_
              · intro m hm0
                by_cases e : m = i
                · rw [e, pk_us]; decide
                · rw [pk_un e]; exact hm m hm0
              · intro m hmi km c1 c2
                by_cases e : m = i
                · rw [e, pk_us]; decide
                · rw [pk_un e]; exact hd m (by omega) km c1 c2
        · exact br_t (xJ.mpr k2) (nm_e (skip (fun z => absurd z k2)))
    · have : i = 31 := by omega
      subst this
      exact br_t (nI_le (a := 31) (Nat.le_refl _) (by omega)) (nm_e (h yK yE hE hm hd))
theorem ty_e57 (hT : tz_TR K aL aR d P jc) (hX : tz_XY K aL aR yT yJ yL yR)
    (h : ∀ yK yE : Nat → Int32, tz_TE K (tz_c aL) (tz_c aR) aV aS yE → post (yT, yJ, aV, aS, yL, yR, yK, yE)) :
    ∀ (n i : Nat) (yK yE : Nat → Int32), 32 ≤ i + n → i ≤ 31 → tz_EV K (tz_c aL) (tz_c aR) aV aS yK yE → tz_cn (tz_un K yK) 31 ≤ 31 - i → wY_evaluate_57 post n (nI i) yT yJ aV aS yL yR yK yE := by
  intro n
  induction n with
  | zero => intro i yK yE g1 g2; omega
  | succ n ih =>
    intro i yK yE g1 g2 hE hU
    unfold wY_evaluate_57
    by_cases hi : i < 31
    · refine br_f (nI_ge (b := 31) hi (by omega)) ⟨32, ?_⟩
      have := ty_e65 (post := post) (J := wY_evaluate_57 post n) (x1 := nI i) (k0 := yK) (yT := yT) (yJ := yJ) (aV := aV) (aS := aS) (yL := yL) (yR := yR) hT hX (by
        intro kn rs hE' hm hd
        rw [nI_1 i]
        exact ih (i + 1) kn rs (by omega) (by omega) hE' (tz_EV_pr hT.1 hE hm hd (by omega))) 32 0 yK yE (by omega) (by omega) hE (fun n z => z) (fun n hn => by omega)
      rw [nI_0] at this
      exact this
    · have : i = 31 := by omega
      subst this
      exact br_t (nI_le (a := 31) (Nat.le_refl _) (by omega)) (h yK yE (tz_EV_TE hE hU))
theorem ty_e2 (hT : tz_TR K aL aR d P jc) (hX : tz_XY K aL aR yT yJ yL yR)
    (h : ∀ yK yE : Nat → Int32, tz_TE K (tz_c aL) (tz_c aR) aV aS yE → post (yT, yJ, aV, aS, yL, yR, yK, yE)) :
    ∀ (n i : Nat) (yK yE : Nat → Int32), 32 ≤ i + n → i ≤ 31 → (∀ j, j < i → (K j = 1 → yK j = 1) ∧ (K j ≠ 1 → yK j = 0) ∧ yE j = aV j) → wY_evaluate_2 post n (nI i) yT yJ aV aS yL yR yK yE := by
  have h3 := hT.2.2.1
  intro n
  induction n with
  | zero => intro i yK yE g1 g2; omega
  | succ n ih =>
    intro i yK yE g1 g2 hE
    unfold wY_evaluate_2
    by_cases hi : i < 31
    · have ii : vp_in (nI i) 31 := vp_in_nI hi (by omega)
      have hc : (nI i).toNatClampNeg = i := nI_clamp (by omega)
      obtain ⟨xT, xJ, xL⟩ := hX i hi
      refine br_f (nI_ge (b := 31) hi (by omega)) ⟨ii, ?_⟩
      rw [hc]
      have go : ∀ z : Int32, vp_nar .boolean z = z → ((K i = 1 → z = 1) ∧ (K i ≠ 1 → z = 0)) → wY_evaluate_36 post (wY_evaluate_2 post n) (nI i) z (nI i) yT yJ aV aS yL yR yK yE := by
        intro z hz hz2
        unfold wY_evaluate_36
        rw [hc, hz]
        refine ⟨ii, nm_e ⟨ii, ii, nm_e (nm_r (nI_1 i) ?_)⟩⟩
        refine ih (i + 1) _ _ (by omega) (by omega) ?_
        intro j hj
        by_cases e : j = i
        · subst e; rw [pk_us, pk_us]; exact ⟨hz2.1, hz2.2, rfl⟩
        · rw [pk_un e, pk_un e]; exact hE j (by omega)
      by_cases k0 : K i = 0
      · refine br_t (xT.mpr k0) ?_
        unfold wY_evaluate_35
        exact go 0 tz_vb0 ⟨fun z => by rw [k0] at z; exact absurd z (by decide), fun _ => rfl⟩
      · refine br_f (fun z => k0 (xT.mp z)) ⟨ii, ?_⟩
        by_cases k2 : K i = 2
        · refine br_f (fun z => xJ.mp z k2) ?_
          unfold wY_evaluate_35
          exact go 0 tz_vb0 ⟨fun z => by rw [k2] at z; exact absurd z (by decide), fun _ => rfl⟩
        · refine br_t (xJ.mpr k2) ?_
          have k1 : K i = 1 := by
            rcases h3 i hi with a | a | a
            · exact absurd a k0
            · exact a
            · exact absurd a k2
          exact go 1 tz_vb1 ⟨fun _ => rfl, fun z => absurd k1 z⟩
    · have : i = 31 := by omega
      subst this
      refine br_t (nI_le (a := 31) (Nat.le_refl _) (by omega)) ⟨32, ?_⟩
      have hE2 : tz_EV K (tz_c aL) (tz_c aR) aV aS yK yE := by
        intro m hm
        obtain ⟨a, b, c⟩ := hE m hm
        refine ⟨fun k1 => ⟨by rw [a k1]; decide, c⟩, fun k2 z => absurd (b (by rw [k2]; decide)) z⟩
      have := ty_e57 (post := post) hT hX h 32 0 yK yE (by omega) (by omega) hE2 (tz_cn_le _ 31)
      rw [nI_0] at this
      exact this
theorem ty_eval (hT : tz_TR K aL aR d P jc) (hX : tz_XY K aL aR yT yJ yL yR) (h : ∀ yK yE : Nat → Int32, tz_TE K (tz_c aL) (tz_c aR) aV aS yE → post (yT, yJ, aV, aS, yL, yR, yK, yE)) : wpY_evaluate post (yT, yJ, aV, aS, yL, yR, yK, yE) := by
  refine ⟨32, ?_⟩
  have := ty_e2 (post := post) hT hX h 32 0 yK yE (by omega) (by omega) (fun j hj => by omega)
  rw [nI_0] at this
  exact this
theorem ty_value (hT : tz_TR K aL aR d P jc) (hX : tz_XY K aL aR yT yJ yL yR) (hp : p < 31) (kp : K p = 1 ∨ K p = 2) (h : ∀ yK yE : Nat → Int32, tz_TE K (tz_c aL) (tz_c aR) aV aS yE → rost (yE p) (yT, yJ, aV, aS, yL, yR, yK, yE)) : wpY_value rost (yT, yJ, aV, aS, yL, yR, yK, yE) (nI p) := by
  have V : wY_value_18 rost (nI p) yT yJ aV aS yL yR yK yE := by
    unfold wY_value_18
    refine ty_eval hT hX ?_
    intro kn rs hE
    dsimp only
    rw [nI_clamp (n := p) (by omega)]
    exact ⟨vp_in_nI hp (by omega), h kn rs hE⟩
  unfold wpY_value
  dsimp only
  rcases kp with kp | kp
  · exact ty_leaf1 hX hp kp (br_f (by decide) V)
  · exact ty_leaf0 hX hp (Or.inr kp) (br_t rfl (ty_joint1 hX hp kp (br_f (by decide) V)))
theorem tz_upd2 {f : Nat → Int32} {k : Nat} : upd (upd f k (f k + 1)) k (upd f k (f k + 1) k - 1) = f := by
  funext j
  by_cases e : j = k
  · subst e; rw [pk_us, pk_us, Int32.add_sub_cancel]
  · rw [pk_un e, pk_un e]
theorem ty_slope (hT : tz_TR K aL aR d P jc) (hX : tz_XY K aL aR yT yJ yL yR) (hp : p < 31) (kp : K p = 1)
    (h : ∀ yK yE v v' : Nat → Int32, tz_TE K (tz_c aL) (tz_c aR) aV aS v → tz_TE K (tz_c aL) (tz_c aR) (upd aV p (aV p + 1)) aS v' → rost (v' 0 - v 0) (yT, yJ, aV, aS, yL, yR, yK, yE)) : wpY_slope rost (yT, yJ, aV, aS, yL, yR, yK, yE) (nI p) := by
  have k0 := (hT.1.2.1 0 hT.1.1).2
  have ip : vp_in (nI p) 31 := vp_in_nI hp (by omega)
  have hc : (nI p).toNatClampNeg = p := nI_clamp (by omega)
  unfold wpY_slope
  dsimp only
  refine ty_leaf1 hX hp kp (br_f (by decide) ?_)
  refine ty_value (p := 0) hT hX (by omega) k0 ?_
  intro kn rs hE
  dsimp only
  rw [hc]
  refine ⟨ip, ip, nm_e ?_⟩
  refine ty_value (p := 0) hT hX (by omega) k0 ?_
  intro kn2 rs2 hE2
  dsimp only
  rw [tz_upd2]
  exact ⟨ip, ip, nm_e (h kn2 rs2 rs rs2 hE hE2)⟩
end TZM
end
section
section TZN
/-! N: the tree grows, shrinks, turns -/
variable {K aL aR K' aL' aR' : Nat → Int32} {d P : Nat → Nat} {jc p a b : Nat}
theorem tz_grow (h : tz_TR K aL aR d P jc) (hj : jc < 15) (hp : p < 31) (kp : K p = 1) (ha : a < 31) (ka : K a = 0) (hb : b < 31) (kb : K b = 0) (hab : a ≠ b) :
    tz_TR (upd (upd (upd K a 1) b 1) p 2) (upd (upd (upd aL a (-1)) b (-1)) p (nI a)) (upd (upd (upd aR a (-1)) b (-1)) p (nI b)) (fun n => if n = a ∨ n = b then d p + 1 else d n) (fun n => if n = a ∨ n = b then p else P n) (jc + 1) := by
  obtain ⟨⟨t1, t2, t3, t4⟩, h2, h3, h4, h5, h6⟩ := h
  have n10 : ¬ (1 : Int32) = 0 := by decide
  have n12 : ¬ (1 : Int32) = 2 := by decide
  have n02 : ¬ (0 : Int32) = 2 := by decide
  have pa : p ≠ a := fun e => by rw [e, ka] at kp; exact absurd kp (by decide)
  have pb : p ≠ b := fun e => by rw [e, kb] at kp; exact absurd kp (by decide)
  have Kp : upd (upd (upd K a 1) b 1) p 2 p = 2 := pk_us
  have Kb : upd (upd (upd K a 1) b 1) p 2 b = 1 := by rw [pk_un (fun z => pb z.symm), pk_us]
  have Ka : upd (upd (upd K a 1) b 1) p 2 a = 1 := by rw [pk_un (fun z => pa z.symm), pk_un hab, pk_us]
  have Ko : ∀ n, n ≠ p → n ≠ a → n ≠ b → upd (upd (upd K a 1) b 1) p 2 n = K n := fun n x y z => by rw [pk_un x, pk_un z, pk_un y]
  have Lp : tz_c (upd (upd (upd aL a (-1)) b (-1)) p (nI a)) p = a := tz_c_us (by omega)
  have Rp : tz_c (upd (upd (upd aR a (-1)) b (-1)) p (nI b)) p = b := tz_c_us (by omega)
  have Lo : ∀ n, n ≠ p → n ≠ a → n ≠ b → upd (upd (upd aL a (-1)) b (-1)) p (nI a) n = aL n := fun n x y z => by rw [pk_un x, pk_un z, pk_un y]
  have Ro : ∀ n, n ≠ p → n ≠ a → n ≠ b → upd (upd (upd aR a (-1)) b (-1)) p (nI b) n = aR n := fun n x y z => by rw [pk_un x, pk_un z, pk_un y]
  have tA : ∀ n, tz_At K n = true → n ≠ a ∧ n ≠ b := fun n an => ⟨fun e => (tz_At_iff.mp an).2 (by rw [e]; exact ka), fun e => (tz_At_iff.mp an).2 (by rw [e]; exact kb)⟩
  have Kall : ∀ n, n < 31 → upd (upd (upd K a 1) b 1) p 2 n = 2 ∧ n = p ∨ upd (upd (upd K a 1) b 1) p 2 n = 1 ∧ (n = a ∨ n = b) ∨ upd (upd (upd K a 1) b 1) p 2 n = K n ∧ n ≠ p ∧ n ≠ a ∧ n ≠ b := by
    intro n _
    by_cases e1 : n = p
    · exact Or.inl ⟨by rw [e1]; exact Kp, e1⟩
    · by_cases e2 : n = a
      · exact Or.inr (Or.inl ⟨by rw [e2]; exact Ka, Or.inl e2⟩)
      · by_cases e3 : n = b
        · exact Or.inr (Or.inl ⟨by rw [e3]; exact Kb, Or.inr e3⟩)
        · exact Or.inr (Or.inr ⟨Ko n e1 e2 e3, e1, e2, e3⟩)
  have tA' : ∀ n, tz_At K n = true → tz_At (upd (upd (upd K a 1) b 1) p 2) n = true := by
    intro n an
    obtain ⟨n31, n0⟩ := tz_At_iff.mp an
    refine tz_At_iff.mpr ⟨n31, ?_⟩
    rcases Kall n n31 with ⟨e, -⟩ | ⟨e, -⟩ | ⟨e, -⟩
    · rw [e]; decide
    · rw [e]; decide
    · rw [e]; exact n0
  have a0 : a ≠ 0 := fun e => (tA 0 t1).1 e.symm
  have b0 : b ≠ 0 := fun e => (tA 0 t1).2 e.symm
  have hdo : ∀ n, n ≠ a → n ≠ b → (if n = a ∨ n = b then d p + 1 else d n) = d n := fun n x y => if_neg (fun z => z.elim x y)
  have hPo : ∀ n, n ≠ a → n ≠ b → (if n = a ∨ n = b then p else P n) = P n := fun n x y => if_neg (fun z => z.elim x y)
  have joint : ∀ j, j < 31 → upd (upd (upd K a 1) b 1) p 2 j = 2 → j ≠ p → K j = 2 ∧ j ≠ a ∧ j ≠ b := by
    intro j j31 kj jp
    rcases Kall j j31 with ⟨-, e⟩ | ⟨e, -⟩ | ⟨e, -, e2, e3⟩
    · exact absurd e jp
    · rw [e] at kj; exact absurd kj n12
    · exact ⟨by rw [← e]; exact kj, e2, e3⟩
  refine ⟨⟨tA' 0 t1, ?_, ?_, ?_⟩, ?_, ?_, ?_, ?_, by omega⟩
  · intro n an
    obtain ⟨n31, n0⟩ := tz_At_iff.mp an
    refine ⟨n31, ?_⟩
    rcases Kall n n31 with ⟨e, -⟩ | ⟨e, -⟩ | ⟨e, -⟩
    · exact Or.inr e
    · exact Or.inl e
    · rw [e] at n0 ⊢
      exact (t2 n (tz_At_iff.mpr ⟨n31, n0⟩)).2
  · intro j aj kj
    obtain ⟨j31, -⟩ := tz_At_iff.mp aj
    by_cases jp : j = p
    · subst jp
      rw [Lp, Rp]
      dsimp only
      rw [if_pos (Or.inl rfl), if_pos (Or.inr rfl), if_pos (Or.inl rfl), if_pos (Or.inr rfl), hdo _ pa pb]
      exact ⟨tz_At_iff.mpr ⟨ha, by rw [Ka]; decide⟩, tz_At_iff.mpr ⟨hb, by rw [Kb]; decide⟩, hab, rfl, rfl, a0, b0, by omega, by omega⟩
    · obtain ⟨kj2, ja, jb⟩ := joint j j31 kj jp
      obtain ⟨b1, b2, b3, b4, b5, b6, b7, b8, b9⟩ := t3 j (tz_J_At j31 kj2) kj2
      have e1 : tz_c (upd (upd (upd aL a (-1)) b (-1)) p (nI a)) j = tz_c aL j := by unfold tz_c; rw [Lo j jp ja jb]
      have e2 : tz_c (upd (upd (upd aR a (-1)) b (-1)) p (nI b)) j = tz_c aR j := by unfold tz_c; rw [Ro j jp ja jb]
      rw [e1, e2]
      dsimp only
      rw [hdo _ ja jb, hdo _ (tA _ b1).1 (tA _ b1).2, hdo _ (tA _ b2).1 (tA _ b2).2, hPo _ (tA _ b1).1 (tA _ b1).2, hPo _ (tA _ b2).1 (tA _ b2).2]
      exact ⟨tA' _ b1, tA' _ b2, b3, b4, b5, b6, b7, b8, b9⟩
  · intro n an n0
    obtain ⟨n31, nk⟩ := tz_At_iff.mp an
    dsimp only
    by_cases hn : n = a ∨ n = b
    · rw [if_pos hn, Lp, Rp]
      refine ⟨tz_At_iff.mpr ⟨hp, by rw [Kp]; decide⟩, Kp, ?_⟩
      rcases hn with e | e
      · exact Or.inl e.symm
      · exact Or.inr e.symm
    · rw [if_neg hn]
      have na : n ≠ a := fun z => hn (Or.inl z)
      have nb : n ≠ b := fun z => hn (Or.inr z)
      have an2 : tz_At K n = true := by
        refine tz_At_iff.mpr ⟨n31, ?_⟩
        by_cases np : n = p
        · rw [np, kp]; decide
        · rw [Ko n np na nb] at nk; exact nk
      obtain ⟨c1, c2, c3⟩ := t4 n an2 n0
      have q1 : P n ≠ p := fun e => by rw [e, kp] at c2; exact absurd c2 n12
      have q2 : P n ≠ a := fun e => by rw [e, ka] at c2; exact absurd c2 n02
      have q3 : P n ≠ b := fun e => by rw [e, kb] at c2; exact absurd c2 n02
      have e1 : tz_c (upd (upd (upd aL a (-1)) b (-1)) p (nI a)) (P n) = tz_c aL (P n) := by unfold tz_c; rw [Lo _ q1 q2 q3]
      have e2 : tz_c (upd (upd (upd aR a (-1)) b (-1)) p (nI b)) (P n) = tz_c aR (P n) := by unfold tz_c; rw [Ro _ q1 q2 q3]
      rw [e1, e2, Ko _ q1 q2 q3]
      exact ⟨tA' _ c1, c2, c3⟩
  · intro j j31 kj
    by_cases jp : j = p
    · subst jp
      rw [pk_us, pk_us]
      exact ⟨vp_in_nI ha (by omega), vp_in_nI hb (by omega)⟩
    · obtain ⟨kj2, ja, jb⟩ := joint j j31 kj jp
      rw [Lo j jp ja jb, Ro j jp ja jb]
      exact h2 j j31 kj2
  · intro n n31
    rcases Kall n n31 with ⟨e, -⟩ | ⟨e, -⟩ | ⟨e, -⟩
    · exact Or.inr (Or.inr e)
    · exact Or.inr (Or.inl e)
    · rw [e]; exact h3 n n31
  · have := tz_cn_ins (P := fun n => decide (K n = 2)) (Q := fun n => decide (upd (upd (upd K a 1) b 1) p 2 n = 2)) (i := p) (by rw [kp]; decide) (decide_eq_true Kp) (n := 31) hp (by
      intro j j31 jp
      rcases Kall j j31 with ⟨-, e⟩ | ⟨e, e2⟩ | ⟨e, -⟩
      · exact absurd e jp
      · rw [e]
        rcases e2 with e2 | e2
        · rw [e2, ka]; rfl
        · rw [e2, kb]; rfl
      · rw [e])
    omega
  · have c1 := tz_cn_ins (P := fun n => decide (K n ≠ 0)) (Q := fun n => decide (K n ≠ 0) || decide (n = a)) (i := a) (by
        rw [ka]; decide) (by rw [decide_eq_true (p := a = a) rfl, Bool.or_true]) (n := 31) ha (by
      intro j j31 ja
      show (decide (K j ≠ 0) || decide (j = a)) = decide (K j ≠ 0)
      rw [decide_eq_false ja, Bool.or_false])
    have c2 := tz_cn_ins (P := fun n => decide (K n ≠ 0) || decide (n = a)) (Q := fun n => decide (upd (upd (upd K a 1) b 1) p 2 n ≠ 0)) (i := b) (by
        show (decide (K b ≠ 0) || decide (b = a)) = false
        rw [kb, decide_eq_false (p := b = a) (fun z => hab z.symm)]; decide) (by rw [Kb]; decide) (n := 31) hb (by
      intro j j31 jb
      show decide (upd (upd (upd K a 1) b 1) p 2 j ≠ 0) = (decide (K j ≠ 0) || decide (j = a))
      rcases Kall j j31 with ⟨e, e2⟩ | ⟨e, e2⟩ | ⟨e, -, e2, -⟩
      · rw [e, e2, kp]; rfl
      · rcases e2 with e2 | e2
        · rw [e, e2, decide_eq_true (p := a = a) rfl, Bool.or_true]; rfl
        · exact absurd e2 jb
      · rw [e, decide_eq_false e2, Bool.or_false])
    omega
theorem tz_shrink (h : tz_TR K aL aR d P jc) (hp : p < 31) (kp : K p = 2) (ea : tz_c aL p = a) (eb : tz_c aR p = b) (ka : K a = 1) (kb : K b = 1) :
    tz_TR (upd (upd (upd K a 0) b 0) p 1) (upd aL p (-1)) (upd aR p (-1)) d P (jc - 1) ∧ 0 < jc := by
  obtain ⟨⟨t1, t2, t3, t4⟩, h2, h3, h4, h5, h6⟩ := h
  obtain ⟨p1, p2, p3, p4, p5, p6, p7, p8, p9⟩ := t3 p (tz_J_At hp kp) kp
  rw [ea] at p1 p3 p4 p6 p8
  rw [eb] at p2 p3 p5 p7 p9
  have ha := (t2 a p1).1
  have hb := (t2 b p2).1
  have n12 : ¬ (1 : Int32) = 2 := by decide
  have n02 : ¬ (0 : Int32) = 2 := by decide
  have pa : p ≠ a := fun e => by rw [e, ka] at kp; exact absurd kp n12
  have pb : p ≠ b := fun e => by rw [e, kb] at kp; exact absurd kp n12
  have Kp : upd (upd (upd K a 0) b 0) p 1 p = 1 := pk_us
  have Kb : upd (upd (upd K a 0) b 0) p 1 b = 0 := by rw [pk_un (fun z => pb z.symm), pk_us]
  have Ka : upd (upd (upd K a 0) b 0) p 1 a = 0 := by rw [pk_un (fun z => pa z.symm), pk_un p3, pk_us]
  have Ko : ∀ n, n ≠ p → n ≠ a → n ≠ b → upd (upd (upd K a 0) b 0) p 1 n = K n := fun n x y z => by rw [pk_un x, pk_un z, pk_un y]
  have Kall : ∀ n, n < 31 → upd (upd (upd K a 0) b 0) p 1 n = 1 ∧ n = p ∨ upd (upd (upd K a 0) b 0) p 1 n = 0 ∧ (n = a ∨ n = b) ∨ upd (upd (upd K a 0) b 0) p 1 n = K n ∧ n ≠ p ∧ n ≠ a ∧ n ≠ b := by
    intro n _
    by_cases e1 : n = p
    · exact Or.inl ⟨by rw [e1]; exact Kp, e1⟩
    · by_cases e2 : n = a
      · exact Or.inr (Or.inl ⟨by rw [e2]; exact Ka, Or.inl e2⟩)
      · by_cases e3 : n = b
        · exact Or.inr (Or.inl ⟨by rw [e3]; exact Kb, Or.inr e3⟩)
        · exact Or.inr (Or.inr ⟨Ko n e1 e2 e3, e1, e2, e3⟩)
  have tA' : ∀ n, tz_At K n = true → n ≠ a → n ≠ b → tz_At (upd (upd (upd K a 0) b 0) p 1) n = true := by
    intro n an na nb
    obtain ⟨n31, n0⟩ := tz_At_iff.mp an
    refine tz_At_iff.mpr ⟨n31, ?_⟩
    by_cases np : n = p
    · rw [np, Kp]; decide
    · rw [Ko n np na nb]; exact n0
  have joint : ∀ j, j < 31 → upd (upd (upd K a 0) b 0) p 1 j = 2 → K j = 2 ∧ j ≠ p ∧ j ≠ a ∧ j ≠ b := by
    intro j j31 kj
    rcases Kall j j31 with ⟨e, -⟩ | ⟨e, -⟩ | ⟨e, e1, e2, e3⟩
    · rw [e] at kj; exact absurd kj n12
    · rw [e] at kj; exact absurd kj n02
    · exact ⟨by rw [← e]; exact kj, e1, e2, e3⟩
  have cJ := tz_cn_ins (P := fun n => decide (upd (upd (upd K a 0) b 0) p 1 n = 2)) (Q := fun n => decide (K n = 2)) (i := p) (by rw [Kp]; decide) (decide_eq_true kp) (n := 31) hp (by
      intro j j31 jp
      show decide (K j = 2) = decide (upd (upd (upd K a 0) b 0) p 1 j = 2)
      rcases Kall j j31 with ⟨-, e⟩ | ⟨e, e2⟩ | ⟨e, -⟩
      · exact absurd e jp
      · rw [e]
        rcases e2 with e2 | e2
        · rw [e2, ka]; rfl
        · rw [e2, kb]; rfl
      · rw [e])
  have c1 := tz_cn_ins (P := fun n => decide (K n ≠ 0) && (decide (n ≠ a))) (Q := fun n => decide (K n ≠ 0)) (i := a) (by
        rw [decide_eq_false (p := a ≠ a) (fun z => z rfl), Bool.and_false]) (by rw [ka]; decide) (n := 31) ha (by
      intro j j31 ja
      show decide (K j ≠ 0) = (decide (K j ≠ 0) && decide (j ≠ a))
      rw [decide_eq_true ja, Bool.and_true])
  have c2 := tz_cn_ins (P := fun n => decide (upd (upd (upd K a 0) b 0) p 1 n ≠ 0)) (Q := fun n => decide (K n ≠ 0) && decide (n ≠ a)) (i := b) (by rw [Kb]; decide) (by
        show (decide (K b ≠ 0) && decide (b ≠ a)) = true
        rw [kb, decide_eq_true (p := b ≠ a) (fun z => p3 z.symm)]; decide) (n := 31) hb (by
      intro j j31 jb
      show (decide (K j ≠ 0) && decide (j ≠ a)) = decide (upd (upd (upd K a 0) b 0) p 1 j ≠ 0)
      rcases Kall j j31 with ⟨e, e2⟩ | ⟨e, e2⟩ | ⟨e, -, e2, -⟩
      · rw [e, e2, kp, decide_eq_true pa]; rfl
      · rcases e2 with e2 | e2
        · rw [e, e2, decide_eq_false (p := a ≠ a) (fun z => z rfl), Bool.and_false]; rfl
        · exact absurd e2 jb
      · rw [e, decide_eq_true e2, Bool.and_true])
  have jpos : 0 < jc := by omega
  refine ⟨⟨⟨tA' 0 t1 (fun z => p6 z.symm) (fun z => p7 z.symm), ?_, ?_, ?_⟩, ?_, ?_, by omega, by omega, by omega⟩, jpos⟩
  · intro n an
    obtain ⟨n31, n0⟩ := tz_At_iff.mp an
    refine ⟨n31, ?_⟩
    rcases Kall n n31 with ⟨e, -⟩ | ⟨e, -⟩ | ⟨e, -⟩
    · exact Or.inl e
    · exact absurd e n0
    · rw [e] at n0 ⊢
      exact (t2 n (tz_At_iff.mpr ⟨n31, n0⟩)).2
  · intro j aj kj
    obtain ⟨j31, -⟩ := tz_At_iff.mp aj
    obtain ⟨kj2, jp, ja, jb⟩ := joint j j31 kj
    obtain ⟨b1, b2, b3, b4, b5, b6, b7, b8, b9⟩ := t3 j (tz_J_At j31 kj2) kj2
    rw [tz_c_un jp, tz_c_un jp]
    refine ⟨tA' _ b1 (fun e => jp ?_) (fun e => jp ?_), tA' _ b2 (fun e => jp ?_) (fun e => jp ?_), b3, b4, b5, b6, b7, b8, b9⟩
    · rw [← b4, e]; exact p4
    · rw [← b4, e]; exact p5
    · rw [← b5, e]; exact p4
    · rw [← b5, e]; exact p5
  · intro n an n0
    obtain ⟨n31, nk⟩ := tz_At_iff.mp an
    have na : n ≠ a := fun e => nk (by rw [e]; exact Ka)
    have nb : n ≠ b := fun e => nk (by rw [e]; exact Kb)
    have an2 : tz_At K n = true := by
      refine tz_At_iff.mpr ⟨n31, ?_⟩
      by_cases np : n = p
      · rw [np, kp]; decide
      · rw [Ko n np na nb] at nk; exact nk
    obtain ⟨g1, g2, g3⟩ := t4 n an2 n0
    have q1 : P n ≠ p := by
      intro e
      rw [e, ea, eb] at g3
      rcases g3 with g3 | g3
      · exact na g3.symm
      · exact nb g3.symm
    have q2 : P n ≠ a := fun e => by rw [e, ka] at g2; exact absurd g2 n12
    have q3 : P n ≠ b := fun e => by rw [e, kb] at g2; exact absurd g2 n12
    rw [tz_c_un q1, tz_c_un q1, Ko _ q1 q2 q3]
    exact ⟨tA' _ g1 q2 q3, g2, g3⟩
  · intro j j31 kj
    obtain ⟨kj2, jp, ja, jb⟩ := joint j j31 kj
    rw [pk_un jp, pk_un jp]
    exact h2 j j31 kj2
  · intro n n31
    rcases Kall n n31 with ⟨e, -⟩ | ⟨e, -⟩ | ⟨e, -⟩
    · exact Or.inr (Or.inl e)
    · exact Or.inl e
    · rw [e]; exact h3 n n31
theorem tz_turn (h : tz_TR K aL aR d P jc) (hp : p < 31) (kp : K p = 2) : tz_TR K (upd aL p (aR p)) (upd aR p (aL p)) d P jc := by
  obtain ⟨⟨t1, t2, t3, t4⟩, h2, h3, h4, h5, h6⟩ := h
  have e1 : tz_c (upd aL p (aR p)) p = tz_c aR p := by unfold tz_c; rw [pk_us]
  have e2 : tz_c (upd aR p (aL p)) p = tz_c aL p := by unfold tz_c; rw [pk_us]
  refine ⟨⟨t1, t2, ?_, ?_⟩, ?_, h3, h4, h5, h6⟩
  · intro j aj kj
    obtain ⟨b1, b2, b3, b4, b5, b6, b7, b8, b9⟩ := t3 j aj kj
    by_cases jp : j = p
    · subst jp
      rw [e1, e2]
      exact ⟨b2, b1, fun z => b3 z.symm, b5, b4, b7, b6, b9, b8⟩
    · rw [tz_c_un jp, tz_c_un jp]
      exact ⟨b1, b2, b3, b4, b5, b6, b7, b8, b9⟩
  · intro n an n0
    obtain ⟨c1, c2, c3⟩ := t4 n an n0
    refine ⟨c1, c2, ?_⟩
    by_cases jp : P n = p
    · rw [jp, e1, e2]
      rw [jp] at c3
      exact c3.symm
    · rw [tz_c_un jp, tz_c_un jp]
      exact c3
  · intro j j31 kj
    by_cases jp : j = p
    · subst jp
      rw [pk_us, pk_us]
      exact (h2 j j31 kj).symm
    · rw [pk_un jp, pk_un jp]
      exact h2 j j31 kj
end TZN
end
section
section TZO
/-! O: the relation -/
def tz_CC (fc fs ft : Int32) (aK aL aR aS aV nL nR nP sL lA jA oA iL lS jS oS sO fF fS : Nat → Int32) : Prop :=
  fc = 0 ∨ (fc = 1 ∧ ∃ (T tp : Nat) (A : Nat → Bool) (d : Nat → Nat), fs = nI T ∧ ft = nI tp ∧ aK tp = 1 ∧ tz_CV aK aL aR aS aV d T A tp nL nR nP sL lA jA oA iL lS jS oS sO fF fS)
def i_Rel (_ : Nat) (u : SX) (v : SY) : Prop := match u with
  | (fj, ft, fl, fc, fs, o1, o2, o3, o4, aK, aS, aV, aL, aR, nL, nR, nP, sL, lr, sk, fF, fS, dF, dS, tc, lA, jA, oA, iL, lS, jS, oS, sO) => match v with
    | (yT, yJ, yW, yS, yL, yR, yK, yE) => ∃ (jc : Nat) (d P : Nat → Nat), fj = nI jc ∧ yW = aV ∧ yS = aS ∧ tz_TR aK aL aR d P jc ∧ tz_SR aS ∧ tz_XY aK aL aR yT yJ yL yR ∧ tz_CC fc fs ft aK aL aR aS aV nL nR nP sL lA jA oA iL lS jS oS sO fF fS
theorem i_up {k : Nat} {u : SX} {v : SY} (h : i_Rel k u v) : i_Rel (k + 5) u v := h
theorem tz_mk {k : Nat} {fj ft fl fc fs o1 o2 o3 o4 : Int32} {aK aS aV aL aR nL nR nP sL lr sk fF fS dF dS tc lA jA oA iL lS jS oS sO : Nat → Int32} {yT yJ yL yR yK yE : Nat → Int32} {jc : Nat} {d P : Nat → Nat} (h1 : fj = nI jc) (h2 : tz_TR aK aL aR d P jc) (h3 : tz_SR aS) (h4 : tz_XY aK aL aR yT yJ yL yR) (h5 : tz_CC fc fs ft aK aL aR aS aV nL nR nP sL lA jA oA iL lS jS oS sO fF fS) : i_Rel k (fj, ft, fl, fc, fs, o1, o2, o3, o4, aK, aS, aV, aL, aR, nL, nR, nP, sL, lr, sk, fF, fS, dF, dS, tc, lA, jA, oA, iL, lS, jS, oS, sO) (yT, yJ, aV, aS, yL, yR, yK, yE) := ⟨jc, d, P, h1, rfl, rfl, h2, h3, h4, h5⟩
/-- the relation opened -/
theorem tz_el {k : Nat} {Q : SX → SY → Prop} (h : ∀ (jc : Nat) (d P : Nat → Nat) (ft fl fc fs o1 o2 o3 o4 : Int32) (aK aS aV aL aR nL nR nP sL lr sk fF fS dF dS tc lA jA oA iL lS jS oS sO yT yJ yL yR yK yE : Nat → Int32), tz_TR aK aL aR d P jc → tz_SR aS → tz_XY aK aL aR yT yJ yL yR → tz_CC fc fs ft aK aL aR aS aV nL nR nP sL lA jA oA iL lS jS oS sO fF fS → Q (nI jc, ft, fl, fc, fs, o1, o2, o3, o4, aK, aS, aV, aL, aR, nL, nR, nP, sL, lr, sk, fF, fS, dF, dS, tc, lA, jA, oA, iL, lS, jS, oS, sO) (yT, yJ, aV, aS, yL, yR, yK, yE)) {u : SX} {v : SY} (I : i_Rel k u v) : Q u v := by
  obtain ⟨fj, ft, fl, fc, fs, o1, o2, o3, o4, aK, aS, aV, aL, aR, nL, nR, nP, sL, lr, sk, fF, fS, dF, dS, tc, lA, jA, oA, iL, lS, jS, oS, sO⟩ := u
  obtain ⟨yT, yJ, yW, yS, yL, yR, yK, yE⟩ := v
  obtain ⟨jc, d, P, rfl, rfl, rfl, hT, hS, hX, hC⟩ := I
  exact h jc d P ft fl fc fs o1 o2 o3 o4 aK yS yW aL aR nL nR nP sL lr sk fF fS dF dS tc lA jA oA iL lS jS oS sO yT yJ yL yR yK yE hT hS hX hC
variable {K aL aR yT yJ yL yR : Nat → Int32} {p a b : Nat}
theorem tz_XY_grow (h : tz_XY K aL aR yT yJ yL yR) (hp : p < 31) (kp : K p = 1) (ka : K a = 0) (kb : K b = 0) :
    tz_XY (upd (upd (upd K a 1) b 1) p 2) (upd (upd (upd aL a (-1)) b (-1)) p (nI a)) (upd (upd (upd aR a (-1)) b (-1)) p (nI b)) (upd (upd yT a 1) b 1) (upd (upd (upd yJ a 0) b 0) p 1) (upd yL p (nI a)) (upd yR p (nI b)) := by
  have pa : p ≠ a := fun e => by rw [e, ka] at kp; exact absurd kp (by decide)
  have pb : p ≠ b := fun e => by rw [e, kb] at kp; exact absurd kp (by decide)
  intro n hn
  obtain ⟨h1, h2, h3⟩ := h n hn
  by_cases np : n = p
  · subst np
    rw [pk_us, pk_us, pk_us, pk_us, pk_us, pk_us, pk_un pb, pk_un pa]
    refine ⟨⟨fun z => ?_, fun z => absurd z (by decide)⟩, ⟨fun z => absurd z (by decide), fun z => absurd rfl z⟩, fun _ => ⟨rfl, rfl⟩⟩
    rw [h1.mp z] at kp; exact absurd kp (by decide)
  · rw [pk_un np, pk_un np, pk_un np, pk_un np, pk_un np, pk_un np]
    by_cases nb : n = b
    · subst nb
      rw [pk_us, pk_us, pk_us]
      exact ⟨⟨fun z => absurd z (by decide), fun z => absurd z (by decide)⟩, ⟨fun _ => by decide, fun _ => rfl⟩, fun z => absurd z (by decide)⟩
    · rw [pk_un nb, pk_un nb, pk_un nb, pk_un nb, pk_un nb]
      by_cases na : n = a
      · subst na
        rw [pk_us, pk_us, pk_us]
        exact ⟨⟨fun z => absurd z (by decide), fun z => absurd z (by decide)⟩, ⟨fun _ => by decide, fun _ => rfl⟩, fun z => absurd z (by decide)⟩
      · rw [pk_un na, pk_un na, pk_un na, pk_un na, pk_un na]
        exact ⟨h1, h2, h3⟩
theorem tz_XY_shrink (h : tz_XY K aL aR yT yJ yL yR) (kp : K p = 2) (ka : K a = 1) (kb : K b = 1) :
    tz_XY (upd (upd (upd K a 0) b 0) p 1) (upd aL p (-1)) (upd aR p (-1)) (upd (upd yT a 0) b 0) (upd yJ p 0) yL yR := by
  have pa : p ≠ a := fun e => by rw [e, ka] at kp; exact absurd kp (by decide)
  have pb : p ≠ b := fun e => by rw [e, kb] at kp; exact absurd kp (by decide)
  intro n hn
  obtain ⟨h1, h2, h3⟩ := h n hn
  by_cases np : n = p
  · subst np
    rw [pk_us, pk_us, pk_us, pk_us, pk_un pb, pk_un pa]
    refine ⟨⟨fun z => ?_, fun z => absurd z (by decide)⟩, ⟨fun _ => by decide, fun _ => rfl⟩, fun z => absurd z (by decide)⟩
    rw [h1.mp z] at kp; exact absurd kp (by decide)
  · rw [pk_un np, pk_un np, pk_un np, pk_un np]
    by_cases nb : n = b
    · subst nb
      rw [pk_us, pk_us]
      exact ⟨⟨fun _ => rfl, fun _ => rfl⟩, ⟨fun _ => by decide, fun _ => h2.mpr (by rw [kb]; decide)⟩, fun z => absurd z (by decide)⟩
    · rw [pk_un nb, pk_un nb]
      by_cases na : n = a
      · subst na
        rw [pk_us, pk_us]
        exact ⟨⟨fun _ => rfl, fun _ => rfl⟩, ⟨fun _ => by decide, fun _ => h2.mpr (by rw [ka]; decide)⟩, fun z => absurd z (by decide)⟩
      · rw [pk_un na, pk_un na]
        exact ⟨h1, h2, h3⟩
theorem tz_XY_turn (h : tz_XY K aL aR yT yJ yL yR) (hp : p < 31) (kp : K p = 2) : tz_XY K (upd aL p (aR p)) (upd aR p (aL p)) yT yJ (upd yL p (yR p)) (upd yR p (yL p)) := by
  intro n hn
  obtain ⟨h1, h2, h3⟩ := h n hn
  refine ⟨h1, h2, fun k2 => ?_⟩
  obtain ⟨e1, e2⟩ := h3 k2
  by_cases np : n = p
  · subst np
    rw [pk_us, pk_us, pk_us, pk_us]
    exact ⟨e2, e1⟩
  · rw [pk_un np, pk_un np, pk_un np, pk_un np]
    exact ⟨e1, e2⟩
theorem tz_SR_u {s : Nat → Int32} (h : tz_SR s) (p : Nat) (x : Int32) : tz_SR (upd s p (x &&& 3)) := by
  intro n hn
  by_cases e : n = p
  · rw [e, pk_us]; exact tz_and3 x
  · rw [pk_un e]; exact h n hn
/-- the two least free numbers -/
theorem tz_free2 {jc : Nat} (hc : tz_cn (fun n => decide (K n ≠ 0)) 31 = 2 * jc + 1) (hj : jc < 15) : ∃ a b, a < b ∧ b < 31 ∧ K a = 0 ∧ K b = 0 ∧ (∀ j, j < a → K j ≠ 0) ∧ (∀ j, j < b → j ≠ a → K j ≠ 0) := by
  obtain ⟨a, ha, fa, la⟩ := tz_cn_least (P := fun n => decide (K n ≠ 0)) (n := 31) (tz_cn_ex (by omega))
  have ka : K a = 0 := by
    have := of_decide_eq_false fa
    exact Classical.not_not.mp this
  have c1 := tz_cn_ins (P := fun n => decide (K n ≠ 0)) (Q := fun n => decide (K n ≠ 0) || decide (n = a)) (i := a) fa (by rw [decide_eq_true (p := a = a) rfl, Bool.or_true]) (n := 31) ha (by
    intro j j31 ja
    show (decide (K j ≠ 0) || decide (j = a)) = decide (K j ≠ 0)
    rw [decide_eq_false ja, Bool.or_false])
  obtain ⟨b, hb, fb, lb⟩ := tz_cn_least (P := fun n => decide (K n ≠ 0) || decide (n = a)) (n := 31) (tz_cn_ex (by omega))
  have fb2 : (decide (K b ≠ 0) || decide (b = a)) = false := fb
  rw [Bool.or_eq_false_iff] at fb2
  have kb : K b = 0 := Classical.not_not.mp (of_decide_eq_false fb2.1)
  have ba : b ≠ a := of_decide_eq_false fb2.2
  have la2 : ∀ j, j < a → K j ≠ 0 := fun j hj => of_decide_eq_true (la j hj)
  refine ⟨a, b, ?_, hb, ka, kb, la2, ?_⟩
  · rcases Nat.lt_trichotomy a b with e | e | e
    · exact e
    · exact absurd e.symm ba
    · exact absurd kb (la2 b e)
  · intro j hj ja
    have : (decide (K j ≠ 0) || decide (j = a)) = true := lb j hj
    rw [decide_eq_false ja, Bool.or_false] at this
    exact of_decide_eq_true this
end TZO
section TZO2
variable {post : SX → Prop} {qost : Int32 → Prop} {a f : Nat} {x : Int32}
variable {fj ft fl fc fs o1 o2 o3 o4 : Int32} {aK aS aV aL aR nL nR nP sL lr sk fF fS dF dS tc lA jA oA iL lS jS oS sO : Nat → Int32}
theorem tx_kindo (hx : x < 0 ∨ (¬ x < 0 ∧ ¬ x ≤ 30 ∧ 31 ≤ x)) (h : qost 0) : wpX_kindOf qost (fj, ft, fl, fc, fs, o1, o2, o3, o4, aK, aS, aV, aL, aR, nL, nR, nP, sL, lr, sk, fF, fS, dF, dS, tc, lA, jA, oA, iL, lS, jS, oS, sO) x := by
  rcases hx with hx | ⟨h1, h2, -⟩
  · exact tx_kindn hx h
  · exact tx_kindg h1 h2 h
theorem tx_free (ha : a < 31) (hf : f ≤ a) (ka : aK a = 0) (hl : ∀ j, f ≤ j → j < a → aK j ≠ 0) (h : qost (nI a)) : wpX_freeNode qost (fj, ft, fl, fc, fs, o1, o2, o3, o4, aK, aS, aV, aL, aR, nL, nR, nP, sL, lr, sk, fF, fS, dF, dS, tc, lA, jA, oA, iL, lS, jS, oS, sO) (nI f) := by
  have L : ∀ n i, a + 1 ≤ i + n → f ≤ i → i ≤ a → wX_freeNode_2 qost fj ft fl fc fs o1 o2 o3 o4 aK aS aV aL aR nL nR nP sL lr sk fF fS dF dS tc lA jA oA iL lS jS oS sO n (nI i) := by
    intro n
    induction n with
    | zero => intro i h1 h2; omega
    | succ n ih =>
      intro i h1 h2 h3
      unfold wX_freeNode_2
      refine br_f (nI_ge (b := 31) (by omega) (by omega)) ⟨vp_in_nI (by omega) (by omega), ?_⟩
      rw [nI_clamp (n := i) (by omega)]
      by_cases e : i = a
      · subst e
        exact br_t ka h
      · exact br_f (hl i h2 (by omega)) (nm_r (nI_1 i) (ih (i + 1) (by omega) (by omega) (by omega)))
  exact ⟨a + 1, L (a + 1) f (by omega) (Nat.le_refl _) hf⟩
theorem tx_make (ha : a < 31) (h : post (fj, ft, fl, fc, fs, o1, o2, o3, o4, upd aK a 1, aS, upd aV a x, upd aL a (-1), upd aR a (-1), nL, nR, nP, sL, lr, sk, fF, fS, dF, dS, tc, lA, jA, oA, iL, lS, jS, oS, sO)) : wpX_makeLeaf post (fj, ft, fl, fc, fs, o1, o2, o3, o4, aK, aS, aV, aL, aR, nL, nR, nP, sL, lr, sk, fF, fS, dF, dS, tc, lA, jA, oA, iL, lS, jS, oS, sO) (nI a) x := by
  have i : vp_in (nI a) 31 := vp_in_nI ha (by omega)
  unfold wpX_makeLeaf
  dsimp only
  rw [nI_clamp (n := a) (by omega)]
  exact ⟨i, nm_e ⟨i, nm_e ⟨i, nm_e ⟨i, nm_e h⟩⟩⟩⟩
end TZO2
end
section
section TZP
/-! P: the changing methods, each side by itself -/
theorem tz_arg2 (x : Int32) : (x < 0 ∨ (¬ x < 0 ∧ ¬ x ≤ 30 ∧ 31 ≤ x)) ∨ ∃ j : Nat, j < 31 ∧ x = nI j := by
  rcases tz_arg x with h | h | h
  · exact Or.inl (Or.inl h)
  · exact Or.inl (Or.inr h)
  · exact Or.inr h
variable {post : Int32 → SX → Prop} {jc p a b : Nat} {s x y : Int32}
variable {fj ft fl fc fs o1 o2 o3 o4 : Int32} {aK aS aV aL aR nL nR nP sL lr sk fF fS dF dS tc lA jA oA iL lS jS oS sO : Nat → Int32}
theorem tx_grow (hj : jc < 15) (hp : p < 31) (kp : aK p = 1) (hab : a < b) (hb : b < 31) (ka : aK a = 0) (kb : aK b = 0) (la : ∀ j, j < a → aK j ≠ 0) (lb : ∀ j, j < b → j ≠ a → aK j ≠ 0)
    (h : post (nI a) (nI (jc + 1), ft, fl, 0, fs, o1, o2, o3, o4, upd (upd (upd aK a 1) b 1) p 2, upd aS p (s &&& 3), upd (upd aV a x) b y, upd (upd (upd aL a (-1)) b (-1)) p (nI a), upd (upd (upd aR a (-1)) b (-1)) p (nI b), nL, nR, nP, sL, lr, sk, fF, fS, dF, dS, tc, lA, jA, oA, iL, lS, jS, oS, sO)) : wpX_grow post (nI jc, ft, fl, fc, fs, o1, o2, o3, o4, aK, aS, aV, aL, aR, nL, nR, nP, sL, lr, sk, fF, fS, dF, dS, tc, lA, jA, oA, iL, lS, jS, oS, sO) (nI p) s x y := by
  have ip : vp_in (nI p) 31 := vp_in_nI hp (by omega)
  unfold wpX_grow
  dsimp only
  refine tx_kind hp (br_t kp (br_t (nI_lt (b := 15) hj (by omega)) ?_))
  refine tx_free (f := 0) (a := a) (by omega) (by omega) ka (fun j _ hj => la j hj) ?_
  rw [nI_1 a]
  refine tx_free (f := a + 1) (a := b) hb (by omega) kb (fun j h1 h2 => lb j h2 (by omega)) ?_
  refine tx_make (by omega) ?_
  refine tx_make hb ?_
  dsimp only
  rw [nI_clamp (n := p) (by omega)]
  exact ⟨ip, nm_e ⟨ip, nm_e ⟨ip, nm_e ⟨ip, nm_e (nm_r (nI_1 jc) h)⟩⟩⟩⟩
theorem tx_shrink (hp : p < 31) (kp : aK p = 2) (ha : a < 31) (hb : b < 31) (ea : aL p = nI a) (eb : aR p = nI b) (ka : aK a = 1) (kb : aK b = 1)
    (h : post 0 (nI jc, ft, fl, 0, fs, o1, o2, o3, o4, upd (upd (upd aK a 0) b 0) p 1, aS, upd aV p (tz_calc (aS p) (aV a) (aV b)), upd aL p (-1), upd aR p (-1), nL, nR, nP, sL, lr, sk, fF, fS, dF, dS, tc, lA, jA, oA, iL, lS, jS, oS, sO)) : wpX_shrink post (nI (jc + 1), ft, fl, fc, fs, o1, o2, o3, o4, aK, aS, aV, aL, aR, nL, nR, nP, sL, lr, sk, fF, fS, dF, dS, tc, lA, jA, oA, iL, lS, jS, oS, sO) (nI p) := by
  have ip : vp_in (nI p) 31 := vp_in_nI hp (by omega)
  have ia : vp_in (nI a) 31 := vp_in_nI ha (by omega)
  have ib : vp_in (nI b) 31 := vp_in_nI hb (by omega)
  have cp : (nI p).toNatClampNeg = p := nI_clamp (by omega)
  have ca : (nI a).toNatClampNeg = a := nI_clamp (by omega)
  have cb : (nI b).toNatClampNeg = b := nI_clamp (by omega)
  unfold wpX_shrink
  dsimp only
  refine tx_kind hp (br_t kp ?_)
  rw [cp, ea, eb, ca, cb]
  refine ⟨ip, ia, br_t ka ⟨ip, ib, br_t kb ⟨ip, nm_e ⟨ip, nm_e ⟨ip, ia, ib, ?_⟩⟩⟩⟩⟩
  rw [ca, cb]
  refine tx_calc ⟨ia, nm_e ⟨ib, nm_e ?_⟩⟩
  refine tx_make hp ?_
  dsimp only
  exact nm_r (nI_pred jc) h
end TZP
section TZP2
variable {post : Int32 → SX → Prop} {rost : Int32 → SY → Prop} {K aL aR : Nat → Int32} {d P : Nat → Nat} {jc p a b : Nat} {s x y : Int32}
variable {yT yJ aV aS yL yR yK yE : Nat → Int32}
theorem ty_grow (hX : tz_XY K aL aR yT yJ yL yR) (hc : tz_cn (fun n => decide (K n ≠ 0)) 31 = 2 * jc + 1) (hj : jc < 15) (hp : p < 31) (kp : K p = 1) (hab : a < b) (hb : b < 31) (ka : K a = 0) (kb : K b = 0) (la : ∀ j, j < a → K j ≠ 0) (lb : ∀ j, j < b → j ≠ a → K j ≠ 0)
    (h : rost (nI a) (upd (upd yT a 1) b 1, upd (upd (upd yJ a 0) b 0) p 1, upd (upd aV a x) b y, upd aS p (s &&& 3), upd yL p (nI a), upd yR p (nI b), yK, yE)) : wpY_grow rost (yT, yJ, aV, aS, yL, yR, yK, yE) (nI p) s x y := by
  have ip : vp_in (nI p) 31 := vp_in_nI hp (by omega)
  have cp : (nI p).toNatClampNeg = p := nI_clamp (by omega)
  unfold wpY_grow
  dsimp only
  refine ty_leaf1 hX hp kp (br_f (by decide) ?_)
  refine ty_nodes hX ?_
  rw [hc]
  refine br_t (nI_le (b := 29) (by omega) (by omega)) ?_
  refine ty_new (a := a) (by omega) ((hX a (by omega)).1.mpr ka) (fun j hj z => la j hj ((hX j (by omega)).1.mp z)) ?_
  dsimp only
  rw [cp]
  refine ⟨ip, nm_e ?_⟩
  refine ty_new (a := b) hb ?_ ?_ ?_
  · rw [pk_un (by omega)]; exact (hX b hb).1.mpr kb
  · intro j hj
    by_cases e : j = a
    · rw [e, pk_us]; decide
    · rw [pk_un e]; exact fun z => lb j hj e ((hX j (by omega)).1.mp z)
  · dsimp only
    rw [tz_vb1, pk_us]
    exact ⟨ip, nm_e ⟨ip, nm_e ⟨ip, nm_e ⟨ip, h⟩⟩⟩⟩
theorem ty_growf (hX : tz_XY K aL aR yT yJ yL yR) (hc : tz_cn (fun n => decide (K n ≠ 0)) 31 = 31) (hp : p < 31) (kp : K p = 1) (h : rost (-1) (yT, yJ, aV, aS, yL, yR, yK, yE)) : wpY_grow rost (yT, yJ, aV, aS, yL, yR, yK, yE) (nI p) s x y := by
  unfold wpY_grow
  dsimp only
  refine ty_leaf1 hX hp kp (br_f (by decide) ?_)
  refine ty_nodes hX ?_
  rw [hc]
  exact br_f (by decide) h
theorem ty_shrink (hX : tz_XY K aL aR yT yJ yL yR) (hp : p < 31) (kp : K p = 2) (ha : a < 31) (hb : b < 31) (ea : aL p = nI a) (eb : aR p = nI b) (ka : K a = 1) (kb : K b = 1)
    (h : rost 0 (upd (upd yT a 0) b 0, upd yJ p 0, upd aV p (tz_calc (aS p) (aV a) (aV b)), aS, yL, yR, yK, yE)) : wpY_shrink rost (yT, yJ, aV, aS, yL, yR, yK, yE) (nI p) := by
  have ip : vp_in (nI p) 31 := vp_in_nI hp (by omega)
  have ia : vp_in (nI a) 31 := vp_in_nI ha (by omega)
  have ib : vp_in (nI b) 31 := vp_in_nI hb (by omega)
  have cp : (nI p).toNatClampNeg = p := nI_clamp (by omega)
  have ca : (nI a).toNatClampNeg = a := nI_clamp (by omega)
  have cb : (nI b).toNatClampNeg = b := nI_clamp (by omega)
  obtain ⟨e1, e2⟩ := (hX p hp).2.2 kp
  unfold wpY_shrink
  dsimp only
  rw [cp, e1, e2, ea, eb, ca, cb, tz_vb0]
  refine ty_joint1 hX hp kp (br_f (by decide) ⟨ip, ?_⟩)
  refine ty_leaf1 hX ha ka (br_f (by decide) ⟨ip, ?_⟩)
  refine ty_leaf1 hX hb kb (br_f (by decide) ⟨ip, ip, ia, ip, ib, ?_⟩)
  exact ty_worked ⟨ip, nm_e ⟨ip, nm_e ⟨ip, ia, nm_e ⟨ip, ib, nm_e h⟩⟩⟩⟩
/-- one of the children is a joint -/
theorem ty_shrinkf (hX : tz_XY K aL aR yT yJ yL yR) (hp : p < 31) (kp : K p = 2) (ha : a < 31) (hb : b < 31) (ea : aL p = nI a) (eb : aR p = nI b) (ka : K a = 2 ∨ (K a = 1 ∧ K b = 2))
    (h : rost (-1) (yT, yJ, aV, aS, yL, yR, yK, yE)) : wpY_shrink rost (yT, yJ, aV, aS, yL, yR, yK, yE) (nI p) := by
  have ip : vp_in (nI p) 31 := vp_in_nI hp (by omega)
  have cp : (nI p).toNatClampNeg = p := nI_clamp (by omega)
  obtain ⟨e1, e2⟩ := (hX p hp).2.2 kp
  unfold wpY_shrink
  dsimp only
  rw [cp, e1, e2, ea, eb]
  refine ty_joint1 hX hp kp (br_f (by decide) ⟨ip, ?_⟩)
  rcases ka with ka | ⟨ka, kb⟩
  · exact ty_leaf0 hX ha (Or.inr ka) (br_t rfl h)
  · refine ty_leaf1 hX ha ka (br_f (by decide) ⟨ip, ?_⟩)
    exact ty_leaf0 hX hb (Or.inr kb) (br_t rfl h)
end TZP2
end
section
section TZQ
/-! Q: what is owed -/
theorem i_vc0 : wpX_init (fun u => wpY_init (fun v => i_Rel 0 u v)) := by
  unfold wpX_init wpY_init
  refine nm_e ?_
  rw [tz_vb1]
  refine nm_e ?_
  have At0 : ∀ n, tz_At (upd (fun _ => 0) 0 1) n = true → n = 0 := by
    intro n an
    by_cases e : n = 0
    · exact e
    · have := (tz_At_iff.mp an).2
      rw [pk_un e] at this
      exact absurd rfl this
  have K0 : upd (fun _ => 0) 0 1 0 = 1 := pk_us
  have noJ : ∀ n, upd (fun _ => 0) 0 1 n ≠ 2 := by
    intro n
    by_cases e : n = 0
    · rw [e, K0]; decide
    · rw [pk_un e]; decide
  refine tz_mk (jc := 0) (d := fun _ => 0) (P := fun _ => 0) nI_0.symm ⟨⟨?_, ?_, ?_, ?_⟩, ?_, ?_, by decide +kernel, by decide +kernel, by omega⟩ (fun n _ => Or.inl rfl) ?_ (Or.inl rfl)
  · exact tz_At_iff.mpr ⟨by omega, by rw [K0]; decide⟩
  · intro n an
    rw [At0 n an]
    exact ⟨by omega, Or.inl K0⟩
  · intro j _ kj
    exact absurd kj (noJ j)
  · intro n an n0
    exact absurd (At0 n an) n0
  · intro j _ kj
    exact absurd kj (noJ j)
  · intro n _
    by_cases e : n = 0
    · rw [e]; exact Or.inr (Or.inl K0)
    · rw [pk_un e]; exact Or.inl rfl
  · intro n _
    refine ⟨?_, ?_, fun z => absurd z (noJ n)⟩
    · exact Iff.rfl
    · exact ⟨fun _ => noJ n, fun _ => rfl⟩
theorem i_vc_grow {k : Nat} {u : SX} {v : SY} (I : i_Rel k u v) (hk : k + 5 ≤ 2560) (v1 : Int32) (v2 : Int32) (v3 : Int32) (v4 : Int32) : wpX_grow (fun r u' => wpY_grow (fun r' v' => r' = r ∧ i_Rel (k + 5) u' v') v v1 v2 v3 v4) u v1 v2 v3 v4 := by
  refine tz_el (Q := fun u v => wpX_grow (fun r u' => wpY_grow (fun r' v' => r' = r ∧ i_Rel (k + 5) u' v') v v1 v2 v3 v4) u v1 v2 v3 v4) ?_ I
  intro jc d P ft fl fc fs o1 o2 o3 o4 aK aS aV aL aR nL nR nP sL lr sk fF fS dF dS tc lA jA oA iL lS jS oS sO yT yJ yL yR yK yE hT hS hX hC
  have J : i_Rel (k + 5) (nI jc, ft, fl, fc, fs, o1, o2, o3, o4, aK, aS, aV, aL, aR, nL, nR, nP, sL, lr, sk, fF, fS, dF, dS, tc, lA, jA, oA, iL, lS, jS, oS, sO) (yT, yJ, aV, aS, yL, yR, yK, yE) := tz_mk rfl hT hS hX hC
  rcases tz_arg2 v1 with ho | ⟨p, hp, rfl⟩
  · unfold wpX_grow wpY_grow
    dsimp only
    exact tx_kindo ho (br_f (by decide) (ty_leafo ho (br_t rfl ⟨rfl, J⟩)))
  · by_cases k1 : aK p = 1
    · by_cases hj : jc < 15
      · obtain ⟨a, b, hab, hb, ka, kb, la, lb⟩ := tz_free2 hT.2.2.2.2.1 hj
        refine tx_grow hj hp k1 hab hb ka kb la lb ?_
        refine ty_grow hX hT.2.2.2.2.1 hj hp k1 hab hb ka kb la lb ⟨rfl, ?_⟩
        exact tz_mk rfl (tz_grow hT hj hp k1 (by omega) ka hb kb (by omega)) (tz_SR_u hS p v2) (tz_XY_grow hX hp k1 ka kb) (Or.inl rfl)
      · have hj15 : jc = 15 := by have := hT.2.2.2.2.2; omega
        have h31 : tz_cn (fun n => decide (aK n ≠ 0)) 31 = 31 := by have := hT.2.2.2.2.1; omega
        have K := ty_growf (rost := fun r' v' => r' = -1 ∧ i_Rel (k + 5) (nI jc, ft, fl, fc, fs, o1, o2, o3, o4, aK, aS, aV, aL, aR, nL, nR, nP, sL, lr, sk, fF, fS, dF, dS, tc, lA, jA, oA, iL, lS, jS, oS, sO) v') (s := v2) (x := v3) (y := v4) (aV := aV) (aS := aS) (yK := yK) (yE := yE) hX h31 hp k1 ⟨rfl, J⟩
        unfold wpX_grow
        dsimp only
        exact tx_kind hp (br_t k1 (br_f (by rw [hj15]; decide) K))
    · have k02 : aK p = 0 ∨ aK p = 2 := by
        rcases hT.2.2.1 p hp with e | e | e
        · exact Or.inl e
        · exact absurd e k1
        · exact Or.inr e
      unfold wpX_grow wpY_grow
      dsimp only
      exact tx_kind hp (br_f k1 (ty_leaf0 hX hp k02 (br_t rfl ⟨rfl, J⟩)))
theorem i_vc_shrink {k : Nat} {u : SX} {v : SY} (I : i_Rel k u v) (hk : k + 5 ≤ 2560) (v1 : Int32) : wpX_shrink (fun r u' => wpY_shrink (fun r' v' => r' = r ∧ i_Rel (k + 5) u' v') v v1) u v1 := by
  refine tz_el (Q := fun u v => wpX_shrink (fun r u' => wpY_shrink (fun r' v' => r' = r ∧ i_Rel (k + 5) u' v') v v1) u v1) ?_ I
  intro jc d P ft fl fc fs o1 o2 o3 o4 aK aS aV aL aR nL nR nP sL lr sk fF fS dF dS tc lA jA oA iL lS jS oS sO yT yJ yL yR yK yE hT hS hX hC
  have J : i_Rel (k + 5) (nI jc, ft, fl, fc, fs, o1, o2, o3, o4, aK, aS, aV, aL, aR, nL, nR, nP, sL, lr, sk, fF, fS, dF, dS, tc, lA, jA, oA, iL, lS, jS, oS, sO) (yT, yJ, aV, aS, yL, yR, yK, yE) := tz_mk rfl hT hS hX hC
  rcases tz_arg2 v1 with ho | ⟨p, hp, rfl⟩
  · unfold wpX_shrink wpY_shrink
    dsimp only
    exact tx_kindo ho (br_f (by decide) (ty_jointo ho (br_t rfl ⟨rfl, J⟩)))
  · by_cases k2 : aK p = 2
    · obtain ⟨vL, vR⟩ := hT.2.1 p hp k2
      obtain ⟨b1, b2, b3, b4, b5, b6, b7, b8, b9⟩ := hT.1.2.2.1 p (tz_J_At hp k2) k2
      have q1 := hT.1.2.1 _ b1
      have q2 := hT.1.2.1 _ b2
      have eL : aL p = nI (tz_c aL p) := tz_ve vL
      have eR : aR p = nI (tz_c aR p) := tz_ve vR
      have ip : vp_in (nI p) 31 := vp_in_nI hp (by omega)
      have cp : (nI p).toNatClampNeg = p := nI_clamp (by omega)
      have fail : (aK (tz_c aL p) = 2 ∨ (aK (tz_c aL p) = 1 ∧ aK (tz_c aR p) = 2)) → wpY_shrink (fun r' v' => r' = -1 ∧ i_Rel (k + 5) (nI jc, ft, fl, fc, fs, o1, o2, o3, o4, aK, aS, aV, aL, aR, nL, nR, nP, sL, lr, sk, fF, fS, dF, dS, tc, lA, jA, oA, iL, lS, jS, oS, sO) v') (yT, yJ, aV, aS, yL, yR, yK, yE) (nI p) := fun z => ty_shrinkf hX hp k2 q1.1 q2.1 eL eR z ⟨rfl, J⟩
      by_cases ka : aK (tz_c aL p) = 1
      · by_cases kb : aK (tz_c aR p) = 1
        · have hT2 := tz_shrink hT hp k2 rfl rfl ka kb
          obtain ⟨hT3, hpos⟩ := hT2
          obtain ⟨jd, rfl⟩ : ∃ jd, jc = jd + 1 := ⟨jc - 1, by omega⟩
          rw [Nat.add_sub_cancel] at hT3
          refine tx_shrink hp k2 q1.1 q2.1 eL eR ka kb ?_
          refine ty_shrink hX hp k2 q1.1 q2.1 eL eR ka kb ⟨rfl, ?_⟩
          exact tz_mk rfl hT3 hS (tz_XY_shrink hX k2 ka kb) (Or.inl rfl)
        · have F := fail (Or.inr ⟨ka, q2.2.resolve_left kb⟩)
          unfold wpX_shrink
          dsimp only
          refine tx_kind hp (br_t k2 ?_)
          rw [cp]
          exact ⟨ip, vL, br_t ka ⟨ip, vR, br_f kb F⟩⟩
      · have F := fail (Or.inl (q1.2.resolve_left ka))
        unfold wpX_shrink
        dsimp only
        refine tx_kind hp (br_t k2 ?_)
        rw [cp]
        exact ⟨ip, vL, br_f ka F⟩
    · unfold wpX_shrink wpY_shrink
      dsimp only
      exact tx_kind hp (br_f k2 (ty_joint0 hX hp k2 (br_t rfl ⟨rfl, J⟩)))
theorem i_vc_set {k : Nat} {u : SX} {v : SY} (I : i_Rel k u v) (hk : k + 5 ≤ 2560) (v1 : Int32) (v2 : Int32) : wpX_set (fun r u' => wpY_set (fun r' v' => r' = r ∧ i_Rel (k + 5) u' v') v v1 v2) u v1 v2 := by
  refine tz_el (Q := fun u v => wpX_set (fun r u' => wpY_set (fun r' v' => r' = r ∧ i_Rel (k + 5) u' v') v v1 v2) u v1 v2) ?_ I
  intro jc d P ft fl fc fs o1 o2 o3 o4 aK aS aV aL aR nL nR nP sL lr sk fF fS dF dS tc lA jA oA iL lS jS oS sO yT yJ yL yR yK yE hT hS hX hC
  have J : i_Rel (k + 5) (nI jc, ft, fl, fc, fs, o1, o2, o3, o4, aK, aS, aV, aL, aR, nL, nR, nP, sL, lr, sk, fF, fS, dF, dS, tc, lA, jA, oA, iL, lS, jS, oS, sO) (yT, yJ, aV, aS, yL, yR, yK, yE) := tz_mk rfl hT hS hX hC
  unfold wpX_set wpY_set
  dsimp only
  rcases tz_arg2 v1 with ho | ⟨p, hp, rfl⟩
  · exact tx_kindo ho (br_f (by decide) (ty_leafo ho (br_t rfl ⟨rfl, J⟩)))
  · by_cases k1 : aK p = 1
    · have ip : vp_in (nI p) 31 := vp_in_nI hp (by omega)
      have cp : (nI p).toNatClampNeg = p := nI_clamp (by omega)
      refine tx_kind hp (br_t k1 ?_)
      rw [cp]
      refine ⟨ip, nm_e ?_⟩
      rcases hC with rfl | ⟨rfl, T, tp, A, d', rfl, rfl, kt, hV⟩
      · refine br_t rfl (ty_leaf1 hX hp k1 (br_f (by decide) ⟨ip, nm_e ⟨rfl, ?_⟩⟩))
        exact tz_mk rfl hT hS hX (Or.inl rfl)
      · refine br_f (by decide) ?_
        refine tx_renew hV kt hp (fun n hn => pk_un hn) (fun n _ => rfl) ?_
        intro q1 q2 q3 q4 fF' fS' tc' hV'
        refine ty_leaf1 hX hp k1 (br_f (by decide) ⟨ip, nm_e ⟨rfl, ?_⟩⟩)
        exact tz_mk rfl hT hS hX (Or.inr ⟨rfl, T, tp, A, d', rfl, rfl, kt, hV'⟩)
    · have k02 : aK p = 0 ∨ aK p = 2 := by
        rcases hT.2.2.1 p hp with e | e | e
        · exact Or.inl e
        · exact absurd e k1
        · exact Or.inr e
      exact tx_kind hp (br_f k1 (ty_leaf0 hX hp k02 (br_t rfl ⟨rfl, J⟩)))
theorem i_vc_setSort {k : Nat} {u : SX} {v : SY} (I : i_Rel k u v) (hk : k + 5 ≤ 2560) (v1 : Int32) (v2 : Int32) : wpX_setSort (fun r u' => wpY_setSort (fun r' v' => r' = r ∧ i_Rel (k + 5) u' v') v v1 v2) u v1 v2 := by
  refine tz_el (Q := fun u v => wpX_setSort (fun r u' => wpY_setSort (fun r' v' => r' = r ∧ i_Rel (k + 5) u' v') v v1 v2) u v1 v2) ?_ I
  intro jc d P ft fl fc fs o1 o2 o3 o4 aK aS aV aL aR nL nR nP sL lr sk fF fS dF dS tc lA jA oA iL lS jS oS sO yT yJ yL yR yK yE hT hS hX hC
  have J : i_Rel (k + 5) (nI jc, ft, fl, fc, fs, o1, o2, o3, o4, aK, aS, aV, aL, aR, nL, nR, nP, sL, lr, sk, fF, fS, dF, dS, tc, lA, jA, oA, iL, lS, jS, oS, sO) (yT, yJ, aV, aS, yL, yR, yK, yE) := tz_mk rfl hT hS hX hC
  unfold wpX_setSort wpY_setSort
  dsimp only
  rcases tz_arg2 v1 with ho | ⟨p, hp, rfl⟩
  · exact tx_kindo ho (br_f (by decide) (ty_jointo ho (br_t rfl ⟨rfl, J⟩)))
  · by_cases k2 : aK p = 2
    · have ip : vp_in (nI p) 31 := vp_in_nI hp (by omega)
      have cp : (nI p).toNatClampNeg = p := nI_clamp (by omega)
      refine tx_kind hp (br_t k2 ?_)
      rw [cp]
      refine ⟨ip, nm_e ?_⟩
      rcases hC with rfl | ⟨rfl, T, tp, A, d', rfl, rfl, kt, hV⟩
      · refine br_t rfl (ty_joint1 hX hp k2 (br_f (by decide) ⟨ip, nm_e ⟨rfl, ?_⟩⟩))
        exact tz_mk rfl hT (tz_SR_u hS p v2) hX (Or.inl rfl)
      · refine br_f (by decide) ?_
        refine tx_renew hV kt hp (fun n _ => rfl) (fun n hn => pk_un hn) ?_
        intro q1 q2 q3 q4 fF' fS' tc' hV'
        refine ty_joint1 hX hp k2 (br_f (by decide) ⟨ip, nm_e ⟨rfl, ?_⟩⟩)
        exact tz_mk rfl hT (tz_SR_u hS p v2) hX (Or.inr ⟨rfl, T, tp, A, d', rfl, rfl, kt, hV'⟩)
    · exact tx_kind hp (br_f k2 (ty_joint0 hX hp k2 (br_t rfl ⟨rfl, J⟩)))
theorem i_vc_turn {k : Nat} {u : SX} {v : SY} (I : i_Rel k u v) (hk : k + 5 ≤ 2560) (v1 : Int32) : wpX_turn (fun r u' => wpY_turn (fun r' v' => r' = r ∧ i_Rel (k + 5) u' v') v v1) u v1 := by
  refine tz_el (Q := fun u v => wpX_turn (fun r u' => wpY_turn (fun r' v' => r' = r ∧ i_Rel (k + 5) u' v') v v1) u v1) ?_ I
  intro jc d P ft fl fc fs o1 o2 o3 o4 aK aS aV aL aR nL nR nP sL lr sk fF fS dF dS tc lA jA oA iL lS jS oS sO yT yJ yL yR yK yE hT hS hX hC
  have J : i_Rel (k + 5) (nI jc, ft, fl, fc, fs, o1, o2, o3, o4, aK, aS, aV, aL, aR, nL, nR, nP, sL, lr, sk, fF, fS, dF, dS, tc, lA, jA, oA, iL, lS, jS, oS, sO) (yT, yJ, aV, aS, yL, yR, yK, yE) := tz_mk rfl hT hS hX hC
  unfold wpX_turn wpY_turn
  dsimp only
  rcases tz_arg2 v1 with ho | ⟨p, hp, rfl⟩
  · exact tx_kindo ho (br_f (by decide) (ty_jointo ho (br_t rfl ⟨rfl, J⟩)))
  · by_cases k2 : aK p = 2
    · have ip : vp_in (nI p) 31 := vp_in_nI hp (by omega)
      have cp : (nI p).toNatClampNeg = p := nI_clamp (by omega)
      refine tx_kind hp (br_t k2 ?_)
      rw [cp]
      refine ⟨ip, nm_e ⟨ip, ip, nm_e ⟨ip, nm_e ?_⟩⟩⟩
      refine ty_joint1 hX hp k2 (br_f (by decide) ⟨ip, nm_e ⟨ip, ip, nm_e ⟨ip, nm_e ⟨rfl, ?_⟩⟩⟩⟩)
      exact tz_mk rfl (tz_turn hT hp k2) hS (tz_XY_turn hX hp k2) (Or.inl rfl)
    · exact tx_kind hp (br_f k2 (ty_joint0 hX hp k2 (br_t rfl ⟨rfl, J⟩)))
theorem i_vc_value {k : Nat} {u : SX} {v : SY} (I : i_Rel k u v) (hk : k + 5 ≤ 2560) (v1 : Int32) : wpX_value (fun r u' => wpY_value (fun r' v' => r' = r ∧ i_Rel (k + 5) u' v') v v1) u v1 := by
  refine tz_el (Q := fun u v => wpX_value (fun r u' => wpY_value (fun r' v' => r' = r ∧ i_Rel (k + 5) u' v') v v1) u v1) ?_ I
  intro jc d P ft fl fc fs o1 o2 o3 o4 aK aS aV aL aR nL nR nP sL lr sk fF fS dF dS tc lA jA oA iL lS jS oS sO yT yJ yL yR yK yE hT hS hX hC
  have J : i_Rel (k + 5) (nI jc, ft, fl, fc, fs, o1, o2, o3, o4, aK, aS, aV, aL, aR, nL, nR, nP, sL, lr, sk, fF, fS, dF, dS, tc, lA, jA, oA, iL, lS, jS, oS, sO) (yT, yJ, aV, aS, yL, yR, yK, yE) := tz_mk rfl hT hS hX hC
  rcases tz_arg2 v1 with ho | ⟨p, hp, rfl⟩
  · unfold wpX_value wpY_value
    dsimp only
    exact tx_kindo ho (br_t rfl (ty_leafo ho (br_t rfl (ty_jointo ho (br_t rfl ⟨rfl, J⟩)))))
  · by_cases k0 : aK p = 0
    · unfold wpX_value wpY_value
      dsimp only
      exact tx_kind hp (br_t k0 (ty_leaf0 hX hp (Or.inl k0) (br_t rfl (ty_joint0 hX hp (by rw [k0]; decide) (br_t rfl ⟨rfl, J⟩)))))
    · have k12 : aK p = 1 ∨ aK p = 2 := (hT.2.2.1 p hp).resolve_left k0
      unfold wpX_value
      dsimp only
      refine tx_kind hp (br_f k0 (tx_contract hT hC ?_))
      intro T tp A d' fl' lr' sk' o1' o2' o3' o4' nL' nR' nP' sL' lA' jA' oA' iL' lS' jS' oS' sO' fF' fS' kt hV
      refine ⟨17, ?_⟩
      have W := tx_v24 (post := fun r u' => wpY_value (fun r' v' => r' = r ∧ i_Rel (k + 5) u' v') (yT, yJ, aV, aS, yL, yR, yK, yE) (nI p)) (nd := p) (fj := nI jc) (ft := nI tp) (fl := fl') (fc := 1) (fs := nI T) (o1 := o1') (o2 := o2') (o3 := o3') (o4 := o4') (lr := lr') (dF := dF) (dS := dS) (tc := tc) hV kt hS (by
        intro r sk2 hr
        refine ty_value hT hX hp k12 (fun kn rs hE => ⟨(hr rs hE).symm, ?_⟩)
        exact tz_mk rfl hT hS hX (Or.inr ⟨rfl, T, tp, A, d', rfl, rfl, kt, hV⟩)) 17 0 p sk' (by omega) (by omega) (fun i hi => by omega) hp k12 rfl (fun _ => Nat.zero_le _)
      rw [nI_0] at W
      exact W
theorem i_vc_slope {k : Nat} {u : SX} {v : SY} (I : i_Rel k u v) (hk : k + 5 ≤ 2560) (v1 : Int32) : wpX_slope (fun r u' => wpY_slope (fun r' v' => r' = r ∧ i_Rel (k + 5) u' v') v v1) u v1 := by
  refine tz_el (Q := fun u v => wpX_slope (fun r u' => wpY_slope (fun r' v' => r' = r ∧ i_Rel (k + 5) u' v') v v1) u v1) ?_ I
  intro jc d P ft fl fc fs o1 o2 o3 o4 aK aS aV aL aR nL nR nP sL lr sk fF fS dF dS tc lA jA oA iL lS jS oS sO yT yJ yL yR yK yE hT hS hX hC
  have J : i_Rel (k + 5) (nI jc, ft, fl, fc, fs, o1, o2, o3, o4, aK, aS, aV, aL, aR, nL, nR, nP, sL, lr, sk, fF, fS, dF, dS, tc, lA, jA, oA, iL, lS, jS, oS, sO) (yT, yJ, aV, aS, yL, yR, yK, yE) := tz_mk rfl hT hS hX hC
  rcases tz_arg2 v1 with ho | ⟨p, hp, rfl⟩
  · unfold wpX_slope wpY_slope
    dsimp only
    exact tx_kindo ho (br_f (by decide) (ty_leafo ho (br_t rfl ⟨rfl, J⟩)))
  · by_cases k1 : aK p = 1
    · unfold wpX_slope
      dsimp only
      refine tx_kind hp (br_t k1 (tx_contract hT hC ?_))
      intro T tp A d' fl' lr' sk' o1' o2' o3' o4' nL' nR' nP' sL' lA' jA' oA' iL' lS' jS' oS' sO' fF' fS' kt hV
      refine ⟨47, ?_⟩
      have W := tx_s17 (post := fun r u' => wpY_slope (fun r' v' => r' = r ∧ i_Rel (k + 5) u' v') (yT, yJ, aV, aS, yL, yR, yK, yE) (nI p)) (nd := p) (fj := nI jc) (fl := fl') (fc := 1) (o1 := o1') (o2 := o2') (o3 := o3') (o4 := o4') (lr := lr') (sk := sk') (tc := tc) hV kt hS hp k1 (by
        intro r q1 q2 q3 q4 dF' dS' hr
        refine ty_slope hT hX hp k1 (fun kn rs w w' hE hE' => ⟨(hr w w' hE hE').symm, ?_⟩)
        exact tz_mk rfl hT hS hX (Or.inr ⟨rfl, T, tp, A, d', rfl, rfl, kt, hV⟩)) 47 0 dF dS (by omega) (by omega) (fun j hj => by omega)
      rw [nI_0] at W
      exact W
    · have k02 : aK p = 0 ∨ aK p = 2 := by
        rcases hT.2.2.1 p hp with e | e | e
        · exact Or.inl e
        · exact absurd e k1
        · exact Or.inr e
      unfold wpX_slope wpY_slope
      dsimp only
      exact tx_kind hp (br_f k1 (ty_leaf0 hX hp k02 (br_t rfl ⟨rfl, J⟩)))
theorem i_vc_left {k : Nat} {u : SX} {v : SY} (I : i_Rel k u v) (hk : k + 5 ≤ 2560) (v1 : Int32) : wpX_left (fun r => wpY_left (fun r' => r' = r ∧ i_Rel (k + 5) u v) v v1) u v1 := by
  refine tz_el (Q := fun u v => wpX_left (fun r => wpY_left (fun r' => r' = r ∧ i_Rel (k + 5) u v) v v1) u v1) ?_ I
  intro jc d P ft fl fc fs o1 o2 o3 o4 aK aS aV aL aR nL nR nP sL lr sk fF fS dF dS tc lA jA oA iL lS jS oS sO yT yJ yL yR yK yE hT hS hX hC
  have J : i_Rel (k + 5) (nI jc, ft, fl, fc, fs, o1, o2, o3, o4, aK, aS, aV, aL, aR, nL, nR, nP, sL, lr, sk, fF, fS, dF, dS, tc, lA, jA, oA, iL, lS, jS, oS, sO) (yT, yJ, aV, aS, yL, yR, yK, yE) := tz_mk rfl hT hS hX hC
  unfold wpX_left wpY_left
  dsimp only
  rcases tz_arg2 v1 with ho | ⟨p, hp, rfl⟩
  · exact tx_kindo ho (br_f (by decide) (ty_jointo ho (br_t rfl ⟨rfl, J⟩)))
  · by_cases k2 : aK p = 2
    · have ip : vp_in (nI p) 31 := vp_in_nI hp (by omega)
      have cp : (nI p).toNatClampNeg = p := nI_clamp (by omega)
      refine tx_kind hp (br_t k2 ?_)
      rw [cp]
      exact ⟨ip, ty_joint1 hX hp k2 (br_f (by decide) ⟨ip, ((hX p hp).2.2 k2).1, J⟩)⟩
    · exact tx_kind hp (br_f k2 (ty_joint0 hX hp k2 (br_t rfl ⟨rfl, J⟩)))
theorem i_vc_right {k : Nat} {u : SX} {v : SY} (I : i_Rel k u v) (hk : k + 5 ≤ 2560) (v1 : Int32) : wpX_right (fun r => wpY_right (fun r' => r' = r ∧ i_Rel (k + 5) u v) v v1) u v1 := by
  refine tz_el (Q := fun u v => wpX_right (fun r => wpY_right (fun r' => r' = r ∧ i_Rel (k + 5) u v) v v1) u v1) ?_ I
  intro jc d P ft fl fc fs o1 o2 o3 o4 aK aS aV aL aR nL nR nP sL lr sk fF fS dF dS tc lA jA oA iL lS jS oS sO yT yJ yL yR yK yE hT hS hX hC
  have J : i_Rel (k + 5) (nI jc, ft, fl, fc, fs, o1, o2, o3, o4, aK, aS, aV, aL, aR, nL, nR, nP, sL, lr, sk, fF, fS, dF, dS, tc, lA, jA, oA, iL, lS, jS, oS, sO) (yT, yJ, aV, aS, yL, yR, yK, yE) := tz_mk rfl hT hS hX hC
  unfold wpX_right wpY_right
  dsimp only
  rcases tz_arg2 v1 with ho | ⟨p, hp, rfl⟩
  · exact tx_kindo ho (br_f (by decide) (ty_jointo ho (br_t rfl ⟨rfl, J⟩)))
  · by_cases k2 : aK p = 2
    · have ip : vp_in (nI p) 31 := vp_in_nI hp (by omega)
      have cp : (nI p).toNatClampNeg = p := nI_clamp (by omega)
      refine tx_kind hp (br_t k2 ?_)
      rw [cp]
      exact ⟨ip, ty_joint1 hX hp k2 (br_f (by decide) ⟨ip, ((hX p hp).2.2 k2).2, J⟩)⟩
    · exact tx_kind hp (br_f k2 (ty_joint0 hX hp k2 (br_t rfl ⟨rfl, J⟩)))
theorem i_vc_joints {k : Nat} {u : SX} {v : SY} (I : i_Rel k u v) (hk : k + 5 ≤ 2560) : wpX_joints (fun r => wpY_joints (fun r' => r' = r ∧ i_Rel (k + 5) u v) v) u := by
  refine tz_el (Q := fun u v => wpX_joints (fun r => wpY_joints (fun r' => r' = r ∧ i_Rel (k + 5) u v) v) u) ?_ I
  intro jc d P ft fl fc fs o1 o2 o3 o4 aK aS aV aL aR nL nR nP sL lr sk fF fS dF dS tc lA jA oA iL lS jS oS sO yT yJ yL yR yK yE hT hS hX hC
  have J : i_Rel (k + 5) (nI jc, ft, fl, fc, fs, o1, o2, o3, o4, aK, aS, aV, aL, aR, nL, nR, nP, sL, lr, sk, fF, fS, dF, dS, tc, lA, jA, oA, iL, lS, jS, oS, sO) (yT, yJ, aV, aS, yL, yR, yK, yE) := tz_mk rfl hT hS hX hC
  unfold wpX_joints
  dsimp only
  refine ty_joints hX ⟨?_, J⟩
  rw [hT.2.2.2.1]
end TZQ
end
