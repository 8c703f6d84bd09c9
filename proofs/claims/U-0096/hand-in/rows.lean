section
/-! rows of kit/rows/PURE-ROWS (a starting text) -/
theorem pk_us {f : Nat → Int32} {k : Nat} {x : Int32} : upd f k x k = x := if_pos rfl
theorem pk_un {f : Nat → Int32} {k j : Nat} {x : Int32} (h : j ≠ k) : upd f k x j = f j := if_neg h
theorem pk_uLs {f : Nat → Int64} {k : Nat} {x : Int64} : vp_updL f k x k = x := if_pos rfl
theorem pk_uLn {f : Nat → Int64} {k j : Nat} {x : Int64} (h : j ≠ k) : vp_updL f k x j = f j := if_neg h
theorem pk_sub {a b : Nat} (h : b ≤ a) : nI a - nI b = nI (a - b) := by
  obtain ⟨c, rfl⟩ : ∃ c, a = c + b := ⟨a - b, by omega⟩
  rw [← nI_add, Int32.add_sub_cancel, Nat.add_sub_cancel]
theorem pk_m1 (n : Nat) : nI (n + 1) + (-1) = nI n := by
  rw [← nI_1, Int32.add_assoc, show (1 : Int32) + (-1) = 0 from rfl, Int32.add_zero]
theorem pk_mul (a b : Nat) : nI a * nI b = nI (a * b) := (Int32.ofNat_mul a b).symm
theorem pk_div {a d : Nat} (ha : a < 2 ^ 31) (h0 : 0 < d) (hd : d < 2 ^ 31) : nI a / nI d = nI (a / d) := by
  apply Int32.toInt_inj.mp
  rw [lg_idiv_nonneg (by rw [nI_toInt ha]; omega) (by rw [nI_toInt hd]; omega), nI_toInt ha, nI_toInt hd, nI_toInt (Nat.lt_of_le_of_lt (Nat.div_le_self a d) ha)]
  first | rfl | exact (Int.natCast_ediv _ _).symm
theorem pk_sub_toInt {a b : Nat} (ha : a < 2 ^ 30) (hb : b < 2 ^ 30) : (nI a - nI b).toInt = (a : Int) - b := by
  rw [Int32.toInt_sub, nI_toInt (by omega), nI_toInt (by omega)]
  exact Int.bmod_eq_of_le (by omega) (by omega)
theorem pk_ix (x : Int32) {n : Nat} (hn : n < 2 ^ 31) : x < 0 ∨ nI n ≤ x ∨ ∃ j : Nat, j < n ∧ x = nI j := by
  by_cases h : x < 0
  · exact Or.inl h
  · obtain ⟨j, hj, rfl⟩ := nI_of h
    by_cases h2 : j < n
    · exact Or.inr (Or.inr ⟨j, h2, rfl⟩)
    · exact Or.inr (Or.inl (nI_le (by omega) hj))
theorem pk_le {x y : Int32} {A B : Prop} (a b : Nat) (f : a ≤ b → A) (g : b < a → B) (hx : x = nI a := by rfl) (hy : y = nI b := by rfl) (ha : a < 2 ^ 31 := by omega) (hb : b < 2 ^ 31 := by omega) : (x ≤ y → A) ∧ (¬ x ≤ y → B) := by
  subst hx hy
  rw [nI_leI ha hb]
  exact ⟨f, fun z => g (by omega)⟩
theorem pk_lt {x y : Int32} {A B : Prop} (a b : Nat) (f : a < b → A) (g : b ≤ a → B) (hx : x = nI a := by rfl) (hy : y = nI b := by rfl) (ha : a < 2 ^ 31 := by omega) (hb : b < 2 ^ 31 := by omega) : (x < y → A) ∧ (¬ x < y → B) := by
  subst hx hy
  rw [nI_ltI ha hb]
  exact ⟨f, fun z => g (by omega)⟩
theorem pk_eq {x y : Int32} {A B : Prop} (a b : Nat) (f : a = b → A) (g : a ≠ b → B) (hx : x = nI a := by rfl) (hy : y = nI b := by rfl) (ha : a < 2 ^ 31 := by omega) (hb : b < 2 ^ 31 := by omega) : (x = y → A) ∧ (¬ x = y → B) := by
  subst hx hy
  rw [nI_eq ha hb]
  exact ⟨f, g⟩
theorem pk_in {x : Int32} (n N : Nat) (h : n < N) (hx : x = nI n := by rfl) (hN : N < 2 ^ 31 := by omega) : vp_in x N := by
  subst hx
  exact vp_in_nI h hN
theorem pk_cl {x : Int32} (n : Nat) (hx : x = nI n := by rfl) (h : n < 2 ^ 31 := by omega) : x.toNatClampNeg = n := by
  subst hx
  exact nI_clamp h
theorem pk_tn {n : Nat} (h : n < 2 ^ 32) : (nI n).toBitVec.toNat = n := Nat.mod_eq_of_lt h
theorem pk_and (x : Int32) {m : Int32} (k : Nat) (hm : m.toBitVec.toNat = 2 ^ k - 1) : x &&& m = nI (x.toBitVec.toNat % 2 ^ k) := by
  apply Int32.toBitVec_inj.mp
  apply BitVec.eq_of_toNat_eq
  rw [Int32.toBitVec_and, BitVec.toNat_and, hm, Nat.and_two_pow_sub_one_eq_mod]
  show _ = (BitVec.ofNat 32 _).toNat
  rw [BitVec.toNat_ofNat]
  exact (Nat.mod_eq_of_lt (Nat.lt_of_le_of_lt (Nat.mod_le _ _) x.toBitVec.isLt)).symm
theorem pk_andN {n : Nat} (h : n < 2 ^ 32) {m : Int32} (k : Nat) (hm : m.toBitVec.toNat = 2 ^ k - 1) : nI n &&& m = nI (n % 2 ^ k) := by
  rw [pk_and _ k hm, pk_tn h]
theorem pk_lT {n : Nat} (h : n < 2 ^ 63) : (lN n).toInt = (n : Int) := lg_ofNat_toInt h
theorem pk_lLT {a b : Nat} (ha : a < 2 ^ 63) (hb : b < 2 ^ 63) : lN a < lN b ↔ a < b := by
  rw [Int64.lt_iff_toInt_lt, pk_lT ha, pk_lT hb]; omega
theorem pk_lLE {a b : Nat} (ha : a < 2 ^ 63) (hb : b < 2 ^ 63) : lN a ≤ lN b ↔ a ≤ b := by
  rw [Int64.le_iff_toInt_le, pk_lT ha, pk_lT hb]; omega
theorem pk_lEQ {a b : Nat} (ha : a < 2 ^ 63) (hb : b < 2 ^ 63) : lN a = lN b ↔ a = b := by
  rw [← Int64.toInt_inj, pk_lT ha, pk_lT hb]; omega
theorem pk_lOf {x : Int64} (h : ¬ x < 0) : ∃ k : Nat, k < 2 ^ 63 ∧ x = lN k := by
  rw [Int64.lt_iff_toInt_lt] at h
  have h0 : (0 : Int64).toInt = 0 := by decide
  have hx := Int64.toInt_lt x
  refine ⟨x.toInt.toNat, by omega, Int64.toInt_inj.mp ?_⟩
  rw [pk_lT (by omega)]
  omega
theorem pk_lDiv {a b : Nat} (ha : a < 2 ^ 63) (h0 : 0 < b) (hb : b < 2 ^ 63) : lN a / lN b = lN (a / b) := by
  apply Int64.toInt_inj.mp
  rw [lg_ldiv_nonneg (by rw [pk_lT ha]; omega) (by rw [pk_lT hb]; omega), pk_lT ha, pk_lT hb, pk_lT (Nat.lt_of_le_of_lt (Nat.div_le_self a b) ha)]
  rfl
theorem pk_least (P : Nat → Prop) (h : ∃ k, P k) : ∃ k, P k ∧ ∀ j, j < k → ¬ P j := by
  obtain ⟨k, hk⟩ := h
  induction k using Nat.strongRecOn with
  | ind k ih =>
    by_cases e : ∃ j, j < k ∧ P j
    · obtain ⟨j, hj, pj⟩ := e
      exact ih j hj pj
    · exact ⟨k, hk, fun j hj pj => e ⟨j, hj, pj⟩⟩
theorem ek_if {c d A B : Prop} (e : c ↔ d) (f : d → A) (g : ¬ d → B) : (c → A) ∧ (¬ c → B) :=
  ⟨fun z => f (e.mp z), fun z => g (fun y => z (e.mpr y))⟩
theorem ek_v {α : Sort _} {P : α → Prop} {a b : α} (e : a = b) (h : P b) : P a := e ▸ h
end
section
/-! pure heap order: a heap of flows by (key, flow number), places 0 .. s - 1; swaps; the sift invariants; pigeonhole -/
def hp_lt (key : Nat → Int64) (f g : Nat) : Prop := key f < key g ∨ (key f = key g ∧ f < g)
theorem hp_iff {key : Nat → Int64} {f g : Nat} : hp_lt key f g ↔ ((key f).toInt < (key g).toInt ∨ ((key f).toInt = (key g).toInt ∧ f < g)) := by
  unfold hp_lt
  rw [Int64.lt_iff_toInt_lt, ← Int64.toInt_inj]
theorem hp_asym {key : Nat → Int64} {a b : Nat} (h : hp_lt key a b) : ¬ hp_lt key b a := by
  rw [hp_iff] at h ⊢
  omega
theorem hp_irr {key : Nat → Int64} {a : Nat} : ¬ hp_lt key a a := by
  rw [hp_iff]
  omega
theorem hp_trans {key : Nat → Int64} {a b c : Nat} (h1 : ¬ hp_lt key a b) (h2 : ¬ hp_lt key b c) : ¬ hp_lt key a c := by
  rw [hp_iff] at h1 h2 ⊢
  omega
theorem hp_nlt {key : Nat → Int64} {a b c : Nat} (h1 : hp_lt key a b) (h2 : ¬ hp_lt key c b) : ¬ hp_lt key c a := by
  rw [hp_iff] at h1 h2 ⊢
  omega
theorem hp_cong {key key' : Nat → Int64} {a b : Nat} (ha : key' a = key a) (hb : key' b = key b) : hp_lt key' a b ↔ hp_lt key a b := by
  unfold hp_lt
  rw [ha, hb]
def hp_sw (A : Nat → Nat) (i j : Nat) : Nat → Nat := fun k => if k = i then A j else if k = j then A i else A k
theorem hp_sw1 {A : Nat → Nat} {i j : Nat} : hp_sw A i j i = A j := if_pos rfl
theorem hp_sw2 {A : Nat → Nat} {i j : Nat} (h : j ≠ i) : hp_sw A i j j = A i := by
  unfold hp_sw
  rw [if_neg h, if_pos rfl]
theorem hp_sw3 {A : Nat → Nat} {i j k : Nat} (h1 : k ≠ i) (h2 : k ≠ j) : hp_sw A i j k = A k := by
  unfold hp_sw
  rw [if_neg h1, if_neg h2]
def hp_pi (i j k : Nat) : Nat := if k = i then j else if k = j then i else k
theorem hp_sw_pi (A : Nat → Nat) (i j k : Nat) : hp_sw A i j k = A (hp_pi i j k) := by
  unfold hp_sw hp_pi
  by_cases h1 : k = i
  · rw [if_pos h1, if_pos h1]
  · rw [if_neg h1, if_neg h1]
    by_cases h2 : k = j
    · rw [if_pos h2, if_pos h2]
    · rw [if_neg h2, if_neg h2]
theorem hp_pi_cases (i j k : Nat) : (k = i ∧ hp_pi i j k = j) ∨ (k ≠ i ∧ k = j ∧ hp_pi i j k = i) ∨ (k ≠ i ∧ k ≠ j ∧ hp_pi i j k = k) := by
  unfold hp_pi
  by_cases h1 : k = i
  · exact Or.inl ⟨h1, if_pos h1⟩
  · by_cases h2 : k = j
    · exact Or.inr (Or.inl ⟨h1, h2, by rw [if_neg h1, if_pos h2]⟩)
    · exact Or.inr (Or.inr ⟨h1, h2, by rw [if_neg h1, if_neg h2]⟩)
theorem hp_pi_lt {i j k s : Nat} (hi : i < s) (hj : j < s) (hk : k < s) : hp_pi i j k < s := by
  rcases hp_pi_cases i j k with h | h | h <;> omega
theorem hp_pi_inj {i j a b : Nat} (h : hp_pi i j a = hp_pi i j b) : a = b := by
  rcases hp_pi_cases i j a with x | x | x <;> rcases hp_pi_cases i j b with y | y | y <;> omega
theorem hp_pi_pi (i j k : Nat) : hp_pi i j (hp_pi i j k) = k := by
  rcases hp_pi_cases i j k with x | x | x <;> rcases hp_pi_cases i j (hp_pi i j k) with y | y | y <;> omega
/-- the places 0 .. s - 1 hold each flow of heap h once -/
def hp_BJ (n : Nat) (hm : Nat → Nat) (h s : Nat) (A : Nat → Nat) : Prop :=
  (∀ i, i < s → A i < n ∧ hm (A i) = h) ∧ (∀ i j, i < s → j < s → A i = A j → i = j) ∧ (∀ g, g < n → hm g = h → ∃ i, i < s ∧ A i = g)
theorem hp_BJ_sw {n h s i j : Nat} {hm A : Nat → Nat} (hi : i < s) (hj : j < s) (B : hp_BJ n hm h s A) : hp_BJ n hm h s (hp_sw A i j) := by
  obtain ⟨b1, b2, b3⟩ := B
  refine ⟨fun k hk => ?_, fun a b ha hb e => ?_, fun g hg he => ?_⟩
  · rw [hp_sw_pi]
    exact b1 _ (hp_pi_lt hi hj hk)
  · rw [hp_sw_pi, hp_sw_pi] at e
    exact hp_pi_inj (b2 _ _ (hp_pi_lt hi hj ha) (hp_pi_lt hi hj hb) e)
  · obtain ⟨k, hk, e⟩ := b3 g hg he
    refine ⟨hp_pi i j k, hp_pi_lt hi hj hk, ?_⟩
    rw [hp_sw_pi, hp_pi_pi]
    exact e
/-- the arrays show A at every place but t -/
def hp_CO (h s : Nat) (A : Nat → Nat) (hf pl : Nat → Int32) (t : Nat) : Prop := ∀ i, i < s → i ≠ t → hf (16 * h + i) = nI (A i) ∧ pl (A i) = nI i
def hp_CF (h s : Nat) (A : Nat → Nat) (hf pl : Nat → Int32) : Prop := ∀ i, i < s → hf (16 * h + i) = nI (A i) ∧ pl (A i) = nI i
theorem hp_CO_step {n h s t p : Nat} {hm A : Nat → Nat} {hf pl : Nat → Int32} (B : hp_BJ n hm h s A) (C : hp_CO h s A hf pl t) (ht : t < s) (hp : p < s) (hne : p ≠ t) :
    hp_CO h s (hp_sw A t p) (upd hf (16 * h + t) (nI (A p))) (upd pl (A p) (nI t)) p := by
  intro i hi hip
  by_cases e : i = t
  · subst e
    rw [hp_sw1, pk_us, pk_us]
    exact ⟨rfl, rfl⟩
  · rw [hp_sw3 e hip, pk_un (by omega), pk_un (fun z => hip (B.2.1 _ _ hi hp z))]
    exact C i hi e
theorem hp_CO_end {n h s t : Nat} {hm A : Nat → Nat} {hf pl : Nat → Int32} (B : hp_BJ n hm h s A) (C : hp_CO h s A hf pl t) (ht : t < s) :
    hp_CF h s A (upd hf (16 * h + t) (nI (A t))) (upd pl (A t) (nI t)) := by
  intro i hi
  by_cases e : i = t
  · subst e
    rw [pk_us, pk_us]
    exact ⟨rfl, rfl⟩
  · rw [pk_un (by omega), pk_un (fun z => e (B.2.1 _ _ hi ht z))]
    exact C i hi e
/-- outside heap h nothing changes -/
def hp_FR (h : Nat) (hm : Nat → Nat) (hf pl hf' pl' : Nat → Int32) : Prop := (∀ j, (j < 16 * h ∨ 16 * h + 16 ≤ j) → hf' j = hf j) ∧ (∀ g, hm g ≠ h → pl' g = pl g)
theorem hp_FR_rf {h : Nat} {hm : Nat → Nat} {hf pl : Nat → Int32} : hp_FR h hm hf pl hf pl := ⟨fun _ _ => rfl, fun _ _ => rfl⟩
theorem hp_FR_tr {h : Nat} {hm : Nat → Nat} {hf pl hf' pl' hf2 pl2 : Nat → Int32} (a : hp_FR h hm hf pl hf' pl') (b : hp_FR h hm hf' pl' hf2 pl2) : hp_FR h hm hf pl hf2 pl2 :=
  ⟨fun j hj => (b.1 j hj).trans (a.1 j hj), fun g hg => (b.2 g hg).trans (a.2 g hg)⟩
theorem hp_FR_put {h t g : Nat} {hm : Nat → Nat} {hf pl : Nat → Int32} {x y : Int32} (ht : t < 16) (hg : hm g = h) : hp_FR h hm hf pl (upd hf (16 * h + t) x) (upd pl g y) :=
  ⟨fun j hj => pk_un (by omega), fun g' hg' => pk_un (fun e => hg' (by rw [e]; exact hg))⟩
/-- order everywhere but at t (b: the children of t are in order below it) -/
def hp_OU (key : Nat → Int64) (s : Nat) (A : Nat → Nat) (t : Nat) (b : Prop) : Prop :=
  (∀ i, 0 < i → i < s → i ≠ t → ((i - 1) / 2 ≠ t ∨ b) → ¬ hp_lt key (A i) (A ((i - 1) / 2))) ∧
  (∀ i, 0 < i → i < s → (i - 1) / 2 = t → 0 < t → ¬ hp_lt key (A i) (A ((t - 1) / 2)))
/-- order everywhere but between t and its children -/
def hp_OD (key : Nat → Int64) (s : Nat) (A : Nat → Nat) (t : Nat) (b : Prop) : Prop :=
  (∀ i, 0 < i → i < s → ((i - 1) / 2 ≠ t ∨ b) → ¬ hp_lt key (A i) (A ((i - 1) / 2))) ∧
  (∀ i, 0 < i → i < s → (i - 1) / 2 = t → 0 < t → ¬ hp_lt key (A i) (A ((t - 1) / 2)))
def hp_OH (key : Nat → Int64) (s : Nat) (A : Nat → Nat) : Prop := ∀ i, 0 < i → i < s → ¬ hp_lt key (A i) (A ((i - 1) / 2))
theorem hp_up_stop {key : Nat → Int64} {s t : Nat} {A : Nat → Nat} {b : Prop} (O : hp_OU key s A t b) (h : t = 0 ∨ ¬ hp_lt key (A t) (A ((t - 1) / 2))) : hp_OD key s A t b := by
  refine ⟨fun i h0 hi hb => ?_, O.2⟩
  by_cases e : i = t
  · subst e
    rcases h with h | h
    · omega
    · exact h
  · exact O.1 i h0 hi e hb
theorem hp_up_step {key : Nat → Int64} {s t : Nat} {A : Nat → Nat} {b : Prop} (O : hp_OU key s A t b) (h0 : 0 < t) (ht : t < s) (h : hp_lt key (A t) (A ((t - 1) / 2))) (b' : Prop) :
    hp_OU key s (hp_sw A t ((t - 1) / 2)) ((t - 1) / 2) b' := by
  have hp : (t - 1) / 2 < t := by omega
  generalize hpe : (t - 1) / 2 = p at *
  have hpt : p ≠ t := by omega
  refine ⟨fun i i0 hi hip _ => ?_, fun i i0 hi hip p0 => ?_⟩
  · by_cases e : i = t
    · subst e
      rw [hpe, hp_sw1, hp_sw2 hpt]
      exact hp_asym h
    · rw [hp_sw3 e hip]
      by_cases e2 : (i - 1) / 2 = t
      · rw [e2, hp_sw1]
        have := O.2 i i0 hi e2 h0
        rw [hpe] at this
        exact this
      · by_cases e3 : (i - 1) / 2 = p
        · rw [e3, hp_sw2 hpt]
          have := O.1 i i0 hi e (Or.inl e2)
          rw [e3] at this
          exact hp_nlt h this
        · rw [hp_sw3 e2 e3]
          exact O.1 i i0 hi e (Or.inl e2)
  · have q1 : (p - 1) / 2 ≠ t := by omega
    have q2 : (p - 1) / 2 ≠ p := by omega
    rw [hp_sw3 q1 q2]
    have hpp := O.1 p p0 (by omega) hpt (Or.inl q1)
    by_cases e : i = t
    · subst e
      rw [hp_sw1]
      exact hpp
    · rw [hp_sw3 e (by omega)]
      have := O.1 i i0 hi e (Or.inl (by omega))
      rw [hip] at this
      exact hp_trans this hpp
theorem hp_dn_stop {key : Nat → Int64} {s t : Nat} {A : Nat → Nat} (O : hp_OD key s A t False) (h : ∀ i, 0 < i → i < s → (i - 1) / 2 = t → ¬ hp_lt key (A i) (A t)) : hp_OH key s A := by
  intro i h0 hi
  by_cases e : (i - 1) / 2 = t
  · rw [e]
    exact h i h0 hi e
  · exact O.1 i h0 hi (Or.inl e)
theorem hp_dn_step {key : Nat → Int64} {s t c : Nat} {A : Nat → Nat} (O : hp_OD key s A t False) (c0 : 0 < c) (hc : c < s) (hct : (c - 1) / 2 = t)
    (hl : ∀ i, 0 < i → i < s → (i - 1) / 2 = t → ¬ hp_lt key (A i) (A c)) (h : hp_lt key (A c) (A t)) : hp_OD key s (hp_sw A t c) c False := by
  have hne : c ≠ t := by omega
  refine ⟨fun i i0 hi hb => ?_, fun i i0 hi hip _ => ?_⟩
  · have hr : (i - 1) / 2 ≠ c := hb.elim id False.elim
    by_cases e : i = c
    · subst e
      rw [hct, hp_sw1, hp_sw2 hne]
      exact hp_asym h
    · by_cases e2 : i = t
      · subst e2
        rw [hp_sw1, hp_sw3 (by omega) hr]
        exact O.2 c c0 hc hct i0
      · rw [hp_sw3 e2 e]
        by_cases e3 : (i - 1) / 2 = t
        · rw [e3, hp_sw1]
          exact hl i i0 hi e3
        · rw [hp_sw3 e3 hr]
          exact O.1 i i0 hi (Or.inl e3)
  · rw [hct, hp_sw1, hp_sw3 (by omega) (by omega)]
    have := O.1 i i0 hi (Or.inl (by omega))
    rw [hip] at this
    exact this
theorem hp_OD_OH {key : Nat → Int64} {s t : Nat} {A : Nat → Nat} (O : hp_OD key s A t True) : hp_OH key s A := fun i h0 hi => O.1 i h0 hi (Or.inr trivial)
theorem hp_root {key : Nat → Int64} {s : Nat} {A : Nat → Nat} (O : hp_OH key s A) : ∀ i, i < s → ¬ hp_lt key (A i) (A 0) := by
  intro i
  induction i using Nat.strongRecOn with
  | ind i ih =>
    intro hi
    by_cases e : i = 0
    · rw [e]
      exact hp_irr
    · exact hp_trans (O i (by omega) hi) (ih ((i - 1) / 2) (by omega) (by omega))
/-- n different numbers below n are all of them: no room for another -/
theorem hp_pig : ∀ (n s : Nat) (A : Nat → Nat), (∀ i, i < s → A i < n) → (∀ i j, i < s → j < s → A i = A j → i = j) → s ≤ n
  | 0, s, A, h, _ => by
    rcases Nat.eq_zero_or_pos s with e | e
    · omega
    · have := h 0 e
      omega
  | n + 1, 0, A, _, _ => by omega
  | n + 1, s + 1, A, h, hi => by
    -- move the value n, if it is there, to the last place
    by_cases e : ∃ i, i < s + 1 ∧ A i = n
    · obtain ⟨i, hi1, e⟩ := e
      have k1 : ∀ k, k < s → hp_sw A i s k < n := by
        intro k hk
        have hb : hp_pi i s k < s + 1 := hp_pi_lt hi1 (Nat.lt_succ_self s) (Nat.lt_succ_of_lt hk)
        have h1 := h _ hb
        rw [hp_sw_pi]
        have h2 : A (hp_pi i s k) ≠ n := fun z => by
          have := hi _ _ hb hi1 (z.trans e.symm)
          rcases hp_pi_cases i s k with x | x | x <;> omega
        omega
      have k2 : ∀ a b, a < s → b < s → hp_sw A i s a = hp_sw A i s b → a = b := by
        intro a b ha hb z
        rw [hp_sw_pi, hp_sw_pi] at z
        exact hp_pi_inj (hi _ _ (hp_pi_lt hi1 (Nat.lt_succ_self s) (Nat.lt_succ_of_lt ha)) (hp_pi_lt hi1 (Nat.lt_succ_self s) (Nat.lt_succ_of_lt hb)) z)
      have key := hp_pig n s (hp_sw A i s) k1 k2
      omega
    · have k1 : ∀ k, k < s → A k < n := by
        intro k hk
        have h1 := h k (by omega)
        have h2 : A k ≠ n := fun z => e ⟨k, by omega, z⟩
        omega
      have key := hp_pig n s A k1 (fun a b ha hb z => hi a b (by omega) (by omega) z)
      omega
theorem hp_pig2 {n s g : Nat} {A : Nat → Nat} (h : ∀ i, i < s → A i < n) (hi : ∀ i j, i < s → j < s → A i = A j → i = j) (hg : g < n) (hn : ∀ i, i < s → A i ≠ g) : s < n := by
  have k1 : ∀ i, i < s + 1 → (fun i => if i = s then g else A i) i < n := by
    intro i h1
    show (if i = s then g else A i) < n
    by_cases e : i = s
    · rw [if_pos e]; exact hg
    · rw [if_neg e]; exact h i (by omega)
  have k2 : ∀ i j, i < s + 1 → j < s + 1 → (fun i => if i = s then g else A i) i = (fun i => if i = s then g else A i) j → i = j := by
    intro i j h1 h2 e
    have e' : (if i = s then g else A i) = (if j = s then g else A j) := e
    by_cases a : i = s
    · by_cases b : j = s
      · omega
      · rw [if_pos a, if_neg b] at e'
        exact absurd e'.symm (hn j (by omega))
    · by_cases b : j = s
      · rw [if_neg a, if_pos b] at e'
        exact absurd e' (hn i (by omega))
      · rw [if_neg a, if_neg b] at e'
        exact hi i j (by omega) (by omega) e'
  exact hp_pig n (s + 1) (fun i => if i = s then g else A i) k1 k2
/-- a function on naturals changed at one place -/
def hp_un (f : Nat → Nat) (k x : Nat) : Nat → Nat := fun j => if j = k then x else f j
theorem hp_us {f : Nat → Nat} {k x : Nat} : hp_un f k x k = x := if_pos rfl
theorem hp_unn {f : Nat → Nat} {k x j : Nat} (h : j ≠ k) : hp_un f k x j = f j := if_neg h
/-- both heaps: hm g = 0, 1: the heap that flow g is in; 2: none; s: the sizes; A h i: the flow at place i of heap h -/
def hp_HC (n : Nat) (hm : Nat → Nat) (s : Nat → Nat) (A : Nat → Nat → Nat) (hf hs : Nat → Int32) (key : Nat → Int64) (hom pl : Nat → Int32) : Prop :=
  (∀ h, h < 2 → hs h = nI (s h) ∧ hp_BJ n hm h (s h) (A h) ∧ hp_CF h (s h) (A h) hf pl ∧ hp_OH key (s h) (A h)) ∧ (∀ g, g < n → hm g < 2 → hom g = nI (hm g))
def hp_HP (n : Nat) (hm : Nat → Nat) (hf hs : Nat → Int32) (key : Nat → Int64) (hom pl : Nat → Int32) : Prop := ∃ s A, hp_HC n hm s A hf hs key hom pl
theorem hp_size {n h : Nat} {hm : Nat → Nat} {s : Nat → Nat} {A : Nat → Nat → Nat} {hf hs : Nat → Int32} {key : Nat → Int64} {hom pl : Nat → Int32} (H : hp_HC n hm s A hf hs key hom pl) (hh : h < 2) : s h ≤ n :=
  hp_pig n (s h) (A h) (fun i hi => ((H.1 h hh).2.1.1 i hi).1) (H.1 h hh).2.1.2.1
/-- the top of a heap that isn't empty is a least flow of it -/
theorem hp_top {n h : Nat} {hm : Nat → Nat} {s : Nat → Nat} {A : Nat → Nat → Nat} {hf hs : Nat → Int32} {key : Nat → Int64} {hom pl : Nat → Int32} (H : hp_HC n hm s A hf hs key hom pl) (hh : h < 2) (h0 : 0 < s h) :
    A h 0 < n ∧ hm (A h 0) = h ∧ hf (16 * h) = nI (A h 0) ∧ ∀ g, g < n → hm g = h → ¬ hp_lt key g (A h 0) := by
  obtain ⟨_, B, C, O⟩ := H.1 h hh
  refine ⟨(B.1 0 h0).1, (B.1 0 h0).2, (C 0 h0).1, fun g hg e => ?_⟩
  obtain ⟨i, hi, rfl⟩ := B.2.2 g hg e
  exact hp_root O i hi
theorem hp_none {n h : Nat} {hm : Nat → Nat} {s : Nat → Nat} {A : Nat → Nat → Nat} {hf hs : Nat → Int32} {key : Nat → Int64} {hom pl : Nat → Int32} (H : hp_HC n hm s A hf hs key hom pl) (hh : h < 2) (h0 : s h = 0) :
    ∀ g, g < n → hm g ≠ h := by
  intro g hg e
  obtain ⟨i, hi, _⟩ := (H.1 h hh).2.1.2.2 g hg e
  omega
end
section
/-! pure heaps: what an insertion and a removal start from and end in -/
section
variable {n h g t : Nat} {hm s : Nat → Nat} {A : Nat → Nat → Nat} {hf hs hom pl : Nat → Int32} {key : Nat → Int64}
theorem hp_notin (H : hp_HC n hm s A hf hs key hom pl) (hh : h < 2) (hg : hm g ≠ h) {i : Nat} (hi : i < s h) : A h i ≠ g := by
  intro e
  have := ((H.1 h hh).2.1.1 i hi).2
  rw [e] at this
  exact hg this
theorem hp_ins_lt (H : hp_HC n hm s A hf hs key hom pl) (hh : h < 2) (hgn : g < n) (hg : hm g = 2) : s h < n :=
  hp_pig2 (A := A h) (fun i hi => ((H.1 h hh).2.1.1 i hi).1) (H.1 h hh).2.1.2.1 hgn (fun i hi => hp_notin H hh (by omega) hi)
theorem hp_ins_BJ (H : hp_HC n hm s A hf hs key hom pl) (hh : h < 2) (hgn : g < n) (hg : hm g = 2) : hp_BJ n (hp_un hm g h) h (s h + 1) (hp_un (A h) (s h) g) := by
  obtain ⟨_, ⟨b1, b2, b3⟩, _, _⟩ := H.1 h hh
  have ne : ∀ i, i < s h → A h i ≠ g := fun i hi => hp_notin H hh (by omega) hi
  refine ⟨fun i hi => ?_, fun i j hi hj e => ?_, fun g' hg' e => ?_⟩
  · by_cases z : i = s h
    · rw [z, hp_us, hp_us]
      exact ⟨hgn, rfl⟩
    · have hi' : i < s h := by omega
      rw [hp_unn z, hp_unn (ne i hi')]
      exact b1 i hi'
  · by_cases z : i = s h
    · by_cases w : j = s h
      · omega
      · rw [z, hp_us, hp_unn w] at e
        exact absurd e.symm (ne j (by omega))
    · by_cases w : j = s h
      · rw [w, hp_us, hp_unn z] at e
        exact absurd e (ne i (by omega))
      · rw [hp_unn z, hp_unn w] at e
        exact b2 i j (by omega) (by omega) e
  · by_cases z : g' = g
    · exact ⟨s h, by omega, by rw [hp_us]; exact z.symm⟩
    · rw [hp_unn z] at e
      obtain ⟨i, hi, e⟩ := b3 g' hg' e
      exact ⟨i, by omega, by rw [hp_unn (by omega)]; exact e⟩
theorem hp_ins_CF (H : hp_HC n hm s A hf hs key hom pl) (hh : h < 2) (hg : hm g = 2) : hp_CF h (s h + 1) (hp_un (A h) (s h) g) (upd hf (16 * h + s h) (nI g)) (upd pl g (nI (s h))) := by
  obtain ⟨_, _, C, _⟩ := H.1 h hh
  intro i hi
  by_cases z : i = s h
  · rw [z, hp_us, pk_us, pk_us]
    exact ⟨rfl, rfl⟩
  · have hi' : i < s h := by omega
    rw [hp_unn z, pk_un (by omega), pk_un (hp_notin H hh (by omega) hi')]
    exact C i hi'
theorem hp_ins_OU (H : hp_HC n hm s A hf hs key hom pl) (hh : h < 2) (hg : hm g = 2) (k : Int64) : hp_OU (vp_updL key g k) (s h + 1) (hp_un (A h) (s h) g) (s h) True := by
  obtain ⟨_, _, _, O⟩ := H.1 h hh
  refine ⟨fun i h0 hi ne _ => ?_, fun i h0 hi e _ => ?_⟩
  · have hi' : i < s h := by omega
    have hq : (i - 1) / 2 < s h := by omega
    rw [hp_unn ne, hp_unn (by omega), hp_cong (pk_uLn (hp_notin H hh (by omega) hi')) (pk_uLn (hp_notin H hh (by omega) hq))]
    exact O i h0 hi'
  · omega
theorem hp_ins_end {A' : Nat → Nat} {hf' pl' : Nat → Int32} {k : Int64} (hn : n ≤ 16) (H : hp_HC n hm s A hf hs key hom pl) (hh : h < 2) (hgn : g < n) (hg : hm g = 2)
    (B' : hp_BJ n (hp_un hm g h) h (s h + 1) A') (C' : hp_CF h (s h + 1) A' hf' pl') (O' : hp_OH (vp_updL key g k) (s h + 1) A')
    (F : hp_FR h (hp_un hm g h) (upd hf (16 * h + s h) (nI g)) (upd pl g (nI (s h))) hf' pl') :
    hp_HP n (hp_un hm g h) hf' (upd hs h (hs h + 1)) (vp_updL key g k) (upd hom g (nI h)) pl' := by
  have hlt := hp_ins_lt H hh hgn hg
  refine ⟨hp_un s h (s h + 1), fun x => if x = h then A' else A x, fun x hx => ?_, fun g' hg' e => ?_⟩
  · show _ ∧ hp_BJ n _ x _ (if x = h then A' else A x) ∧ hp_CF x _ (if x = h then A' else A x) _ _ ∧ hp_OH _ _ (if x = h then A' else A x)
    by_cases z : x = h
    · subst z
      rw [if_pos rfl, hp_us, pk_us, (H.1 x hx).1, nI_1]
      exact ⟨rfl, B', C', O'⟩
    · rw [if_neg z, hp_unn z, pk_un z]
      obtain ⟨S, ⟨b1, b2, b3⟩, C, O⟩ := H.1 x hx
      have sz := hp_size H hx
      have ne : ∀ i, i < s x → A x i ≠ g := fun i hi => hp_notin H hx (by omega) hi
      refine ⟨S, ⟨fun i hi => ?_, b2, fun g' hg' e => ?_⟩, fun i hi => ?_, fun i h0 hi => ?_⟩
      · rw [hp_unn (ne i hi)]
        exact b1 i hi
      · by_cases w : g' = g
        · rw [w, hp_us] at e
          exact absurd e.symm z
        · rw [hp_unn w] at e
          exact b3 g' hg' e
      · have e1 := F.1 (16 * x + i) (by omega)
        have e2 := F.2 (A x i) (by rw [hp_unn (ne i hi), (b1 i hi).2]; exact z)
        rw [e1, e2, pk_un (by omega), pk_un (ne i hi)]
        exact C i hi
      · rw [hp_cong (pk_uLn (ne i hi)) (pk_uLn (ne _ (by omega)))]
        exact O i h0 hi
  · by_cases w : g' = g
    · rw [w, pk_us, hp_us]
    · rw [pk_un w, hp_unn w]
      rw [hp_unn w] at e
      exact H.2 g' hg' e
theorem hp_rem_at (H : hp_HC n hm s A hf hs key hom pl) (hh : h < 2) (hgn : g < n) (hg : hm g = h) : ∃ t, t < s h ∧ A h t = g ∧ pl g = nI t ∧ hom g = nI h := by
  obtain ⟨_, B, C, _⟩ := H.1 h hh
  obtain ⟨t, ht, e⟩ := B.2.2 g hgn hg
  refine ⟨t, ht, e, ?_, ?_⟩
  · rw [← e]
    exact (C t ht).2
  · rw [← hg]
    exact H.2 g hgn (by omega)
theorem hp_rem_end {A' : Nat → Nat} {hf' pl' : Nat → Int32} (hn : n ≤ 16) (H : hp_HC n hm s A hf hs key hom pl) (hh : h < 2) (hgn : g < n) (hg : hm g = h)
    (B' : hp_BJ n (hp_un hm g 2) h (s h - 1) A') (C' : hp_CF h (s h - 1) A' hf' pl') (O' : hp_OH key (s h - 1) A') (F : hp_FR h (hp_un hm g 2) hf pl hf' pl') :
    hp_HP n (hp_un hm g 2) hf' (upd hs h (hs h - 1)) key hom pl' := by
  obtain ⟨t, ht, _, _, _⟩ := hp_rem_at H hh hgn hg
  refine ⟨hp_un s h (s h - 1), fun x => if x = h then A' else A x, fun x hx => ?_, fun g' hg' e => ?_⟩
  · show _ ∧ hp_BJ n _ x _ (if x = h then A' else A x) ∧ hp_CF x _ (if x = h then A' else A x) _ _ ∧ hp_OH _ _ (if x = h then A' else A x)
    by_cases z : x = h
    · subst z
      rw [if_pos rfl, hp_us, pk_us, (H.1 x hx).1]
      refine ⟨?_, B', C', O'⟩
      obtain ⟨w, hw⟩ : ∃ w, s x = w + 1 := ⟨s x - 1, by omega⟩
      rw [hw]
      exact nI_pred w
    · rw [if_neg z, hp_unn z, pk_un z]
      obtain ⟨S, ⟨b1, b2, b3⟩, C, O⟩ := H.1 x hx
      have sz := hp_size H hx
      have ne : ∀ i, i < s x → A x i ≠ g := fun i hi => hp_notin H hx (by rw [hg]; exact fun e => z e.symm) hi
      refine ⟨S, ⟨fun i hi => ?_, b2, fun g' hg' e => ?_⟩, fun i hi => ?_, O⟩
      · rw [hp_unn (ne i hi)]
        exact b1 i hi
      · by_cases w : g' = g
        · rw [w, hp_us] at e
          omega
        · rw [hp_unn w] at e
          exact b3 g' hg' e
      · have e1 := F.1 (16 * x + i) (by omega)
        have e2 := F.2 (A x i) (by rw [hp_unn (ne i hi), (b1 i hi).2]; exact z)
        rw [e1, e2]
        exact C i hi
  · by_cases w : g' = g
    · rw [w, hp_us] at e
      omega
    · rw [hp_unn w] at e ⊢
      exact H.2 g' hg' e
theorem hp_rem_last (H : hp_HC n hm s A hf hs key hom pl) (hh : h < 2) (hg : hm g = h) (ht : s h = t + 1) (e : A h t = g) :
    hp_BJ n (hp_un hm g 2) h (s h - 1) (A h) ∧ hp_CF h (s h - 1) (A h) hf pl ∧ hp_OH key (s h - 1) (A h) := by
  obtain ⟨_, ⟨b1, b2, b3⟩, C, O⟩ := H.1 h hh
  have ne : ∀ i, i < t → A h i ≠ g := fun i hi z => by
    have := b2 i t (by omega) (by omega) (z.trans e.symm)
    omega
  refine ⟨⟨fun i hi => ?_, fun i j hi hj => b2 i j (by omega) (by omega), fun g' hg' z => ?_⟩, fun i hi => C i (by omega), fun i h0 hi => O i h0 (by omega)⟩
  · rw [hp_unn (ne i (by omega))]
    exact b1 i (by omega)
  · by_cases w : g' = g
    · rw [w, hp_us] at z
      omega
    · rw [hp_unn w] at z
      obtain ⟨i, hi, q⟩ := b3 g' hg' z
      refine ⟨i, ?_, q⟩
      have : i ≠ t := fun q2 => w (by rw [← q, q2]; exact e)
      omega
theorem hp_rem_mid {l : Nat} (H : hp_HC n hm s A hf hs key hom pl) (hh : h < 2) (hg : hm g = h) (hl : s h = l + 1) (ht : t < l) (e : A h t = g) :
    hp_BJ n (hp_un hm g 2) h l (hp_un (A h) t (A h l)) ∧ hp_CF h l (hp_un (A h) t (A h l)) (upd hf (16 * h + t) (nI (A h l))) (upd pl (A h l) (nI t)) ∧ hp_OU key l (hp_un (A h) t (A h l)) t False := by
  obtain ⟨_, ⟨b1, b2, b3⟩, C, O⟩ := H.1 h hh
  have ne : ∀ i, i < l + 1 → i ≠ t → A h i ≠ g := fun i hi hne z => by
    have := b2 i t (by omega) (by omega) (z.trans e.symm)
    omega
  have nl : ∀ i, i < l → A h i ≠ A h l := fun i hi z => by
    have := b2 i l (by omega) (by omega) z
    omega
  refine ⟨⟨fun i hi => ?_, fun i j hi hj q => ?_, fun g' hg' z => ?_⟩, fun i hi => ?_, fun i h0 hi h1 h2 => ?_, fun i h0 hi h1 h2 => ?_⟩
  · by_cases w : i = t
    · rw [w, hp_us, hp_unn (ne l (by omega) (by omega))]
      exact b1 l (by omega)
    · rw [hp_unn w, hp_unn (ne i (by omega) w)]
      exact b1 i (by omega)
  · by_cases w : i = t
    · by_cases v : j = t
      · omega
      · rw [w, hp_us, hp_unn v] at q
        exact absurd q.symm (nl j hj)
    · by_cases v : j = t
      · rw [v, hp_us, hp_unn w] at q
        exact absurd q (nl i hi)
      · rw [hp_unn w, hp_unn v] at q
        exact b2 i j (by omega) (by omega) q
  · by_cases w : g' = g
    · rw [w, hp_us] at z
      omega
    · rw [hp_unn w] at z
      obtain ⟨i, hi, q⟩ := b3 g' hg' z
      by_cases v : i = l
      · exact ⟨t, ht, by rw [hp_us, ← v]; exact q⟩
      · have : i ≠ t := fun q2 => w (by rw [← q, q2]; exact e)
        exact ⟨i, by omega, by rw [hp_unn this]; exact q⟩
  · by_cases w : i = t
    · rw [w, hp_us, pk_us, pk_us]
      exact ⟨rfl, rfl⟩
    · rw [hp_unn w, pk_un (by omega), pk_un (nl i hi)]
      exact C i (by omega)
  · have h3 : (i - 1) / 2 ≠ t := h2.elim id False.elim
    rw [hp_unn h1, hp_unn h3]
    exact O i h0 (by omega)
  · have a1 := O i h0 (by omega)
    have a2 := O t h2 (by omega)
    rw [h1] at a1
    rw [hp_unn (by omega), hp_unn (by omega)]
    exact hp_trans a1 a2
end
end
section
/-! pure lists: a packet is (flow, length, start, finish, due); the packets of one flow in order of arrival -/
abbrev qf_P : Type := Nat × Nat × Int64 × Int64 × Int64
def qf_q : List qf_P → Nat → List qf_P
  | [], _ => []
  | p :: t, f => if p.1 = f then p :: qf_q t f else qf_q t f
def qf_d : List qf_P → Nat → List qf_P
  | [], _ => []
  | p :: t, f => if p.1 = f then qf_d t f else p :: qf_d t f
def qf_m : List qf_P → Nat → Nat → List qf_P
  | [], _, _ => []
  | p :: t, f, 0 => qf_d (p :: t) f
  | p :: t, f, i + 1 => p :: qf_m t f i
theorem qf_pos {p : qf_P} {t : List qf_P} {f : Nat} (h : p.1 = f) : qf_q (p :: t) f = p :: qf_q t f := if_pos h
theorem qf_neg {p : qf_P} {t : List qf_P} {f : Nat} (h : p.1 ≠ f) : qf_q (p :: t) f = qf_q t f := if_neg h
theorem qd_pos {p : qf_P} {t : List qf_P} {f : Nat} (h : p.1 = f) : qf_d (p :: t) f = qf_d t f := if_pos h
theorem qd_neg {p : qf_P} {t : List qf_P} {f : Nat} (h : p.1 ≠ f) : qf_d (p :: t) f = p :: qf_d t f := if_neg h
theorem qf_app (f : Nat) (M : List qf_P) : ∀ L : List qf_P, qf_q (L ++ M) f = qf_q L f ++ qf_q M f
  | [] => rfl
  | p :: t => by
    by_cases h : p.1 = f
    · rw [List.cons_append, qf_pos h, qf_pos h, qf_app f M t, List.cons_append]
    · rw [List.cons_append, qf_neg h, qf_neg h, qf_app f M t]
theorem qf_mem {f : Nat} {p : qf_P} : ∀ {L : List qf_P}, p ∈ qf_q L f → p ∈ L ∧ p.1 = f
  | [], h => nomatch h
  | a :: t, h => by
    by_cases e : a.1 = f
    · rw [qf_pos e] at h
      rcases List.mem_cons.mp h with h | h
      · rw [h]
        exact ⟨List.mem_cons_self, e⟩
      · have := qf_mem h
        exact ⟨List.mem_cons_of_mem _ this.1, this.2⟩
    · rw [qf_neg e] at h
      have := qf_mem h
      exact ⟨List.mem_cons_of_mem _ this.1, this.2⟩
theorem qf_in {f : Nat} {p : qf_P} : ∀ {L : List qf_P}, p ∈ L → p.1 = f → p ∈ qf_q L f
  | [], h, _ => nomatch h
  | a :: t, h, e => by
    rcases List.mem_cons.mp h with h | h
    · rw [← h, qf_pos e]
      exact List.mem_cons_self
    · have := qf_in h e
      by_cases z : a.1 = f
      · rw [qf_pos z]
        exact List.mem_cons_of_mem _ this
      · rw [qf_neg z]
        exact this
theorem qd_mem {f : Nat} {p : qf_P} : ∀ {L : List qf_P}, p ∈ qf_d L f → p ∈ L ∧ p.1 ≠ f
  | [], h => nomatch h
  | a :: t, h => by
    by_cases e : a.1 = f
    · rw [qd_pos e] at h
      have := qd_mem h
      exact ⟨List.mem_cons_of_mem _ this.1, this.2⟩
    · rw [qd_neg e] at h
      rcases List.mem_cons.mp h with h | h
      · rw [h]
        exact ⟨List.mem_cons_self, e⟩
      · have := qd_mem h
        exact ⟨List.mem_cons_of_mem _ this.1, this.2⟩
theorem qd_q (f : Nat) : ∀ L : List qf_P, qf_q (qf_d L f) f = []
  | [] => rfl
  | a :: t => by
    by_cases e : a.1 = f
    · rw [qd_pos e]
      exact qd_q f t
    · rw [qd_neg e, qf_neg e]
      exact qd_q f t
theorem qd_qn {f g : Nat} (h : g ≠ f) : ∀ L : List qf_P, qf_q (qf_d L f) g = qf_q L g
  | [] => rfl
  | a :: t => by
    by_cases e : a.1 = f
    · rw [qd_pos e, qf_neg (fun z => h (z.symm.trans e))]
      exact qd_qn h t
    · rw [qd_neg e]
      by_cases z : a.1 = g
      · rw [qf_pos z, qf_pos z, qd_qn h t]
      · rw [qf_neg z, qf_neg z, qd_qn h t]
theorem qd_len (f : Nat) : ∀ L : List qf_P, (qf_d L f).length + (qf_q L f).length = L.length
  | [] => rfl
  | a :: t => by
    have ih := qd_len f t
    by_cases e : a.1 = f
    · rw [qd_pos e, qf_pos e, List.length_cons, List.length_cons]
      omega
    · rw [qd_neg e, qf_neg e, List.length_cons, List.length_cons]
      omega
theorem qf_bound {q : Nat} : ∀ (n : Nat) (L : List qf_P), (∀ p, p ∈ L → p.1 < n) → (∀ f, f < n → (qf_q L f).length ≤ q) → L.length ≤ n * q
  | 0, [], _, _ => Nat.zero_le _
  | 0, p :: t, h, _ => absurd (h p List.mem_cons_self) (Nat.not_lt_zero _)
  | n + 1, L, h, hq => by
    have ih := qf_bound n (qf_d L n) (fun p hp => by
      have h1 := qd_mem hp
      have h2 := h p h1.1
      have h3 := h1.2
      omega) (fun f hf => by
      rw [qd_qn (by omega)]
      exact hq f (by omega))
    have h1 := qd_len n L
    have h2 := hq n (by omega)
    rw [Nat.add_mul, Nat.one_mul]
    omega
theorem qf_nil {n : Nat} {L : List qf_P} (h : ∀ p, p ∈ L → p.1 < n) (hq : ∀ f, f < n → qf_q L f = []) : L = [] := by
  have := qf_bound (q := 0) n L h (fun f hf => by rw [hq f hf]; exact Nat.le_refl _)
  exact List.eq_nil_of_length_eq_zero (by omega)
/-- how many packets of flow f are among the first i -/
def qf_c (L : List qf_P) (f i : Nat) : Nat := (qf_q (L.take i) f).length
theorem qc_0 (L : List qf_P) (f : Nat) : qf_c L f 0 = 0 := rfl
theorem qc_len (L : List qf_P) (f : Nat) : qf_c L f L.length = (qf_q L f).length := by
  unfold qf_c
  rw [List.take_length]
theorem qc_pos {L : List qf_P} {f i : Nat} {p : qf_P} (h : L[i]? = some p) (e : p.1 = f) : qf_c L f (i + 1) = qf_c L f i + 1 := by
  unfold qf_c
  rw [List.take_add_one, h, qf_app, List.length_append]
  show _ + (qf_q [p] f).length = _
  rw [qf_pos e]
  rfl
theorem qc_neg {L : List qf_P} {f i : Nat} {p : qf_P} (h : L[i]? = some p) (e : p.1 ≠ f) : qf_c L f (i + 1) = qf_c L f i := by
  unfold qf_c
  rw [List.take_add_one, h, qf_app, List.length_append]
  show _ + (qf_q [p] f).length = _
  rw [qf_neg e]
  rfl
theorem qc_mono (L : List qf_P) (f i d : Nat) : qf_c L f i ≤ qf_c L f (i + d) := by
  unfold qf_c
  rw [List.take_add, qf_app, List.length_append]
  omega
theorem qf_lt {L : List qf_P} {i : Nat} {p : qf_P} (h : L[i]? = some p) : i < L.length := (List.getElem?_eq_some_iff.mp h).1
theorem qf_some {L : List qf_P} {i : Nat} (h : i < L.length) : ∃ p, L[i]? = some p := ⟨L[i], List.getElem?_eq_getElem h⟩
theorem qf_idx {f : Nat} {p : qf_P} : ∀ {L : List qf_P} {j : Nat}, (qf_q L f)[j]? = some p → ∃ i, L[i]? = some p ∧ p.1 = f ∧ qf_c L f i = j
  | [], j, h => by
    have h' : ([] : List qf_P)[j]? = some p := h
    rw [List.getElem?_nil] at h'
    exact nomatch h'
  | a :: t, j, h => by
    by_cases e : a.1 = f
    · rw [qf_pos e] at h
      match j, h with
      | 0, h =>
        have : a = p := Option.some.inj h
        exact ⟨0, by rw [this]; rfl, by rw [← this]; exact e, rfl⟩
      | j + 1, h =>
        obtain ⟨i, h1, h2, h3⟩ := qf_idx (L := t) (j := j) h
        refine ⟨i + 1, h1, h2, ?_⟩
        show (qf_q (a :: t.take i) f).length = _
        rw [qf_pos e, List.length_cons]
        exact congrArg (· + 1) h3
    · rw [qf_neg e] at h
      obtain ⟨i, h1, h2, h3⟩ := qf_idx (L := t) h
      refine ⟨i + 1, h1, h2, ?_⟩
      show (qf_q (a :: t.take i) f).length = _
      rw [qf_neg e]
      exact h3
theorem qf_first {p : qf_P} : ∀ {L : List qf_P} {i : Nat}, L[i]? = some p → qf_c L p.1 i = 0 → qf_q L p.1 = p :: qf_q (L.eraseIdx i) p.1
  | [], i, h, _ => by
    rw [List.getElem?_nil] at h
    exact nomatch h
  | a :: t, 0, h, _ => by
    have : a = p := Option.some.inj h
    rw [this, qf_pos rfl]
    rfl
  | a :: t, i + 1, h, hc => by
    have hc' : (qf_q (a :: t.take i) p.1).length = 0 := hc
    have e : a.1 ≠ p.1 := fun z => by
      rw [qf_pos z, List.length_cons] at hc'
      omega
    rw [qf_neg e] at hc'
    show qf_q (a :: t) p.1 = p :: qf_q (a :: t.eraseIdx i) p.1
    rw [qf_neg e, qf_neg e]
    exact qf_first (L := t) h hc'
theorem qf_other {p : qf_P} {g : Nat} (hg : g ≠ p.1) : ∀ {L : List qf_P} {i : Nat}, L[i]? = some p → qf_q (L.eraseIdx i) g = qf_q L g
  | [], i, h => by
    rw [List.getElem?_nil] at h
    exact nomatch h
  | a :: t, 0, h => by
    have e : a = p := Option.some.inj h
    rw [e, qf_neg (fun z => hg z.symm)]
    rfl
  | a :: t, i + 1, h => by
    show qf_q (a :: t.eraseIdx i) g = qf_q (a :: t) g
    by_cases e : a.1 = g
    · rw [qf_pos e, qf_pos e, qf_other hg (L := t) h]
    · rw [qf_neg e, qf_neg e, qf_other hg (L := t) h]
theorem qm_0 (f : Nat) : ∀ L : List qf_P, qf_m L f 0 = qf_d L f
  | [] => rfl
  | _ :: _ => rfl
theorem qm_len (f : Nat) : ∀ L : List qf_P, qf_m L f L.length = L
  | [] => rfl
  | a :: t => congrArg (a :: ·) (qm_len f t)
theorem qm_get {f : Nat} {p : qf_P} : ∀ {L : List qf_P} {i : Nat}, L[i]? = some p → (qf_m L f (i + 1))[i]? = some p
  | [], i, h => by
    rw [List.getElem?_nil] at h
    exact nomatch h
  | _ :: _, 0, h => h
  | a :: t, i + 1, h => qm_get (L := t) (i := i) h
theorem qm_pos {f : Nat} {p : qf_P} (e : p.1 = f) : ∀ {L : List qf_P} {i : Nat}, L[i]? = some p → (qf_m L f (i + 1)).eraseIdx i = qf_m L f i
  | [], i, h => by
    rw [List.getElem?_nil] at h
    exact nomatch h
  | a :: t, 0, h => by
    have z : a = p := Option.some.inj h
    show qf_m t f 0 = qf_d (a :: t) f
    rw [qm_0, qd_pos (by rw [z]; exact e)]
  | a :: t, i + 1, h => congrArg (a :: ·) (qm_pos e (L := t) (i := i) h)
theorem qm_neg {f : Nat} {p : qf_P} (e : p.1 ≠ f) : ∀ {L : List qf_P} {i : Nat}, L[i]? = some p → qf_m L f (i + 1) = qf_m L f i
  | [], i, h => by
    rw [List.getElem?_nil] at h
    exact nomatch h
  | a :: t, 0, h => by
    have z : a = p := Option.some.inj h
    show a :: qf_m t f 0 = qf_d (a :: t) f
    rw [qm_0, qd_neg (by rw [z]; exact e)]
  | a :: t, i + 1, h => congrArg (a :: ·) (qm_neg e (L := t) (i := i) h)
theorem qd_le (f : Nat) (L : List qf_P) : (qf_d L f).length ≤ L.length := by
  have := qd_len f L
  omega
theorem qm_le (f : Nat) : ∀ (L : List qf_P) (i : Nat), (qf_m L f i).length ≤ L.length
  | [], _ => Nat.le_refl _
  | a :: t, 0 => qd_le f (a :: t)
  | a :: t, i + 1 => Nat.succ_le_succ (qm_le f t i)
theorem qm_mem {f : Nat} {p : qf_P} : ∀ {L : List qf_P} {i : Nat}, p ∈ qf_m L f i → p ∈ L
  | [], _, h => nomatch h
  | a :: t, 0, h => (qd_mem (L := a :: t) h).1
  | a :: t, i + 1, h => by
    rcases List.mem_cons.mp (show p ∈ a :: qf_m t f i from h) with h | h
    · rw [h]
      exact List.mem_cons_self
    · exact List.mem_cons_of_mem _ (qm_mem h)
/-- the list as it lies in the reference's array: ten numbers a packet -/
def qf_W (L : List qf_P) (w : Nat → Int64) : Prop :=
  ∀ i p, L[i]? = some p → w (10 * i + 1) = lN p.1 ∧ w (10 * i + 2) = lN p.2.1 ∧ w (10 * i + 4) = p.2.2.1 ∧ w (10 * i + 5) = p.2.2.2.1 ∧ w (10 * i + 6) = p.2.2.2.2
theorem qW_erase {L : List qf_P} {w w' : Nat → Int64} {i : Nat} (h : qf_W L w) (h1 : ∀ j, j < 10 * i → w' j = w j) (h2 : ∀ j, 10 * i ≤ j → j + 10 < 10 * L.length → w' j = w (j + 10)) : qf_W (L.eraseIdx i) w' := by
  intro j p hj
  by_cases e : j < i
  · rw [List.getElem?_eraseIdx_of_lt e] at hj
    rw [h1 _ (by omega), h1 _ (by omega), h1 _ (by omega), h1 _ (by omega), h1 _ (by omega)]
    exact h j p hj
  · rw [List.getElem?_eraseIdx_of_ge (by omega)] at hj
    have hl := qf_lt hj
    have := h (j + 1) p hj
    rw [h2 _ (by omega) (by omega), h2 _ (by omega) (by omega), h2 _ (by omega) (by omega), h2 _ (by omega) (by omega), h2 _ (by omega) (by omega)]
    exact this
theorem qW_app {L : List qf_P} {w w' : Nat → Int64} {p : qf_P} (h : qf_W L w) (h1 : ∀ j, j < 10 * L.length → w' j = w j)
    (h2 : w' (10 * L.length + 1) = lN p.1 ∧ w' (10 * L.length + 2) = lN p.2.1 ∧ w' (10 * L.length + 4) = p.2.2.1 ∧ w' (10 * L.length + 5) = p.2.2.2.1 ∧ w' (10 * L.length + 6) = p.2.2.2.2) : qf_W (L ++ [p]) w' := by
  intro j x hj
  by_cases e : j < L.length
  · rw [List.getElem?_append_left e] at hj
    rw [h1 _ (by omega), h1 _ (by omega), h1 _ (by omega), h1 _ (by omega), h1 _ (by omega)]
    exact h j x hj
  · have hl := qf_lt hj
    rw [List.length_append] at hl
    have hl' : j < L.length + 1 := hl
    have e2 : j = L.length := by omega
    rw [e2, List.getElem?_concat_length] at hj
    rw [e2, ← Option.some.inj hj]
    exact h2
/-- sums of the first n values -/
def qf_S (F : Nat → Nat) : Nat → Nat
  | 0 => 0
  | k + 1 => qf_S F k + F k
theorem qS_le (F : Nat → Nat) : ∀ a d : Nat, qf_S F a ≤ qf_S F (a + d)
  | _, 0 => Nat.le_refl _
  | a, d + 1 => Nat.le_trans (qS_le F a d) (Nat.le_add_right _ _)
theorem qS_same {F : Nat → Nat} {f w : Nat} : ∀ n, n ≤ f → qf_S (hp_un F f w) n = qf_S F n
  | 0, _ => rfl
  | n + 1, h => by
    show qf_S (hp_un F f w) n + hp_un F f w n = qf_S F n + F n
    rw [qS_same n (by omega), hp_unn (by omega)]
theorem qS_un {F : Nat → Nat} {f w : Nat} : ∀ n, f < n → qf_S (hp_un F f w) n + F f = qf_S F n + w
  | 0, h => absurd h (Nat.not_lt_zero _)
  | n + 1, h => by
    show qf_S (hp_un F f w) n + hp_un F f w n + F f = qf_S F n + F n + w
    by_cases e : f = n
    · subst e
      rw [qS_same f (Nat.le_refl _), hp_us]
      omega
    · have ih := qS_un (F := F) (f := f) (w := w) n (by omega)
      rw [hp_unn (by omega)]
      omega
end
section
/-! the component's heap walks, each as one outcome: the arrays after it, and 'for all posts: post there gives the walk' -/
theorem hx_ix (h a : Nat) : nI h * 16 + nI a = nI (16 * h + a) := by
  rw [show (16 : Int32) = nI 16 from rfl, pk_mul, nI_add, Nat.mul_comm]
theorem hx_par {t : Nat} (h0 : 0 < t) (ht : t < 2 ^ 31) : (nI t - 1) / 2 = nI ((t - 1) / 2) := by
  obtain ⟨r, rfl⟩ : ∃ r, t = r + 1 := ⟨t - 1, by omega⟩
  rw [nI_pred]
  exact pk_div (d := 2) (by omega) (by decide) (by decide)
theorem hx_ch (r : Nat) : 2 * nI r + 1 = nI (2 * r + 1) := by
  rw [show (2 : Int32) = nI 2 from rfl, pk_mul, nI_1]
section
variable {f_flowCount : Int32} {f_shareTotal : Int32} {f_queueDepth : Int32} {f_longest : Int32} {f_ticksPassed : Int32} {f_virtual : Int64} {f_usedWeight : Int32} {f_idle : Int32} {f_sent : Int32} {f_worst : Int64} {f_startHeap : Int32} {f_finishHeap : Int32} {f_linkFlow : Int32} {f_linkLength : Int32} {f_linkRemaining : Int32} {f_linkDue : Int64} {a_weights : Nat → Int32} {a_unitCharge : Nat → Int32} {a_lastFinish : Nat → Int64} {a_lastDue : Nat → Int64} {a_front : Nat → Int32} {a_waiting : Nat → Int32} {a_packetLength : Nat → Int32} {a_packetStart : Nat → Int64} {a_packetFinish : Nat → Int64} {a_packetDue : Nat → Int64} {a_heapFlow : Nat → Int32} {a_heapSize : Nat → Int32} {a_key : Nat → Int64} {a_home : Nat → Int32} {a_place : Nat → Int32} {a_sentFlow : Nat → Int32} {a_sentLength : Nat → Int32} {a_sentLeft : Nat → Int32} {a_sentDue : Nat → Int64}
theorem hx_put {post : SX → Prop} {h a g : Nat} (hh : h < 2) (ha : a < 16) (hg : g < 16)
    (hp : post (f_flowCount, f_shareTotal, f_queueDepth, f_longest, f_ticksPassed, f_virtual, f_usedWeight, f_idle, f_sent, f_worst, f_startHeap, f_finishHeap, f_linkFlow, f_linkLength, f_linkRemaining, f_linkDue, a_weights, a_unitCharge, a_lastFinish, a_lastDue, a_front, a_waiting, a_packetLength, a_packetStart, a_packetFinish, a_packetDue, upd a_heapFlow (16 * h + a) (nI g), a_heapSize, a_key, a_home, upd a_place g (nI a), a_sentFlow, a_sentLength, a_sentLeft, a_sentDue)) : wpX_put post (f_flowCount, f_shareTotal, f_queueDepth, f_longest, f_ticksPassed, f_virtual, f_usedWeight, f_idle, f_sent, f_worst, f_startHeap, f_finishHeap, f_linkFlow, f_linkLength, f_linkRemaining, f_linkDue, a_weights, a_unitCharge, a_lastFinish, a_lastDue, a_front, a_waiting, a_packetLength, a_packetStart, a_packetFinish, a_packetDue, a_heapFlow, a_heapSize, a_key, a_home, a_place, a_sentFlow, a_sentLength, a_sentLeft, a_sentDue) (nI h) (nI a) (nI g) := by
  have e := hx_ix h a
  refine And.intro ?_ (fun y ey => And.intro (vp_in_nI hg (by decide)) (fun z ez => ?_))
  · rw [e]
    exact vp_in_nI (by omega) (by decide)
  · subst ey
    subst ez
    rw [e, nI_clamp (by omega), nI_clamp (by omega)]
    exact hp
theorem hx_prec {post : Int32 → Prop} {f g : Nat} (hf : f < 16) (hg : g < 16) (h1 : hp_lt a_key f g → post 1) (h0 : ¬ hp_lt a_key f g → post 0) : wpX_precedes post (f_flowCount, f_shareTotal, f_queueDepth, f_longest, f_ticksPassed, f_virtual, f_usedWeight, f_idle, f_sent, f_worst, f_startHeap, f_finishHeap, f_linkFlow, f_linkLength, f_linkRemaining, f_linkDue, a_weights, a_unitCharge, a_lastFinish, a_lastDue, a_front, a_waiting, a_packetLength, a_packetStart, a_packetFinish, a_packetDue, a_heapFlow, a_heapSize, a_key, a_home, a_place, a_sentFlow, a_sentLength, a_sentLeft, a_sentDue) (nI f) (nI g) := by
  have ef : (nI f).toNatClampNeg = f := nI_clamp (by omega)
  have eg : (nI g).toNatClampNeg = g := nI_clamp (by omega)
  have vf : vp_in (nI f) 16 := vp_in_nI hf (by decide)
  have vg : vp_in (nI g) 16 := vp_in_nI hg (by decide)
  refine And.intro vf (And.intro vg (br_c (fun e => ?_) (fun e => And.intro vf (And.intro vg (br_c (fun l => ?_) (fun l => ?_))))))
  · rw [ef, eg] at e
    refine pk_le g f (fun l => h0 ?_) (fun l => h1 (Or.inr ⟨e, l⟩))
    intro z
    rw [hp_iff, e] at z
    omega
  · rw [ef, eg] at e l
    rw [← Int64.toInt_inj] at e
    rw [Int64.le_iff_toInt_le] at l
    refine h0 ?_
    rw [hp_iff]
    omega
  · rw [ef, eg] at e l
    rw [← Int64.toInt_inj] at e
    rw [Int64.le_iff_toInt_le] at l
    refine h1 ?_
    rw [hp_iff]
    omega
theorem hx_up {n h s : Nat} {hm : Nat → Nat} (hn : n ≤ 16) (hh : h < 2) (hs : s ≤ 16) : ∀ (t : Nat) (A : Nat → Nat) (hf pl : Nat → Int32) (b : Prop),
    t < s → hp_BJ n hm h s A → hp_CO h s A hf pl t → hp_OU a_key s A t b →
    ∃ (A' : Nat → Nat) (hf' pl' : Nat → Int32) (t' : Nat), t' < s ∧ A' t' = A t ∧ hp_BJ n hm h s A' ∧ hp_CF h s A' hf' pl' ∧ hp_OD a_key s A' t' b ∧ hp_FR h hm hf pl hf' pl' ∧
      ∀ (post : SX → Prop) (k : Nat), t < k → post (f_flowCount, f_shareTotal, f_queueDepth, f_longest, f_ticksPassed, f_virtual, f_usedWeight, f_idle, f_sent, f_worst, f_startHeap, f_finishHeap, f_linkFlow, f_linkLength, f_linkRemaining, f_linkDue, a_weights, a_unitCharge, a_lastFinish, a_lastDue, a_front, a_waiting, a_packetLength, a_packetStart, a_packetFinish, a_packetDue, hf', a_heapSize, a_key, a_home, pl', a_sentFlow, a_sentLength, a_sentLeft, a_sentDue) → wX_siftUp_15 post (nI h) (nI (A t)) k (nI t) f_flowCount f_shareTotal f_queueDepth f_longest f_ticksPassed f_virtual f_usedWeight f_idle f_sent f_worst f_startHeap f_finishHeap f_linkFlow f_linkLength f_linkRemaining f_linkDue a_weights a_unitCharge a_lastFinish a_lastDue a_front a_waiting a_packetLength a_packetStart a_packetFinish a_packetDue hf a_heapSize a_key a_home pl a_sentFlow a_sentLength a_sentLeft a_sentDue := by
  intro t
  induction t using Nat.strongRecOn with
  | ind t ih =>
    intro A hf pl b ht B C O
    have hA : A t < 16 := Nat.lt_of_lt_of_le (B.1 t ht).1 hn
    by_cases t0 : t = 0
    · refine ⟨A, upd hf (16 * h + t) (nI (A t)), upd pl (A t) (nI t), t, ht, rfl, B, hp_CO_end B C ht, hp_up_stop O (Or.inl t0), hp_FR_put (by omega) (B.1 t ht).2, fun post k hk hp => ?_⟩
      have hput : wX_siftUp_71 post (nI h) (nI (A t)) (nI t) f_flowCount f_shareTotal f_queueDepth f_longest f_ticksPassed f_virtual f_usedWeight f_idle f_sent f_worst f_startHeap f_finishHeap f_linkFlow f_linkLength f_linkRemaining f_linkDue a_weights a_unitCharge a_lastFinish a_lastDue a_front a_waiting a_packetLength a_packetStart a_packetFinish a_packetDue hf a_heapSize a_key a_home pl a_sentFlow a_sentLength a_sentLeft a_sentDue := hx_put (h := h) (a := t) (g := A t) hh (by omega) hA hp
      match k, hk with
      | k + 1, _ => exact br_t (nI_le (b := 0) (by omega) (by omega)) hput
    · have hps : (t - 1) / 2 < s := by omega
      have hpt : (t - 1) / 2 ≠ t := by omega
      have hAp : A ((t - 1) / 2) < 16 := Nat.lt_of_lt_of_le (B.1 _ hps).1 hn
      have hrd : hf (nI h * 16 + nI ((t - 1) / 2)).toNatClampNeg = nI (A ((t - 1) / 2)) := by
        rw [hx_ix, nI_clamp (by omega)]
        exact (C _ hps hpt).1
      have hin : vp_in (nI h * 16 + nI ((t - 1) / 2)) 32 := by
        rw [hx_ix]
        exact vp_in_nI (by omega) (by decide)
      by_cases l : hp_lt a_key (A t) (A ((t - 1) / 2))
      · obtain ⟨A', hf', pl', t', h1, h2, h3, h4, h5, h6, h7⟩ := ih ((t - 1) / 2) (by omega) (hp_sw A t ((t - 1) / 2)) (upd hf (16 * h + t) (nI (A ((t - 1) / 2)))) (upd pl (A ((t - 1) / 2)) (nI t)) b hps
          (hp_BJ_sw ht hps B) (hp_CO_step B C ht hps hpt) (hp_up_step O (by omega) ht l b)
        rw [hp_sw2 hpt] at h2 h7
        refine ⟨A', hf', pl', t', h1, h2, h3, h4, h5, hp_FR_tr (hp_FR_put (by omega) (B.1 _ hps).2) h6, fun post k hk hp => ?_⟩
        match k, hk with
        | k + 1, hk =>
          refine br_f (nI_nle (by omega) (by omega)) (And.intro (by decide) (nm_r (hx_par (by omega) (by omega)) (And.intro hin (nm_r hrd (hx_prec hA hAp (fun _ => br_f (by decide) ?_) (fun q => absurd l q))))))
          exact hx_put (h := h) (a := t) (g := A ((t - 1) / 2)) hh (by omega) hAp (h7 post k (by omega) hp)
      · refine ⟨A, upd hf (16 * h + t) (nI (A t)), upd pl (A t) (nI t), t, ht, rfl, B, hp_CO_end B C ht, hp_up_stop O (Or.inr l), hp_FR_put (by omega) (B.1 t ht).2, fun post k hk hp => ?_⟩
        have hput : wX_siftUp_71 post (nI h) (nI (A t)) (nI t) f_flowCount f_shareTotal f_queueDepth f_longest f_ticksPassed f_virtual f_usedWeight f_idle f_sent f_worst f_startHeap f_finishHeap f_linkFlow f_linkLength f_linkRemaining f_linkDue a_weights a_unitCharge a_lastFinish a_lastDue a_front a_waiting a_packetLength a_packetStart a_packetFinish a_packetDue hf a_heapSize a_key a_home pl a_sentFlow a_sentLength a_sentLeft a_sentDue := hx_put (h := h) (a := t) (g := A t) hh (by omega) hA hp
        match k, hk with
        | k + 1, hk =>
          exact br_f (nI_nle (by omega) (by omega)) (And.intro (by decide) (nm_r (hx_par (by omega) (by omega)) (And.intro hin (nm_r hrd (hx_prec hA hAp (fun q => absurd q l) (fun _ => br_t rfl hput))))))
theorem hx_siftUp {n h s : Nat} {hm : Nat → Nat} (hn : n ≤ 16) (hh : h < 2) (hs : s ≤ 16) (t : Nat) (A : Nat → Nat) (b : Prop)
    (ht : t < s) (B : hp_BJ n hm h s A) (C : hp_CF h s A a_heapFlow a_place) (O : hp_OU a_key s A t b) :
    ∃ (A' : Nat → Nat) (hf' pl' : Nat → Int32) (t' : Nat), t' < s ∧ A' t' = A t ∧ hp_BJ n hm h s A' ∧ hp_CF h s A' hf' pl' ∧ hp_OD a_key s A' t' b ∧ hp_FR h hm a_heapFlow a_place hf' pl' ∧
      ∀ (post : SX → Prop), post (f_flowCount, f_shareTotal, f_queueDepth, f_longest, f_ticksPassed, f_virtual, f_usedWeight, f_idle, f_sent, f_worst, f_startHeap, f_finishHeap, f_linkFlow, f_linkLength, f_linkRemaining, f_linkDue, a_weights, a_unitCharge, a_lastFinish, a_lastDue, a_front, a_waiting, a_packetLength, a_packetStart, a_packetFinish, a_packetDue, hf', a_heapSize, a_key, a_home, pl', a_sentFlow, a_sentLength, a_sentLeft, a_sentDue) → wpX_siftUp post (f_flowCount, f_shareTotal, f_queueDepth, f_longest, f_ticksPassed, f_virtual, f_usedWeight, f_idle, f_sent, f_worst, f_startHeap, f_finishHeap, f_linkFlow, f_linkLength, f_linkRemaining, f_linkDue, a_weights, a_unitCharge, a_lastFinish, a_lastDue, a_front, a_waiting, a_packetLength, a_packetStart, a_packetFinish, a_packetDue, a_heapFlow, a_heapSize, a_key, a_home, a_place, a_sentFlow, a_sentLength, a_sentLeft, a_sentDue) (nI h) (nI t) := by
  obtain ⟨A', hf', pl', t', h1, h2, h3, h4, h5, h6, h7⟩ := hx_up (f_flowCount := f_flowCount) (f_shareTotal := f_shareTotal) (f_queueDepth := f_queueDepth) (f_longest := f_longest) (f_ticksPassed := f_ticksPassed) (f_virtual := f_virtual) (f_usedWeight := f_usedWeight) (f_idle := f_idle) (f_sent := f_sent) (f_worst := f_worst) (f_startHeap := f_startHeap) (f_finishHeap := f_finishHeap) (f_linkFlow := f_linkFlow) (f_linkLength := f_linkLength) (f_linkRemaining := f_linkRemaining) (f_linkDue := f_linkDue) (a_weights := a_weights) (a_unitCharge := a_unitCharge) (a_lastFinish := a_lastFinish) (a_lastDue := a_lastDue) (a_front := a_front) (a_waiting := a_waiting) (a_packetLength := a_packetLength) (a_packetStart := a_packetStart) (a_packetFinish := a_packetFinish) (a_packetDue := a_packetDue) (a_heapSize := a_heapSize) (a_key := a_key) (a_home := a_home) (a_sentFlow := a_sentFlow) (a_sentLength := a_sentLength) (a_sentLeft := a_sentLeft) (a_sentDue := a_sentDue) hn hh hs t A a_heapFlow a_place b ht B (fun i hi _ => C i hi) O
  refine ⟨A', hf', pl', t', h1, h2, h3, h4, h5, h6, fun post hp => ?_⟩
  refine And.intro ?_ (nm_r (e' := nI (A t)) ?_ ⟨t + 1, h7 post (t + 1) (by omega) hp⟩)
  · rw [hx_ix]
    exact vp_in_nI (by omega) (by decide)
  · rw [hx_ix, nI_clamp (by omega)]
    exact (C t ht).1
theorem hx_less {h s c t : Nat} {A : Nat → Nat} (hh : h < 2) (hs : s ≤ 16) (hA : ∀ i, i < s → A i < 16) (hsz : a_heapSize h = nI s) (C : hp_CO h s A a_heapFlow a_place t) (hc : c < s) (ht : t < c) :
    ∃ r, (r = c ∨ r = c + 1) ∧ r < s ∧ ¬ hp_lt a_key (A c) (A r) ∧ (c + 1 < s → ¬ hp_lt a_key (A (c + 1)) (A r)) ∧
      ∀ post : Int32 → Prop, post (nI r) → wpX_lesserChild post (f_flowCount, f_shareTotal, f_queueDepth, f_longest, f_ticksPassed, f_virtual, f_usedWeight, f_idle, f_sent, f_worst, f_startHeap, f_finishHeap, f_linkFlow, f_linkLength, f_linkRemaining, f_linkDue, a_weights, a_unitCharge, a_lastFinish, a_lastDue, a_front, a_waiting, a_packetLength, a_packetStart, a_packetFinish, a_packetDue, a_heapFlow, a_heapSize, a_key, a_home, a_place, a_sentFlow, a_sentLength, a_sentLeft, a_sentDue) (nI h) (nI c) := by
  have ez : a_heapSize (nI h).toNatClampNeg = nI s := by
    rw [nI_clamp (by omega)]
    exact hsz
  have vh : vp_in (nI h) 2 := vp_in_nI hh (by decide)
  by_cases h1 : c + 1 < s
  · have e4 : a_heapFlow (nI h * 16 + nI c).toNatClampNeg = nI (A c) := by
      rw [hx_ix, nI_clamp (by omega)]
      exact (C c hc (by omega)).1
    have e5 : a_heapFlow (nI h * 16 + nI (c + 1)).toNatClampNeg = nI (A (c + 1)) := by
      rw [hx_ix, nI_clamp (by omega)]
      exact (C (c + 1) h1 (by omega)).1
    have v4 : vp_in (nI h * 16 + nI c) 32 := by
      rw [hx_ix]
      exact vp_in_nI (by omega) (by decide)
    have v5 : vp_in (nI h * 16 + nI (c + 1)) 32 := by
      rw [hx_ix]
      exact vp_in_nI (by omega) (by decide)
    have hlt : nI (c + 1) < a_heapSize (nI h).toNatClampNeg := by
      rw [ez]
      exact nI_lt h1 (by omega)
    by_cases l : hp_lt a_key (A (c + 1)) (A c)
    · refine ⟨c + 1, Or.inr rfl, h1, hp_asym l, fun _ => hp_irr, fun post hp => ?_⟩
      exact nm_r (nI_1 c) (And.intro vh (br_t hlt (And.intro v4 (nm_r e4 (And.intro v5 (nm_r e5 (hx_prec (hA _ h1) (hA _ hc) (fun _ => br_f (by decide) hp) (fun q => absurd l q))))))))
    · refine ⟨c, Or.inl rfl, hc, hp_irr, fun _ => l, fun post hp => ?_⟩
      exact nm_r (nI_1 c) (And.intro vh (br_t hlt (And.intro v4 (nm_r e4 (And.intro v5 (nm_r e5 (hx_prec (hA _ h1) (hA _ hc) (fun q => absurd q l) (fun _ => br_t rfl hp))))))))
  · have hlt : ¬ nI (c + 1) < a_heapSize (nI h).toNatClampNeg := by
      rw [ez]
      exact nI_nlt (by omega) (by omega)
    exact ⟨c, Or.inl rfl, hc, hp_irr, fun q => absurd q h1, fun post hp => nm_r (nI_1 c) (And.intro vh (br_f hlt hp))⟩
theorem hx_dn {n h s : Nat} {hm : Nat → Nat} (hn : n ≤ 16) (hh : h < 2) (hs : s ≤ 16) (hsz : a_heapSize h = nI s) : ∀ (m t : Nat) (A : Nat → Nat) (hf pl : Nat → Int32),
    s ≤ t + m → t < s → hp_BJ n hm h s A → hp_CO h s A hf pl t → hp_OD a_key s A t False →
    ∃ (A' : Nat → Nat) (hf' pl' : Nat → Int32), hp_BJ n hm h s A' ∧ hp_CF h s A' hf' pl' ∧ hp_OH a_key s A' ∧ hp_FR h hm hf pl hf' pl' ∧
      ∀ (post : SX → Prop) (k : Nat), m < k → post (f_flowCount, f_shareTotal, f_queueDepth, f_longest, f_ticksPassed, f_virtual, f_usedWeight, f_idle, f_sent, f_worst, f_startHeap, f_finishHeap, f_linkFlow, f_linkLength, f_linkRemaining, f_linkDue, a_weights, a_unitCharge, a_lastFinish, a_lastDue, a_front, a_waiting, a_packetLength, a_packetStart, a_packetFinish, a_packetDue, hf', a_heapSize, a_key, a_home, pl', a_sentFlow, a_sentLength, a_sentLeft, a_sentDue) → wX_siftDown_30 post (nI h) (nI s) (nI (A t)) k (nI t) (nI (2 * t + 1)) f_flowCount f_shareTotal f_queueDepth f_longest f_ticksPassed f_virtual f_usedWeight f_idle f_sent f_worst f_startHeap f_finishHeap f_linkFlow f_linkLength f_linkRemaining f_linkDue a_weights a_unitCharge a_lastFinish a_lastDue a_front a_waiting a_packetLength a_packetStart a_packetFinish a_packetDue hf a_heapSize a_key a_home pl a_sentFlow a_sentLength a_sentLeft a_sentDue := by
  intro m
  induction m with
  | zero => intro t A hf pl h1 h2; omega
  | succ m ih =>
    intro t A hf pl hm1 ht B C O
    have hA : ∀ i, i < s → A i < 16 := fun i hi => Nat.lt_of_lt_of_le (B.1 i hi).1 hn
    have key : (∀ i, 0 < i → i < s → (i - 1) / 2 = t → ¬ hp_lt a_key (A i) (A t)) →
        (∀ (post : SX → Prop) (k : Nat), m + 1 < k → wX_siftDown_97 post (nI h) (nI (A t)) (nI t) f_flowCount f_shareTotal f_queueDepth f_longest f_ticksPassed f_virtual f_usedWeight f_idle f_sent f_worst f_startHeap f_finishHeap f_linkFlow f_linkLength f_linkRemaining f_linkDue a_weights a_unitCharge a_lastFinish a_lastDue a_front a_waiting a_packetLength a_packetStart a_packetFinish a_packetDue hf a_heapSize a_key a_home pl a_sentFlow a_sentLength a_sentLeft a_sentDue → wX_siftDown_30 post (nI h) (nI s) (nI (A t)) k (nI t) (nI (2 * t + 1)) f_flowCount f_shareTotal f_queueDepth f_longest f_ticksPassed f_virtual f_usedWeight f_idle f_sent f_worst f_startHeap f_finishHeap f_linkFlow f_linkLength f_linkRemaining f_linkDue a_weights a_unitCharge a_lastFinish a_lastDue a_front a_waiting a_packetLength a_packetStart a_packetFinish a_packetDue hf a_heapSize a_key a_home pl a_sentFlow a_sentLength a_sentLeft a_sentDue) →
        ∃ (A' : Nat → Nat) (hf' pl' : Nat → Int32), hp_BJ n hm h s A' ∧ hp_CF h s A' hf' pl' ∧ hp_OH a_key s A' ∧ hp_FR h hm hf pl hf' pl' ∧
          ∀ (post : SX → Prop) (k : Nat), m + 1 < k → post (f_flowCount, f_shareTotal, f_queueDepth, f_longest, f_ticksPassed, f_virtual, f_usedWeight, f_idle, f_sent, f_worst, f_startHeap, f_finishHeap, f_linkFlow, f_linkLength, f_linkRemaining, f_linkDue, a_weights, a_unitCharge, a_lastFinish, a_lastDue, a_front, a_waiting, a_packetLength, a_packetStart, a_packetFinish, a_packetDue, hf', a_heapSize, a_key, a_home, pl', a_sentFlow, a_sentLength, a_sentLeft, a_sentDue) → wX_siftDown_30 post (nI h) (nI s) (nI (A t)) k (nI t) (nI (2 * t + 1)) f_flowCount f_shareTotal f_queueDepth f_longest f_ticksPassed f_virtual f_usedWeight f_idle f_sent f_worst f_startHeap f_finishHeap f_linkFlow f_linkLength f_linkRemaining f_linkDue a_weights a_unitCharge a_lastFinish a_lastDue a_front a_waiting a_packetLength a_packetStart a_packetFinish a_packetDue hf a_heapSize a_key a_home pl a_sentFlow a_sentLength a_sentLeft a_sentDue := by
      intro hc hw
      refine ⟨A, upd hf (16 * h + t) (nI (A t)), upd pl (A t) (nI t), B, hp_CO_end B C ht, hp_dn_stop O hc, hp_FR_put (by omega) (B.1 t ht).2, fun post k hk hp => hw post k hk ?_⟩
      exact hx_put (h := h) (a := t) (g := A t) hh (by omega) (hA t ht) hp
    by_cases h1 : 2 * t + 1 < s
    · obtain ⟨r, r1, r2, r3, r4, r5⟩ := hx_less (f_flowCount := f_flowCount) (f_shareTotal := f_shareTotal) (f_queueDepth := f_queueDepth) (f_longest := f_longest) (f_ticksPassed := f_ticksPassed) (f_virtual := f_virtual) (f_usedWeight := f_usedWeight) (f_idle := f_idle) (f_sent := f_sent) (f_worst := f_worst) (f_startHeap := f_startHeap) (f_finishHeap := f_finishHeap) (f_linkFlow := f_linkFlow) (f_linkLength := f_linkLength) (f_linkRemaining := f_linkRemaining) (f_linkDue := f_linkDue) (a_weights := a_weights) (a_unitCharge := a_unitCharge) (a_lastFinish := a_lastFinish) (a_lastDue := a_lastDue) (a_front := a_front) (a_waiting := a_waiting) (a_packetLength := a_packetLength) (a_packetStart := a_packetStart) (a_packetFinish := a_packetFinish) (a_packetDue := a_packetDue) (a_heapFlow := hf) (a_heapSize := a_heapSize) (a_key := a_key) (a_home := a_home) (a_place := pl) (a_sentFlow := a_sentFlow) (a_sentLength := a_sentLength) (a_sentLeft := a_sentLeft) (a_sentDue := a_sentDue) hh hs hA hsz C h1 (by omega)
      have hle : ∀ i, 0 < i → i < s → (i - 1) / 2 = t → ¬ hp_lt a_key (A i) (A r) := by
        intro i i0 hi e
        have : i = 2 * t + 1 ∨ i = 2 * t + 1 + 1 := by omega
        rcases this with z | z
        · rw [z]
          exact r3
        · rw [z]
          exact r4 (by omega)
      have hrt : (r - 1) / 2 = t := by omega
      have er : hf (nI h * 16 + nI r).toNatClampNeg = nI (A r) := by
        rw [hx_ix, nI_clamp (by omega)]
        exact (C r r2 (by omega)).1
      have vr : vp_in (nI h * 16 + nI r) 32 := by
        rw [hx_ix]
        exact vp_in_nI (by omega) (by decide)
      have hb : ¬ nI s ≤ nI (2 * t + 1) := nI_ge h1 (by omega)
      by_cases l : hp_lt a_key (A r) (A t)
      · obtain ⟨A', hf', pl', h3, h4, h5, h6, h7⟩ := ih r (hp_sw A t r) (upd hf (16 * h + t) (nI (A r))) (upd pl (A r) (nI t)) (by omega) r2
          (hp_BJ_sw ht r2 B) (hp_CO_step B C ht r2 (by omega)) (hp_dn_step O (by omega) r2 hrt hle l)
        rw [hp_sw2 (by omega)] at h7
        refine ⟨A', hf', pl', h3, h4, h5, hp_FR_tr (hp_FR_put (by omega) (B.1 _ r2).2) h6, fun post k hk hp => ?_⟩
        match k, hk with
        | k + 1, hk =>
          refine br_f hb (r5 _ (And.intro vr (nm_r er (hx_prec (hA _ r2) (hA _ ht) (fun _ => br_f (by decide) ?_) (fun q => absurd l q)))))
          exact hx_put (h := h) (a := t) (g := A r) hh (by omega) (hA _ r2) (nm_r (hx_ch r) (h7 post k (by omega) hp))
      · refine key (fun i i0 hi e => hp_trans (hle i i0 hi e) l) (fun post k hk hp => ?_)
        match k, hk with
        | k + 1, hk =>
          exact br_f hb (r5 _ (And.intro vr (nm_r er (hx_prec (hA _ r2) (hA _ ht) (fun q => absurd q l) (fun _ => br_t rfl hp)))))
    · refine key (fun i i0 hi e => by omega) (fun post k hk hp => ?_)
      match k, hk with
      | k + 1, hk => exact br_t (nI_le (by omega) (by omega)) hp
theorem hx_siftDown {n h s : Nat} {hm : Nat → Nat} (hn : n ≤ 16) (hh : h < 2) (hs : s ≤ 16) (hsz : a_heapSize h = nI s) (t : Nat) (A : Nat → Nat)
    (ht : t < s) (B : hp_BJ n hm h s A) (C : hp_CF h s A a_heapFlow a_place) (O : hp_OD a_key s A t False) :
    ∃ (A' : Nat → Nat) (hf' pl' : Nat → Int32), hp_BJ n hm h s A' ∧ hp_CF h s A' hf' pl' ∧ hp_OH a_key s A' ∧ hp_FR h hm a_heapFlow a_place hf' pl' ∧
      ∀ (post : SX → Prop), post (f_flowCount, f_shareTotal, f_queueDepth, f_longest, f_ticksPassed, f_virtual, f_usedWeight, f_idle, f_sent, f_worst, f_startHeap, f_finishHeap, f_linkFlow, f_linkLength, f_linkRemaining, f_linkDue, a_weights, a_unitCharge, a_lastFinish, a_lastDue, a_front, a_waiting, a_packetLength, a_packetStart, a_packetFinish, a_packetDue, hf', a_heapSize, a_key, a_home, pl', a_sentFlow, a_sentLength, a_sentLeft, a_sentDue) → wpX_siftDown post (f_flowCount, f_shareTotal, f_queueDepth, f_longest, f_ticksPassed, f_virtual, f_usedWeight, f_idle, f_sent, f_worst, f_startHeap, f_finishHeap, f_linkFlow, f_linkLength, f_linkRemaining, f_linkDue, a_weights, a_unitCharge, a_lastFinish, a_lastDue, a_front, a_waiting, a_packetLength, a_packetStart, a_packetFinish, a_packetDue, a_heapFlow, a_heapSize, a_key, a_home, a_place, a_sentFlow, a_sentLength, a_sentLeft, a_sentDue) (nI h) (nI t) := by
  obtain ⟨A', hf', pl', h3, h4, h5, h6, h7⟩ := hx_dn (f_flowCount := f_flowCount) (f_shareTotal := f_shareTotal) (f_queueDepth := f_queueDepth) (f_longest := f_longest) (f_ticksPassed := f_ticksPassed) (f_virtual := f_virtual) (f_usedWeight := f_usedWeight) (f_idle := f_idle) (f_sent := f_sent) (f_worst := f_worst) (f_startHeap := f_startHeap) (f_finishHeap := f_finishHeap) (f_linkFlow := f_linkFlow) (f_linkLength := f_linkLength) (f_linkRemaining := f_linkRemaining) (f_linkDue := f_linkDue) (a_weights := a_weights) (a_unitCharge := a_unitCharge) (a_lastFinish := a_lastFinish) (a_lastDue := a_lastDue) (a_front := a_front) (a_waiting := a_waiting) (a_packetLength := a_packetLength) (a_packetStart := a_packetStart) (a_packetFinish := a_packetFinish) (a_packetDue := a_packetDue) (a_heapSize := a_heapSize) (a_key := a_key) (a_home := a_home) (a_sentFlow := a_sentFlow) (a_sentLength := a_sentLength) (a_sentLeft := a_sentLeft) (a_sentDue := a_sentDue) hn hh hs hsz s t A a_heapFlow a_place (by omega) ht B (fun i hi _ => C i hi) O
  refine ⟨A', hf', pl', h3, h4, h5, h6, fun post hp => ?_⟩
  refine And.intro (vp_in_nI hh (by decide)) (nm_r (e' := nI s) ?_ (And.intro ?_ (nm_r (e' := nI (A t)) ?_ (nm_r (hx_ch t) ⟨s + 1, h7 post (s + 1) (by omega) hp⟩))))
  · rw [nI_clamp (by omega)]
    exact hsz
  · rw [hx_ix]
    exact vp_in_nI (by omega) (by decide)
  · rw [hx_ix, nI_clamp (by omega)]
    exact (C t ht).1
theorem hx_insert {n h g : Nat} {hm : Nat → Nat} (k : Int64) (hn : n ≤ 16) (H : hp_HP n hm a_heapFlow a_heapSize a_key a_home a_place) (hh : h < 2) (hgn : g < n) (hg : hm g = 2) :
    ∃ hf' pl' : Nat → Int32, hp_HP n (hp_un hm g h) hf' (upd a_heapSize h (a_heapSize h + 1)) (vp_updL a_key g k) (upd a_home g (nI h)) pl' ∧
      ∀ post : SX → Prop, post (f_flowCount, f_shareTotal, f_queueDepth, f_longest, f_ticksPassed, f_virtual, f_usedWeight, f_idle, f_sent, f_worst, f_startHeap, f_finishHeap, f_linkFlow, f_linkLength, f_linkRemaining, f_linkDue, a_weights, a_unitCharge, a_lastFinish, a_lastDue, a_front, a_waiting, a_packetLength, a_packetStart, a_packetFinish, a_packetDue, hf', upd a_heapSize h (a_heapSize h + 1), vp_updL a_key g k, upd a_home g (nI h), pl', a_sentFlow, a_sentLength, a_sentLeft, a_sentDue) → wpX_heapInsert post (f_flowCount, f_shareTotal, f_queueDepth, f_longest, f_ticksPassed, f_virtual, f_usedWeight, f_idle, f_sent, f_worst, f_startHeap, f_finishHeap, f_linkFlow, f_linkLength, f_linkRemaining, f_linkDue, a_weights, a_unitCharge, a_lastFinish, a_lastDue, a_front, a_waiting, a_packetLength, a_packetStart, a_packetFinish, a_packetDue, a_heapFlow, a_heapSize, a_key, a_home, a_place, a_sentFlow, a_sentLength, a_sentLeft, a_sentDue) (nI h) (nI g) k := by
  obtain ⟨s, A, H⟩ := H
  have hl := hp_ins_lt H hh hgn hg
  obtain ⟨A', hf', pl', t', h1, h2, h3, h4, h5, h6, h7⟩ := hx_siftUp (f_flowCount := f_flowCount) (f_shareTotal := f_shareTotal) (f_queueDepth := f_queueDepth) (f_longest := f_longest) (f_ticksPassed := f_ticksPassed) (f_virtual := f_virtual) (f_usedWeight := f_usedWeight) (f_idle := f_idle) (f_sent := f_sent) (f_worst := f_worst) (f_startHeap := f_startHeap) (f_finishHeap := f_finishHeap) (f_linkFlow := f_linkFlow) (f_linkLength := f_linkLength) (f_linkRemaining := f_linkRemaining) (f_linkDue := f_linkDue) (a_weights := a_weights) (a_unitCharge := a_unitCharge) (a_lastFinish := a_lastFinish) (a_lastDue := a_lastDue) (a_front := a_front) (a_waiting := a_waiting) (a_packetLength := a_packetLength) (a_packetStart := a_packetStart) (a_packetFinish := a_packetFinish) (a_packetDue := a_packetDue) (a_heapFlow := upd a_heapFlow (16 * h + s h) (nI g)) (a_heapSize := upd a_heapSize h (a_heapSize h + 1)) (a_key := vp_updL a_key g k) (a_home := upd a_home g (nI h)) (a_place := upd a_place g (nI (s h))) (a_sentFlow := a_sentFlow) (a_sentLength := a_sentLength) (a_sentLeft := a_sentLeft) (a_sentDue := a_sentDue)
    hn hh (by omega) (s h) (hp_un (A h) (s h) g) True (Nat.lt_succ_self _) (hp_ins_BJ H hh hgn hg) (hp_ins_CF H hh hg) (hp_ins_OU H hh hg k)
  refine ⟨hf', pl', hp_ins_end hn H hh hgn hg h3 h4 (hp_OD_OH h5) h6, fun post hp => ?_⟩
  have e0 : (nI h).toNatClampNeg = h := nI_clamp (by omega)
  have eg : (nI g).toNatClampNeg = g := nI_clamp (by omega)
  have es : a_heapSize h = nI (s h) := (H.1 h hh).1
  have vh : vp_in (nI h) 2 := vp_in_nI hh (by decide)
  have vg : vp_in (nI g) 16 := vp_in_nI (by omega) (by decide)
  refine And.intro vh (nm_r (e' := nI (s h)) (by rw [e0]; exact es) (And.intro vh (nm_r (e' := upd a_heapSize h (a_heapSize h + 1)) (by rw [e0, es]) (And.intro vg (nm_r (e' := vp_updL a_key g k) (by rw [eg])
    (And.intro vg (nm_r (e' := upd a_home g (nI h)) (by rw [eg]) ?_)))))))
  exact hx_put (h := h) (a := s h) (g := g) hh (by omega) (by omega) (h7 _ hp)
theorem hx_remove {n h g : Nat} {hm : Nat → Nat} (hn : n ≤ 16) (H : hp_HP n hm a_heapFlow a_heapSize a_key a_home a_place) (hh : h < 2) (hgn : g < n) (hg : hm g = h) :
    ∃ hf' pl' : Nat → Int32, hp_HP n (hp_un hm g 2) hf' (upd a_heapSize h (a_heapSize h - 1)) a_key a_home pl' ∧
      ∀ post : SX → Prop, post (f_flowCount, f_shareTotal, f_queueDepth, f_longest, f_ticksPassed, f_virtual, f_usedWeight, f_idle, f_sent, f_worst, f_startHeap, f_finishHeap, f_linkFlow, f_linkLength, f_linkRemaining, f_linkDue, a_weights, a_unitCharge, a_lastFinish, a_lastDue, a_front, a_waiting, a_packetLength, a_packetStart, a_packetFinish, a_packetDue, hf', upd a_heapSize h (a_heapSize h - 1), a_key, a_home, pl', a_sentFlow, a_sentLength, a_sentLeft, a_sentDue) → wpX_heapRemove post (f_flowCount, f_shareTotal, f_queueDepth, f_longest, f_ticksPassed, f_virtual, f_usedWeight, f_idle, f_sent, f_worst, f_startHeap, f_finishHeap, f_linkFlow, f_linkLength, f_linkRemaining, f_linkDue, a_weights, a_unitCharge, a_lastFinish, a_lastDue, a_front, a_waiting, a_packetLength, a_packetStart, a_packetFinish, a_packetDue, a_heapFlow, a_heapSize, a_key, a_home, a_place, a_sentFlow, a_sentLength, a_sentLeft, a_sentDue) (nI g) := by
  obtain ⟨s, A, H⟩ := H
  obtain ⟨t, ht, eA, ep, eh⟩ := hp_rem_at H hh hgn hg
  have sz := hp_size H hh
  obtain ⟨l, hl⟩ : ∃ l, s h = l + 1 := ⟨s h - 1, by omega⟩
  have e0 : (nI h).toNatClampNeg = h := nI_clamp (by omega)
  have eg : (nI g).toNatClampNeg = g := nI_clamp (by omega)
  have es : a_heapSize h - 1 = nI l := by
    rw [(H.1 h hh).1, hl]
    exact nI_pred l
  have vh : vp_in (nI h) 2 := vp_in_nI hh (by decide)
  have vg : vp_in (nI g) 16 := vp_in_nI (by omega) (by decide)
  by_cases hlt : t < l
  · obtain ⟨B, C, O⟩ := hp_rem_mid H hh hg hl hlt eA
    have hml : A h l < 16 := Nat.lt_of_lt_of_le ((H.1 h hh).2.1.1 l (by omega)).1 hn
    have hmh : hp_un hm g 2 (A h l) = h := by
      have := (B.1 t hlt).2
      rw [hp_us] at this
      exact this
    obtain ⟨A', hf', pl', t', h1, h2, h3, h4, h5, h6, h7⟩ := hx_siftUp (f_flowCount := f_flowCount) (f_shareTotal := f_shareTotal) (f_queueDepth := f_queueDepth) (f_longest := f_longest) (f_ticksPassed := f_ticksPassed) (f_virtual := f_virtual) (f_usedWeight := f_usedWeight) (f_idle := f_idle) (f_sent := f_sent) (f_worst := f_worst) (f_startHeap := f_startHeap) (f_finishHeap := f_finishHeap) (f_linkFlow := f_linkFlow) (f_linkLength := f_linkLength) (f_linkRemaining := f_linkRemaining) (f_linkDue := f_linkDue) (a_weights := a_weights) (a_unitCharge := a_unitCharge) (a_lastFinish := a_lastFinish) (a_lastDue := a_lastDue) (a_front := a_front) (a_waiting := a_waiting) (a_packetLength := a_packetLength) (a_packetStart := a_packetStart) (a_packetFinish := a_packetFinish) (a_packetDue := a_packetDue) (a_heapFlow := upd a_heapFlow (16 * h + t) (nI (A h l))) (a_heapSize := upd a_heapSize h (a_heapSize h - 1)) (a_key := a_key) (a_home := a_home) (a_place := upd a_place (A h l) (nI t)) (a_sentFlow := a_sentFlow) (a_sentLength := a_sentLength) (a_sentLeft := a_sentLeft) (a_sentDue := a_sentDue)
      hn hh (by omega) t (hp_un (A h) t (A h l)) False hlt B C O
    rw [hp_us] at h2
    obtain ⟨A2, hf2, pl2, i3, i4, i5, i6, i7⟩ := hx_siftDown (f_flowCount := f_flowCount) (f_shareTotal := f_shareTotal) (f_queueDepth := f_queueDepth) (f_longest := f_longest) (f_ticksPassed := f_ticksPassed) (f_virtual := f_virtual) (f_usedWeight := f_usedWeight) (f_idle := f_idle) (f_sent := f_sent) (f_worst := f_worst) (f_startHeap := f_startHeap) (f_finishHeap := f_finishHeap) (f_linkFlow := f_linkFlow) (f_linkLength := f_linkLength) (f_linkRemaining := f_linkRemaining) (f_linkDue := f_linkDue) (a_weights := a_weights) (a_unitCharge := a_unitCharge) (a_lastFinish := a_lastFinish) (a_lastDue := a_lastDue) (a_front := a_front) (a_waiting := a_waiting) (a_packetLength := a_packetLength) (a_packetStart := a_packetStart) (a_packetFinish := a_packetFinish) (a_packetDue := a_packetDue) (a_heapFlow := hf') (a_heapSize := upd a_heapSize h (a_heapSize h - 1)) (a_key := a_key) (a_home := a_home) (a_place := pl') (a_sentFlow := a_sentFlow) (a_sentLength := a_sentLength) (a_sentLeft := a_sentLeft) (a_sentDue := a_sentDue) (s := l) hn hh (by omega) (by rw [pk_us]; exact es) t' A' h1 h3 h4 h5
    have hl1 : s h - 1 = l := by omega
    refine ⟨hf2, pl2, hp_rem_end hn H hh hgn hg (by rw [hl1]; exact i3) (by rw [hl1]; exact i4) (by rw [hl1]; exact i5) (hp_FR_tr (hp_FR_put (by omega) hmh) (hp_FR_tr h6 i6)), fun post hp => ?_⟩
    have el : a_heapFlow (nI h * 16 + nI l).toNatClampNeg = nI (A h l) := by
      rw [hx_ix, nI_clamp (by omega)]
      exact ((H.1 h hh).2.2.1 l (by omega)).1
    have vl : vp_in (nI h * 16 + nI l) 32 := by
      rw [hx_ix]
      exact vp_in_nI (by omega) (by decide)
    have epl : pl' (nI (A h l)).toNatClampNeg = nI t' := by
      rw [nI_clamp (by omega), ← h2]
      exact (h4 t' h1).2
    refine And.intro vg (nm_r (e' := nI h) (by rw [eg]; exact eh) (And.intro vg (nm_r (e' := nI t) (by rw [eg]; exact ep) (And.intro vh (nm_r (e' := nI l) (by rw [e0]; exact es)
      (And.intro vh (nm_r (e' := upd a_heapSize h (a_heapSize h - 1)) (by rw [e0, es]) (br_f (nI_ge hlt (by omega)) (And.intro vl (nm_r (e' := nI (A h l)) el ?_))))))))))
    refine hx_put (h := h) (a := t) (g := A h l) hh (by omega) hml (h7 _ (And.intro (vp_in_nI hml (by decide)) ?_))
    rw [epl]
    exact i7 _ hp
  · have et : t = l := by omega
    obtain ⟨B, C, O⟩ := hp_rem_last H hh hg hl (by rw [← et]; exact eA)
    refine ⟨a_heapFlow, a_place, hp_rem_end hn H hh hgn hg B C O hp_FR_rf, fun post hp => ?_⟩
    refine And.intro vg (nm_r (e' := nI h) (by rw [eg]; exact eh) (And.intro vg (nm_r (e' := nI t) (by rw [eg]; exact ep) (And.intro vh (nm_r (e' := nI l) (by rw [e0]; exact es)
      (And.intro vh (nm_r (e' := upd a_heapSize h (a_heapSize h - 1)) (by rw [e0, es]) (br_t (nI_le (by omega) (by omega)) hp))))))))
end
end
section
/-! the reference's list walks: waitingOf, find, remove, the loops of close, flush, freeWeight -/
theorem yh_ix (i c : Nat) : nI i * 10 + nI c = nI (10 * i + c) := by
  rw [show (10 : Int32) = nI 10 from rfl, pk_mul, nI_add, Nat.mul_comm]
theorem yh_ix0 (i : Nat) : nI i * 10 = nI (10 * i) := by
  rw [show (10 : Int32) = nI 10 from rfl, pk_mul, Nat.mul_comm]
theorem yh_ix1 (i : Nat) : nI i * 10 + 1 = nI (10 * i + 1) := yh_ix i 1
/-- the list lies in the array, is short, and its flows are numbers below 16 -/
def yh_L (L : List qf_P) (w : Nat → Int64) : Prop := qf_W L w ∧ L.length ≤ 128 ∧ ∀ p, p ∈ L → p.1 < 16
theorem yh_flow {L : List qf_P} {w : Nat → Int64} {i f : Nat} {p : qf_P} (H : yh_L L w) (hp : L[i]? = some p) (hf : f < 16) :
    vp_in (nI i * 10 + 1) 1280 ∧ (w (nI i * 10 + 1).toNatClampNeg = (nI f).toInt64 ↔ p.1 = f) := by
  have hi := qf_lt hp
  have h1 := H.2.1
  have h2 := H.2.2 p (List.mem_of_getElem? hp)
  rw [yh_ix1, nI_clamp (by omega), nI_l (by omega), (H.1 i p hp).1]
  exact ⟨vp_in_nI (by omega) (by decide), lN_eq (by omega) (by omega)⟩
def qf_i : List qf_P → Nat → Nat
  | [], _ => 0
  | p :: t, f => if p.1 = f then 0 else qf_i t f + 1
theorem qi_get {f : Nat} {p : qf_P} {t : List qf_P} : ∀ {L : List qf_P}, qf_q L f = p :: t → L[qf_i L f]? = some p ∧ p.1 = f ∧ qf_c L f (qf_i L f) = 0
  | [], h => nomatch h
  | a :: r, h => by
    by_cases e : a.1 = f
    · rw [qf_pos e] at h
      have ea : a = p := (List.cons.inj h).1
      have ei : qf_i (a :: r) f = 0 := if_pos e
      rw [ei]
      exact ⟨by rw [ea]; rfl, by rw [← ea]; exact e, rfl⟩
    · rw [qf_neg e] at h
      have ei : qf_i (a :: r) f = qf_i r f + 1 := if_neg e
      have ih := qi_get h
      rw [ei]
      refine ⟨ih.1, ih.2.1, ?_⟩
      show (qf_q (a :: r.take (qf_i r f)) f).length = 0
      rw [qf_neg e]
      exact ih.2.2
section
variable {g_n : Int32} {g_c : Int32} {g_q : Int32} {g_m : Int32} {g_now : Int32} {g_sent : Int32} {g_idle : Int32} {g_v : Int64} {g_worst : Int64} {g_count : Int32} {b_flows : Nat → Int64} {b_waiting : Nat → Int64} {b_link : Nat → Int64} {b_records : Nat → Int64} {L : List qf_P} {f : Nat}
theorem yh_w4 (H : yh_L L b_waiting) (hf : f < 16) {post : Int32 → Prop} (hp : post (nI (qf_q L f).length)) : ∀ d i : Nat, i + d = L.length → wY_waitingOf_4 post (nI f) g_n g_c g_q g_m g_now g_sent g_idle g_v g_worst (nI L.length) b_flows b_waiting b_link b_records (d + 1) (nI (qf_c L f i)) (nI i) := by
  have hl := H.2.1
  intro d
  induction d with
  | zero =>
    intro i hi
    have e : i = L.length := by omega
    subst e
    rw [qc_len]
    exact br_t (nI_le (Nat.le_refl _) (by omega)) hp
  | succ d ih =>
    intro i hi
    obtain ⟨p, hg⟩ := qf_some (L := L) (i := i) (by omega)
    obtain ⟨vi, ec⟩ := yh_flow H hg hf
    have ih' := ih (i + 1) (by omega)
    refine br_f (nI_ge (by omega) (by omega)) (And.intro vi ?_)
    by_cases h : p.1 = f
    · exact br_t (ec.mpr h) (nm_r (e' := nI (qf_c L f (i + 1))) (by rw [qc_pos hg h, nI_1]) (nm_r (nI_1 i) ih'))
    · rw [qc_neg hg h] at ih'
      exact br_f (fun z => h (ec.mp z)) (nm_r (nI_1 i) ih')
theorem yh_wait (H : yh_L L b_waiting) (hf : f < 16) {post : Int32 → Prop} (hp : post (nI (qf_q L f).length)) : wpY_waitingOf post (g_n, g_c, g_q, g_m, g_now, g_sent, g_idle, g_v, g_worst, nI L.length, b_flows, b_waiting, b_link, b_records) (nI f) :=
  ⟨L.length + 1, yh_w4 H hf hp L.length 0 (Nat.zero_add _)⟩
theorem yh_f5 (H : yh_L L b_waiting) (hf : f < 16) {j i0 : Nat} {p0 : qf_P} (h0 : L[i0]? = some p0) (e0 : p0.1 = f) (c0 : qf_c L f i0 = j) {post : Int32 → Prop} (hp : post (nI (10 * i0))) :
    ∀ d i : Nat, i + d = i0 → wY_find_5 post (nI f) (nI j) g_n g_c g_q g_m g_now g_sent g_idle g_v g_worst (nI L.length) b_flows b_waiting b_link b_records (d + 1) (nI (qf_c L f i)) (nI i) := by
  have hl := H.2.1
  have hi0 := qf_lt h0
  have hcb : ∀ i, qf_c L f i ≤ 128 := fun i => by
    have h1 := qd_len f (L.take i)
    have h2 : (L.take i).length ≤ L.length := by rw [List.length_take]; omega
    show (qf_q (L.take i) f).length ≤ 128
    omega
  intro d
  induction d with
  | zero =>
    intro i hi
    have e : i = i0 := by omega
    subst e
    obtain ⟨vi, ec⟩ := yh_flow H h0 hf
    refine br_f (nI_ge (by omega) (by omega)) (And.intro vi (br_t (ec.mpr e0) (br_t (congrArg nI c0) ?_)))
    rw [yh_ix0]
    exact hp
  | succ d ih =>
    intro i hi
    obtain ⟨p, hg⟩ := qf_some (L := L) (i := i) (by omega)
    obtain ⟨vi, ec⟩ := yh_flow H hg hf
    have ih' := ih (i + 1) (by omega)
    refine br_f (nI_ge (by omega) (by omega)) (And.intro vi ?_)
    by_cases h : p.1 = f
    · have hm := qc_mono L f (i + 1) d
      have hs := qc_pos hg h
      have e3 : i + 1 + d = i0 := by omega
      rw [e3, c0] at hm
      have hb := hcb i
      have hb2 := hcb i0
      have hne : ¬ nI (qf_c L f i) = nI j := by
        rw [nI_eq (by omega) (by omega)]
        omega
      exact br_t (ec.mpr h) (br_f hne (And.intro vi (br_t (ec.mpr h) (nm_r (e' := nI (qf_c L f (i + 1))) (by rw [hs, nI_1]) (nm_r (nI_1 i) ih')))))
    · rw [qc_neg hg h] at ih'
      have hn : ¬ b_waiting (nI i * 10 + 1).toNatClampNeg = (nI f).toInt64 := fun z => h (ec.mp z)
      exact br_f hn (And.intro vi (br_f hn (nm_r (nI_1 i) ih')))
theorem yh_f5n (H : yh_L L b_waiting) (hf : f < 16) {x : Int32} (hx : ∀ c, c < (qf_q L f).length → ¬ nI c = x) {post : Int32 → Prop} (hp : post (-1)) :
    ∀ d i : Nat, i + d = L.length → wY_find_5 post (nI f) x g_n g_c g_q g_m g_now g_sent g_idle g_v g_worst (nI L.length) b_flows b_waiting b_link b_records (d + 1) (nI (qf_c L f i)) (nI i) := by
  have hl := H.2.1
  intro d
  induction d with
  | zero =>
    intro i hi
    exact br_t (nI_le (by omega) (by omega)) hp
  | succ d ih =>
    intro i hi
    obtain ⟨p, hg⟩ := qf_some (L := L) (i := i) (by omega)
    obtain ⟨vi, ec⟩ := yh_flow H hg hf
    have ih' := ih (i + 1) (by omega)
    refine br_f (nI_ge (by omega) (by omega)) (And.intro vi ?_)
    by_cases h : p.1 = f
    · have hm := qc_mono L f (i + 1) d
      have hs := qc_pos hg h
      have e3 : i + 1 + d = L.length := by omega
      rw [e3, qc_len] at hm
      exact br_t (ec.mpr h) (br_f (hx _ (by omega)) (And.intro vi (br_t (ec.mpr h) (nm_r (e' := nI (qf_c L f (i + 1))) (by rw [hs, nI_1]) (nm_r (nI_1 i) ih')))))
    · rw [qc_neg hg h] at ih'
      have hn : ¬ b_waiting (nI i * 10 + 1).toNatClampNeg = (nI f).toInt64 := fun z => h (ec.mp z)
      exact br_f hn (And.intro vi (br_f hn (nm_r (nI_1 i) ih')))
theorem yh_find (H : yh_L L b_waiting) (hf : f < 16) {j : Nat} {p : qf_P} (h : (qf_q L f)[j]? = some p) :
    ∃ i, L[i]? = some p ∧ ∀ post : Int32 → Prop, post (nI (10 * i)) → wpY_find post (g_n, g_c, g_q, g_m, g_now, g_sent, g_idle, g_v, g_worst, nI L.length, b_flows, b_waiting, b_link, b_records) (nI f) (nI j) := by
  obtain ⟨i, h1, h2, h3⟩ := qf_idx h
  exact ⟨i, h1, fun post hp => ⟨i + 1, yh_f5 H hf h1 h2 h3 hp i 0 (Nat.zero_add _)⟩⟩
theorem yh_head (H : yh_L L b_waiting) (hf : f < 16) {p : qf_P} {t : List qf_P} (h : qf_q L f = p :: t) {post : Int32 → Prop} (hp : post (nI (10 * qf_i L f))) : wpY_find post (g_n, g_c, g_q, g_m, g_now, g_sent, g_idle, g_v, g_worst, nI L.length, b_flows, b_waiting, b_link, b_records) (nI f) 0 := by
  obtain ⟨h1, h2, h3⟩ := qi_get h
  exact ⟨qf_i L f + 1, yh_f5 H hf h1 h2 h3 hp (qf_i L f) 0 (Nat.zero_add _)⟩
theorem yh_findn (H : yh_L L b_waiting) (hf : f < 16) {x : Int32} (hx : ∀ c, c < (qf_q L f).length → ¬ nI c = x) {post : Int32 → Prop} (hp : post (-1)) : wpY_find post (g_n, g_c, g_q, g_m, g_now, g_sent, g_idle, g_v, g_worst, nI L.length, b_flows, b_waiting, b_link, b_records) (nI f) x :=
  ⟨L.length + 1, yh_f5n H hf hx hp L.length 0 (Nat.zero_add _)⟩
theorem yh_rm {cnt : Nat} (hc : cnt ≤ 128) : ∀ (d j : Nat) (w : Nat → Int64), j + d + 10 = 10 * cnt →
    ∃ w' : Nat → Int64, (∀ x, x < j → w' x = w x) ∧ (∀ x, j ≤ x → x + 10 < 10 * cnt → w' x = w (x + 10)) ∧
      ∀ (lk : Nat → Int64) (post : SY → Prop), post (g_n, g_c, g_q, g_m, g_now, g_sent, g_idle, g_v, g_worst, nI (cnt - 1), b_flows, w', lk, b_records) → wY_remove_2 post g_n g_c g_q g_m g_now g_sent g_idle g_v g_worst (nI cnt) (d + 1) (nI j) b_flows w lk b_records := by
  intro d
  have ec : nI cnt * 10 = nI (10 * cnt) := yh_ix0 cnt
  have e1 : cnt ≠ 0 → nI cnt - 1 = nI (cnt - 1) := fun h => by
    obtain ⟨r, rfl⟩ : ∃ r, cnt = r + 1 := ⟨cnt - 1, by omega⟩
    exact nI_pred r
  induction d with
  | zero =>
    intro j w hj
    refine ⟨w, fun _ _ => rfl, fun x h1 h2 => by omega, fun lk post hp => ?_⟩
    have h : nI cnt * 10 ≤ nI j + 10 := by
      rw [ec, show nI j + 10 = nI (j + 10) from nI_add j 10]
      exact nI_le (by omega) (by omega)
    exact br_t h (nm_r (e1 (by omega)) hp)
  | succ d ih =>
    intro j w hj
    obtain ⟨w', h1, h2, h3⟩ := ih (j + 1) (vp_updL w j (w (j + 10))) (by omega)
    refine ⟨w', fun x hx => ?_, fun x hx hx2 => ?_, fun lk post hp => ?_⟩
    · rw [h1 x (by omega), pk_uLn (by omega)]
    · by_cases e : x = j
      · subst e
        rw [h1 x (by omega), pk_uLs]
      · rw [h2 x (by omega) hx2, pk_uLn (by omega)]
    · have ea : nI j + 10 = nI (j + 10) := nI_add j 10
      have h : ¬ nI cnt * 10 ≤ nI j + 10 := by
        rw [ec, ea]
        exact nI_ge (by omega) (by omega)
      have va : vp_in (nI j + 10) 1280 := by
        rw [ea]
        exact vp_in_nI (by omega) (by decide)
      refine br_f h (And.intro va (And.intro (vp_in_nI (by omega) (by decide)) (nm_r (e' := vp_updL w j (w (j + 10))) ?_ (nm_r (nI_1 j) (h3 lk post hp)))))
      rw [ea, nI_clamp (by omega), nI_clamp (by omega)]
theorem yh_rem (H : yh_L L b_waiting) {i : Nat} (hi : i < L.length) :
    ∃ w' : Nat → Int64, yh_L (L.eraseIdx i) w' ∧
      ∀ (lk : Nat → Int64) (post : SY → Prop), post (g_n, g_c, g_q, g_m, g_now, g_sent, g_idle, g_v, g_worst, nI (L.eraseIdx i).length, b_flows, w', lk, b_records) → wpY_remove post (g_n, g_c, g_q, g_m, g_now, g_sent, g_idle, g_v, g_worst, nI L.length, b_flows, b_waiting, lk, b_records) (nI (10 * i)) := by
  have hl := H.2.1
  obtain ⟨w', h1, h2, h3⟩ := yh_rm (g_n := g_n) (g_c := g_c) (g_q := g_q) (g_m := g_m) (g_now := g_now) (g_sent := g_sent) (g_idle := g_idle) (g_v := g_v) (g_worst := g_worst) (b_flows := b_flows) (b_records := b_records) (cnt := L.length) hl (10 * L.length - 10 - 10 * i) (10 * i) b_waiting (by omega)
  have el : (L.eraseIdx i).length = L.length - 1 := List.length_eraseIdx_of_lt hi
  refine ⟨w', ⟨qW_erase H.1 h1 h2, by omega, fun p hp => H.2.2 p (List.mem_of_mem_eraseIdx hp)⟩, fun lk post hp => ⟨_, h3 lk post ?_⟩⟩
  rw [← el]
  exact hp
theorem yh_fw {n c : Nat} {W : Nat → Nat} (hn : n ≤ 16) (hc : c ≤ 64) (hW : ∀ f, f < n → b_flows (10 * f + 8) = lN (W f)) (hU : qf_S W n ≤ c) {post : Int32 → Prop} (hp : post (nI (c - qf_S W n))) :
    ∀ d i : Nat, i + d = n → wY_freeWeight_7 post (nI n) g_c g_q g_m g_now g_sent g_idle g_v g_worst g_count b_flows b_waiting b_link b_records (d + 1) (nI (c - qf_S W i)) (nI i) := by
  intro d
  induction d with
  | zero =>
    intro i hi
    have e : i = n := by omega
    subst e
    exact br_t (nI_le (Nat.le_refl _) (by omega)) hp
  | succ d ih =>
    intro i hi
    have ea : nI i * 10 + 8 = nI (10 * i + 8) := yh_ix i 8
    have va : vp_in (nI i * 10 + 8) 160 := by
      rw [ea]
      exact vp_in_nI (by omega) (by decide)
    have h1 := qS_le W (i + 1) d
    have e2 : i + 1 + d = n := by omega
    rw [e2] at h1
    have h2 : qf_S W (i + 1) = qf_S W i + W i := rfl
    refine br_f (nI_ge (by omega) (by omega)) (And.intro va (nm_r (e' := nI (c - qf_S W (i + 1))) ?_ (nm_r (nI_1 i) (ih (i + 1) (by omega)))))
    rw [ea, nI_clamp (by omega), hW i (by omega), lN_i, pk_sub (by omega)]
    exact congrArg nI (by omega)
theorem yh_free {n c : Nat} {W : Nat → Nat} (hn : n ≤ 16) (hc : c ≤ 64) (hW : ∀ f, f < n → b_flows (10 * f + 8) = lN (W f)) (hU : qf_S W n ≤ c) {post : Int32 → Prop} (hp : post (nI (c - qf_S W n))) :
    wpY_freeWeight post (nI n, nI c, g_q, g_m, g_now, g_sent, g_idle, g_v, g_worst, g_count, b_flows, b_waiting, b_link, b_records) := ⟨n + 1, yh_fw hn hc hW hU hp n 0 (Nat.zero_add _)⟩
theorem yh_cl (hf : f < 16) : ∀ (d k : Nat) (fl : Nat → Int64), k + d = 10 →
    ∃ fl' : Nat → Int64, (∀ x, 10 * f + k ≤ x → x < 10 * f + 10 → fl' x = 0) ∧ (∀ x, (x < 10 * f + k ∨ 10 * f + 10 ≤ x) → fl' x = fl x) ∧
      ∀ post : Int32 → SY → Prop, post 0 (g_n, g_c, g_q, g_m, g_now, g_sent, g_idle, g_v, g_worst, g_count, fl', b_waiting, b_link, b_records) → wY_close_93 post (nI f) g_n g_c g_q g_m g_now g_sent g_idle g_v g_worst g_count (d + 1) (nI k) fl b_waiting b_link b_records := by
  intro d
  induction d with
  | zero =>
    intro k fl hk
    exact ⟨fl, fun x h1 h2 => by omega, fun _ _ => rfl, fun post hp => br_t (nI_le (a := 10) (by omega) (by omega)) hp⟩
  | succ d ih =>
    intro k fl hk
    obtain ⟨fl', h1, h2, h3⟩ := ih (k + 1) (vp_updL fl (10 * f + k) 0) (by omega)
    refine ⟨fl', fun x hx hx2 => ?_, fun x hx => ?_, fun post hp => ?_⟩
    · by_cases e : x = 10 * f + k
      · subst e
        rw [h2 _ (by omega), pk_uLs]
      · exact h1 x (by omega) hx2
    · rw [h2 x (by omega), pk_uLn (by omega)]
    · have va : vp_in (nI f * 10 + nI k) 160 := by
        rw [yh_ix]
        exact vp_in_nI (by omega) (by decide)
      refine br_f (nI_ge (b := 10) (by omega) (by omega)) (And.intro va (nm_r (e' := vp_updL fl (10 * f + k) 0) ?_ (nm_r (nI_1 k) (h3 post hp))))
      rw [yh_ix, nI_clamp (by omega)]
theorem yh_fl (hf : f < 16) {x3 : Int32} (hL : ∀ p, p ∈ L → p.1 < 16) (hlen : L.length ≤ 128) : ∀ (i : Nat) (w : Nat → Int64), i ≤ L.length → yh_L (qf_m L f i) w →
    ∃ w' : Nat → Int64, yh_L (qf_d L f) w' ∧
      ∀ post : Int32 → SY → Prop, post x3 (g_n, g_c, g_q, g_m, g_now, g_sent, g_idle, g_v, g_worst, nI (qf_d L f).length, b_flows, w', b_link, b_records) → wY_flush_120 post (nI f) x3 (i + 1) (nI i - 1) g_n g_c g_q g_m g_now g_sent g_idle g_v g_worst (nI (qf_m L f i).length) b_flows w b_link b_records := by
  intro i
  induction i with
  | zero =>
    intro w _ H
    rw [qm_0] at H
    refine ⟨w, H, fun post hp => ?_⟩
    rw [qm_0]
    exact br_t (by decide) hp
  | succ i ih =>
    intro w hi H
    obtain ⟨p, hg⟩ := qf_some (L := L) (i := i) (by omega)
    have hg' := qm_get (f := f) hg
    obtain ⟨vi, ec⟩ := yh_flow H hg' hf
    have e1 : nI (i + 1) - 1 = nI i := nI_pred i
    have e2 : nI i + (-1) = nI i - 1 := (Int32.sub_eq_add_neg _ _).symm
    by_cases h : p.1 = f
    · obtain ⟨w1, H1, h1⟩ := yh_rem (g_n := g_n) (g_c := g_c) (g_q := g_q) (g_m := g_m) (g_now := g_now) (g_sent := g_sent) (g_idle := g_idle) (g_v := g_v) (g_worst := g_worst) (b_flows := b_flows) (b_waiting := w) (b_records := b_records) (L := qf_m L f (i + 1)) H (i := i) (qf_lt hg')
      rw [qm_pos h hg] at H1 h1
      obtain ⟨w', H2, h2⟩ := ih w1 (by omega) H1
      refine ⟨w', H2, fun post hp => ?_⟩
      rw [e1]
      refine br_f (nI_pos (by omega)) (And.intro vi (br_t (ec.mpr h) ?_))
      rw [yh_ix0]
      exact h1 _ _ (nm_r e2 (h2 post hp))
    · rw [qm_neg h hg] at H ⊢
      obtain ⟨w', H2, h2⟩ := ih w (by omega) H
      refine ⟨w', H2, fun post hp => ?_⟩
      rw [e1]
      exact br_f (nI_pos (by omega)) (And.intro vi (br_f (fun z => h (ec.mp z)) (nm_r e2 (h2 post hp))))
end
end
section
/-! the reference's take: the least start, the best eligible head, the copy to the link -/
/-- p is the head of flow f, and eligible at V -/
def yt_e (L : List qf_P) (V : Int64) (f : Nat) (p : qf_P) : Prop := (∃ t, qf_q L f = p :: t) ∧ p.2.2.1 ≤ V
/-- (finish, flow) of p, f is less than that of p', f' -/
def yt_b (p : qf_P) (f : Nat) (p' : qf_P) (f' : Nat) : Prop := p.2.2.2.1 < p'.2.2.2.1 ∨ (p.2.2.2.1 = p'.2.2.2.1 ∧ f < f')
theorem yt_bi {p p' : qf_P} {f f' : Nat} : yt_b p f p' f' ↔ (p.2.2.2.1.toInt < p'.2.2.2.1.toInt ∨ (p.2.2.2.1.toInt = p'.2.2.2.1.toInt ∧ f < f')) := by
  unfold yt_b
  rw [Int64.lt_iff_toInt_lt, ← Int64.toInt_inj]
def yt_BS (L : List qf_P) (V : Int64) (i : Nat) (x : Int32) : Prop := (x = -1 ∧ ∀ f p, f < i → ¬ yt_e L V f p) ∨
  (∃ f p, f < i ∧ yt_e L V f p ∧ x = nI (10 * qf_i L f) ∧ ∀ f' p', f' < i → yt_e L V f' p' → ¬ yt_b p' f' p f)
def yt_LS (L : List qf_P) (i : Nat) (x : Int64) : Prop := (x = -1 ∧ ∀ f, f < i → qf_q L f = []) ∨
  (∃ f p t, f < i ∧ qf_q L f = p :: t ∧ x = p.2.2.1 ∧ ∀ f' p' t', f' < i → qf_q L f' = p' :: t' → x ≤ p'.2.2.1)
theorem yt_skip {L : List qf_P} {V : Int64} {i : Nat} {x : Int32} (B : yt_BS L V i x) (h : ∀ p, ¬ yt_e L V i p) : yt_BS L V (i + 1) x := by
  have aux : ∀ f p, f < i + 1 → yt_e L V f p → f < i := fun f p hf he => by
    have : f ≠ i := fun z => h p (by rw [← z]; exact he)
    omega
  rcases B with ⟨e, B⟩ | ⟨f, p, hf, he, e, B⟩
  · exact Or.inl ⟨e, fun f p hf he => B f p (aux f p hf he) he⟩
  · exact Or.inr ⟨f, p, by omega, he, e, fun f' p' hf' he' => B f' p' (aux f' p' hf' he') he'⟩
theorem yt_eu {L : List qf_P} {V : Int64} {f : Nat} {p p' : qf_P} {t : List qf_P} (h : qf_q L f = p :: t) (e : yt_e L V f p') : p' = p := by
  obtain ⟨⟨t', h'⟩, _⟩ := e
  exact (List.cons.inj (h'.symm.trans h)).1
section
variable {g_n : Int32} {g_c : Int32} {g_q : Int32} {g_m : Int32} {g_now : Int32} {g_sent : Int32} {g_idle : Int32} {g_v : Int64} {g_worst : Int64} {g_count : Int32} {b_flows : Nat → Int64} {b_waiting : Nat → Int64} {b_link : Nat → Int64} {b_records : Nat → Int64} {L : List qf_P}
theorem yt_cp {i cn : Nat} {w' : Nat → Int64} (hi : i < 128)
    (hr : ∀ (lk : Nat → Int64) (post : SY → Prop), post (g_n, g_c, g_q, g_m, g_now, g_sent, g_idle, g_v, g_worst, nI cn, b_flows, w', lk, b_records) → wpY_remove post (g_n, g_c, g_q, g_m, g_now, g_sent, g_idle, g_v, g_worst, g_count, b_flows, b_waiting, lk, b_records) (nI (10 * i))) :
    ∀ (d k : Nat) (lk : Nat → Int64), k + d = 10 → (∀ x, x < k → lk x = b_waiting (10 * i + x)) →
    ∃ lk' : Nat → Int64, (lk' 1 = b_waiting (10 * i + 1) ∧ lk' 2 = b_waiting (10 * i + 2) ∧ lk' 3 = b_waiting (10 * i + 2) ∧ lk' 6 = b_waiting (10 * i + 6)) ∧
      ∀ post : SY → Prop, post (g_n, g_c, g_q, g_m, g_now, g_sent, g_idle, g_v, g_worst, nI cn, b_flows, w', lk', b_records) → wY_take_164 post (nI (10 * i)) g_n g_c g_q g_m g_now g_sent g_idle g_v g_worst g_count (d + 1) (nI k) b_flows b_waiting lk b_records := by
  intro d
  induction d with
  | zero =>
    intro k lk hk h
    refine ⟨vp_updL lk 3 (lk 2), ⟨?_, ?_, ?_, ?_⟩, fun post hp => br_t (nI_le (a := 10) (by omega) (by omega)) (nm_e (hr _ _ hp))⟩
    · rw [pk_uLn (by decide)]
      exact h 1 (by omega)
    · rw [pk_uLn (by decide)]
      exact h 2 (by omega)
    · rw [pk_uLs]
      exact h 2 (by omega)
    · rw [pk_uLn (by decide)]
      exact h 6 (by omega)
  | succ d ih =>
    intro k lk hk h
    obtain ⟨lk', h1, h2⟩ := ih (k + 1) (vp_updL lk k (b_waiting (10 * i + k))) (by omega) (fun x hx => by
      by_cases e : x = k
      · subst e
        rw [pk_uLs]
      · rw [pk_uLn e]
        exact h x (by omega))
    refine ⟨lk', h1, fun post hp => ?_⟩
    have va : vp_in (nI (10 * i) + nI k) 1280 := by
      rw [nI_add]
      exact vp_in_nI (by omega) (by decide)
    refine br_f (nI_ge (b := 10) (by omega) (by omega)) (And.intro va (And.intro (vp_in_nI (by omega) (by decide)) (nm_r (e' := vp_updL lk k (b_waiting (10 * i + k))) ?_ (nm_r (nI_1 k) (h2 post hp)))))
    rw [nI_add, nI_clamp (by omega), nI_clamp (by omega)]
theorem yt_rd (H : yh_L L b_waiting) {f : Nat} {p : qf_P} {t : List qf_P} (h : qf_q L f = p :: t) :
    qf_i L f < 128 ∧ vp_in (nI (10 * qf_i L f) + 4) 1280 ∧ b_waiting (nI (10 * qf_i L f) + 4).toNatClampNeg = p.2.2.1 ∧ vp_in (nI (10 * qf_i L f) + 5) 1280 ∧ b_waiting (nI (10 * qf_i L f) + 5).toNatClampNeg = p.2.2.2.1 := by
  have h1 := (qi_get h).1
  have h2 := qf_lt h1
  have h3 := H.2.1
  have h4 := H.1 _ _ h1
  have e4 : nI (10 * qf_i L f) + 4 = nI (10 * qf_i L f + 4) := nI_add _ 4
  have e5 : nI (10 * qf_i L f) + 5 = nI (10 * qf_i L f + 5) := nI_add _ 5
  rw [e4, e5, nI_clamp (by omega), nI_clamp (by omega)]
  exact ⟨by omega, vp_in_nI (by omega) (by decide), h4.2.2.1, vp_in_nI (by omega) (by decide), h4.2.2.2.1⟩
theorem yt_82 {n : Nat} {V : Int64} (hn : n ≤ 16) (H : yh_L L b_waiting) {post : SY → Prop}
    (K : ∀ x : Int32, yt_BS L V n x → ((0 ≤ x → (∃ n164 : Nat, wY_take_164 post x (nI n) g_c g_q g_m g_now g_sent g_idle V g_worst (nI L.length) n164 0 b_flows b_waiting b_link b_records)) ∧ (¬ 0 ≤ x → (post (nI n, g_c, g_q, g_m, g_now, g_sent, g_idle, V, g_worst, nI L.length, b_flows, b_waiting, b_link, b_records))))) :
    ∀ (d i : Nat) (x : Int32), i + d = n → yt_BS L V i x → wY_take_82 post (nI n) g_c g_q g_m g_now g_sent g_idle V g_worst (nI L.length) b_flows b_waiting b_link b_records (d + 1) x (nI i) := by
  intro d
  induction d with
  | zero =>
    intro i x hi B
    have e : i = n := by omega
    subst e
    exact br_t (nI_le (Nat.le_refl _) (by omega)) (K x B)
  | succ d ih =>
    intro i x hi B
    refine br_f (nI_ge (by omega) (by omega)) ?_
    cases hq : qf_q L i with
    | nil =>
      refine yh_findn H (by omega) (fun c hc => ?_) (br_t (by decide) (nm_r (nI_1 i) (ih (i + 1) x (by omega) (yt_skip B (fun p he => ?_)))))
      · rw [hq] at hc
        exact absurd hc (Nat.not_lt_zero _)
      · obtain ⟨⟨t, z⟩, _⟩ := he
        rw [hq] at z
        exact nomatch z
    | cons p t =>
      obtain ⟨hi1, v4, w4, v5, w5⟩ := yt_rd H hq
      refine yh_head H (by omega) hq (br_f (nI_pos (by omega)) (And.intro v4 (br_c (fun l => ?_) (fun l => ?_))))
      · rw [w4] at l
        refine nm_r (nI_1 i) (ih (i + 1) x (by omega) (yt_skip B (fun p' he => ?_)))
        have z := yt_eu hq he
        rw [z] at he
        have h2 := he.2
        rw [Int64.le_iff_toInt_le] at h2
        rw [Int64.lt_iff_toInt_lt] at l
        omega
      · rw [w4] at l
        have hel : yt_e L V i p := by
          refine ⟨⟨t, hq⟩, ?_⟩
          rw [Int64.le_iff_toInt_le]
          rw [Int64.lt_iff_toInt_lt] at l
          omega
        rcases B with ⟨e, B⟩ | ⟨f, p', hf, he, e, B⟩
        · subst e
          refine br_t (by decide) (nm_r (nI_1 i) (ih (i + 1) _ (by omega) (Or.inr ⟨i, p, by omega, hel, rfl, fun f' p' hf' he' => ?_⟩)))
          by_cases z : f' = i
          · subst z
            rw [yt_bi]
            have := yt_eu hq he'
            rw [this]
            omega
          · exact absurd he' (B f' p' (by omega))
        · subst e
          obtain ⟨t', hq'⟩ := he.1
          obtain ⟨hi1', _, _, v5', w5'⟩ := yt_rd H hq'
          refine br_f (nI_pos (by omega)) (And.intro v5 (And.intro v5' (br_c (fun l2 => ?_) (fun l2 => ?_))))
          · rw [w5, w5', Int64.le_iff_toInt_le] at l2
            refine nm_r (nI_1 i) (ih (i + 1) _ (by omega) (Or.inr ⟨f, p', by omega, he, rfl, fun f2 p2 hf2 he2 => ?_⟩))
            by_cases z : f2 = i
            · subst z
              have := yt_eu hq he2
              rw [yt_bi, this]
              omega
            · exact B f2 p2 (by omega) he2
          · rw [w5, w5', Int64.le_iff_toInt_le] at l2
            refine nm_r (nI_1 i) (ih (i + 1) _ (by omega) (Or.inr ⟨i, p, by omega, hel, rfl, fun f2 p2 hf2 he2 => ?_⟩))
            by_cases z : f2 = i
            · subst z
              have := yt_eu hq he2
              rw [yt_bi, this]
              omega
            · have := B f2 p2 (by omega) he2
              rw [yt_bi] at this ⊢
              omega
theorem yt_6 {n : Nat} {V : Int64} (hn : n ≤ 16) (H : yh_L L b_waiting) (hpos : ∀ p, p ∈ L → 0 ≤ p.2.2.1.toInt) {post : SY → Prop}
    (K : ∀ x : Int64, yt_LS L n x → ((x ≤ V → (∃ n82 : Nat, wY_take_82 post (nI n) g_c g_q g_m g_now g_sent g_idle V g_worst (nI L.length) b_flows b_waiting b_link b_records n82 (-1) 0)) ∧ (¬ x ≤ V → (∃ n82 : Nat, wY_take_82 post (nI n) g_c g_q g_m g_now g_sent g_idle x g_worst (nI L.length) b_flows b_waiting b_link b_records n82 (-1) 0)))) :
    ∀ (d i : Nat) (x : Int64), i + d = n → yt_LS L i x → wY_take_6 post (nI n) g_c g_q g_m g_now g_sent g_idle V g_worst (nI L.length) b_flows b_waiting b_link b_records (d + 1) x (nI i) := by
  intro d
  have h0 : (0 : Int64).toInt = 0 := by decide
  have hm1 : (-1 : Int64).toInt = -1 := by decide
  induction d with
  | zero =>
    intro i x hi B
    have e : i = n := by omega
    subst e
    exact br_t (nI_le (Nat.le_refl _) (by omega)) (K x B)
  | succ d ih =>
    intro i x hi B
    refine br_f (nI_ge (by omega) (by omega)) ?_
    cases hq : qf_q L i with
    | nil =>
      refine yh_findn H (by omega) (fun c hc => ?_) (br_t (by decide) (nm_r (nI_1 i) (ih (i + 1) x (by omega) ?_)))
      · rw [hq] at hc
        exact absurd hc (Nat.not_lt_zero _)
      · rcases B with ⟨e, B⟩ | ⟨f, p, t, hf, hp, e, B⟩
        · refine Or.inl ⟨e, fun f hf => ?_⟩
          by_cases z : f = i
          · rw [z]
            exact hq
          · exact B f (by omega)
        · refine Or.inr ⟨f, p, t, by omega, hp, e, fun f' p' t' hf' hp' => ?_⟩
          by_cases z : f' = i
          · rw [z, hq] at hp'
            exact nomatch hp'
          · exact B f' p' t' (by omega) hp'
    | cons p t =>
      obtain ⟨hi1, v4, w4, v5, w5⟩ := yt_rd H hq
      refine yh_head H (by omega) hq (br_f (nI_pos (by omega)) ?_)
      rcases B with ⟨e, B⟩ | ⟨f, p', t', hf, hp', e, B⟩
      · subst e
        refine br_t (by decide) (And.intro v4 (nm_r (e' := p.2.2.1) w4 (nm_r (nI_1 i) (ih (i + 1) _ (by omega) (Or.inr ⟨i, p, t, by omega, hq, rfl, fun f' p2 t2 hf' h2 => ?_⟩)))))
        by_cases z : f' = i
        · rw [z, hq] at h2
          rw [(List.cons.inj h2).1]
          exact Int64.le_refl _
        · rw [B f' (by omega)] at h2
          exact nomatch h2
      · have hx : 0 ≤ x.toInt := by
          rw [e]
          exact hpos p' (qf_mem (by rw [hp']; exact List.mem_cons_self)).1
        refine br_f (by rw [Int64.lt_iff_toInt_lt, h0]; omega) (And.intro v4 (br_c (fun l => ?_) (fun l => ?_)))
        · rw [w4] at l
          refine nm_r (nI_1 i) (ih (i + 1) x (by omega) (Or.inr ⟨f, p', t', by omega, hp', e, fun f2 p2 t2 hf2 h2 => ?_⟩))
          by_cases z : f2 = i
          · rw [z, hq] at h2
            rw [← (List.cons.inj h2).1]
            exact l
          · exact B f2 p2 t2 (by omega) h2
        · rw [w4, Int64.le_iff_toInt_le] at l
          refine And.intro v4 (nm_r (e' := p.2.2.1) w4 (nm_r (nI_1 i) (ih (i + 1) _ (by omega) (Or.inr ⟨i, p, t, by omega, hq, rfl, fun f2 p2 t2 hf2 h2 => ?_⟩))))
          by_cases z : f2 = i
          · rw [z, hq] at h2
            rw [(List.cons.inj h2).1]
            exact Int64.le_refl _
          · have := B f2 p2 t2 (by omega) h2
            rw [Int64.le_iff_toInt_le] at this ⊢
            omega
/-- what both sides choose: the new virtual time V', the flow g, its head p -/
def yt_T (n : Nat) (L : List qf_P) (V V' : Int64) (g : Nat) (p : qf_P) (t : List qf_P) : Prop :=
  g < n ∧ qf_q L g = p :: t ∧ p.2.2.1 ≤ V' ∧ (∀ f' p', f' < n → yt_e L V' f' p' → ¬ yt_b p' f' p g) ∧ (V' = V ∨ (V < V' ∧ ∀ f' p' t', f' < n → qf_q L f' = p' :: t' → V' ≤ p'.2.2.1))
theorem yt_take {n g : Nat} {V V' : Int64} {p : qf_P} {t : List qf_P} (hn : n ≤ 16) (H : yh_L L b_waiting) (hpos : ∀ p, p ∈ L → 0 ≤ p.2.2.1.toInt) (T : yt_T n L V V' g p t) :
    ∃ w' lk' : Nat → Int64, yh_L (L.eraseIdx (qf_i L g)) w' ∧ (lk' 1 = lN g ∧ lk' 2 = lN p.2.1 ∧ lk' 3 = lN p.2.1 ∧ lk' 6 = p.2.2.2.2) ∧
      ∀ post : SY → Prop, post (nI n, g_c, g_q, g_m, g_now, g_sent, g_idle, V', g_worst, nI (L.eraseIdx (qf_i L g)).length, b_flows, w', lk', b_records) → wpY_take post (nI n, g_c, g_q, g_m, g_now, g_sent, g_idle, V, g_worst, nI L.length, b_flows, b_waiting, b_link, b_records) := by
  obtain ⟨hg, hq, hV, hmin, hVV⟩ := T
  obtain ⟨hi1, hi2, hi3⟩ := qi_get hq
  have hidx := qf_lt hi1
  have hlen := H.2.1
  obtain ⟨w', H', hr⟩ := yh_rem (g_n := nI n) (g_c := g_c) (g_q := g_q) (g_m := g_m) (g_now := g_now) (g_sent := g_sent) (g_idle := g_idle) (g_v := V') (g_worst := g_worst) (b_flows := b_flows) (b_waiting := b_waiting) (b_records := b_records) H hidx
  obtain ⟨lk', hk, hc⟩ := yt_cp (g_n := nI n) (g_c := g_c) (g_q := g_q) (g_m := g_m) (g_now := g_now) (g_sent := g_sent) (g_idle := g_idle) (g_v := V') (g_worst := g_worst) (g_count := nI L.length) (b_flows := b_flows) (b_waiting := b_waiting) (b_records := b_records) (i := qf_i L g) (cn := (L.eraseIdx (qf_i L g)).length) (w' := w') (by omega) hr 10 0 b_link (by omega) (fun x hx => absurd hx (Nat.not_lt_zero _))
  have hw := H.1 _ _ hi1
  refine ⟨w', lk', H', ⟨by rw [hk.1, hw.1, hi2], by rw [hk.2.1, hw.2.1], by rw [hk.2.2.1, hw.2.1], by rw [hk.2.2.2, hw.2.2.2.2]⟩, fun post hp => ?_⟩
  have h82 : ∃ n82 : Nat, wY_take_82 post (nI n) g_c g_q g_m g_now g_sent g_idle V' g_worst (nI L.length) b_flows b_waiting b_link b_records n82 (-1) 0 := by
    refine ⟨n + 1, yt_82 hn H (fun x B => ?_) n 0 (-1) (Nat.zero_add _) (Or.inl ⟨rfl, fun f p hf => absurd hf (Nat.not_lt_zero _)⟩)⟩
    rcases B with ⟨_, B⟩ | ⟨f, p', hf, he, e, B⟩
    · exact absurd ⟨⟨t, hq⟩, hV⟩ (B g p hg)
    · have a1 := hmin f p' hf he
      have a2 := B g p hg ⟨⟨t, hq⟩, hV⟩
      rw [yt_bi] at a1 a2
      have ef : f = g := by omega
      subst ef
      subst e
      exact br_t (nI_pos' (by omega)) ⟨11, hc post hp⟩
  refine ⟨n + 1, yt_6 hn H hpos (fun x B => ?_) n 0 (-1) (Nat.zero_add _) (Or.inl ⟨rfl, fun f hf => absurd hf (Nat.not_lt_zero _)⟩)⟩
  rcases B with ⟨_, B⟩ | ⟨f, p', t', hf, hp', e, B⟩
  · rw [B g hg] at hq
    exact nomatch hq
  · have hle := B g p t hg hq
    rcases hVV with z | ⟨z, hz⟩
    · subst z
      exact br_t (Int64.le_trans hle hV) h82
    · have h2 := hz f p' t' hf hp'
      rw [← e] at h2
      have ex : x = V' := by
        apply Int64.toInt_inj.mp
        rw [Int64.le_iff_toInt_le] at h2 hle hV
        omega
      subst ex
      refine br_f ?_ h82
      rw [Int64.lt_iff_toInt_lt] at z
      rw [Int64.le_iff_toInt_le]
      omega
end
end
section
/-! the reference's tick: idle, busy, leaving, and after a take -/
def yk_w (lat worst : Int64) : Int64 := if lat ≤ worst then worst else lat
section
variable {g_n : Int32} {g_c : Int32} {g_q : Int32} {g_m : Int32} {g_now : Int32} {g_sent : Int32} {g_idle : Int32} {g_v : Int64} {g_worst : Int64} {g_count : Int32} {b_flows : Nat → Int64} {b_waiting : Nat → Int64} {b_link : Nat → Int64} {b_records : Nat → Int64}
theorem yk_idle {now : Nat} (hl : b_link 3 = 0) {post : SY → Prop} (hp : post (g_n, g_c, g_q, g_m, nI (now + 1), g_sent, g_idle + 1, g_v + 840, g_worst, nI 0, b_flows, b_waiting, b_link, b_records)) : wpY_tick post (g_n, g_c, g_q, g_m, nI now, g_sent, g_idle, g_v, g_worst, nI 0, b_flows, b_waiting, b_link, b_records) :=
  br_t hl (br_t (nI_le (b := 0) (Nat.le_refl 0) (by decide)) (nm_r (nI_1 now) (nm_e (br_t hl (nm_e hp)))))
theorem yk_ne {x : Int64} {r : Nat} (h : x = lN r) (h0 : 0 < r) (hr : r < 2 ^ 31) : ¬ x = 0 := by
  intro z
  rw [h] at z
  have := (lN_eq (a := r) (b := 0) hr (by decide)).mp z
  omega
theorem yk_busy {r now : Nat} (hl : b_link 3 = lN (r + 2)) (hr : r + 2 ≤ 32) {post : SY → Prop} (hp : post (g_n, g_c, g_q, g_m, nI (now + 1), g_sent, g_idle, g_v + 840, g_worst, g_count, b_flows, b_waiting, vp_updL b_link 3 (lN (r + 1)), b_records)) : wpY_tick post (g_n, g_c, g_q, g_m, nI now, g_sent, g_idle, g_v, g_worst, g_count, b_flows, b_waiting, b_link, b_records) := by
  have hne : ¬ b_link 3 = 0 := yk_ne hl (by omega) (by omega)
  have e6 : b_link 3 - 1 = lN (r + 1) := by
    rw [hl]
    show lN (r + 2) - lN 1 = lN (r + 1)
    rw [lN_sub (by omega)]
    exact congrArg lN (by omega)
  have hgt : ¬ (vp_updL b_link 3 (lN (r + 1))) 3 ≤ 0 := by
    rw [pk_uLs]
    intro z
    have := (lN_le (a := r + 1) (b := 0) (by omega) (by decide)).mp z
    omega
  exact br_f hne (nm_r (nI_1 now) (nm_e (br_f hne (nm_r (e' := vp_updL b_link 3 (lN (r + 1))) (by rw [e6]) (br_f hgt hp)))))
theorem yk_sh : ∀ (d j : Nat) (rc : Nat → Int64), j = 9 + d → j < 320 →
    ∃ rc' : Nat → Int64, (∀ x, j < x → rc' x = rc x) ∧ (∀ x, 10 ≤ x → x ≤ j → rc' x = rc (x - 10)) ∧
      ∀ post : SY → Prop, (∃ n133 : Nat, wY_tick_133 post g_n g_c g_q g_m g_now g_sent g_idle g_v g_worst g_count n133 0 b_flows b_waiting b_link rc') → wY_tick_104 post g_n g_c g_q g_m g_now g_sent g_idle g_v g_worst g_count (d + 1) (nI j) b_flows b_waiting b_link rc := by
  intro d
  induction d with
  | zero =>
    intro j rc hj _
    exact ⟨rc, fun _ _ => rfl, fun x h1 h2 => by omega, fun post h => br_t (nI_lt (b := 10) (by omega) (by decide)) h⟩
  | succ d ih =>
    intro j rc hj hj2
    obtain ⟨j', rfl⟩ : ∃ j', j = j' + 1 := ⟨j - 1, by omega⟩
    obtain ⟨rc', h1, h2, h3⟩ := ih j' (vp_updL rc (j' + 1) (rc (j' + 1 - 10))) (by omega) (by omega)
    refine ⟨rc', fun x hx => ?_, fun x hx hx2 => ?_, fun post h => ?_⟩
    · rw [h1 x (by omega), pk_uLn (by omega)]
    · by_cases e : x = j' + 1
      · subst e
        rw [h1 _ (by omega), pk_uLs]
      · rw [h2 x hx (by omega), pk_uLn (by omega)]
    · have ea : nI (j' + 1) - 10 = nI (j' + 1 - 10) := pk_sub (b := 10) (by omega)
      have va : vp_in (nI (j' + 1) - 10) 320 := by
        rw [ea]
        exact vp_in_nI (by omega) (by decide)
      refine br_f (nI_nlt (b := 10) (by omega) (by omega)) (And.intro va (And.intro (vp_in_nI (by omega) (by decide)) (nm_r (e' := vp_updL rc (j' + 1) (rc (j' + 1 - 10))) ?_ (nm_r (pk_m1 j') (h3 post h)))))
      rw [ea, nI_clamp (by omega), nI_clamp (by omega)]
theorem yk_cp {sn : Nat} : ∀ (d k : Nat) (rc : Nat → Int64), k + d = 10 → (∀ x, x < k → rc x = b_link x) →
    ∃ rc' : Nat → Int64, (∀ x, x < 10 → rc' x = b_link x) ∧ (∀ x, 10 ≤ x → rc' x = rc x) ∧
      ∀ post : SY → Prop, post (g_n, g_c, g_q, g_m, g_now, nI (sn + 1), g_idle, g_v, yk_w ((840 * g_now).toInt64 - b_link 6) g_worst, g_count, b_flows, b_waiting, b_link, rc') → wY_tick_133 post g_n g_c g_q g_m g_now (nI sn) g_idle g_v g_worst g_count (d + 1) (nI k) b_flows b_waiting b_link rc := by
  intro d
  induction d with
  | zero =>
    intro k rc hk h
    refine ⟨rc, fun x hx => h x (by omega), fun _ _ => rfl, fun post hp => br_t (nI_le (a := 10) (by omega) (by omega)) (nm_r (nI_1 sn) (br_c (fun l => ?_) (fun l => nm_e ?_)))⟩
    · rw [show yk_w ((840 * g_now).toInt64 - b_link 6) g_worst = g_worst from if_pos l] at hp
      exact hp
    · rw [show yk_w ((840 * g_now).toInt64 - b_link 6) g_worst = (840 * g_now).toInt64 - b_link 6 from if_neg l] at hp
      exact hp
  | succ d ih =>
    intro k rc hk h
    obtain ⟨rc', h1, h2, h3⟩ := ih (k + 1) (vp_updL rc k (b_link k)) (by omega) (fun x hx => by
      by_cases e : x = k
      · subst e
        rw [pk_uLs]
      · rw [pk_uLn e]
        exact h x (by omega))
    refine ⟨rc', h1, fun x hx => ?_, fun post hp => ?_⟩
    · rw [h2 x hx, pk_uLn (by omega)]
    · refine br_f (nI_ge (b := 10) (by omega) (by omega)) (And.intro (vp_in_nI (by omega) (by decide)) (And.intro (vp_in_nI (by omega) (by decide)) (nm_r (e' := vp_updL rc k (b_link k)) ?_ (nm_r (nI_1 k) (h3 post hp)))))
      rw [nI_clamp (by omega)]
theorem yk_leave {now sn : Nat} (hl : b_link 3 = lN 1) :
    ∃ rc' : Nat → Int64, (∀ x, x < 10 → x ≠ 3 → x ≠ 7 → rc' x = b_link x) ∧ rc' 7 = (nI (now + 1)).toInt64 ∧ (∀ x, 10 ≤ x → x < 320 → rc' x = b_records (x - 10)) ∧
      ∀ post : SY → Prop, post (g_n, g_c, g_q, g_m, nI (now + 1), nI (sn + 1), g_idle, g_v + 840, yk_w ((840 * nI (now + 1)).toInt64 - b_link 6) g_worst, g_count, b_flows, b_waiting, vp_updL (vp_updL b_link 3 0) 7 (nI (now + 1)).toInt64, rc') →
        wpY_tick post (g_n, g_c, g_q, g_m, nI now, nI sn, g_idle, g_v, g_worst, g_count, b_flows, b_waiting, b_link, b_records) := by
  have hne : ¬ b_link 3 = 0 := yk_ne hl (by omega) (by omega)
  have e6 : b_link 3 - 1 = 0 := by
    rw [hl]
    decide
  obtain ⟨r1, a1, a2, a3⟩ := yk_sh (g_n := g_n) (g_c := g_c) (g_q := g_q) (g_m := g_m) (g_now := nI (now + 1)) (g_sent := nI sn) (g_idle := g_idle) (g_v := g_v + 840) (g_worst := g_worst) (g_count := g_count) (b_flows := b_flows) (b_waiting := b_waiting) (b_link := vp_updL (vp_updL b_link 3 0) 7 (nI (now + 1)).toInt64) 310 319 b_records (by omega) (by omega)
  obtain ⟨r2, c1, c2, c3⟩ := yk_cp (g_n := g_n) (g_c := g_c) (g_q := g_q) (g_m := g_m) (g_now := nI (now + 1)) (g_idle := g_idle) (g_v := g_v + 840) (g_worst := g_worst) (g_count := g_count) (b_flows := b_flows) (b_waiting := b_waiting) (b_link := vp_updL (vp_updL b_link 3 0) 7 (nI (now + 1)).toInt64) (sn := sn) 10 0 r1 (by omega) (fun x hx => absurd hx (Nat.not_lt_zero _))
  have el : vp_updL (vp_updL b_link 3 0) 7 (nI (now + 1)).toInt64 6 = b_link 6 := by
    rw [pk_uLn (by decide), pk_uLn (by decide)]
  rw [el] at c3
  refine ⟨r2, fun x hx h3 h7 => ?_, ?_, fun x hx hx2 => ?_, fun post hp => ?_⟩
  · rw [c1 x hx, pk_uLn h7, pk_uLn h3]
  · rw [c1 7 (by omega), pk_uLs]
  · rw [c2 x hx, a2 x hx (by omega)]
  · have hle : (vp_updL b_link 3 0) 3 ≤ 0 := by
      rw [pk_uLs]
      exact Int64.le_refl _
    exact br_f hne (nm_r (nI_1 now) (nm_e (br_f hne (nm_r (e' := vp_updL b_link 3 0) (by rw [e6]) (br_t hle (nm_e ⟨311, a3 post ⟨11, c3 post hp⟩⟩))))))
theorem yk_start {cn cn' : Nat} {V' : Int64} {w' lk' : Nat → Int64} (hl : b_link 3 = 0) (h0 : 0 < cn) (hc : cn < 2 ^ 31) {post : SY → Prop}
    (ht : ∀ post : SY → Prop, post (g_n, g_c, g_q, g_m, g_now, g_sent, g_idle, V', g_worst, nI cn', b_flows, w', lk', b_records) → wpY_take post (g_n, g_c, g_q, g_m, g_now, g_sent, g_idle, g_v, g_worst, nI cn, b_flows, b_waiting, b_link, b_records)) (hne : ¬ lk' 3 = 0)
    (h : wpY_tick post (g_n, g_c, g_q, g_m, g_now, g_sent, g_idle, V', g_worst, nI cn', b_flows, w', lk', b_records)) : wpY_tick post (g_n, g_c, g_q, g_m, g_now, g_sent, g_idle, g_v, g_worst, nI cn, b_flows, b_waiting, b_link, b_records) :=
  br_t hl (br_f (nI_nle h0 hc) (ht _ ((And.right h) hne)))
end
end
section
/-! the relation -/
def wf_b (B : Nat) (x : Int64) : Prop := 0 ≤ x.toInt ∧ x.toInt ≤ (B : Int)
theorem wf_b_mono {B B' : Nat} {x : Int64} (h : wf_b B x) (hB : B ≤ B') : wf_b B' x := by
  unfold wf_b at *
  omega
def wf_N (n c q m now sn : Nat) : Prop := 2 ≤ n ∧ n ≤ 16 ∧ 1 ≤ c ∧ c ≤ 64 ∧ 1 ≤ q ∧ q ≤ 8 ∧ 1 ≤ m ∧ m ≤ 32 ∧ now ≤ 20000 ∧ sn ≤ now
/-- flows: weight, unit charge, last finish, last due -/
def wf_F (n c B : Nat) (W : Nat → Nat) (wts uc : Nat → Int32) (lfn ldu flw : Nat → Int64) : Prop :=
  ∀ f, f < n → W f ≤ 8 ∧ wts f = nI (W f) ∧ flw (10 * f + 8) = lN (W f) ∧ (W f = 0 → flw (10 * f + 5) = 0 ∧ flw (10 * f + 6) = 0) ∧
    (0 < W f → uc f = nI (c * (840 / W f)) ∧ flw (10 * f + 5) = lfn f ∧ flw (10 * f + 6) = ldu f ∧ wf_b B (lfn f))
/-- the packets that wait -/
def wf_p (n m c B : Nat) (W : Nat → Nat) (p : qf_P) : Prop := p.1 < n ∧ 0 < W p.1 ∧ 1 ≤ p.2.1 ∧ p.2.1 ≤ m ∧ p.2.2.2.1 = p.2.2.1 + lN (p.2.1 * (c * (840 / W p.1))) ∧ wf_b B p.2.2.1
def wf_Q (n c q m B : Nat) (W : Nat → Nat) (L : List qf_P) : Prop := (∀ p, p ∈ L → wf_p n m c B W p) ∧ ∀ f, f < n → (qf_q L f).length ≤ q
/-- the component's rings -/
def wf_r (f fr : Nat) (Q : List qf_P) (pln : Nat → Int32) (pst pfi pdu : Nat → Int64) : Prop :=
  ∀ j p, Q[j]? = some p → pln (8 * f + (fr + j) % 8) = nI p.2.1 ∧ pst (8 * f + (fr + j) % 8) = p.2.2.1 ∧ pfi (8 * f + (fr + j) % 8) = p.2.2.2.1 ∧ pdu (8 * f + (fr + j) % 8) = p.2.2.2.2
def wf_X (n : Nat) (L : List qf_P) (fr : Nat → Nat) (frt wtg pln : Nat → Int32) (pst pfi pdu : Nat → Int64) : Prop :=
  ∀ f, f < n → fr f < 8 ∧ frt f = nI (fr f) ∧ wtg f = nI (qf_q L f).length ∧ wf_r f (fr f) (qf_q L f) pln pst pfi pdu
/-- the component's heaps: each flow that waits is in one, by the start of its head or, once eligible, by its finish -/
def wf_h (V : Int64) (Q : List qf_P) (h : Nat) (x : Int64) : Prop := (Q = [] → h = 2) ∧ (∀ p t, Q = p :: t → (h = 0 ∧ x = p.2.2.1) ∨ (h = 1 ∧ x = p.2.2.2.1 ∧ p.2.2.1 ≤ V))
def wf_H (n : Nat) (V : Int64) (L : List qf_P) (hm : Nat → Nat) (hf hs : Nat → Int32) (key : Nat → Int64) (hom pl : Nat → Int32) : Prop :=
  hp_HP n hm hf hs key hom pl ∧ ∀ g, g < n → wf_h V (qf_q L g) (hm g) (key g)
/-- the link; lr ticks remain -/
def wf_K (n m lr : Nat) (W : Nat → Nat) (lkF lkL lkR : Int32) (lkD : Int64) (lnk : Nat → Int64) : Prop :=
  (lr = 0 ∧ lkF = -1 ∧ lnk 3 = 0) ∨
  (∃ lf ll : Nat, lf < n ∧ 0 < W lf ∧ 0 < lr ∧ lr ≤ m ∧ ll ≤ m ∧ lkF = nI lf ∧ lkL = nI ll ∧ lkR = nI lr ∧ lnk 1 = lN lf ∧ lnk 2 = lN ll ∧ lnk 3 = lN lr ∧ lnk 6 = lkD)
/-- the sent records -/
def wf_S (sn : Nat) (sF sL sT : Nat → Int32) (sD rec : Nat → Int64) : Prop := ∀ b, b < 32 → b < sn →
  rec (10 * b + 1) = (sF ((sn - 1 - b) % 32)).toInt64 ∧ rec (10 * b + 2) = (sL ((sn - 1 - b) % 32)).toInt64 ∧ rec (10 * b + 7) = (sT ((sn - 1 - b) % 32)).toInt64 ∧ rec (10 * b + 6) = sD ((sn - 1 - b) % 32)
def wf_I (k : Nat) (n : Nat) (c : Nat) (q : Nat) (m : Nat) (now : Nat) (sn : Nat) (lr : Nat) (V : Int64) (W : Nat → Nat) (fr : Nat → Nat) (hm : Nat → Nat) (L : List qf_P) (lkF : Int32) (lkL : Int32) (lkR : Int32) (lkD : Int64) (wts : Nat → Int32) (uc : Nat → Int32) (lfn : Nat → Int64) (ldu : Nat → Int64) (frt : Nat → Int32) (wtg : Nat → Int32) (pln : Nat → Int32) (pst : Nat → Int64) (pfi : Nat → Int64) (pdu : Nat → Int64) (hf : Nat → Int32) (hs : Nat → Int32) (key : Nat → Int64) (hom : Nat → Int32) (pl : Nat → Int32) (sF : Nat → Int32) (sL : Nat → Int32) (sT : Nat → Int32) (sD : Nat → Int64) (flw : Nat → Int64) (wai : Nat → Int64) (lnk : Nat → Int64) (rec : Nat → Int64) : Prop :=
  wf_N n c q m now sn ∧ wf_b (840 * now + 1720320 * k) V ∧ qf_S W n ≤ c ∧ wf_F n c (840 * now + 1720320 * k) W wts uc lfn ldu flw ∧ wf_Q n c q m (840 * now + 1720320 * k) W L ∧ qf_W L wai ∧
  wf_X n L fr frt wtg pln pst pfi pdu ∧ wf_H n V L hm hf hs key hom pl ∧ wf_K n m lr W lkF lkL lkR lkD lnk ∧ wf_S sn sF sL sT sD rec
/-- the relation, at the time now -/
def wf_R (k now : Nat) (u : SX) (v : SY) : Prop := ∃ (n : Nat) (c : Nat) (q : Nat) (m : Nat) (sn : Nat) (lr : Nat) (V : Int64) (W : Nat → Nat) (fr : Nat → Nat) (hm : Nat → Nat) (L : List qf_P) (lkF : Int32) (lkL : Int32) (lkR : Int32) (lkD : Int64) (wts : Nat → Int32) (uc : Nat → Int32) (lfn : Nat → Int64) (ldu : Nat → Int64) (frt : Nat → Int32) (wtg : Nat → Int32) (pln : Nat → Int32) (pst : Nat → Int64) (pfi : Nat → Int64) (pdu : Nat → Int64) (hf : Nat → Int32) (hs : Nat → Int32) (key : Nat → Int64) (hom : Nat → Int32) (pl : Nat → Int32) (sF : Nat → Int32) (sL : Nat → Int32) (sT : Nat → Int32) (sD : Nat → Int64) (flw : Nat → Int64) (wai : Nat → Int64) (lnk : Nat → Int64) (rec : Nat → Int64) (idle : Int32) (worst : Int64) (sh : Int32) (fh : Int32), u = (nI n, nI c, nI q, nI m, nI now, V, nI (qf_S W n), idle, nI sn, worst, sh, fh, lkF, lkL, lkR, lkD, wts, uc, lfn, ldu, frt, wtg, pln, pst, pfi, pdu, hf, hs, key, hom, pl, sF, sL, sT, sD) ∧ v = (nI n, nI c, nI q, nI m, nI now, nI sn, idle, V, worst, nI L.length, flw, wai, lnk, rec) ∧ wf_I k n c q m now sn lr V W fr hm L lkF lkL lkR lkD wts uc lfn ldu frt wtg pln pst pfi pdu hf hs key hom pl sF sL sT sD flw wai lnk rec
theorem wf_mk {k : Nat} {n : Nat} {c : Nat} {q : Nat} {m : Nat} {now : Nat} {sn : Nat} {lr : Nat} {V : Int64} {W : Nat → Nat} {fr : Nat → Nat} {hm : Nat → Nat} {L : List qf_P} {lkF : Int32} {lkL : Int32} {lkR : Int32} {lkD : Int64} {wts : Nat → Int32} {uc : Nat → Int32} {lfn : Nat → Int64} {ldu : Nat → Int64} {frt : Nat → Int32} {wtg : Nat → Int32} {pln : Nat → Int32} {pst : Nat → Int64} {pfi : Nat → Int64} {pdu : Nat → Int64} {hf : Nat → Int32} {hs : Nat → Int32} {key : Nat → Int64} {hom : Nat → Int32} {pl : Nat → Int32} {sF : Nat → Int32} {sL : Nat → Int32} {sT : Nat → Int32} {sD : Nat → Int64} {flw : Nat → Int64} {wai : Nat → Int64} {lnk : Nat → Int64} {rec : Nat → Int64} {idle : Int32} {worst : Int64} {sh : Int32} {fh : Int32} (h : wf_I k n c q m now sn lr V W fr hm L lkF lkL lkR lkD wts uc lfn ldu frt wtg pln pst pfi pdu hf hs key hom pl sF sL sT sD flw wai lnk rec) : wf_R k now (nI n, nI c, nI q, nI m, nI now, V, nI (qf_S W n), idle, nI sn, worst, sh, fh, lkF, lkL, lkR, lkD, wts, uc, lfn, ldu, frt, wtg, pln, pst, pfi, pdu, hf, hs, key, hom, pl, sF, sL, sT, sD) (nI n, nI c, nI q, nI m, nI now, nI sn, idle, V, worst, nI L.length, flw, wai, lnk, rec) := ⟨n, c, q, m, sn, lr, V, W, fr, hm, L, lkF, lkL, lkR, lkD, wts, uc, lfn, ldu, frt, wtg, pln, pst, pfi, pdu, hf, hs, key, hom, pl, sF, sL, sT, sD, flw, wai, lnk, rec, idle, worst, sh, fh, rfl, rfl, h⟩
theorem wf_el {k now : Nat} {u : SX} {v : SY} {P : SX → SY → Prop} (h : ∀ (n : Nat) (c : Nat) (q : Nat) (m : Nat) (sn : Nat) (lr : Nat) (V : Int64) (W : Nat → Nat) (fr : Nat → Nat) (hm : Nat → Nat) (L : List qf_P) (lkF : Int32) (lkL : Int32) (lkR : Int32) (lkD : Int64) (wts : Nat → Int32) (uc : Nat → Int32) (lfn : Nat → Int64) (ldu : Nat → Int64) (frt : Nat → Int32) (wtg : Nat → Int32) (pln : Nat → Int32) (pst : Nat → Int64) (pfi : Nat → Int64) (pdu : Nat → Int64) (hf : Nat → Int32) (hs : Nat → Int32) (key : Nat → Int64) (hom : Nat → Int32) (pl : Nat → Int32) (sF : Nat → Int32) (sL : Nat → Int32) (sT : Nat → Int32) (sD : Nat → Int64) (flw : Nat → Int64) (wai : Nat → Int64) (lnk : Nat → Int64) (rec : Nat → Int64) (idle : Int32) (worst : Int64) (sh : Int32) (fh : Int32), wf_I k n c q m now sn lr V W fr hm L lkF lkL lkR lkD wts uc lfn ldu frt wtg pln pst pfi pdu hf hs key hom pl sF sL sT sD flw wai lnk rec → P (nI n, nI c, nI q, nI m, nI now, V, nI (qf_S W n), idle, nI sn, worst, sh, fh, lkF, lkL, lkR, lkD, wts, uc, lfn, ldu, frt, wtg, pln, pst, pfi, pdu, hf, hs, key, hom, pl, sF, sL, sT, sD) (nI n, nI c, nI q, nI m, nI now, nI sn, idle, V, worst, nI L.length, flw, wai, lnk, rec)) (I : wf_R k now u v) : P u v :=
  Exists.elim I fun n I => Exists.elim I fun c I => Exists.elim I fun q I => Exists.elim I fun m I => Exists.elim I fun sn I => Exists.elim I fun lr I => Exists.elim I fun V I => Exists.elim I fun W I => Exists.elim I fun fr I => Exists.elim I fun hm I => Exists.elim I fun L I => Exists.elim I fun lkF I => Exists.elim I fun lkL I => Exists.elim I fun lkR I => Exists.elim I fun lkD I => Exists.elim I fun wts I => Exists.elim I fun uc I => Exists.elim I fun lfn I => Exists.elim I fun ldu I => Exists.elim I fun frt I => Exists.elim I fun wtg I => Exists.elim I fun pln I => Exists.elim I fun pst I => Exists.elim I fun pfi I => Exists.elim I fun pdu I => Exists.elim I fun hf I => Exists.elim I fun hs I => Exists.elim I fun key I => Exists.elim I fun hom I => Exists.elim I fun pl I => Exists.elim I fun sF I => Exists.elim I fun sL I => Exists.elim I fun sT I => Exists.elim I fun sD I => Exists.elim I fun flw I => Exists.elim I fun wai I => Exists.elim I fun lnk I => Exists.elim I fun rec I => Exists.elim I fun idle I => Exists.elim I fun worst I => Exists.elim I fun sh I => Exists.elim I fun fh I => by
    obtain ⟨hu, hv, F⟩ := I
    subst hu
    subst hv
    exact h n c q m sn lr V W fr hm L lkF lkL lkR lkD wts uc lfn ldu frt wtg pln pst pfi pdu hf hs key hom pl sF sL sT sD flw wai lnk rec idle worst sh fh F
/-- the relation at the head of a turn -/
def i_Rel (k : Nat) (u : SX) (v : SY) : Prop := ∃ now, wf_R k now u v
theorem wf_rel {k : Nat} {n : Nat} {c : Nat} {q : Nat} {m : Nat} {now : Nat} {sn : Nat} {lr : Nat} {V : Int64} {W : Nat → Nat} {fr : Nat → Nat} {hm : Nat → Nat} {L : List qf_P} {lkF : Int32} {lkL : Int32} {lkR : Int32} {lkD : Int64} {wts : Nat → Int32} {uc : Nat → Int32} {lfn : Nat → Int64} {ldu : Nat → Int64} {frt : Nat → Int32} {wtg : Nat → Int32} {pln : Nat → Int32} {pst : Nat → Int64} {pfi : Nat → Int64} {pdu : Nat → Int64} {hf : Nat → Int32} {hs : Nat → Int32} {key : Nat → Int64} {hom : Nat → Int32} {pl : Nat → Int32} {sF : Nat → Int32} {sL : Nat → Int32} {sT : Nat → Int32} {sD : Nat → Int64} {flw : Nat → Int64} {wai : Nat → Int64} {lnk : Nat → Int64} {rec : Nat → Int64} {idle : Int32} {worst : Int64} {sh : Int32} {fh : Int32} (h : wf_I k n c q m now sn lr V W fr hm L lkF lkL lkR lkD wts uc lfn ldu frt wtg pln pst pfi pdu hf hs key hom pl sF sL sT sD flw wai lnk rec) : i_Rel k (nI n, nI c, nI q, nI m, nI now, V, nI (qf_S W n), idle, nI sn, worst, sh, fh, lkF, lkL, lkR, lkD, wts, uc, lfn, ldu, frt, wtg, pln, pst, pfi, pdu, hf, hs, key, hom, pl, sF, sL, sT, sD) (nI n, nI c, nI q, nI m, nI now, nI sn, idle, V, worst, nI L.length, flw, wai, lnk, rec) := ⟨now, wf_mk h⟩
theorem wf_eli {k : Nat} {u : SX} {v : SY} {P : SX → SY → Prop} (h : ∀ (now : Nat) (n : Nat) (c : Nat) (q : Nat) (m : Nat) (sn : Nat) (lr : Nat) (V : Int64) (W : Nat → Nat) (fr : Nat → Nat) (hm : Nat → Nat) (L : List qf_P) (lkF : Int32) (lkL : Int32) (lkR : Int32) (lkD : Int64) (wts : Nat → Int32) (uc : Nat → Int32) (lfn : Nat → Int64) (ldu : Nat → Int64) (frt : Nat → Int32) (wtg : Nat → Int32) (pln : Nat → Int32) (pst : Nat → Int64) (pfi : Nat → Int64) (pdu : Nat → Int64) (hf : Nat → Int32) (hs : Nat → Int32) (key : Nat → Int64) (hom : Nat → Int32) (pl : Nat → Int32) (sF : Nat → Int32) (sL : Nat → Int32) (sT : Nat → Int32) (sD : Nat → Int64) (flw : Nat → Int64) (wai : Nat → Int64) (lnk : Nat → Int64) (rec : Nat → Int64) (idle : Int32) (worst : Int64) (sh : Int32) (fh : Int32), wf_I k n c q m now sn lr V W fr hm L lkF lkL lkR lkD wts uc lfn ldu frt wtg pln pst pfi pdu hf hs key hom pl sF sL sT sD flw wai lnk rec → P (nI n, nI c, nI q, nI m, nI now, V, nI (qf_S W n), idle, nI sn, worst, sh, fh, lkF, lkL, lkR, lkD, wts, uc, lfn, ldu, frt, wtg, pln, pst, pfi, pdu, hf, hs, key, hom, pl, sF, sL, sT, sD) (nI n, nI c, nI q, nI m, nI now, nI sn, idle, V, worst, nI L.length, flw, wai, lnk, rec)) (I : i_Rel k u v) : P u v := by
  obtain ⟨now, I⟩ := I
  exact wf_el (h now) I
theorem wf_F_mono {n c B B' : Nat} {W : Nat → Nat} {wts uc : Nat → Int32} {lfn ldu flw : Nat → Int64} (h : wf_F n c B W wts uc lfn ldu flw) (hB : B ≤ B') : wf_F n c B' W wts uc lfn ldu flw :=
  fun f hf => ⟨(h f hf).1, (h f hf).2.1, (h f hf).2.2.1, (h f hf).2.2.2.1, fun z => ⟨((h f hf).2.2.2.2 z).1, ((h f hf).2.2.2.2 z).2.1, ((h f hf).2.2.2.2 z).2.2.1, wf_b_mono ((h f hf).2.2.2.2 z).2.2.2 hB⟩⟩
theorem wf_Q_mono {n c q m B B' : Nat} {W : Nat → Nat} {L : List qf_P} (h : wf_Q n c q m B W L) (hB : B ≤ B') : wf_Q n c q m B' W L :=
  ⟨fun p hp => ⟨(h.1 p hp).1, (h.1 p hp).2.1, (h.1 p hp).2.2.1, (h.1 p hp).2.2.2.1, (h.1 p hp).2.2.2.2.1, wf_b_mono (h.1 p hp).2.2.2.2.2 hB⟩, h.2⟩
theorem wf_up {k : Nat} {n : Nat} {c : Nat} {q : Nat} {m : Nat} {now : Nat} {sn : Nat} {lr : Nat} {V : Int64} {W : Nat → Nat} {fr : Nat → Nat} {hm : Nat → Nat} {L : List qf_P} {lkF : Int32} {lkL : Int32} {lkR : Int32} {lkD : Int64} {wts : Nat → Int32} {uc : Nat → Int32} {lfn : Nat → Int64} {ldu : Nat → Int64} {frt : Nat → Int32} {wtg : Nat → Int32} {pln : Nat → Int32} {pst : Nat → Int64} {pfi : Nat → Int64} {pdu : Nat → Int64} {hf : Nat → Int32} {hs : Nat → Int32} {key : Nat → Int64} {hom : Nat → Int32} {pl : Nat → Int32} {sF : Nat → Int32} {sL : Nat → Int32} {sT : Nat → Int32} {sD : Nat → Int64} {flw : Nat → Int64} {wai : Nat → Int64} {lnk : Nat → Int64} {rec : Nat → Int64} (F : wf_I k n c q m now sn lr V W fr hm L lkF lkL lkR lkD wts uc lfn ldu frt wtg pln pst pfi pdu hf hs key hom pl sF sL sT sD flw wai lnk rec) : wf_I (k + 4) n c q m now sn lr V W fr hm L lkF lkL lkR lkD wts uc lfn ldu frt wtg pln pst pfi pdu hf hs key hom pl sF sL sT sD flw wai lnk rec := by
  obtain ⟨hN, hV, hU, hF, hQ, hW, hX, hH, hK, hS⟩ := F
  exact ⟨hN, wf_b_mono hV (by omega), hU, wf_F_mono hF (by omega), wf_Q_mono hQ (by omega), hW, hX, hH, hK, hS⟩
theorem i_up {k : Nat} {u : SX} {v : SY} (h : i_Rel k u v) : i_Rel (k + 4) u v :=
  wf_eli (P := fun u v => i_Rel (k + 4) u v) (fun now n c q m sn lr V W fr hm L lkF lkL lkR lkD wts uc lfn ldu frt wtg pln pst pfi pdu hf hs key hom pl sF sL sT sD flw wai lnk rec idle worst sh fh F => wf_rel (wf_up F)) h
/-- the list is short and its flows are numbers below 16 -/
theorem wf_yL {k : Nat} {n : Nat} {c : Nat} {q : Nat} {m : Nat} {now : Nat} {sn : Nat} {lr : Nat} {V : Int64} {W : Nat → Nat} {fr : Nat → Nat} {hm : Nat → Nat} {L : List qf_P} {lkF : Int32} {lkL : Int32} {lkR : Int32} {lkD : Int64} {wts : Nat → Int32} {uc : Nat → Int32} {lfn : Nat → Int64} {ldu : Nat → Int64} {frt : Nat → Int32} {wtg : Nat → Int32} {pln : Nat → Int32} {pst : Nat → Int64} {pfi : Nat → Int64} {pdu : Nat → Int64} {hf : Nat → Int32} {hs : Nat → Int32} {key : Nat → Int64} {hom : Nat → Int32} {pl : Nat → Int32} {sF : Nat → Int32} {sL : Nat → Int32} {sT : Nat → Int32} {sD : Nat → Int64} {flw : Nat → Int64} {wai : Nat → Int64} {lnk : Nat → Int64} {rec : Nat → Int64} (F : wf_I k n c q m now sn lr V W fr hm L lkF lkL lkR lkD wts uc lfn ldu frt wtg pln pst pfi pdu hf hs key hom pl sF sL sT sD flw wai lnk rec) : yh_L L wai := by
  obtain ⟨hN, hV, hU, hF, hQ, hW, hX, hH, hK, hS⟩ := F
  unfold wf_N at hN
  have hb := qf_bound n L (fun p hp => (hQ.1 p hp).1) hQ.2
  have h1 : n * q ≤ 16 * 8 := Nat.mul_le_mul (by omega) (by omega)
  exact ⟨hW, by omega, fun p hp => Nat.lt_of_lt_of_le (hQ.1 p hp).1 (by omega)⟩
theorem wf_add {x : Int64} {d B : Nat} (h : wf_b B x) (hb : B + d < 2 ^ 62) : (x + lN d).toInt = x.toInt + d := by
  rw [Int64.toInt_add, pk_lT (by omega)]
  unfold wf_b at h
  exact Int.bmod_eq_of_le (by omega) (by omega)
theorem wf_b_add {x : Int64} {d B B' : Nat} (h : wf_b B x) (hb : B + d < 2 ^ 62) (hB : B' = B + d) : wf_b B' (x + lN d) := by
  have e := wf_add h hb
  unfold wf_b at h ⊢
  rw [e]
  omega
theorem wf_H_mono {n : Nat} {V V' : Int64} {L : List qf_P} {hm : Nat → Nat} {hf hs : Nat → Int32} {key : Nat → Int64} {hom pl : Nat → Int32} (H : wf_H n V L hm hf hs key hom pl) (h : V ≤ V') : wf_H n V' L hm hf hs key hom pl :=
  ⟨H.1, fun g hg => ⟨(H.2 g hg).1, fun p t e => ((H.2 g hg).2 p t e).elim Or.inl (fun z => Or.inr ⟨z.1, z.2.1, Int64.le_trans z.2.2 h⟩)⟩⟩
theorem wf_X_take {n g : Nat} {p : qf_P} {t L L' : List qf_P} {fr : Nat → Nat} {frt wtg pln : Nat → Int32} {pst pfi pdu : Nat → Int64} (h : wf_X n L fr frt wtg pln pst pfi pdu) (hq : qf_q L g = p :: t)
    (e1 : qf_q L' g = t) (e2 : ∀ f, f ≠ g → qf_q L' f = qf_q L f) : wf_X n L' (hp_un fr g ((fr g + 1) % 8)) (upd frt g (nI ((fr g + 1) % 8))) (upd wtg g (nI t.length)) pln pst pfi pdu := by
  intro f hf
  by_cases y : f = g
  · subst y
    obtain ⟨a1, a2, a3, a4⟩ := h f hf
    rw [hp_us, pk_us, pk_us, e1]
    refine ⟨by omega, rfl, rfl, fun j x hj => ?_⟩
    have h2 := a4 (j + 1) x (by rw [hq]; exact hj)
    have ei : (fr f + (j + 1)) % 8 = ((fr f + 1) % 8 + j) % 8 := by omega
    rw [ei] at h2
    exact h2
  · rw [hp_unn y, pk_un y, pk_un y, e2 f y]
    exact h f hf
end
section
/-! the component's promoteEligible and startSending -/
section
variable {f_flowCount : Int32} {f_shareTotal : Int32} {f_queueDepth : Int32} {f_longest : Int32} {f_ticksPassed : Int32} {f_virtual : Int64} {f_usedWeight : Int32} {f_idle : Int32} {f_sent : Int32} {f_worst : Int64} {f_startHeap : Int32} {f_finishHeap : Int32} {f_linkFlow : Int32} {f_linkLength : Int32} {f_linkRemaining : Int32} {f_linkDue : Int64} {a_weights : Nat → Int32} {a_unitCharge : Nat → Int32} {a_lastFinish : Nat → Int64} {a_lastDue : Nat → Int64} {a_front : Nat → Int32} {a_waiting : Nat → Int32} {a_packetLength : Nat → Int32} {a_packetStart : Nat → Int64} {a_packetFinish : Nat → Int64} {a_packetDue : Nat → Int64} {a_heapFlow : Nat → Int32} {a_heapSize : Nat → Int32} {a_key : Nat → Int64} {a_home : Nat → Int32} {a_place : Nat → Int32} {a_sentFlow : Nat → Int32} {a_sentLength : Nat → Int32} {a_sentLeft : Nat → Int32} {a_sentDue : Nat → Int64}
theorem hx_slot {f fr j : Nat} (hf : f < 16) (e : a_front f = nI fr) (hfr : fr < 8) (hj : j < 9) {post : Int32 → Prop} (hp : post (nI (8 * f + (fr + j) % 8))) : wpX_slot post (f_flowCount, f_shareTotal, f_queueDepth, f_longest, f_ticksPassed, f_virtual, f_usedWeight, f_idle, f_sent, f_worst, f_startHeap, f_finishHeap, f_linkFlow, f_linkLength, f_linkRemaining, f_linkDue, a_weights, a_unitCharge, a_lastFinish, a_lastDue, a_front, a_waiting, a_packetLength, a_packetStart, a_packetFinish, a_packetDue, a_heapFlow, a_heapSize, a_key, a_home, a_place, a_sentFlow, a_sentLength, a_sentLeft, a_sentDue) (nI f) (nI j) := by
  refine And.intro (vp_in_nI hf (by decide)) ?_
  have e1 : nI f * 8 = nI (8 * f) := by
    rw [show (8 : Int32) = nI 8 from rfl, pk_mul, Nat.mul_comm]
  have e2 : nI (fr + j) &&& 7 = nI ((fr + j) % 8) := pk_andN (by omega) 3 (by decide)
  rw [nI_clamp (by omega), e, nI_add, e1, e2, nI_add]
  exact hp
theorem hx_prom {n : Nat} {V : Int64} {L : List qf_P} {fr : Nat → Nat} (hn : n ≤ 16) (HX : wf_X n L fr a_front a_waiting a_packetLength a_packetStart a_packetFinish a_packetDue) :
    ∀ (d i s0 : Nat) (hm : Nat → Nat) (hf hs : Nat → Int32) (key : Nat → Int64) (hom pl : Nat → Int32), i + d = n → wf_H n V L hm hf hs key hom pl → hs 0 = nI s0 → s0 ≤ d →
    ∃ (hm' : Nat → Nat) (hf' hs' : Nat → Int32) (key' : Nat → Int64) (hom' pl' : Nat → Int32), wf_H n V L hm' hf' hs' key' hom' pl' ∧ (∀ g, g < n → hm' g = 0 → V < key' g) ∧
      ∀ post : SX → Prop, post (nI n, f_shareTotal, f_queueDepth, f_longest, f_ticksPassed, V, f_usedWeight, f_idle, f_sent, f_worst, f_startHeap, f_finishHeap, f_linkFlow, f_linkLength, f_linkRemaining, f_linkDue, a_weights, a_unitCharge, a_lastFinish, a_lastDue, a_front, a_waiting, a_packetLength, a_packetStart, a_packetFinish, a_packetDue, hf', hs', key', hom', pl', a_sentFlow, a_sentLength, a_sentLeft, a_sentDue) →
        wX_promoteEligible_2 post (d + 1) (nI i) (nI n) f_shareTotal f_queueDepth f_longest f_ticksPassed V f_usedWeight f_idle f_sent f_worst f_startHeap f_finishHeap f_linkFlow f_linkLength f_linkRemaining f_linkDue a_weights a_unitCharge a_lastFinish a_lastDue a_front a_waiting a_packetLength a_packetStart a_packetFinish a_packetDue hf hs key hom pl a_sentFlow a_sentLength a_sentLeft a_sentDue := by
  intro d
  induction d with
  | zero =>
    intro i s0 hm hf hs key hom pl hi H hs0 hd
    obtain ⟨⟨s, A, HC⟩, HK⟩ := H
    have e0 : s 0 = 0 := by
      have h1 := hp_size HC (h := 0) (by omega)
      have h2 := (HC.1 0 (by omega)).1
      rw [hs0, nI_eq (by omega) (by omega)] at h2
      omega
    refine ⟨hm, hf, hs, key, hom, pl, ⟨⟨s, A, HC⟩, HK⟩, fun g hg e => absurd e (hp_none HC (by omega) e0 g hg), fun post hp => br_t (nI_le (by omega) (by omega)) hp⟩
  | succ d ih =>
    intro i s0 hm hf hs key hom pl hi H hs0 hd
    have hbr : ¬ nI n ≤ nI i := nI_ge (by omega) (by omega)
    obtain ⟨⟨s, A, HC⟩, HK⟩ := H
    have es : s 0 = s0 := by
      have h1 := hp_size HC (h := 0) (by omega)
      have h2 := (HC.1 0 (by omega)).1
      rw [hs0, nI_eq (by omega) (by omega)] at h2
      omega
    by_cases z : s0 = 0
    · refine ⟨hm, hf, hs, key, hom, pl, ⟨⟨s, A, HC⟩, HK⟩, fun g hg e => absurd e (hp_none HC (by omega) (by omega) g hg), fun post hp => br_f hbr (br_t ?_ hp)⟩
      rw [hs0]
      exact nI_le (b := 0) (by omega) (by decide)
    · have hnb : ¬ hs 0 ≤ 0 := by
        rw [hs0]
        exact nI_nle (by omega) (by omega)
      obtain ⟨t1, t2, t3, t4⟩ := hp_top HC (h := 0) (by omega) (by omega)
      generalize hgg : A 0 0 = g at *
      have hg16 : g < 16 := by omega
      have eg : (nI g).toNatClampNeg = g := nI_clamp (by omega)
      have vg : vp_in (nI g) 16 := vp_in_nI hg16 (by decide)
      by_cases l : key g ≤ V
      · -- the head of g
        have hk := HK g t1
        cases hq : qf_q L g with
        | nil =>
          have := hk.1 hq
          omega
        | cons p t =>
          have hkp : key g = p.2.2.1 := by
            rcases hk.2 p t hq with y | y
            · exact y.2
            · omega
          obtain ⟨fr8, ef, _, er⟩ := HX g t1
          have er0 := er 0 p (by rw [hq]; rfl)
          obtain ⟨hf1, pl1, P1, w1⟩ := hx_remove (f_flowCount := nI n) (f_shareTotal := f_shareTotal) (f_queueDepth := f_queueDepth) (f_longest := f_longest) (f_ticksPassed := f_ticksPassed) (f_virtual := V) (f_usedWeight := f_usedWeight) (f_idle := f_idle) (f_sent := f_sent) (f_worst := f_worst) (f_startHeap := f_startHeap) (f_finishHeap := f_finishHeap) (f_linkFlow := f_linkFlow) (f_linkLength := f_linkLength) (f_linkRemaining := f_linkRemaining) (f_linkDue := f_linkDue) (a_weights := a_weights) (a_unitCharge := a_unitCharge) (a_lastFinish := a_lastFinish) (a_lastDue := a_lastDue) (a_front := a_front) (a_waiting := a_waiting) (a_packetLength := a_packetLength) (a_packetStart := a_packetStart) (a_packetFinish := a_packetFinish) (a_packetDue := a_packetDue) (a_heapFlow := hf) (a_heapSize := hs) (a_key := key) (a_home := hom) (a_place := pl) (a_sentFlow := a_sentFlow) (a_sentLength := a_sentLength) (a_sentLeft := a_sentLeft) (a_sentDue := a_sentDue) (n := n) (h := 0) (g := g) (hm := hm) hn ⟨s, A, HC⟩ (by omega) t1 t2
          obtain ⟨hf2, pl2, P2, w2⟩ := hx_insert (f_flowCount := nI n) (f_shareTotal := f_shareTotal) (f_queueDepth := f_queueDepth) (f_longest := f_longest) (f_ticksPassed := f_ticksPassed) (f_virtual := V) (f_usedWeight := f_usedWeight) (f_idle := f_idle) (f_sent := f_sent) (f_worst := f_worst) (f_startHeap := f_startHeap) (f_finishHeap := f_finishHeap) (f_linkFlow := f_linkFlow) (f_linkLength := f_linkLength) (f_linkRemaining := f_linkRemaining) (f_linkDue := f_linkDue) (a_weights := a_weights) (a_unitCharge := a_unitCharge) (a_lastFinish := a_lastFinish) (a_lastDue := a_lastDue) (a_front := a_front) (a_waiting := a_waiting) (a_packetLength := a_packetLength) (a_packetStart := a_packetStart) (a_packetFinish := a_packetFinish) (a_packetDue := a_packetDue) (a_heapFlow := hf1) (a_heapSize := upd hs 0 (hs 0 - 1)) (a_key := key) (a_home := hom) (a_place := pl1) (a_sentFlow := a_sentFlow) (a_sentLength := a_sentLength) (a_sentLeft := a_sentLeft) (a_sentDue := a_sentDue) (n := n) (h := 1) (g := g) (hm := hp_un hm g 2) p.2.2.2.1 hn P1 (by omega) t1 hp_us
          have H2 : wf_H n V L (hp_un (hp_un hm g 2) g 1) hf2 (upd (upd hs 0 (hs 0 - 1)) 1 ((upd hs 0 (hs 0 - 1)) 1 + 1)) (vp_updL key g p.2.2.2.1) (upd hom g (nI 1)) pl2 := by
            refine ⟨P2, fun g' hg' => ?_⟩
            by_cases y : g' = g
            · subst y
              rw [hp_us, pk_uLs, hq]
              refine ⟨(fun q => nomatch q), fun p' t' q => Or.inr ⟨rfl, ?_, ?_⟩⟩
              · rw [(List.cons.inj q).1]
              · rw [← (List.cons.inj q).1, ← hkp]
                exact l
            · rw [hp_unn y, hp_unn y, pk_uLn y]
              exact HK g' hg'
          have hs2 : (upd (upd hs 0 (hs 0 - 1)) 1 ((upd hs 0 (hs 0 - 1)) 1 + 1)) 0 = nI (s0 - 1) := by
            rw [pk_un (by decide), pk_us, hs0]
            obtain ⟨r, hr⟩ : ∃ r, s0 = r + 1 := ⟨s0 - 1, by omega⟩
            rw [hr]
            exact nI_pred r
          obtain ⟨hm', hf', hs', key', hom', pl', c1, c2, c3⟩ := ih (i + 1) (s0 - 1) _ _ _ _ _ _ (by omega) H2 hs2 (by omega)
          refine ⟨hm', hf', hs', key', hom', pl', c1, c2, fun post hp => ?_⟩
          refine br_f hbr (br_f hnb (nm_r (e' := nI g) t3 (And.intro vg (br_t (by rw [eg]; exact l) ?_))))
          refine w1 _ (hx_slot (f := g) (fr := fr g) (j := 0) hg16 ef fr8 (by omega) (And.intro (vp_in_nI (by omega) (by decide)) ?_))
          rw [nI_clamp (by omega), er0.2.2.1]
          exact w2 _ (nm_r (nI_1 i) (c3 post hp))
      · refine ⟨hm, hf, hs, key, hom, pl, ⟨⟨s, A, HC⟩, HK⟩, fun g' hg' e => ?_, fun post hp => br_f hbr (br_f hnb (nm_r (e' := nI g) t3 (And.intro vg (br_f (by rw [eg]; exact l) hp))))⟩
        have h1 := t4 g' hg' e
        rw [hp_iff] at h1
        rw [Int64.le_iff_toInt_le] at l
        rw [Int64.lt_iff_toInt_lt]
        omega
theorem hx_promote {n : Nat} {V : Int64} {L : List qf_P} {fr hm : Nat → Nat} (hn : n ≤ 16) (HX : wf_X n L fr a_front a_waiting a_packetLength a_packetStart a_packetFinish a_packetDue)
    (H : wf_H n V L hm a_heapFlow a_heapSize a_key a_home a_place) :
    ∃ (hm' : Nat → Nat) (hf' hs' : Nat → Int32) (key' : Nat → Int64) (hom' pl' : Nat → Int32), wf_H n V L hm' hf' hs' key' hom' pl' ∧ (∀ g, g < n → hm' g = 0 → V < key' g) ∧
      ∀ post : SX → Prop, post (nI n, f_shareTotal, f_queueDepth, f_longest, f_ticksPassed, V, f_usedWeight, f_idle, f_sent, f_worst, f_startHeap, f_finishHeap, f_linkFlow, f_linkLength, f_linkRemaining, f_linkDue, a_weights, a_unitCharge, a_lastFinish, a_lastDue, a_front, a_waiting, a_packetLength, a_packetStart, a_packetFinish, a_packetDue, hf', hs', key', hom', pl', a_sentFlow, a_sentLength, a_sentLeft, a_sentDue) → wpX_promoteEligible post (nI n, f_shareTotal, f_queueDepth, f_longest, f_ticksPassed, V, f_usedWeight, f_idle, f_sent, f_worst, f_startHeap, f_finishHeap, f_linkFlow, f_linkLength, f_linkRemaining, f_linkDue, a_weights, a_unitCharge, a_lastFinish, a_lastDue, a_front, a_waiting, a_packetLength, a_packetStart, a_packetFinish, a_packetDue, a_heapFlow, a_heapSize, a_key, a_home, a_place, a_sentFlow, a_sentLength, a_sentLeft, a_sentDue) := by
  have h0 : ∃ s0, a_heapSize 0 = nI s0 ∧ s0 ≤ n := by
    obtain ⟨⟨s, A, HC⟩, HK⟩ := H
    exact ⟨s 0, (HC.1 0 (by omega)).1, hp_size HC (by omega)⟩
  obtain ⟨s0, e0, l0⟩ := h0
  obtain ⟨hm', hf', hs', key', hom', pl', c1, c2, c3⟩ := hx_prom (f_shareTotal := f_shareTotal) (f_queueDepth := f_queueDepth) (f_longest := f_longest) (f_ticksPassed := f_ticksPassed) (f_usedWeight := f_usedWeight) (f_idle := f_idle) (f_sent := f_sent) (f_worst := f_worst) (f_startHeap := f_startHeap) (f_finishHeap := f_finishHeap) (f_linkFlow := f_linkFlow) (f_linkLength := f_linkLength) (f_linkRemaining := f_linkRemaining) (f_linkDue := f_linkDue) (a_weights := a_weights) (a_unitCharge := a_unitCharge) (a_lastFinish := a_lastFinish) (a_lastDue := a_lastDue) (a_front := a_front) (a_waiting := a_waiting) (a_packetLength := a_packetLength) (a_packetStart := a_packetStart) (a_packetFinish := a_packetFinish) (a_packetDue := a_packetDue) (a_sentFlow := a_sentFlow) (a_sentLength := a_sentLength) (a_sentLeft := a_sentLeft) (a_sentDue := a_sentDue) hn HX n 0 s0 hm a_heapFlow a_heapSize a_key a_home a_place (Nat.zero_add _) H e0 l0
  exact ⟨hm', hf', hs', key', hom', pl', c1, c2, fun post hp => ⟨n + 1, c3 post hp⟩⟩
theorem hx_34 {n : Nat} {V : Int64} {L : List qf_P} {fr hm : Nat → Nat} (hn : n ≤ 16) (HX : wf_X n L fr a_front a_waiting a_packetLength a_packetStart a_packetFinish a_packetDue)
    (H : wf_H n V L hm a_heapFlow a_heapSize a_key a_home a_place) (hq8 : ∀ f, f < n → (qf_q L f).length ≤ 8) (hpr : ∀ g, g < n → hm g = 0 → V < a_key g) (hne : ∃ g, g < n ∧ hm g = 1) :
    ∃ (g : Nat) (p : qf_P) (t : List qf_P) (hm' : Nat → Nat) (hf' hs' : Nat → Int32) (key' : Nat → Int64) (hom' pl' : Nat → Int32),
      g < n ∧ qf_q L g = p :: t ∧ p.2.2.1 ≤ V ∧ (∀ f' p', f' < n → yt_e L V f' p' → ¬ yt_b p' f' p g) ∧ wf_H n V (L.eraseIdx (qf_i L g)) hm' hf' hs' key' hom' pl' ∧
      ∀ post : SX → Prop, post (f_flowCount, f_shareTotal, f_queueDepth, f_longest, f_ticksPassed, f_virtual, f_usedWeight, f_idle, f_sent, f_worst, f_startHeap, f_finishHeap, nI g, nI p.2.1, nI p.2.1, p.2.2.2.2, a_weights, a_unitCharge, a_lastFinish, a_lastDue, upd a_front g (nI ((fr g + 1) % 8)), upd a_waiting g (nI t.length), a_packetLength, a_packetStart, a_packetFinish, a_packetDue, hf', hs', key', hom', pl', a_sentFlow, a_sentLength, a_sentLeft, a_sentDue) →
        wX_startSending_34 post f_flowCount f_shareTotal f_queueDepth f_longest f_ticksPassed f_virtual f_usedWeight f_idle f_sent f_worst f_startHeap f_finishHeap f_linkFlow f_linkLength f_linkRemaining f_linkDue a_weights a_unitCharge a_lastFinish a_lastDue a_front a_waiting a_packetLength a_packetStart a_packetFinish a_packetDue a_heapFlow a_heapSize a_key a_home a_place a_sentFlow a_sentLength a_sentLeft a_sentDue := by
  obtain ⟨⟨s, A, HC⟩, HK⟩ := H
  have hs1 : 0 < s 1 := by
    obtain ⟨g, hg, e⟩ := hne
    obtain ⟨i, hi, _⟩ := (HC.1 1 (by omega)).2.1.2.2 g hg e
    omega
  obtain ⟨t1, t2, t3, t4⟩ := hp_top HC (h := 1) (by omega) hs1
  generalize hgg : A 1 0 = g at *
  have hg16 : g < 16 := by omega
  have eg : (nI g).toNatClampNeg = g := nI_clamp (by omega)
  have vg : vp_in (nI g) 16 := vp_in_nI hg16 (by decide)
  cases hq : qf_q L g with
  | nil =>
    have := (HK g t1).1 hq
    omega
  | cons p t =>
    have hkp : a_key g = p.2.2.2.1 ∧ p.2.2.1 ≤ V := by
      rcases (HK g t1).2 p t hq with y | y
      · omega
      · exact y.2
    have hlen : t.length + 1 ≤ 8 := by
      have := hq8 g t1
      rw [hq] at this
      exact this
    obtain ⟨i1, i2, i3⟩ := qi_get hq
    have eqg : qf_q (L.eraseIdx (qf_i L g)) g = t := by
      have h1 := qf_first i1 (by rw [i2]; exact i3)
      rw [i2, hq] at h1
      exact (List.cons.inj h1).2.symm
    have eqo : ∀ f, f ≠ g → qf_q (L.eraseIdx (qf_i L g)) f = qf_q L f := fun f hf => qf_other (by rw [i2]; exact hf) i1
    have hmin : ∀ f' p', f' < n → yt_e L V f' p' → ¬ yt_b p' f' p g := by
      intro f' p' hf' he
      obtain ⟨⟨t', hq'⟩, hV'⟩ := he
      have hk' : hm f' = 1 ∧ a_key f' = p'.2.2.2.1 := by
        rcases (HK f' hf').2 p' t' hq' with y | y
        · have h1 := hpr f' hf' y.1
          rw [y.2, Int64.lt_iff_toInt_lt] at h1
          rw [Int64.le_iff_toInt_le] at hV'
          omega
        · exact ⟨y.1, y.2.1⟩
      have h1 := t4 f' hf' hk'.1
      unfold hp_lt at h1
      rw [hk'.2, hkp.1] at h1
      exact h1
    obtain ⟨fr8, ef, ew, er⟩ := HX g t1
    have er0 := er 0 p (by rw [hq]; rfl)
    obtain ⟨hf1, pl1, P1, w1⟩ := hx_remove (f_flowCount := f_flowCount) (f_shareTotal := f_shareTotal) (f_queueDepth := f_queueDepth) (f_longest := f_longest) (f_ticksPassed := f_ticksPassed) (f_virtual := f_virtual) (f_usedWeight := f_usedWeight) (f_idle := f_idle) (f_sent := f_sent) (f_worst := f_worst) (f_startHeap := f_startHeap) (f_finishHeap := f_finishHeap) (f_linkFlow := f_linkFlow) (f_linkLength := f_linkLength) (f_linkRemaining := f_linkRemaining) (f_linkDue := f_linkDue) (a_weights := a_weights) (a_unitCharge := a_unitCharge) (a_lastFinish := a_lastFinish) (a_lastDue := a_lastDue) (a_front := a_front) (a_waiting := a_waiting) (a_packetLength := a_packetLength) (a_packetStart := a_packetStart) (a_packetFinish := a_packetFinish) (a_packetDue := a_packetDue) (a_heapFlow := a_heapFlow) (a_heapSize := a_heapSize) (a_key := a_key) (a_home := a_home) (a_place := a_place) (a_sentFlow := a_sentFlow) (a_sentLength := a_sentLength) (a_sentLeft := a_sentLeft) (a_sentDue := a_sentDue) (n := n) (h := 1) (g := g) (hm := hm) hn ⟨s, A, HC⟩ (by omega) t1 t2
    have e7 : (a_front (nI g).toNatClampNeg + 1) &&& 7 = nI ((fr g + 1) % 8) := by
      rw [eg, ef, nI_1]
      exact pk_andN (by omega) 3 (by decide)
    have ewt : a_waiting (nI g).toNatClampNeg - 1 = nI t.length := by
      rw [eg, ew, hq]
      exact nI_pred t.length
    have hsl : 8 * g + (fr g + 0) % 8 < 128 := by omega
    have vs : vp_in (nI (8 * g + (fr g + 0) % 8)) 128 := vp_in_nI hsl (by decide)
    have esl : (nI (8 * g + (fr g + 0) % 8)).toNatClampNeg = 8 * g + (fr g + 0) % 8 := nI_clamp (by omega)
    cases ht : t with
    | nil =>
      refine ⟨g, p, [], hp_un hm g 2, hf1, _, _, _, pl1, t1, (by rw [← ht]; exact hq), hkp.2, hmin, ⟨P1, fun f hf => ?_⟩, fun post hp => ?_⟩
      · by_cases y : f = g
        · subst y
          rw [hp_us, eqg, ht]
          exact ⟨fun _ => rfl, (fun p' t' q => nomatch q)⟩
        · rw [hp_unn y, eqo f y]
          exact HK f hf
      · refine nm_r (e' := nI g) t3 (w1 _ (hx_slot (f := g) (fr := fr g) (j := 0) hg16 ef fr8 (by omega) ?_))
        refine And.intro vs (nm_r (e' := nI p.2.1) (by rw [esl]; exact er0.1) (And.intro vs (nm_r (e' := nI p.2.1) (by rw [esl]; exact er0.1) (And.intro vs (nm_r (e' := p.2.2.2.2) (by rw [esl]; exact er0.2.2.2)
          (And.intro vg (And.intro vg (nm_r (e' := upd a_front g (nI ((fr g + 1) % 8))) (by rw [e7, eg]) (And.intro vg (And.intro vg (nm_r (e' := upd a_waiting g (nI t.length)) (by rw [ewt, eg]) (And.intro vg ?_))))))))))))
        rw [ht]
        refine br_t ?_ hp
        rw [eg, pk_us]
        exact nI_le (b := 0) (Nat.le_refl 0) (by decide)
    | cons p2 t2' =>
      obtain ⟨hf2, pl2, P2, w2⟩ := hx_insert (f_flowCount := f_flowCount) (f_shareTotal := f_shareTotal) (f_queueDepth := f_queueDepth) (f_longest := f_longest) (f_ticksPassed := f_ticksPassed) (f_virtual := f_virtual) (f_usedWeight := f_usedWeight) (f_idle := f_idle) (f_sent := f_sent) (f_worst := f_worst) (f_startHeap := f_startHeap) (f_finishHeap := f_finishHeap) (f_linkFlow := nI g) (f_linkLength := nI p.2.1) (f_linkRemaining := nI p.2.1) (f_linkDue := p.2.2.2.2) (a_weights := a_weights) (a_unitCharge := a_unitCharge) (a_lastFinish := a_lastFinish) (a_lastDue := a_lastDue) (a_front := upd a_front g (nI ((fr g + 1) % 8))) (a_waiting := upd a_waiting g (nI t.length)) (a_packetLength := a_packetLength) (a_packetStart := a_packetStart) (a_packetFinish := a_packetFinish) (a_packetDue := a_packetDue) (a_heapFlow := hf1) (a_heapSize := upd a_heapSize 1 (a_heapSize 1 - 1)) (a_key := a_key) (a_home := a_home) (a_place := pl1) (a_sentFlow := a_sentFlow) (a_sentLength := a_sentLength) (a_sentLeft := a_sentLeft) (a_sentDue := a_sentDue) (n := n) (h := 0) (g := g) (hm := hp_un hm g 2) p2.2.2.1 hn P1 (by omega) t1 hp_us
      have er1 := er 1 p2 (by rw [hq, ht]; rfl)
      refine ⟨g, p, p2 :: t2', hp_un (hp_un hm g 2) g 0, hf2, _, _, _, pl2, t1, (by rw [← ht]; exact hq), hkp.2, hmin, ⟨P2, fun f hf => ?_⟩, fun post hp => ?_⟩
      · by_cases y : f = g
        · subst y
          rw [hp_us, eqg, ht, pk_uLs]
          exact ⟨(fun q => nomatch q), fun p' t' q => Or.inl ⟨rfl, by rw [(List.cons.inj q).1]⟩⟩
        · rw [hp_unn y, hp_unn y, eqo f y, pk_uLn y]
          exact HK f hf
      · refine nm_r (e' := nI g) t3 (w1 _ (hx_slot (f := g) (fr := fr g) (j := 0) hg16 ef fr8 (by omega) ?_))
        refine And.intro vs (nm_r (e' := nI p.2.1) (by rw [esl]; exact er0.1) (And.intro vs (nm_r (e' := nI p.2.1) (by rw [esl]; exact er0.1) (And.intro vs (nm_r (e' := p.2.2.2.2) (by rw [esl]; exact er0.2.2.2)
          (And.intro vg (And.intro vg (nm_r (e' := upd a_front g (nI ((fr g + 1) % 8))) (by rw [e7, eg]) (And.intro vg (And.intro vg (nm_r (e' := upd a_waiting g (nI t.length)) (by rw [ewt, eg]) (And.intro vg (br_f ?_ ?_)))))))))))))
        · rw [eg, pk_us, ht]
          exact nI_nle (Nat.succ_pos _) (by rw [← ht]; omega)
        · refine hx_slot (f := g) (fr := (fr g + 1) % 8) (j := 0) hg16 pk_us (by omega) (by omega) (And.intro (vp_in_nI (by omega) (by decide)) ?_)
          have ei : 8 * g + ((fr g + 1) % 8 + 0) % 8 = 8 * g + (fr g + 1) % 8 := by omega
          rw [ei, nI_clamp (by omega), er1.2.1]
          rw [← ht] at hp
          exact w2 _ hp
end
end
section
/-! events: the component's step of st ticks against st ticks of the reference -/
section
variable {k : Nat} {n : Nat} {c : Nat} {q : Nat} {m : Nat} {now : Nat} {sn : Nat} {lr : Nat} {V : Int64} {W : Nat → Nat} {fr : Nat → Nat} {hm : Nat → Nat} {L : List qf_P} {lkF : Int32} {lkL : Int32} {lkR : Int32} {lkD : Int64} {wts : Nat → Int32} {uc : Nat → Int32} {lfn : Nat → Int64} {ldu : Nat → Int64} {frt : Nat → Int32} {wtg : Nat → Int32} {pln : Nat → Int32} {pst : Nat → Int64} {pfi : Nat → Int64} {pdu : Nat → Int64} {hf : Nat → Int32} {hs : Nat → Int32} {key : Nat → Int64} {hom : Nat → Int32} {pl : Nat → Int32} {sF : Nat → Int32} {sL : Nat → Int32} {sT : Nat → Int32} {sD : Nat → Int64} {flw : Nat → Int64} {wai : Nat → Int64} {lnk : Nat → Int64} {rec : Nat → Int64} {idle : Int32} {worst : Int64} {sh : Int32} {fh : Int32}
theorem ev_rel {g : Nat} {p : qf_P} {t : List qf_P} {V' : Int64} {hm' : Nat → Nat} {hf' hs' hom' pl' : Nat → Int32} {key' wai' lnk' : Nat → Int64} (F : wf_I k n c q m now sn 0 V W fr hm L lkF lkL lkR lkD wts uc lfn ldu frt wtg pln pst pfi pdu hf hs key hom pl sF sL sT sD flw wai lnk rec) (T : yt_T n L V V' g p t)
    (H' : wf_H n V' (L.eraseIdx (qf_i L g)) hm' hf' hs' key' hom' pl') (Y' : yh_L (L.eraseIdx (qf_i L g)) wai') (hk : lnk' 1 = lN g ∧ lnk' 2 = lN p.2.1 ∧ lnk' 3 = lN p.2.1 ∧ lnk' 6 = p.2.2.2.2) :
    0 < p.2.1 ∧ wf_I k n c q m now sn p.2.1 V' W (hp_un fr g ((fr g + 1) % 8)) hm' (L.eraseIdx (qf_i L g)) (nI g) (nI p.2.1) (nI p.2.1) p.2.2.2.2 wts uc lfn ldu (upd frt g (nI ((fr g + 1) % 8))) (upd wtg g (nI t.length)) pln pst pfi pdu hf' hs' key' hom' pl' sF sL sT sD flw wai' lnk' rec := by
  obtain ⟨hN, hV, hU, hF, hQ, hW, hX, hH, hK, hS⟩ := F
  obtain ⟨hg, hq, hle, hmin, hVV⟩ := T
  obtain ⟨i1, i2, i3⟩ := qi_get hq
  have hp := hQ.1 p (List.mem_of_getElem? i1)
  have eqg : qf_q (L.eraseIdx (qf_i L g)) g = t := by
    have h1 := qf_first i1 (by rw [i2]; exact i3)
    rw [i2, hq] at h1
    exact (List.cons.inj h1).2.symm
  have eqo : ∀ f, f ≠ g → qf_q (L.eraseIdx (qf_i L g)) f = qf_q L f := fun f hf => qf_other (by rw [i2]; exact hf) i1
  have hV' : wf_b (840 * now + 1720320 * k) V' := by
    rcases hVV with z | ⟨z, hz⟩
    · rw [z]
      exact hV
    · have h1 := hz g p t hg hq
      have : V' = p.2.2.1 := by
        apply Int64.toInt_inj.mp
        rw [Int64.le_iff_toInt_le] at h1 hle
        omega
      rw [this]
      exact hp.2.2.2.2.2
  refine ⟨hp.2.2.1, hN, hV', hU, hF, ⟨fun x hx => hQ.1 x (List.mem_of_mem_eraseIdx hx), fun f hf => ?_⟩, Y'.1, wf_X_take hX hq eqg eqo, H', Or.inr ⟨g, p.2.1, hg, ?_, hp.2.2.1, hp.2.2.2.1, hp.2.2.2.1, rfl, rfl, rfl, hk.1, hk.2.1, hk.2.2.1, hk.2.2.2⟩, hS⟩
  · by_cases y : f = g
    · have h1 := hQ.2 f hf
      rw [y, hq] at h1
      rw [y, eqg]
      exact Nat.le_of_succ_le h1
    · rw [eqo f y]
      exact hQ.2 f hf
  · rw [← i2]
    exact hp.2.1
theorem ev_any (A0 : hp_HP n hm hf hs key hom pl) (hn : n ≤ 16) (HK : ∀ g, g < n → wf_h V (qf_q L g) (hm g) (key g)) (hQ : ∀ p, p ∈ L → p.1 < n) {post : Int32 → Prop} (h0 : L = [] → post 0) (h1 : L ≠ [] → post 1) :
    wpX_anyWaiting post (nI n, nI c, nI q, nI m, nI now, V, nI (qf_S W n), idle, nI sn, worst, sh, fh, lkF, lkL, lkR, lkD, wts, uc, lfn, ldu, frt, wtg, pln, pst, pfi, pdu, hf, hs, key, hom, pl, sF, sL, sT, sD) := by
  obtain ⟨s, A, HC⟩ := A0
  have z0 := hp_size HC (h := 0) (by omega)
  have z1 := hp_size HC (h := 1) (by omega)
  have e : hs 0 + hs 1 = nI (s 0 + s 1) := by
    rw [(HC.1 0 (by omega)).1, (HC.1 1 (by omega)).1, nI_add]
  by_cases y : s 0 + s 1 = 0
  · have hL : L = [] := by
      refine qf_nil hQ (fun f hf => ?_)
      cases hq : qf_q L f with
      | nil => rfl
      | cons p t =>
        rcases (HK f hf).2 p t hq with w | w
        · exact absurd w.1 (hp_none HC (by omega) (by omega) f hf)
        · exact absurd w.1 (hp_none HC (by omega) (by omega) f hf)
    refine br_t ?_ (h0 hL)
    rw [e]
    exact nI_le (b := 0) (by omega) (by decide)
  · have hL : L ≠ [] := by
      intro hL
      subst hL
      have hz : ∀ h, h < 2 → s h = 0 := by
        intro h hh
        rcases Nat.eq_zero_or_pos (s h) with w | w
        · exact w
        · obtain ⟨a1, a2, _, _⟩ := hp_top HC hh w
          have := (HK _ a1).1 rfl
          omega
      have := hz 0 (by omega)
      have := hz 1 (by omega)
      omega
    refine br_f ?_ (h1 hL)
    rw [e]
    exact nI_nle (by omega) (by omega)
theorem ev_start (F : wf_I k n c q m now sn 0 V W fr hm L lkF lkL lkR lkD wts uc lfn ldu frt wtg pln pst pfi pdu hf hs key hom pl sF sL sT sD flw wai lnk rec) (hL : L ≠ []) :
    ∃ (g : Nat) (p : qf_P) (t : List qf_P) (V' : Int64) (hm' : Nat → Nat) (hf' hs' hom' pl' : Nat → Int32) (key' wai' lnk' : Nat → Int64), 0 < p.2.1 ∧ wf_I k n c q m now sn p.2.1 V' W (hp_un fr g ((fr g + 1) % 8)) hm' (L.eraseIdx (qf_i L g)) (nI g) (nI p.2.1) (nI p.2.1) p.2.2.2.2 wts uc lfn ldu (upd frt g (nI ((fr g + 1) % 8))) (upd wtg g (nI t.length)) pln pst pfi pdu hf' hs' key' hom' pl' sF sL sT sD flw wai' lnk' rec ∧
      (∀ post : SX → Prop, post (nI n, nI c, nI q, nI m, nI now, V', nI (qf_S W n), idle, nI sn, worst, sh, fh, (nI g), (nI p.2.1), (nI p.2.1), p.2.2.2.2, wts, uc, lfn, ldu, (upd frt g (nI ((fr g + 1) % 8))), (upd wtg g (nI t.length)), pln, pst, pfi, pdu, hf', hs', key', hom', pl', sF, sL, sT, sD) → wpX_startSending post (nI n, nI c, nI q, nI m, nI now, V, nI (qf_S W n), idle, nI sn, worst, sh, fh, lkF, lkL, lkR, lkD, wts, uc, lfn, ldu, frt, wtg, pln, pst, pfi, pdu, hf, hs, key, hom, pl, sF, sL, sT, sD)) ∧ (∀ post : SY → Prop, post (nI n, nI c, nI q, nI m, nI now, nI sn, idle, V', worst, nI (L.eraseIdx (qf_i L g)).length, flw, wai', lnk', rec) → wpY_take post (nI n, nI c, nI q, nI m, nI now, nI sn, idle, V, worst, nI L.length, flw, wai, lnk, rec)) := by
  have hYL := wf_yL F
  have F' := F
  obtain ⟨hN, hV, hU, hF, hQ, hW, hX, hH, hK, hS⟩ := F'
  unfold wf_N at hN
  have hn : n ≤ 16 := by omega
  have hpos : ∀ p, p ∈ L → 0 ≤ p.2.2.1.toInt := fun p hp => (hQ.1 p hp).2.2.2.2.2.1
  have hq8 : ∀ f, f < n → (qf_q L f).length ≤ 8 := fun f hf => Nat.le_trans (hQ.2 f hf) (by omega)
  obtain ⟨hm1, hf1, hs1, key1, hom1, pl1, c1, c2, c3⟩ := hx_promote (f_shareTotal := nI c) (f_queueDepth := nI q) (f_longest := nI m) (f_ticksPassed := nI now) (f_usedWeight := nI (qf_S W n)) (f_idle := idle) (f_sent := nI sn) (f_worst := worst) (f_startHeap := sh) (f_finishHeap := fh) (f_linkFlow := lkF) (f_linkLength := lkL) (f_linkRemaining := lkR) (f_linkDue := lkD) (a_weights := wts) (a_unitCharge := uc) (a_lastFinish := lfn) (a_lastDue := ldu) (a_front := frt) (a_waiting := wtg) (a_packetLength := pln) (a_packetStart := pst) (a_packetFinish := pfi) (a_packetDue := pdu) (a_heapFlow := hf) (a_heapSize := hs) (a_key := key) (a_home := hom) (a_place := pl) (a_sentFlow := sF) (a_sentLength := sL) (a_sentLeft := sT) (a_sentDue := sD) hn hX hH
  by_cases h1 : ∃ g, g < n ∧ hm1 g = 1
  · obtain ⟨g, p, t, hm', hf', hs', key', hom', pl', g1, g2, g3, g4, g5, w⟩ := hx_34 (f_flowCount := nI n) (f_shareTotal := nI c) (f_queueDepth := nI q) (f_longest := nI m) (f_ticksPassed := nI now) (f_virtual := V) (f_usedWeight := nI (qf_S W n)) (f_idle := idle) (f_sent := nI sn) (f_worst := worst) (f_startHeap := sh) (f_finishHeap := fh) (f_linkFlow := lkF) (f_linkLength := lkL) (f_linkRemaining := lkR) (f_linkDue := lkD) (a_weights := wts) (a_unitCharge := uc) (a_lastFinish := lfn) (a_lastDue := ldu) (a_front := frt) (a_waiting := wtg) (a_packetLength := pln) (a_packetStart := pst) (a_packetFinish := pfi) (a_packetDue := pdu) (a_heapFlow := hf1) (a_heapSize := hs1) (a_key := key1) (a_home := hom1) (a_place := pl1) (a_sentFlow := sF) (a_sentLength := sL) (a_sentLeft := sT) (a_sentDue := sD) hn hX c1 hq8 c2 h1
    have T : yt_T n L V V g p t := ⟨g1, g2, g3, g4, Or.inl rfl⟩
    obtain ⟨wai', lnk', y1, y2, y3⟩ := yt_take (g_c := nI c) (g_q := nI q) (g_m := nI m) (g_now := nI now) (g_sent := nI sn) (g_idle := idle) (g_worst := worst) (b_flows := flw) (b_waiting := wai) (b_link := lnk) (b_records := rec) hn hYL hpos T
    obtain ⟨r1, r2⟩ := ev_rel F T g5 y1 y2
    refine ⟨g, p, t, V, hm', hf', hs', hom', pl', key', wai', lnk', r1, r2, fun post hp => c3 _ (br_f ?_ (w post hp)), y3⟩
    obtain ⟨⟨s, A, HC⟩, _⟩ := c1
    obtain ⟨g0, hg0, e0⟩ := h1
    obtain ⟨i, hi, _⟩ := (HC.1 1 (by omega)).2.1.2.2 g0 hg0 e0
    have z1 := hp_size HC (h := 1) (by omega)
    rw [(HC.1 1 (by omega)).1]
    exact nI_ne0 (by omega) (by omega)
  · have hall : ∀ f p t, f < n → qf_q L f = p :: t → hm1 f = 0 ∧ key1 f = p.2.2.1 := by
      intro f p t hf hq
      rcases (c1.2 f hf).2 p t hq with y | y
      · exact y
      · exact absurd ⟨f, hf, y.1⟩ h1
    have hex : ∃ f, f < n ∧ qf_q L f ≠ [] := by
      refine Classical.byContradiction (fun z => hL (qf_nil (fun p hp => (hQ.1 p hp).1) (fun f hf => ?_)))
      exact Classical.byContradiction (fun y => z ⟨f, hf, y⟩)
    obtain ⟨⟨s, A, HC⟩, HK⟩ := c1
    have hs0 : 0 < s 0 := by
      obtain ⟨f, hf, hq⟩ := hex
      cases hq2 : qf_q L f with
      | nil => exact absurd hq2 hq
      | cons p t =>
        obtain ⟨i, hi, _⟩ := (HC.1 0 (by omega)).2.1.2.2 f hf (hall f p t hf hq2).1
        omega
    have hs1z : s 1 = 0 := by
      rcases Nat.eq_zero_or_pos (s 1) with y | y
      · exact y
      · obtain ⟨a1, a2, _, _⟩ := hp_top HC (h := 1) (by omega) y
        exact absurd ⟨_, a1, a2⟩ h1
    obtain ⟨t1, t2, t3, t4⟩ := hp_top HC (h := 0) (by omega) hs0
    generalize hgg : A 0 0 = e at *
    cases hqe : qf_q L e with
    | nil =>
      have := (HK e t1).1 hqe
      omega
    | cons pe te =>
      have hke := (hall e pe te t1 hqe).2
      have hlt := c2 e t1 t2
      have hVle : V ≤ key1 e := by
        rw [Int64.le_iff_toInt_le]
        rw [Int64.lt_iff_toInt_lt] at hlt
        omega
      obtain ⟨hm2, hf2, hs2, key2, hom2, pl2, d1, d2, d3⟩ := hx_promote (f_shareTotal := nI c) (f_queueDepth := nI q) (f_longest := nI m) (f_ticksPassed := nI now) (f_usedWeight := nI (qf_S W n)) (f_idle := idle) (f_sent := nI sn) (f_worst := worst) (f_startHeap := sh) (f_finishHeap := fh) (f_linkFlow := lkF) (f_linkLength := lkL) (f_linkRemaining := lkR) (f_linkDue := lkD) (a_weights := wts) (a_unitCharge := uc) (a_lastFinish := lfn) (a_lastDue := ldu) (a_front := frt) (a_waiting := wtg) (a_packetLength := pln) (a_packetStart := pst) (a_packetFinish := pfi) (a_packetDue := pdu) (a_heapFlow := hf1) (a_heapSize := hs1) (a_key := key1) (a_home := hom1) (a_place := pl1) (a_sentFlow := sF) (a_sentLength := sL) (a_sentLeft := sT) (a_sentDue := sD) hn hX (wf_H_mono ⟨⟨s, A, HC⟩, HK⟩ hVle)
      have hone : hm2 e = 1 := by
        rcases (d1.2 e t1).2 pe te hqe with y | y
        · have := d2 e t1 y.1
          rw [y.2, hke, Int64.lt_iff_toInt_lt] at this
          omega
        · exact y.1
      obtain ⟨g, p, t, hm', hf', hs', key', hom', pl', g1, g2, g3, g4, g5, w⟩ := hx_34 (f_flowCount := nI n) (f_shareTotal := nI c) (f_queueDepth := nI q) (f_longest := nI m) (f_ticksPassed := nI now) (f_virtual := (key1 e)) (f_usedWeight := nI (qf_S W n)) (f_idle := idle) (f_sent := nI sn) (f_worst := worst) (f_startHeap := sh) (f_finishHeap := fh) (f_linkFlow := lkF) (f_linkLength := lkL) (f_linkRemaining := lkR) (f_linkDue := lkD) (a_weights := wts) (a_unitCharge := uc) (a_lastFinish := lfn) (a_lastDue := ldu) (a_front := frt) (a_waiting := wtg) (a_packetLength := pln) (a_packetStart := pst) (a_packetFinish := pfi) (a_packetDue := pdu) (a_heapFlow := hf2) (a_heapSize := hs2) (a_key := key2) (a_home := hom2) (a_place := pl2) (a_sentFlow := sF) (a_sentLength := sL) (a_sentLeft := sT) (a_sentDue := sD) hn hX d1 hq8 d2 ⟨e, t1, hone⟩
      have T : yt_T n L V (key1 e) g p t := by
        refine ⟨g1, g2, g3, g4, Or.inr ⟨hlt, fun f' p' t' hf' hq' => ?_⟩⟩
        have h2 := hall f' p' t' hf' hq'
        have h3 := t4 f' hf' h2.1
        rw [hp_iff, h2.2] at h3
        rw [Int64.le_iff_toInt_le]
        omega
      obtain ⟨wai', lnk', y1, y2, y3⟩ := yt_take (g_c := nI c) (g_q := nI q) (g_m := nI m) (g_now := nI now) (g_sent := nI sn) (g_idle := idle) (g_worst := worst) (b_flows := flw) (b_waiting := wai) (b_link := lnk) (b_records := rec) hn hYL hpos T
      obtain ⟨r1, r2⟩ := ev_rel F T g5 y1 y2
      refine ⟨g, p, t, key1 e, hm', hf', hs', hom', pl', key', wai', lnk', r1, r2, fun post hp => c3 _ (br_t ?_ (nm_r (e' := nI e) t3 (And.intro (vp_in_nI (by omega) (by decide)) (nm_r (e' := key1 e) ?_ (d3 _ (w post hp)))))), y3⟩
      · rw [(HC.1 1 (by omega)).1, hs1z]
        rfl
      · rw [nI_clamp (by omega)]
end
end
section
/-! ticks in a row; passEvent -/
/-- d ticks of the reference lead from v to v', and ahead of each of them z packets have been sent and the longest packet is M -/
def wf_yt (z M : Int32) : Nat → SY → SY → Prop
  | 0, v, v' => v' = v
  | d + 1, v, v' => (v.2.2.2.2.2.1 = z ∧ v.2.2.2.1 = M) ∧ ∃ w : SY, (∀ post : SY → Prop, post w → wpY_tick post v) ∧ wf_yt z M d w v'
theorem yt_app {z M : Int32} {b : Nat} {w v' : SY} (h2 : wf_yt z M b w v') : ∀ (a : Nat) (v : SY), wf_yt z M a v w → wf_yt z M (a + b) v v'
  | 0, v, h => by
    have e : w = v := h
    rw [Nat.zero_add, ← e]
    exact h2
  | a + 1, v, h => by
    obtain ⟨h0, x, hx, hr⟩ := h
    have e : a + 1 + b = (a + b) + 1 := by omega
    rw [e]
    exact ⟨h0, x, hx, yt_app h2 a x hr⟩
theorem yt_1 {z M : Int32} {v w : SY} (h0 : v.2.2.2.2.2.1 = z ∧ v.2.2.2.1 = M) (h : ∀ post : SY → Prop, post w → wpY_tick post v) : wf_yt z M 1 v w := ⟨h0, w, h, rfl⟩
theorem yt_hd {z M : Int32} {d : Nat} {v1 v v' : SY} (hd : 0 < d) (h0 : v.2.2.2.2.2.1 = z ∧ v.2.2.2.1 = M) (hs : ∀ post : SY → Prop, wpY_tick post v1 → wpY_tick post v) (h : wf_yt z M d v1 v') : wf_yt z M d v v' := by
  match d, hd, h with
  | d + 1, _, h =>
    obtain ⟨_, w, hw, hr⟩ := h
    exact ⟨h0, w, fun post hp => hs post (hw post hp), hr⟩
section
variable {k : Nat} {n : Nat} {c : Nat} {q : Nat} {m : Nat} {now : Nat} {sn : Nat} {lr : Nat} {V : Int64} {W : Nat → Nat} {fr : Nat → Nat} {hm : Nat → Nat} {L : List qf_P} {lkF : Int32} {lkL : Int32} {lkR : Int32} {lkD : Int64} {wts : Nat → Int32} {uc : Nat → Int32} {lfn : Nat → Int64} {ldu : Nat → Int64} {frt : Nat → Int32} {wtg : Nat → Int32} {pln : Nat → Int32} {pst : Nat → Int64} {pfi : Nat → Int64} {pdu : Nat → Int64} {hf : Nat → Int32} {hs : Nat → Int32} {key : Nat → Int64} {hom : Nat → Int32} {pl : Nat → Int32} {sF : Nat → Int32} {sL : Nat → Int32} {sT : Nat → Int32} {sD : Nat → Int64} {flw : Nat → Int64} {wai : Nat → Int64} {lnk : Nat → Int64} {rec : Nat → Int64} {idle : Int32} {worst : Int64} {sh : Int32} {fh : Int32}
theorem ev_V (V : Int64) (d : Nat) : (V + 840) + lN (840 * d) = V + lN (840 * (d + 1)) := by
  rw [Int64.add_assoc]
  have : (840 : Int64) + lN (840 * d) = lN (840 * (d + 1)) := by
    show lN 840 + lN (840 * d) = _
    rw [lN_add]
    exact congrArg lN (by omega)
  rw [this]
theorem ev_V0 (V : Int64) : V + lN (840 * 0) = V := by
  show V + 0 = V
  exact Int64.add_zero V
/-- time passes: what doesn't hang on the link -/
theorem ev_time (hk : k ≤ 2052) (F : wf_I k n c q m now sn lr V W fr hm L lkF lkL lkR lkD wts uc lfn ldu frt wtg pln pst pfi pdu hf hs key hom pl sF sL sT sD flw wai lnk rec) (hnow : now + 1 ≤ 20000) : wf_N n c q m (now + 1) sn ∧ wf_b (840 * (now + 1) + 1720320 * k) (V + 840) ∧ qf_S W n ≤ c ∧ wf_F n c (840 * (now + 1) + 1720320 * k) W wts uc lfn ldu flw ∧
    wf_Q n c q m (840 * (now + 1) + 1720320 * k) W L ∧ qf_W L wai ∧ wf_X n L fr frt wtg pln pst pfi pdu ∧ wf_H n (V + 840) L hm hf hs key hom pl := by
  obtain ⟨hN, hV, hU, hF, hQ, hW, hX, hH, hK, hS⟩ := F
  unfold wf_N at hN
  have hb : 840 * now + 1720320 * k + 840 < 2 ^ 62 := by omega
  have ea : (V + 840).toInt = V.toInt + (840 : Nat) := wf_add (d := 840) hV hb
  refine ⟨by unfold wf_N; omega, wf_b_add (d := 840) hV hb (by omega), hU, wf_F_mono hF (by omega), wf_Q_mono hQ (by omega), hW, hX, wf_H_mono hH ?_⟩
  rw [Int64.le_iff_toInt_le, ea]
  omega
theorem ev_idle1 (hk : k ≤ 2052) (F : wf_I k n c q m now sn 0 V W fr hm ([] : List qf_P) lkF lkL lkR lkD wts uc lfn ldu frt wtg pln pst pfi pdu hf hs key hom pl sF sL sT sD flw wai lnk rec) (hnow : now + 1 ≤ 20000) : wf_I k n c q m (now + 1) sn 0 (V + 840) W fr hm ([] : List qf_P) lkF lkL lkR lkD wts uc lfn ldu frt wtg pln pst pfi pdu hf hs key hom pl sF sL sT sD flw wai lnk rec ∧ ∀ post : SY → Prop, post (nI n, nI c, nI q, nI m, nI (now + 1), nI sn, (idle + 1), (V + 840), worst, nI ([] : List qf_P).length, flw, wai, lnk, rec) → wpY_tick post (nI n, nI c, nI q, nI m, nI now, nI sn, idle, V, worst, nI ([] : List qf_P).length, flw, wai, lnk, rec) := by
  obtain ⟨a1, a2, a3, a4, a5, a6, a7, a8⟩ := ev_time hk F hnow
  obtain ⟨hN, hV, hU, hF, hQ, hW, hX, hH, hK, hS⟩ := F
  refine ⟨⟨a1, a2, a3, a4, a5, a6, a7, a8, hK, hS⟩, fun post hp => ?_⟩
  have hl : lnk 3 = 0 := by
    rcases hK with y | ⟨_, _, _, _, y, _⟩
    · exact y.2.2
    · omega
  exact yk_idle (now := now) hl hp
theorem ev_idle (hk : k ≤ 2052) : ∀ (d now now' : Nat) (V V' : Int64) (idle idle' : Int32), now' = now + d → V' = V + lN (840 * d) → idle' = idle + nI d → wf_I k n c q m now sn 0 V W fr hm ([] : List qf_P) lkF lkL lkR lkD wts uc lfn ldu frt wtg pln pst pfi pdu hf hs key hom pl sF sL sT sD flw wai lnk rec → now + d ≤ 20000 →
    wf_I k n c q m now' sn 0 V' W fr hm ([] : List qf_P) lkF lkL lkR lkD wts uc lfn ldu frt wtg pln pst pfi pdu hf hs key hom pl sF sL sT sD flw wai lnk rec ∧ wf_yt (nI sn) (nI m) d (nI n, nI c, nI q, nI m, nI now, nI sn, idle, V, worst, nI ([] : List qf_P).length, flw, wai, lnk, rec) (nI n, nI c, nI q, nI m, nI now', nI sn, idle', V', worst, nI ([] : List qf_P).length, flw, wai, lnk, rec) := by
  intro d
  induction d with
  | zero =>
    intro now now' V V' idle idle' h1 h2 h3 F hnow
    rw [ev_V0] at h2
    rw [nI_0, Int32.add_zero] at h3
    subst h1 h2 h3
    exact ⟨F, rfl⟩
  | succ d ih =>
    intro now now' V V' idle idle' h1 h2 h3 F hnow
    obtain ⟨F1, t1⟩ := ev_idle1 (idle := idle) (worst := worst) hk F (by omega)
    obtain ⟨F2, t2⟩ := ih (now + 1) now' (V + 840) V' (idle + 1) idle' (by omega) (by rw [h2, ev_V]) (by rw [h3, Int32.add_assoc]; exact congrArg (idle + ·) (by rw [Int32.add_comm]; exact (nI_1 d).symm)) F1 (by omega)
    exact ⟨F2, ⟨rfl, rfl⟩, _, t1, t2⟩
theorem ev_busy1 (hk : k ≤ 2052) (F : wf_I k n c q m now sn (lr + 2) V W fr hm L lkF lkL lkR lkD wts uc lfn ldu frt wtg pln pst pfi pdu hf hs key hom pl sF sL sT sD flw wai lnk rec) (hnow : now + 1 ≤ 20000) :
    ∃ lnk' : Nat → Int64, wf_I k n c q m (now + 1) sn (lr + 1) (V + 840) W fr hm L lkF lkL (nI (lr + 1)) lkD wts uc lfn ldu frt wtg pln pst pfi pdu hf hs key hom pl sF sL sT sD flw wai lnk' rec ∧ ∀ post : SY → Prop, post (nI n, nI c, nI q, nI m, nI (now + 1), nI sn, idle, (V + 840), worst, nI L.length, flw, wai, lnk', rec) → wpY_tick post (nI n, nI c, nI q, nI m, nI now, nI sn, idle, V, worst, nI L.length, flw, wai, lnk, rec) := by
  obtain ⟨a1, a2, a3, a4, a5, a6, a7, a8⟩ := ev_time hk F hnow
  obtain ⟨hN, hV, hU, hF, hQ, hW, hX, hH, hK, hS⟩ := F
  unfold wf_N at hN
  rcases hK with y | ⟨lf, ll, y1, y2, y3, y4, y5, y6, y7, y8, y9, y10, y11, y12⟩
  · omega
  · refine ⟨vp_updL lnk 3 (lN (lr + 1)), ⟨a1, a2, a3, a4, a5, a6, a7, a8, Or.inr ⟨lf, ll, y1, y2, by omega, by omega, y5, y6, y7, rfl, ?_, ?_, ?_, ?_⟩, hS⟩, fun post hp => yk_busy (now := now) y11 (by omega) hp⟩
    · rw [pk_uLn (by decide)]
      exact y9
    · rw [pk_uLn (by decide)]
      exact y10
    · rw [pk_uLs]
    · rw [pk_uLn (by decide)]
      exact y12
theorem ev_busy (hk : k ≤ 2052) : ∀ (d now now' lr lr' : Nat) (V V' : Int64) (lkR : Int32) (lnk : Nat → Int64), now' = now + d → V' = V + lN (840 * d) → lr = lr' + 1 + d → lkR = nI lr → wf_I k n c q m now sn lr V W fr hm L lkF lkL lkR lkD wts uc lfn ldu frt wtg pln pst pfi pdu hf hs key hom pl sF sL sT sD flw wai lnk rec → now + d ≤ 20000 →
    ∃ lnk' : Nat → Int64, wf_I k n c q m now' sn (lr' + 1) V' W fr hm L lkF lkL (nI (lr' + 1)) lkD wts uc lfn ldu frt wtg pln pst pfi pdu hf hs key hom pl sF sL sT sD flw wai lnk' rec ∧ wf_yt (nI sn) (nI m) d (nI n, nI c, nI q, nI m, nI now, nI sn, idle, V, worst, nI L.length, flw, wai, lnk, rec) (nI n, nI c, nI q, nI m, nI now', nI sn, idle, V', worst, nI L.length, flw, wai, lnk', rec) := by
  intro d
  induction d with
  | zero =>
    intro now now' lr lr' V V' lkR lnk h1 h2 h3 h4 F hnow
    rw [ev_V0] at h2
    have h3' : lr = lr' + 1 := by omega
    subst h1 h2 h4 h3'
    exact ⟨lnk, F, rfl⟩
  | succ d ih =>
    intro now now' lr lr' V V' lkR lnk h1 h2 h3 h4 F hnow
    obtain ⟨lr2, hl2⟩ : ∃ r, lr = r + 2 := ⟨lr - 2, by omega⟩
    subst hl2
    obtain ⟨lnk1, F1, t1⟩ := ev_busy1 (idle := idle) (worst := worst) hk F (by omega)
    obtain ⟨lnk2, F2, t2⟩ := ih (now + 1) now' (lr2 + 1) lr' (V + 840) V' (nI (lr2 + 1)) lnk1 (by omega) (by rw [h2, ev_V]) (by omega) rfl F1 (by omega)
    exact ⟨lnk2, F2, ⟨rfl, rfl⟩, _, t1, t2⟩
theorem ev_leave (hk : k ≤ 2052) (F : wf_I k n c q m now sn 1 V W fr hm L lkF lkL lkR lkD wts uc lfn ldu frt wtg pln pst pfi pdu hf hs key hom pl sF sL sT sD flw wai lnk rec) (hnow : now + 1 ≤ 20000) (lkR' : Int32) :
    ∃ lnk' rec' : Nat → Int64, wf_I k n c q m (now + 1) (sn + 1) 0 (V + 840) W fr hm L (-1) lkL lkR' lkD wts uc lfn ldu frt wtg pln pst pfi pdu hf hs key hom pl (upd sF (sn % 32) lkF) (upd sL (sn % 32) lkL) (upd sT (sn % 32) (nI (now + 1))) (vp_updL sD (sn % 32) lkD) flw wai lnk' rec' ∧ ∀ post : SY → Prop, post (nI n, nI c, nI q, nI m, nI (now + 1), nI (sn + 1), idle, (V + 840), (yk_w ((840 * nI (now + 1)).toInt64 - lkD) worst), nI L.length, flw, wai, lnk', rec') → wpY_tick post (nI n, nI c, nI q, nI m, nI now, nI sn, idle, V, worst, nI L.length, flw, wai, lnk, rec) := by
  obtain ⟨a1, a2, a3, a4, a5, a6, a7, a8⟩ := ev_time hk F hnow
  obtain ⟨hN, hV, hU, hF, hQ, hW, hX, hH, hK, hS⟩ := F
  unfold wf_N at hN a1
  rcases hK with y | ⟨lf, ll, y1, y2, y3, y4, y5, y6, y7, y8, y9, y10, y11, y12⟩
  · omega
  · obtain ⟨rec', r1, r2, r3, r4⟩ := yk_leave (g_n := nI n) (g_c := nI c) (g_q := nI q) (g_m := nI m) (g_idle := idle) (g_v := V) (g_worst := worst) (g_count := nI L.length) (b_flows := flw) (b_waiting := wai) (b_link := lnk) (b_records := rec) (now := now) (sn := sn) y11
    rw [y12] at r4
    refine ⟨vp_updL (vp_updL lnk 3 0) 7 (nI (now + 1)).toInt64, rec', ⟨by unfold wf_N; omega, a2, a3, a4, a5, a6, a7, a8, Or.inl ⟨rfl, rfl, ?_⟩, ?_⟩, r4⟩
    · rw [pk_uLn (by decide), pk_uLs]
    · intro b hb hb2
      by_cases z : b = 0
      · subst z
        have e : (sn + 1 - 1 - 0) % 32 = sn % 32 := by omega
        rw [e, pk_us, pk_us, pk_us, pk_uLs, r1 1 (by omega) (by omega) (by omega), r1 2 (by omega) (by omega) (by omega), r2, r1 6 (by omega) (by omega) (by omega), y9, y10, y12, y6, y7, nI_l (by omega), nI_l (by omega)]
        exact ⟨rfl, rfl, rfl, rfl⟩
      · have e : (sn + 1 - 1 - b) % 32 = (sn - 1 - (b - 1)) % 32 := by omega
        have ne : (sn - 1 - (b - 1)) % 32 ≠ sn % 32 := by omega
        have h1 := hS (b - 1) (by omega) (by omega)
        rw [e, pk_un ne, pk_un ne, pk_un ne, pk_uLn ne, r3 _ (by omega) (by omega), r3 _ (by omega) (by omega), r3 _ (by omega) (by omega), r3 _ (by omega) (by omega)]
        have i1 : 10 * b + 1 - 10 = 10 * (b - 1) + 1 := by omega
        have i2 : 10 * b + 2 - 10 = 10 * (b - 1) + 2 := by omega
        have i7 : 10 * b + 7 - 10 = 10 * (b - 1) + 7 := by omega
        have i6 : 10 * b + 6 - 10 = 10 * (b - 1) + 6 := by omega
        rw [i1, i2, i7, i6]
        exact h1
end
section
variable {f_flowCount : Int32} {f_shareTotal : Int32} {f_queueDepth : Int32} {f_longest : Int32} {f_ticksPassed : Int32} {f_virtual : Int64} {f_usedWeight : Int32} {f_idle : Int32} {f_sent : Int32} {f_worst : Int64} {f_startHeap : Int32} {f_finishHeap : Int32} {f_linkFlow : Int32} {f_linkLength : Int32} {f_linkRemaining : Int32} {f_linkDue : Int64} {a_weights : Nat → Int32} {a_unitCharge : Nat → Int32} {a_lastFinish : Nat → Int64} {a_lastDue : Nat → Int64} {a_front : Nat → Int32} {a_waiting : Nat → Int32} {a_packetLength : Nat → Int32} {a_packetStart : Nat → Int64} {a_packetFinish : Nat → Int64} {a_packetDue : Nat → Int64} {a_heapFlow : Nat → Int32} {a_heapSize : Nat → Int32} {a_key : Nat → Int64} {a_home : Nat → Int32} {a_place : Nat → Int32} {a_sentFlow : Nat → Int32} {a_sentLength : Nat → Int32} {a_sentLeft : Nat → Int32} {a_sentDue : Nat → Int64}
theorem hx_fin {sn now : Nat} (hs : sn < 2 ^ 31) {post : SX → Prop} (hp : post (f_flowCount, f_shareTotal, f_queueDepth, f_longest, nI now, f_virtual, f_usedWeight, f_idle, nI (sn + 1), yk_w (840 * (nI now).toInt64 - f_linkDue) f_worst, f_startHeap, f_finishHeap, -1, f_linkLength, f_linkRemaining, f_linkDue, a_weights, a_unitCharge, a_lastFinish, a_lastDue, a_front, a_waiting, a_packetLength, a_packetStart, a_packetFinish, a_packetDue, a_heapFlow, a_heapSize, a_key, a_home, a_place, upd a_sentFlow (sn % 32) f_linkFlow, upd a_sentLength (sn % 32) f_linkLength, upd a_sentLeft (sn % 32) (nI now), vp_updL a_sentDue (sn % 32) f_linkDue)) :
    wpX_finishSending post (f_flowCount, f_shareTotal, f_queueDepth, f_longest, nI now, f_virtual, f_usedWeight, f_idle, nI sn, f_worst, f_startHeap, f_finishHeap, f_linkFlow, f_linkLength, f_linkRemaining, f_linkDue, a_weights, a_unitCharge, a_lastFinish, a_lastDue, a_front, a_waiting, a_packetLength, a_packetStart, a_packetFinish, a_packetDue, a_heapFlow, a_heapSize, a_key, a_home, a_place, a_sentFlow, a_sentLength, a_sentLeft, a_sentDue) := by
  have e : nI sn &&& 31 = nI (sn % 32) := pk_andN (by omega) 5 (by decide)
  have v : vp_in (nI (sn % 32)) 32 := vp_in_nI (by omega) (by decide)
  have ec : (nI (sn % 32)).toNatClampNeg = sn % 32 := nI_clamp (by omega)
  refine nm_r e (And.intro v (nm_r (e' := upd a_sentFlow (sn % 32) f_linkFlow) (by rw [ec]) (And.intro v (nm_r (e' := upd a_sentLength (sn % 32) f_linkLength) (by rw [ec]) (And.intro v (nm_r (e' := upd a_sentLeft (sn % 32) (nI now)) (by rw [ec])
    (And.intro v (nm_r (e' := vp_updL a_sentDue (sn % 32) f_linkDue) (by rw [ec]) (nm_r (nI_1 sn) (nm_e (br_c (fun l => ?_) (fun l => ?_))))))))))))
  · rw [show yk_w (840 * (nI now).toInt64 - f_linkDue) f_worst = f_worst from if_pos l] at hp
    exact hp
  · rw [show yk_w (840 * (nI now).toInt64 - f_linkDue) f_worst = 840 * (nI now).toInt64 - f_linkDue from if_neg l] at hp
    exact hp
end
theorem ev_840 {st : Nat} (h : st < 2 ^ 31) : 840 * (nI st).toInt64 = lN (840 * st) := by
  rw [nI_l h]
  exact lN_mul 840 st
theorem ev_840n {now : Nat} (h : now ≤ 20000) : 840 * (nI now).toInt64 = (840 * nI now).toInt64 := by
  have e : 840 * nI now = nI (840 * now) := pk_mul 840 now
  rw [ev_840 (by omega), e, nI_l (by omega)]
section
variable {k : Nat} {n : Nat} {c : Nat} {q : Nat} {m : Nat} {now : Nat} {sn : Nat} {lr : Nat} {V : Int64} {W : Nat → Nat} {fr : Nat → Nat} {hm : Nat → Nat} {L : List qf_P} {lkF : Int32} {lkL : Int32} {lkR : Int32} {lkD : Int64} {wts : Nat → Int32} {uc : Nat → Int32} {lfn : Nat → Int64} {ldu : Nat → Int64} {frt : Nat → Int32} {wtg : Nat → Int32} {pln : Nat → Int32} {pst : Nat → Int64} {pfi : Nat → Int64} {pdu : Nat → Int64} {hf : Nat → Int32} {hs : Nat → Int32} {key : Nat → Int64} {hom : Nat → Int32} {pl : Nat → Int32} {sF : Nat → Int32} {sL : Nat → Int32} {sT : Nat → Int32} {sD : Nat → Int64} {flw : Nat → Int64} {wai : Nat → Int64} {lnk : Nat → Int64} {rec : Nat → Int64} {idle : Int32} {worst : Int64} {sh : Int32} {fh : Int32}
/-- from a busy link: step ticks pass, or the packet leaves -/
theorem ev_pass (hk : k ≤ 2052) (F : wf_I k n c q m now sn lr V W fr hm L lkF lkL lkR lkD wts uc lfn ldu frt wtg pln pst pfi pdu hf hs key hom pl sF sL sT sD flw wai lnk rec) (hlr : 0 < lr) {d : Nat} (hd : 0 < d) (hd2 : d ≤ 1000) (hnow : now + d ≤ 20000) :
    ∃ (st : Nat) (u' : SX) (v' : SY), 0 < st ∧ st ≤ d ∧ wf_R k (now + st) u' v' ∧ (∀ post : Int32 → SX → Prop, post (nI st) u' → wX_passEvent_18 post (nI d) (nI n) (nI c) (nI q) (nI m) (nI now) V (nI (qf_S W n)) idle (nI sn) worst sh fh lkF lkL lkR lkD wts uc lfn ldu frt wtg pln pst pfi pdu hf hs key hom pl sF sL sT sD) ∧ wf_yt (nI sn) (nI m) st (nI n, nI c, nI q, nI m, nI now, nI sn, idle, V, worst, nI L.length, flw, wai, lnk, rec) v' ∧ (d = m → v'.2.2.2.2.2.1 = nI (sn + 1)) := by
  have F0 := F
  obtain ⟨hN, hV, hU, hF, hQ, hW, hX, hH, hK, hS⟩ := F0
  unfold wf_N at hN
  have hK' : ∃ lf : Nat, lf < n ∧ lr ≤ m ∧ lkF = nI lf ∧ lkR = nI lr := by
    rcases hK with y | ⟨lf, ll, y1, y2, y3, y4, y5, y6, y7, y8, y9⟩
    · omega
    · exact ⟨lf, y1, y4, y6, y8⟩
  obtain ⟨lf, hlf, hlm, eF, eR⟩ := hK'
  subst eF
  subst eR
  have b0 : ¬ nI lf < 0 := nI_pos (by omega)
  have b1 : (0 : Int32) ≤ nI lf := nI_pos' (by omega)
  by_cases hc : d < lr
  · obtain ⟨lnk', F1, t1⟩ := ev_busy (idle := idle) (worst := worst) hk d now (now + d) lr (lr - 1 - d) V (V + lN (840 * d)) (nI lr) lnk rfl rfl (by omega) rfl F hnow
    have e1 : lr - 1 - d + 1 = lr - d := by omega
    rw [e1] at F1
    refine ⟨d, _, _, hd, Nat.le_refl _, wf_mk (sh := sh) (fh := fh) (idle := idle) (worst := worst) F1, fun post hp => ?_, t1, fun z => by omega⟩
    refine br_f b0 (br_t (nI_le (by omega) (by omega)) (nm_r (nI_add now d) (nm_r (e' := V + lN (840 * d)) (by rw [ev_840 (by omega)]) (br_t b1 (nm_r (e' := nI (lr - d)) (pk_sub (by omega)) (br_f (nI_ne0 (by omega) (by omega)) hp))))))
  · obtain ⟨r, hr⟩ : ∃ r, lr = r + 1 := ⟨lr - 1, by omega⟩
    subst hr
    obtain ⟨lnk1, F1, t1⟩ := ev_busy (idle := idle) (worst := worst) hk r now (now + r) (r + 1) 0 V (V + lN (840 * r)) (nI (r + 1)) lnk rfl rfl (by omega) rfl F (by omega)
    obtain ⟨lnk2, rec2, F2, t2⟩ := ev_leave (idle := idle) (worst := worst) hk F1 (by omega) (nI 0)
    have eV : V + lN (840 * r) + 840 = V + lN (840 * (r + 1)) := by
      rw [Int64.add_assoc]
      have : lN (840 * r) + 840 = lN (840 * (r + 1)) := by
        show lN (840 * r) + lN 840 = _
        rw [lN_add]
        exact congrArg lN (by omega)
      rw [this]
    have e2 : now + r + 1 = now + (r + 1) := by omega
    rw [e2, eV] at F2 t2
    rw [← ev_840n (by omega)] at t2
    have tt := yt_app (yt_1 (z := nI sn) (M := nI m) ⟨rfl, rfl⟩ t2) r _ t1
    refine ⟨r + 1, _, _, by omega, by omega, wf_mk (sh := sh) (fh := fh) (idle := idle) (worst := yk_w (840 * (nI (now + (r + 1))).toInt64 - lkD) worst) F2, fun post hp => ?_, tt, fun _ => rfl⟩
    have h40 : wX_passEvent_40 post (nI (r + 1)) (nI n) (nI c) (nI q) (nI m) (nI now) V (nI (qf_S W n)) idle (nI sn) worst sh fh (nI lf) lkL (nI (r + 1)) lkD wts uc lfn ldu frt wtg pln pst pfi pdu hf hs key hom pl sF sL sT sD := by
      refine nm_r (nI_add now (r + 1)) (nm_r (e' := V + lN (840 * (r + 1))) (by rw [ev_840 (by omega)]) (br_t b1 (nm_r (e' := nI 0) (by rw [pk_sub (Nat.le_refl _), Nat.sub_self]) (br_t rfl ?_))))
      exact hx_fin (sn := sn) (now := now + (r + 1)) (by omega) hp
    by_cases hde : d = r + 1
    · subst hde
      exact br_f b0 (br_t (nI_le (Nat.le_refl _) (by omega)) h40)
    · exact br_f b0 (br_f (nI_ge (by omega) (by omega)) h40)
theorem ev_event (hk : k ≤ 2052) (F : wf_I k n c q m now sn lr V W fr hm L lkF lkL lkR lkD wts uc lfn ldu frt wtg pln pst pfi pdu hf hs key hom pl sF sL sT sD flw wai lnk rec) {d : Nat} (hd : 0 < d) (hd2 : d ≤ 1000) (hnow : now + d ≤ 20000) :
    ∃ (st : Nat) (u' : SX) (v' : SY), 0 < st ∧ st ≤ d ∧ wf_R k (now + st) u' v' ∧ (∀ post : Int32 → SX → Prop, post (nI st) u' → wpX_passEvent post (nI n, nI c, nI q, nI m, nI now, V, nI (qf_S W n), idle, nI sn, worst, sh, fh, lkF, lkL, lkR, lkD, wts, uc, lfn, ldu, frt, wtg, pln, pst, pfi, pdu, hf, hs, key, hom, pl, sF, sL, sT, sD) (nI d)) ∧ wf_yt (nI sn) (nI m) st (nI n, nI c, nI q, nI m, nI now, nI sn, idle, V, worst, nI L.length, flw, wai, lnk, rec) v' ∧
      ((lr ≠ 0 ∨ L ≠ []) → d = m → v'.2.2.2.2.2.1 = nI (sn + 1)) := by
  have F0 := F
  obtain ⟨hN, hV, hU, hF, hQ, hW, hX, hH, hK, hS⟩ := F0
  unfold wf_N at hN
  by_cases hlr : lr = 0
  · subst hlr
    have hK' : lkF = -1 ∧ lnk 3 = 0 := by
      rcases hK with y | ⟨lf, ll, y1, y2, y3, y4⟩
      · exact y.2
      · omega
    obtain ⟨eF, hl3⟩ := hK'
    subst eF
    have b1 : ¬ (0 : Int32) ≤ -1 := by decide
    have b2 : (-1 : Int32) < 0 := by decide
    by_cases hL : L = []
    · subst hL
      obtain ⟨F1, t1⟩ := ev_idle (worst := worst) hk d now (now + d) V (V + lN (840 * d)) idle (idle + nI d) rfl rfl rfl F hnow
      refine ⟨d, _, _, hd, Nat.le_refl _, wf_mk (sh := sh) (fh := fh) (idle := idle + nI d) (worst := worst) F1, fun post hp => ?_, t1, fun z => absurd rfl (z.elim (fun y => absurd rfl y) id)⟩
      refine br_f b1 (ev_any hH.1 (by omega) hH.2 (fun p hp => (hQ.1 p hp).1) (fun _ => br_t rfl ?_) (fun z => absurd rfl z))
      exact br_t b2 (nm_r (nI_add now d) (nm_r (e' := V + lN (840 * d)) (by rw [ev_840 (by omega)]) (br_f b1 (nm_e hp))))
    · obtain ⟨g, p, t, V', hm', hf', hs', hom', pl', key', wai', lnk', p0, F1, wx, wy⟩ := ev_start (idle := idle) (worst := worst) (sh := sh) (fh := fh) F hL
      obtain ⟨st, u', v', s1, s2, s3, s4, s5, s6⟩ := ev_pass (idle := idle) (worst := worst) (sh := sh) (fh := fh) hk F1 p0 hd hd2 hnow
      refine ⟨st, u', v', s1, s2, s3, fun post hp => ?_, ?_, fun _ => s6⟩
      · exact br_f b1 (ev_any hH.1 (by omega) hH.2 (fun p hp => (hQ.1 p hp).1) (fun z => absurd z hL) (fun _ => br_f (by decide) (wx _ (s4 post hp))))
      · have hl : L.length < 2 ^ 31 := by
          have := (wf_yL F).2.1
          omega
        have hlk : ¬ lnk' 3 = 0 := by
          obtain ⟨_, _, _, _, _, _, _, _, hK1, _⟩ := F1
          rcases hK1 with y | ⟨lf, ll, y1, y2, y3, y4, y5, y6, y7, y8, y9, y10, y11, y12⟩
          · omega
          · exact yk_ne y11 y3 (by omega)
        exact yt_hd s1 ⟨rfl, rfl⟩ (fun post h => yk_start hl3 (List.length_pos_iff.mpr hL) hl wy hlk h) s5
  · obtain ⟨st, u', v', s1, s2, s3, s4, s5, s6⟩ := ev_pass (idle := idle) (worst := worst) (sh := sh) (fh := fh) hk F (by omega) hd hd2 hnow
    refine ⟨st, u', v', s1, s2, s3, fun post hp => ?_, s5, fun _ => s6⟩
    have hF0 : (0 : Int32) ≤ lkF := by
      rcases hK with y | ⟨lf, ll, y1, y2, y3, y4, y5, y6, y7⟩
      · omega
      · rw [y6]
        exact nI_pos' (by omega)
    exact br_t hF0 (s4 post hp)
end
end
section
/-! run and next -/
def rn_x (post : Int32 → SX → Prop) (x1 x2 : Int32) (N : Nat) (x3 x4 : Int32) (u : SX) : Prop := match u with
  | (f_flowCount, f_shareTotal, f_queueDepth, f_longest, f_ticksPassed, f_virtual, f_usedWeight, f_idle, f_sent, f_worst, f_startHeap, f_finishHeap, f_linkFlow, f_linkLength, f_linkRemaining, f_linkDue, a_weights, a_unitCharge, a_lastFinish, a_lastDue, a_front, a_waiting, a_packetLength, a_packetStart, a_packetFinish, a_packetDue, a_heapFlow, a_heapSize, a_key, a_home, a_place, a_sentFlow, a_sentLength, a_sentLeft, a_sentDue) => wX_run_39 post x1 x2 N x3 x4 f_flowCount f_shareTotal f_queueDepth f_longest f_ticksPassed f_virtual f_usedWeight f_idle f_sent f_worst f_startHeap f_finishHeap f_linkFlow f_linkLength f_linkRemaining f_linkDue a_weights a_unitCharge a_lastFinish a_lastDue a_front a_waiting a_packetLength a_packetStart a_packetFinish a_packetDue a_heapFlow a_heapSize a_key a_home a_place a_sentFlow a_sentLength a_sentLeft a_sentDue
def rn_y (post : Int32 → SY → Prop) (x1 x2 : Int32) (N : Nat) (x3 : Int32) (v : SY) : Prop := match v with
  | (g_n, g_c, g_q, g_m, g_now, g_sent, g_idle, g_v, g_worst, g_count, b_flows, b_waiting, b_link, b_records) => wY_run_36 post x1 x2 N x3 g_n g_c g_q g_m g_now g_sent g_idle g_v g_worst g_count b_flows b_waiting b_link b_records
def nx_y (post : Int32 → SY → Prop) (x1 : Int32) (N : Nat) (x2 : Int32) (v : SY) : Prop := match v with
  | (g_n, g_c, g_q, g_m, g_now, g_sent, g_idle, g_v, g_worst, g_count, b_flows, b_waiting, b_link, b_records) => wY_next_45 post x1 N x2 g_n g_c g_q g_m g_now g_sent g_idle g_v g_worst g_count b_flows b_waiting b_link b_records
theorem rn_yt {z M : Int32} {v' : SY} {post : Int32 → SY → Prop} {ticks N : Nat} {x2 : Int32} (ht : ticks ≤ 1000) : ∀ (d i : Nat) (v : SY), wf_yt z M d v v' → i + d ≤ ticks → rn_y post (nI ticks) x2 N (nI (i + d)) v' → rn_y post (nI ticks) x2 (N + d) (nI i) v
  | 0, i, v, h, hi, hy => by
    have e : v' = v := h
    rw [← e]
    exact hy
  | d + 1, i, v, h, hi, hy => by
    obtain ⟨_, w, hw, hr⟩ := h
    have ih := rn_yt (post := post) (N := N) (x2 := x2) ht d (i + 1) w hr (by omega) (by rw [show i + 1 + d = i + (d + 1) from by omega]; exact hy)
    obtain ⟨g_n, g_c, g_q, g_m, g_now, g_sent, g_idle, g_v, g_worst, g_count, b_flows, b_waiting, b_link, b_records⟩ := v
    obtain ⟨g_n2, g_c2, g_q2, g_m2, g_now2, g_sent2, g_idle2, g_v2, g_worst2, g_count2, b_flows2, b_waiting2, b_link2, b_records2⟩ := w
    show wY_run_36 post (nI ticks) x2 ((N + d) + 1) (nI i) g_n g_c g_q g_m g_now g_sent g_idle g_v g_worst g_count b_flows b_waiting b_link b_records
    exact br_f (nI_ge (by omega) (by omega)) (hw _ (nm_r (nI_1 i) ih))
theorem nx_yt {z : Int32} {v' : SY} {post : Int32 → SY → Prop} {m N : Nat} (hm : m ≤ 32) : ∀ (d i : Nat) (v : SY), wf_yt z (nI m) d v v' → i + d ≤ m → nx_y post z N (nI (i + d)) v' → nx_y post z (N + d) (nI i) v
  | 0, i, v, h, hi, hy => by
    have e : v' = v := h
    rw [← e]
    exact hy
  | d + 1, i, v, h, hi, hy => by
    obtain ⟨⟨h1, h2⟩, w, hw, hr⟩ := h
    have ih := nx_yt (post := post) (N := N) hm d (i + 1) w hr (by omega) (by rw [show i + 1 + d = i + (d + 1) from by omega]; exact hy)
    obtain ⟨g_n, g_c, g_q, g_m, g_now, g_sent, g_idle, g_v, g_worst, g_count, b_flows, b_waiting, b_link, b_records⟩ := v
    obtain ⟨g_n2, g_c2, g_q2, g_m2, g_now2, g_sent2, g_idle2, g_v2, g_worst2, g_count2, b_flows2, b_waiting2, b_link2, b_records2⟩ := w
    have e1 : g_sent = z := h1
    have e2 : g_m = nI m := h2
    show wY_next_45 post z ((N + d) + 1) (nI i) g_n g_c g_q g_m g_now g_sent g_idle g_v g_worst g_count b_flows b_waiting b_link b_records
    refine br_f ?_ (br_t e1 (hw _ (nm_r (nI_1 i) ih)))
    rw [e2]
    exact nI_ge (by omega) (by omega)
theorem rn_loop {k ticks : Nat} (hk : k ≤ 2052) (ht : ticks ≤ 1000) : ∀ (d now ev : Nat) (u : SX) (v : SY), wf_R k now u v → now + d ≤ 20000 → d + ev ≤ ticks →
    ∃ (u' : SX) (v' : SY) (sz : Int32), i_Rel k u' v' ∧ (∀ (post : Int32 → SX → Prop) (x2 : Int32), post (sz - x2) u' → ∃ N, rn_x post (nI ticks) x2 N (nI d) (nI ev) u) ∧
      (∀ (post : Int32 → SY → Prop) (x2 : Int32), post (sz - x2) v' → ∃ N, rn_y post (nI ticks) x2 N (nI (ticks - d)) v) := by
  intro d
  induction d using Nat.strongRecOn with
  | ind d ih =>
    intro now ev u v R hnow hev
    by_cases d0 : d = 0
    · subst d0
      refine wf_el (P := fun u v => ∃ (u' : SX) (v' : SY) (sz : Int32), i_Rel k u' v' ∧ (∀ (post : Int32 → SX → Prop) (x2 : Int32), post (sz - x2) u' → ∃ N, rn_x post (nI ticks) x2 N (nI 0) (nI ev) u) ∧
        (∀ (post : Int32 → SY → Prop) (x2 : Int32), post (sz - x2) v' → ∃ N, rn_y post (nI ticks) x2 N (nI (ticks - 0)) v)) ?_ R
      intro n c q m sn lr V W fr hm L lkF lkL lkR lkD wts uc lfn ldu frt wtg pln pst pfi pdu hf hs key hom pl sF sL sT sD flw wai lnk rec idle worst sh fh F
      refine ⟨(nI n, nI c, nI q, nI m, nI now, V, nI (qf_S W n), idle, nI sn, worst, sh, fh, lkF, lkL, lkR, lkD, wts, uc, lfn, ldu, frt, wtg, pln, pst, pfi, pdu, hf, hs, key, hom, pl, sF, sL, sT, sD), (nI n, nI c, nI q, nI m, nI now, nI sn, idle, V, worst, nI L.length, flw, wai, lnk, rec), nI sn, wf_rel F, fun post x2 hp => ⟨1, ?_⟩, fun post x2 hp => ⟨1, br_t (nI_le (by omega) (by omega)) hp⟩⟩
      exact br_c (fun _ => hp) (fun _ => br_t (nI_le (b := 0) (Nat.le_refl 0) (by decide)) hp)
    · refine wf_el (P := fun u v => ∃ (u' : SX) (v' : SY) (sz : Int32), i_Rel k u' v' ∧ (∀ (post : Int32 → SX → Prop) (x2 : Int32), post (sz - x2) u' → ∃ N, rn_x post (nI ticks) x2 N (nI d) (nI ev) u) ∧
        (∀ (post : Int32 → SY → Prop) (x2 : Int32), post (sz - x2) v' → ∃ N, rn_y post (nI ticks) x2 N (nI (ticks - d)) v)) ?_ R
      intro n c q m sn lr V W fr hm L lkF lkL lkR lkD wts uc lfn ldu frt wtg pln pst pfi pdu hf hs key hom pl sF sL sT sD flw wai lnk rec idle worst sh fh F
      obtain ⟨st, u1, v1, s1, s2, s3, s4, s5, _⟩ := ev_event (idle := idle) (worst := worst) (sh := sh) (fh := fh) hk F (d := d) (by omega) (by omega) hnow
      obtain ⟨u', v', sz, r1, r2, r3⟩ := ih (d - st) (by omega) (now + st) (ev + 1) u1 v1 s3 (by omega) (by omega)
      refine ⟨u', v', sz, r1, fun post x2 hp => ?_, fun post x2 hp => ?_⟩
      · obtain ⟨N, hN⟩ := r2 post x2 hp
        obtain ⟨f_flowCount, f_shareTotal, f_queueDepth, f_longest, f_ticksPassed, f_virtual, f_usedWeight, f_idle, f_sent, f_worst, f_startHeap, f_finishHeap, f_linkFlow, f_linkLength, f_linkRemaining, f_linkDue, a_weights, a_unitCharge, a_lastFinish, a_lastDue, a_front, a_waiting, a_packetLength, a_packetStart, a_packetFinish, a_packetDue, a_heapFlow, a_heapSize, a_key, a_home, a_place, a_sentFlow, a_sentLength, a_sentLeft, a_sentDue⟩ := u1
        refine ⟨N + 1, br_f (nI_ge (by omega) (by omega)) (br_f (nI_nle (by omega) (by omega)) (s4 _ (nm_r (e' := nI (d - st)) (pk_sub s2) (nm_r (nI_1 ev) hN))))⟩
      · obtain ⟨N, hN⟩ := r3 post x2 hp
        rw [show ticks - (d - st) = ticks - d + st from by omega] at hN
        exact ⟨N + st, rn_yt ht st (ticks - d) _ s5 (by omega) hN⟩
theorem i_vc_run {k : Nat} {u : SX} {v : SY} (I : i_Rel k u v) (hk : k + 4 ≤ 2052) (v1 : Int32) : wpX_run (fun r u' => wpY_run (fun r' v' => r' = r ∧ i_Rel (k + 4) u' v') v v1) u v1 := by
  refine wf_eli (P := fun u v => wpX_run (fun r u' => wpY_run (fun r' v' => r' = r ∧ i_Rel (k + 4) u' v') v v1) u v1) ?_ I
  intro now n c q m sn lr V W fr hm L lkF lkL lkR lkD wts uc lfn ldu frt wtg pln pst pfi pdu hf hs key hom pl sF sL sT sD flw wai lnk rec idle worst sh fh F
  by_cases h0 : v1 < 0
  · exact br_t h0 (br_t h0 ⟨rfl, wf_rel (wf_up F)⟩)
  · obtain ⟨j, hj, rfl⟩ := nI_of h0
    have hnow : now ≤ 20000 := F.1.2.2.2.2.2.2.2.2.1
    by_cases h1 : j ≤ 1000
    · have b1 : nI j ≤ 1000 := nI_le (b := 1000) h1 (by decide)
      by_cases h2 : now + j ≤ 20000
      · have b2 : nI now + nI j ≤ 20000 := by
          rw [nI_add]
          exact nI_le (b := 20000) h2 (by decide)
        obtain ⟨u', v', sz, r1, r2, r3⟩ := rn_loop (ticks := j) (by omega) h1 j now 0 _ _ (wf_mk (sh := sh) (fh := fh) (idle := idle) (worst := worst) F) h2 (by omega)
        rw [Nat.sub_self] at r3
        exact br_f h0 (br_t b1 (br_t b2 (r2 _ _ (br_f h0 (br_t b1 (br_t b2 (r3 _ _ ⟨rfl, i_up r1⟩)))))))
      · have b2 : ¬ nI now + nI j ≤ 20000 := by
          rw [nI_add]
          exact nI_ge (a := 20000) (by omega) (by omega)
        exact br_f h0 (br_t b1 (br_f b2 (br_f h0 (br_t b1 (br_f b2 ⟨rfl, wf_rel (wf_up F)⟩)))))
    · have b1 : ¬ nI j ≤ 1000 := nI_ge (a := 1000) (by omega) hj
      exact br_f h0 (br_f b1 (br_f h0 (br_f b1 ⟨rfl, wf_rel (wf_up F)⟩)))
/-- a packet is on the link or waits: one leaves -/
theorem nx_16 {k : Nat} {n : Nat} {c : Nat} {q : Nat} {m : Nat} {now : Nat} {sn : Nat} {lr : Nat} {V : Int64} {W : Nat → Nat} {fr : Nat → Nat} {hm : Nat → Nat} {L : List qf_P} {lkF : Int32} {lkL : Int32} {lkR : Int32} {lkD : Int64} {wts : Nat → Int32} {uc : Nat → Int32} {lfn : Nat → Int64} {ldu : Nat → Int64} {frt : Nat → Int32} {wtg : Nat → Int32} {pln : Nat → Int32} {pst : Nat → Int64} {pfi : Nat → Int64} {pdu : Nat → Int64} {hf : Nat → Int32} {hs : Nat → Int32} {key : Nat → Int64} {hom : Nat → Int32} {pl : Nat → Int32} {sF : Nat → Int32} {sL : Nat → Int32} {sT : Nat → Int32} {sD : Nat → Int64} {flw : Nat → Int64} {wai : Nat → Int64} {lnk : Nat → Int64} {rec : Nat → Int64} {idle : Int32} {worst : Int64} {sh : Int32} {fh : Int32} (hk : k + 4 ≤ 2052) (F : wf_I k n c q m now sn lr V W fr hm L lkF lkL lkR lkD wts uc lfn ldu frt wtg pln pst pfi pdu hf hs key hom pl sF sL sT sD flw wai lnk rec) (hb : lr ≠ 0 ∨ L ≠ []) {Q : Int32 → SX → Prop} (hQ : ∀ r u', wY_next_20 (fun r' v' => r' = r ∧ i_Rel (k + 4) u' v') (nI n) (nI c) (nI q) (nI m) (nI now) (nI sn) idle V worst (nI L.length) flw wai lnk rec → Q r u') : wX_next_16 Q (nI n) (nI c) (nI q) (nI m) (nI now) V (nI (qf_S W n)) idle (nI sn) worst sh fh lkF lkL lkR lkD wts uc lfn ldu frt wtg pln pst pfi pdu hf hs key hom pl sF sL sT sD := by
  have hN : wf_N n c q m now sn := F.1
  unfold wf_N at hN
  by_cases h2 : now + m ≤ 20000
  · have b2 : nI now + nI m ≤ 20000 := by
      rw [nI_add]
      exact nI_le (b := 20000) h2 (by decide)
    obtain ⟨st, u1, v1, s1, s2, s3, s4, s5, s6⟩ := ev_event (idle := idle) (worst := worst) (sh := sh) (fh := fh) (by omega : k ≤ 2052) F (d := m) (by omega) (by omega) h2
    have s6' := s6 hb rfl
    refine br_t b2 (s4 _ ?_)
    have key : ∀ (u1 : SX) (v1 : SY), wf_R k (now + st) u1 v1 → v1.2.2.2.2.2.1 = nI (sn + 1) → wf_yt (nI sn) (nI m) st (nI n, nI c, nI q, nI m, nI now, nI sn, idle, V, worst, nI L.length, flw, wai, lnk, rec) v1 →
        (fun (r_3 : Int32) (u : SX) => match u with | (f_flowCount, f_shareTotal, f_queueDepth, f_longest, f_ticksPassed, f_virtual, f_usedWeight, f_idle, f_sent, f_worst, f_startHeap, f_finishHeap, f_linkFlow, f_linkLength, f_linkRemaining, f_linkDue, a_weights, a_unitCharge, a_lastFinish, a_lastDue, a_front, a_waiting, a_packetLength, a_packetStart, a_packetFinish, a_packetDue, a_heapFlow, a_heapSize, a_key, a_home, a_place, a_sentFlow, a_sentLength, a_sentLeft, a_sentDue) => (vp_in ((f_sent - 1) &&& 31) 32 ∧ (Q (a_sentFlow ((f_sent - 1) &&& 31).toNatClampNeg) (f_flowCount, f_shareTotal, f_queueDepth, f_longest, f_ticksPassed, f_virtual, f_usedWeight, f_idle, f_sent, f_worst, f_startHeap, f_finishHeap, f_linkFlow, f_linkLength, f_linkRemaining, f_linkDue, a_weights, a_unitCharge, a_lastFinish, a_lastDue, a_front, a_waiting, a_packetLength, a_packetStart, a_packetFinish, a_packetDue, a_heapFlow, a_heapSize, a_key, a_home, a_place, a_sentFlow, a_sentLength, a_sentLeft, a_sentDue)))) (nI st) u1 := by
      intro u1 v1 s3
      refine wf_el (P := fun u1 v1 => v1.2.2.2.2.2.1 = nI (sn + 1) → wf_yt (nI sn) (nI m) st (nI n, nI c, nI q, nI m, nI now, nI sn, idle, V, worst, nI L.length, flw, wai, lnk, rec) v1 →
        (fun (r_3 : Int32) (u : SX) => match u with | (f_flowCount, f_shareTotal, f_queueDepth, f_longest, f_ticksPassed, f_virtual, f_usedWeight, f_idle, f_sent, f_worst, f_startHeap, f_finishHeap, f_linkFlow, f_linkLength, f_linkRemaining, f_linkDue, a_weights, a_unitCharge, a_lastFinish, a_lastDue, a_front, a_waiting, a_packetLength, a_packetStart, a_packetFinish, a_packetDue, a_heapFlow, a_heapSize, a_key, a_home, a_place, a_sentFlow, a_sentLength, a_sentLeft, a_sentDue) => (vp_in ((f_sent - 1) &&& 31) 32 ∧ (Q (a_sentFlow ((f_sent - 1) &&& 31).toNatClampNeg) (f_flowCount, f_shareTotal, f_queueDepth, f_longest, f_ticksPassed, f_virtual, f_usedWeight, f_idle, f_sent, f_worst, f_startHeap, f_finishHeap, f_linkFlow, f_linkLength, f_linkRemaining, f_linkDue, a_weights, a_unitCharge, a_lastFinish, a_lastDue, a_front, a_waiting, a_packetLength, a_packetStart, a_packetFinish, a_packetDue, a_heapFlow, a_heapSize, a_key, a_home, a_place, a_sentFlow, a_sentLength, a_sentLeft, a_sentDue)))) (nI st) u1) ?_ s3
      intro n2 c2 q2 m2 sn2 lr2 V2 W2 fr2 hm2 L2 lkF2 lkL2 lkR2 lkD2 wts2 uc2 lfn2 ldu2 frt2 wtg2 pln2 pst2 pfi2 pdu2 hf2 hs2 key2 hom2 pl2 sF2 sL2 sT2 sD2 flw2 wai2 lnk2 rec2 idle2 worst2 sh2 fh2 F2 e6 t5
      have hN2 : wf_N n2 c2 q2 m2 (now + st) sn2 := F2.1
      unfold wf_N at hN2
      have e6' : nI sn2 = nI (sn + 1) := e6
      rw [nI_eq (by omega) (by omega)] at e6'
      subst e6'
      have ei : nI (sn + 1) - 1 &&& 31 = nI (sn % 32) := by
        rw [nI_pred]
        exact pk_andN (by omega) 5 (by decide)
      have hS : wf_S (sn + 1) sF2 sL2 sT2 sD2 rec2 := F2.2.2.2.2.2.2.2.2.2
      have h1 := (hS 0 (by omega) (by omega)).1
      have e0 : (sn + 1 - 1 - 0) % 32 = sn % 32 := by omega
      rw [e0] at h1
      have ha : (rec2 1).toInt32 = sF2 (nI (sn + 1) - 1 &&& 31).toNatClampNeg := by
        rw [ei, nI_clamp (by omega)]
        have h1' : rec2 1 = (sF2 (sn % 32)).toInt64 := h1
        rw [h1', Int32.toInt32_toInt64]
      refine And.intro ?_ ?_
      · rw [ei]
        exact vp_in_nI (by omega) (by decide)
      · refine hQ _ _ (br_t b2 ⟨1 + st, nx_yt (N := 1) (by omega) st 0 _ t5 (by omega) ?_⟩)
        rw [Nat.zero_add]
        refine br_c (fun _ => ⟨ha, wf_rel (wf_up F2)⟩) (fun _ => br_f ?_ ⟨ha, wf_rel (wf_up F2)⟩)
        rw [nI_eq (by omega) (by omega)]
        omega
    exact key u1 v1 s3 s6' s5
  · have b2 : ¬ nI now + nI m ≤ 20000 := by
      rw [nI_add]
      exact nI_ge (a := 20000) (by omega) (by omega)
    exact br_f b2 (hQ _ _ (br_f b2 ⟨rfl, wf_rel (wf_up F)⟩))
theorem i_vc_next {k : Nat} {u : SX} {v : SY} (I : i_Rel k u v) (hk : k + 4 ≤ 2052) : wpX_next (fun r u' => wpY_next (fun r' v' => r' = r ∧ i_Rel (k + 4) u' v') v) u := by
  refine wf_eli (P := fun u v => wpX_next (fun r u' => wpY_next (fun r' v' => r' = r ∧ i_Rel (k + 4) u' v') v) u) ?_ I
  intro now n c q m sn lr V W fr hm L lkF lkL lkR lkD wts uc lfn ldu frt wtg pln pst pfi pdu hf hs key hom pl sF sL sT sD flw wai lnk rec idle worst sh fh F
  have F0 := F
  obtain ⟨hN, hV, hU, hF, hQ, hW, hX, hH, hK, hS⟩ := F0
  unfold wf_N at hN
  have hl : L.length < 2 ^ 31 := by
    have := (wf_yL F).2.1
    omega
  rcases hK with ⟨y1, y2, y3⟩ | ⟨lf, ll, y1, y2, y3, y4, y5, y6, y7, y8, y9, y10, y11, y12⟩
  · subst y2
    refine br_f (by decide) (ev_any hH.1 (by omega) hH.2 (fun p hp => (hQ.1 p hp).1) (fun hL => br_t rfl ?_) (fun hL => br_f (by decide) ?_))
    · subst hL
      exact br_t y3 (br_t rfl ⟨rfl, wf_rel (wf_up F)⟩)
    · exact nx_16 hk F (Or.inr hL) (fun r u' h => br_t y3 (br_f (nI_ne0 (List.length_pos_iff.mpr hL) hl) h))
  · have hne : ¬ lnk 3 = 0 := yk_ne y11 y3 (by omega)
    refine br_t (by rw [y6]; exact nI_pos' (by omega)) ?_
    exact nx_16 hk F (Or.inl (by omega)) (fun r u' h => br_f hne h)
end
section
/-! the calls that only read -/
theorem i_vc_now {k : Nat} {u : SX} {v : SY} (I : i_Rel k u v) (hk : k + 4 ≤ 2052) : wpX_now (fun r => wpY_now (fun r' => r' = r ∧ i_Rel (k + 4) u v) v) u := by
  refine wf_eli (P := fun u v => wpX_now (fun r => wpY_now (fun r' => r' = r ∧ i_Rel (k + 4) u v) v) u) ?_ I
  intro now n c q m sn lr V W fr hm L lkF lkL lkR lkD wts uc lfn ldu frt wtg pln pst pfi pdu hf hs key hom pl sF sL sT sD flw wai lnk rec idle worst sh fh F
  exact And.intro rfl (wf_rel (wf_up F))
theorem i_vc_virtualTime {k : Nat} {u : SX} {v : SY} (I : i_Rel k u v) (hk : k + 4 ≤ 2052) : wpX_virtualTime (fun r => wpY_virtualTime (fun r' => r' = r ∧ i_Rel (k + 4) u v) v) u := by
  refine wf_eli (P := fun u v => wpX_virtualTime (fun r => wpY_virtualTime (fun r' => r' = r ∧ i_Rel (k + 4) u v) v) u) ?_ I
  intro now n c q m sn lr V W fr hm L lkF lkL lkR lkD wts uc lfn ldu frt wtg pln pst pfi pdu hf hs key hom pl sF sL sT sD flw wai lnk rec idle worst sh fh F
  exact And.intro rfl (wf_rel (wf_up F))
theorem i_vc_sentCount {k : Nat} {u : SX} {v : SY} (I : i_Rel k u v) (hk : k + 4 ≤ 2052) : wpX_sentCount (fun r => wpY_sentCount (fun r' => r' = r ∧ i_Rel (k + 4) u v) v) u := by
  refine wf_eli (P := fun u v => wpX_sentCount (fun r => wpY_sentCount (fun r' => r' = r ∧ i_Rel (k + 4) u v) v) u) ?_ I
  intro now n c q m sn lr V W fr hm L lkF lkL lkR lkD wts uc lfn ldu frt wtg pln pst pfi pdu hf hs key hom pl sF sL sT sD flw wai lnk rec idle worst sh fh F
  exact And.intro rfl (wf_rel (wf_up F))
theorem i_vc_idleTicks {k : Nat} {u : SX} {v : SY} (I : i_Rel k u v) (hk : k + 4 ≤ 2052) : wpX_idleTicks (fun r => wpY_idleTicks (fun r' => r' = r ∧ i_Rel (k + 4) u v) v) u := by
  refine wf_eli (P := fun u v => wpX_idleTicks (fun r => wpY_idleTicks (fun r' => r' = r ∧ i_Rel (k + 4) u v) v) u) ?_ I
  intro now n c q m sn lr V W fr hm L lkF lkL lkR lkD wts uc lfn ldu frt wtg pln pst pfi pdu hf hs key hom pl sF sL sT sD flw wai lnk rec idle worst sh fh F
  exact And.intro rfl (wf_rel (wf_up F))
theorem i_vc_worstLateness {k : Nat} {u : SX} {v : SY} (I : i_Rel k u v) (hk : k + 4 ≤ 2052) : wpX_worstLateness (fun r => wpY_worstLateness (fun r' => r' = r ∧ i_Rel (k + 4) u v) v) u := by
  refine wf_eli (P := fun u v => wpX_worstLateness (fun r => wpY_worstLateness (fun r' => r' = r ∧ i_Rel (k + 4) u v) v) u) ?_ I
  intro now n c q m sn lr V W fr hm L lkF lkL lkR lkD wts uc lfn ldu frt wtg pln pst pfi pdu hf hs key hom pl sF sL sT sD flw wai lnk rec idle worst sh fh F
  exact And.intro rfl (wf_rel (wf_up F))
theorem i_vc_freeWeight {k : Nat} {u : SX} {v : SY} (I : i_Rel k u v) (hk : k + 4 ≤ 2052) : wpX_freeWeight (fun r => wpY_freeWeight (fun r' => r' = r ∧ i_Rel (k + 4) u v) v) u := by
  refine wf_eli (P := fun u v => wpX_freeWeight (fun r => wpY_freeWeight (fun r' => r' = r ∧ i_Rel (k + 4) u v) v) u) ?_ I
  intro now n c q m sn lr V W fr hm L lkF lkL lkR lkD wts uc lfn ldu frt wtg pln pst pfi pdu hf hs key hom pl sF sL sT sD flw wai lnk rec idle worst sh fh F
  have F0 := F
  obtain ⟨hN, hV, hU, hF, hQ, hW, hX, hH, hK, hS⟩ := F0
  unfold wf_N at hN
  refine yh_free (n := n) (c := c) (W := W) (by omega) (by omega) (fun f hf => (hF f hf).2.2.1) hU ⟨?_, wf_rel (wf_up F)⟩
  exact (pk_sub hU).symm
section
variable {f_flowCount : Int32} {f_shareTotal : Int32} {f_queueDepth : Int32} {f_longest : Int32} {f_ticksPassed : Int32} {f_virtual : Int64} {f_usedWeight : Int32} {f_idle : Int32} {f_sent : Int32} {f_worst : Int64} {f_startHeap : Int32} {f_finishHeap : Int32} {f_linkFlow : Int32} {f_linkLength : Int32} {f_linkRemaining : Int32} {f_linkDue : Int64} {a_weights : Nat → Int32} {a_unitCharge : Nat → Int32} {a_lastFinish : Nat → Int64} {a_lastDue : Nat → Int64} {a_front : Nat → Int32} {a_waiting : Nat → Int32} {a_packetLength : Nat → Int32} {a_packetStart : Nat → Int64} {a_packetFinish : Nat → Int64} {a_packetDue : Nat → Int64} {a_heapFlow : Nat → Int32} {a_heapSize : Nat → Int32} {a_key : Nat → Int64} {a_home : Nat → Int32} {a_place : Nat → Int32} {a_sentFlow : Nat → Int32} {a_sentLength : Nat → Int32} {a_sentLeft : Nat → Int32} {a_sentDue : Nat → Int64}
theorem hx_isn {p0 : Int32} (h : p0 < 0) {post : Int32 → Prop} (hp : post 0) : wpX_isFlow post (f_flowCount, f_shareTotal, f_queueDepth, f_longest, f_ticksPassed, f_virtual, f_usedWeight, f_idle, f_sent, f_worst, f_startHeap, f_finishHeap, f_linkFlow, f_linkLength, f_linkRemaining, f_linkDue, a_weights, a_unitCharge, a_lastFinish, a_lastDue, a_front, a_waiting, a_packetLength, a_packetStart, a_packetFinish, a_packetDue, a_heapFlow, a_heapSize, a_key, a_home, a_place, a_sentFlow, a_sentLength, a_sentLeft, a_sentDue) p0 := br_t h hp
theorem hx_isb {p0 : Int32} {n : Nat} (h0 : ¬ p0 < 0) (h : nI n ≤ p0) {post : Int32 → Prop} (hp : post 0) : wpX_isFlow post (nI n, f_shareTotal, f_queueDepth, f_longest, f_ticksPassed, f_virtual, f_usedWeight, f_idle, f_sent, f_worst, f_startHeap, f_finishHeap, f_linkFlow, f_linkLength, f_linkRemaining, f_linkDue, a_weights, a_unitCharge, a_lastFinish, a_lastDue, a_front, a_waiting, a_packetLength, a_packetStart, a_packetFinish, a_packetDue, a_heapFlow, a_heapSize, a_key, a_home, a_place, a_sentFlow, a_sentLength, a_sentLeft, a_sentDue) p0 := br_f h0 (br_t h hp)
theorem hx_isf {j n : Nat} (h : j < n) (hn : n ≤ 16) {post : Int32 → Prop} (hp : post 1) : wpX_isFlow post (nI n, f_shareTotal, f_queueDepth, f_longest, f_ticksPassed, f_virtual, f_usedWeight, f_idle, f_sent, f_worst, f_startHeap, f_finishHeap, f_linkFlow, f_linkLength, f_linkRemaining, f_linkDue, a_weights, a_unitCharge, a_lastFinish, a_lastDue, a_front, a_waiting, a_packetLength, a_packetStart, a_packetFinish, a_packetDue, a_heapFlow, a_heapSize, a_key, a_home, a_place, a_sentFlow, a_sentLength, a_sentLeft, a_sentDue) (nI j) := br_f (nI_pos (by omega)) (br_f (nI_ge h (by omega)) hp)
end
theorem in_nlt {n : Nat} {x : Int32} (h : nI n ≤ x) : ¬ x < nI n := by
  rw [Int32.lt_iff_toInt_lt]
  rw [Int32.le_iff_toInt_le] at h
  omega
section
variable {k : Nat} {n : Nat} {c : Nat} {q : Nat} {m : Nat} {now : Nat} {sn : Nat} {lr : Nat} {V : Int64} {W : Nat → Nat} {fr : Nat → Nat} {hm : Nat → Nat} {L : List qf_P} {lkF : Int32} {lkL : Int32} {lkR : Int32} {lkD : Int64} {wts : Nat → Int32} {uc : Nat → Int32} {lfn : Nat → Int64} {ldu : Nat → Int64} {frt : Nat → Int32} {wtg : Nat → Int32} {pln : Nat → Int32} {pst : Nat → Int64} {pfi : Nat → Int64} {pdu : Nat → Int64} {hf : Nat → Int32} {hs : Nat → Int32} {key : Nat → Int64} {hom : Nat → Int32} {pl : Nat → Int32} {sF : Nat → Int32} {sL : Nat → Int32} {sT : Nat → Int32} {sD : Nat → Int64} {flw : Nat → Int64} {wai : Nat → Int64} {lnk : Nat → Int64} {rec : Nat → Int64} {idle : Int32} {worst : Int64} {sh : Int32} {fh : Int32}
/-- a closed flow has no packets -/
theorem in_cl (F : wf_I k n c q m now sn lr V W fr hm L lkF lkL lkR lkD wts uc lfn ldu frt wtg pln pst pfi pdu hf hs key hom pl sF sL sT sD flw wai lnk rec) {j : Nat} (h : W j = 0) : qf_q L j = [] := by
  cases hq : qf_q L j with
  | nil => rfl
  | cons p t =>
    have h1 := qf_mem (L := L) (f := j) (p := p) (by rw [hq]; exact List.mem_cons_self)
    have h2 := (F.2.2.2.2.1.1 p h1.1).2.1
    rw [h1.2] at h2
    omega
theorem in_f39 (F : wf_I k n c q m now sn lr V W fr hm L lkF lkL lkR lkD wts uc lfn ldu frt wtg pln pst pfi pdu hf hs key hom pl sF sL sT sD flw wai lnk rec) {j : Nat} (hj : j < n) {x : Int32} (hx : x = 8 ∨ x = 9 ∨ x = 5 ∨ x = 6) {R : Prop} (hR : R) {Q : Int64 → Prop} (hQ : ∀ r, wY_flowInfo_43 (fun r' => r' = r ∧ R) (nI j) x (nI n) (nI c) (nI q) (nI m) (nI now) (nI sn) idle V worst (nI L.length) flw wai lnk rec → Q r) : wX_flowInfo_39 Q (nI j) x (nI n) (nI c) (nI q) (nI m) (nI now) V (nI (qf_S W n)) idle (nI sn) worst sh fh lkF lkL lkR lkD wts uc lfn ldu frt wtg pln pst pfi pdu hf hs key hom pl sF sL sT sD := by
  have hYL := wf_yL F
  have hcl := in_cl F (j := j)
  obtain ⟨hN, hV, hU, hF, hq, hW, hX, hH, hK, hS⟩ := F
  unfold wf_N at hN
  obtain ⟨a1, a2, a3, a4, a5⟩ := hF j hj
  obtain ⟨x1, x2, x3, x4⟩ := hX j hj
  have vj : vp_in (nI j) 16 := vp_in_nI (by omega) (by decide)
  have ej : (nI j).toNatClampNeg = j := nI_clamp (by omega)
  have hlen : (qf_q L j).length < 2 ^ 31 := by
    have h1 := qd_len j L
    have h2 := hYL.2.1
    omega
  have y8 : nI j * 10 + 8 = nI (10 * j + 8) := yh_ix j 8
  have y5 : nI j * 10 + 5 = nI (10 * j + 5) := yh_ix j 5
  have y6 : nI j * 10 + 6 = nI (10 * j + 6) := yh_ix j 6
  have yw : ∀ r : Int64, (nI (qf_q L j).length).toInt64 = r → wY_flowInfo_43 (fun r' => r' = r ∧ R) (nI j) 9 (nI n) (nI c) (nI q) (nI m) (nI now) (nI sn) idle V worst (nI L.length) flw wai lnk rec := fun r h => br_t rfl (yh_wait hYL (by omega) ⟨h, hR⟩)
  have yf8 : ∀ r : Int64, flw (10 * j + 8) = r → wY_flowInfo_43 (fun r' => r' = r ∧ R) (nI j) 8 (nI n) (nI c) (nI q) (nI m) (nI now) (nI sn) idle V worst (nI L.length) flw wai lnk rec := fun r h => br_f (by decide) (And.intro (by rw [y8]; exact vp_in_nI (by omega) (by decide)) ⟨by rw [y8, nI_clamp (by omega)]; exact h, hR⟩)
  have yf5 : ∀ r : Int64, flw (10 * j + 5) = r → wY_flowInfo_43 (fun r' => r' = r ∧ R) (nI j) 5 (nI n) (nI c) (nI q) (nI m) (nI now) (nI sn) idle V worst (nI L.length) flw wai lnk rec := fun r h => br_f (by decide) (And.intro (by rw [y5]; exact vp_in_nI (by omega) (by decide)) ⟨by rw [y5, nI_clamp (by omega)]; exact h, hR⟩)
  have yf6 : ∀ r : Int64, flw (10 * j + 6) = r → wY_flowInfo_43 (fun r' => r' = r ∧ R) (nI j) 6 (nI n) (nI c) (nI q) (nI m) (nI now) (nI sn) idle V worst (nI L.length) flw wai lnk rec := fun r h => br_f (by decide) (And.intro (by rw [y6]; exact vp_in_nI (by omega) (by decide)) ⟨by rw [y6, nI_clamp (by omega)]; exact h, hR⟩)
  refine And.intro vj ?_
  by_cases w0 : W j = 0
  · refine br_t (by rw [ej, a2, w0]; rfl) (hQ 0 ?_)
    rcases hx with h | h | h | h <;> subst h
    · exact yf8 0 (by rw [a3, w0]; rfl)
    · exact yw 0 (by rw [hcl w0]; rfl)
    · exact yf5 0 (a4 w0).1
    · exact yf6 0 (a4 w0).2
  · obtain ⟨b1, b2, b3, b4⟩ := a5 (by omega)
    refine br_f (by rw [ej, a2]; exact nI_ne0 (by omega) (by omega)) ?_
    rcases hx with h | h | h | h <;> subst h
    · exact br_t rfl (And.intro vj (hQ _ (yf8 _ (by rw [ej, a2, nI_l (by omega)]; exact a3))))
    · exact br_f (by decide) (br_t rfl (And.intro vj (hQ _ (yw _ (by rw [ej, x3])))))
    · exact br_f (by decide) (br_f (by decide) (br_t rfl (And.intro vj (hQ _ (yf5 _ (by rw [ej]; exact b2))))))
    · exact br_f (by decide) (br_f (by decide) (br_f (by decide) (And.intro vj (hQ _ (yf6 _ (by rw [ej]; exact b3))))))
theorem in_p37 (F : wf_I k n c q m now sn lr V W fr hm L lkF lkL lkR lkD wts uc lfn ldu frt wtg pln pst pfi pdu hf hs key hom pl sF sL sT sD flw wai lnk rec) {j : Nat} (hj : j < n) {x : Int32} (hx : x = 2 ∨ x = 4 ∨ x = 5 ∨ x = 6) (y : Int32) {R : Prop} (hR : R) {Q : Int64 → Prop} (hQ : ∀ r, wY_packetInfo_41 (fun r' => r' = r ∧ R) (nI j) y x (nI n) (nI c) (nI q) (nI m) (nI now) (nI sn) idle V worst (nI L.length) flw wai lnk rec → Q r) : wX_packetInfo_37 Q (nI j) y x (nI n) (nI c) (nI q) (nI m) (nI now) V (nI (qf_S W n)) idle (nI sn) worst sh fh lkF lkL lkR lkD wts uc lfn ldu frt wtg pln pst pfi pdu hf hs key hom pl sF sL sT sD := by
  have hYL := wf_yL F
  obtain ⟨hN, hV, hU, hF, hq, hW, hX, hH, hK, hS⟩ := F
  unfold wf_N at hN
  obtain ⟨x1, x2, x3, x4⟩ := hX j hj
  have vj : vp_in (nI j) 16 := vp_in_nI (by omega) (by decide)
  have ej : (nI j).toNatClampNeg = j := nI_clamp (by omega)
  have hlen : (qf_q L j).length ≤ 8 := Nat.le_trans (hq.2 j hj) (by omega)
  have miss : (∀ c, c < (qf_q L j).length → ¬ nI c = y) → wY_packetInfo_41 (fun r' => r' = -1 ∧ R) (nI j) y x (nI n) (nI c) (nI q) (nI m) (nI now) (nI sn) idle V worst (nI L.length) flw wai lnk rec := fun h => yh_findn hYL (by omega) h (br_f (by decide) ⟨rfl, hR⟩)
  by_cases h0 : y < 0
  · refine br_t h0 (hQ _ (miss (fun c hc e => ?_)))
    rw [← e] at h0
    exact nI_pos (by omega) h0
  · obtain ⟨i, hi, rfl⟩ := nI_of h0
    refine br_f h0 (And.intro vj ?_)
    by_cases h1 : i < (qf_q L j).length
    · refine br_t (by rw [ej, x3]; exact nI_lt h1 (by omega)) ?_
      obtain ⟨p, hp⟩ := qf_some (L := qf_q L j) h1
      obtain ⟨r1, r2, r3, r4⟩ := x4 i p hp
      obtain ⟨w, hw, hfind⟩ := yh_find (g_n := nI n) (g_c := nI c) (g_q := nI q) (g_m := nI m) (g_now := nI now) (g_sent := nI sn) (g_idle := idle) (g_v := V) (g_worst := worst) (b_flows := flw) (b_waiting := wai) (b_link := lnk) (b_records := rec) hYL (by omega : j < 16) hp
      have hwl := qf_lt hw
      have hll := hYL.2.1
      have hm := hYL.1 w p hw
      have hpm : p.2.1 ≤ m := (hq.1 p (List.mem_of_getElem? hw)).2.2.2.1
      refine hx_slot (f := j) (fr := fr j) (j := i) (by omega) x2 x1 (by omega) ?_
      have vs : vp_in (nI (8 * j + (fr j + i) % 8)) 128 := vp_in_nI (by omega) (by decide)
      have es : (nI (8 * j + (fr j + i) % 8)).toNatClampNeg = 8 * j + (fr j + i) % 8 := nI_clamp (by omega)
      have hit : ∀ (z : Nat) (r : Int64), z < 10 → x = nI z → wai (10 * w + z) = r → wY_packetInfo_41 (fun r' => r' = r ∧ R) (nI j) (nI i) x (nI n) (nI c) (nI q) (nI m) (nI now) (nI sn) idle V worst (nI L.length) flw wai lnk rec := by
        intro z r hc hxc h
        subst hxc
        refine hfind _ ?_
        refine br_t (nI_pos' (by omega)) (And.intro ?_ ⟨?_, hR⟩)
        · rw [nI_add]
          exact vp_in_nI (by omega) (by decide)
        · rw [nI_add, nI_clamp (by omega)]
          exact h
      rcases hx with h | h | h | h
      · refine br_t h (And.intro vs (hQ _ (hit 2 _ (by omega) h ?_)))
        rw [es, r1, nI_l (by omega)]
        exact hm.2.1
      · refine br_f (by rw [h]; decide) (br_t h (And.intro vs (hQ _ (hit 4 _ (by omega) h ?_))))
        rw [es, r2]
        exact hm.2.2.1
      · refine br_f (by rw [h]; decide) (br_f (by rw [h]; decide) (br_t h (And.intro vs (hQ _ (hit 5 _ (by omega) h ?_)))))
        rw [es, r3]
        exact hm.2.2.2.1
      · refine br_f (by rw [h]; decide) (br_f (by rw [h]; decide) (br_f (by rw [h]; decide) (And.intro vs (hQ _ (hit 6 _ (by omega) h ?_)))))
        rw [es, r4]
        exact hm.2.2.2.2
    · refine br_f (by rw [ej, x3]; exact nI_nlt (by omega) hi) (hQ _ (miss (fun c hc e => ?_)))
      rw [nI_eq (by omega) hi] at e
      omega
theorem in_l25 (F : wf_I k n c q m now sn lr V W fr hm L lkF lkL lkR lkD wts uc lfn ldu frt wtg pln pst pfi pdu hf hs key hom pl sF sL sT sD flw wai lnk rec) {x : Int32} (hx : x = 1 ∨ x = 2 ∨ x = 3 ∨ x = 6) {R : Prop} (hR : R) {Q : Int64 → Prop} (hQ : ∀ r, wY_linkInfo_25 (fun r' => r' = r ∧ R) x (nI n) (nI c) (nI q) (nI m) (nI now) (nI sn) idle V worst (nI L.length) flw wai lnk rec → Q r) : wX_linkInfo_25 Q x (nI n) (nI c) (nI q) (nI m) (nI now) V (nI (qf_S W n)) idle (nI sn) worst sh fh lkF lkL lkR lkD wts uc lfn ldu frt wtg pln pst pfi pdu hf hs key hom pl sF sL sT sD := by
  obtain ⟨hN, hV, hU, hF, hq, hW, hX, hH, hK, hS⟩ := F
  unfold wf_N at hN
  rcases hK with ⟨y1, y2, y3⟩ | ⟨lf, ll, y1, y2, y3, y4, y5, y6, y7, y8, y9, y10, y11, y12⟩
  · exact br_f (by rw [y2]; decide) (hQ _ (br_t y3 ⟨rfl, hR⟩))
  · have hne : ¬ lnk 3 = 0 := yk_ne y11 y3 (by omega)
    refine br_t (by rw [y6]; exact nI_pos' (by omega)) ?_
    rcases hx with h | h | h | h <;> subst h
    · exact br_t rfl (hQ _ (br_f hne (And.intro (vp_in_nI (n := 1) (by omega) (by decide)) ⟨by rw [y6, nI_l (by omega)]; exact y9, hR⟩)))
    · exact br_f (by decide) (br_t rfl (hQ _ (br_f hne (And.intro (vp_in_nI (n := 2) (by omega) (by decide)) ⟨by rw [y7, nI_l (by omega)]; exact y10, hR⟩))))
    · exact br_f (by decide) (br_f (by decide) (br_t rfl (hQ _ (br_f hne (And.intro (vp_in_nI (n := 3) (by omega) (by decide)) ⟨by rw [y8, nI_l (by omega)]; exact y11, hR⟩)))))
    · exact br_f (by decide) (br_f (by decide) (br_f (by decide) (hQ _ (br_f hne (And.intro (vp_in_nI (n := 6) (by omega) (by decide)) ⟨y12, hR⟩)))))
theorem in_s26 (F : wf_I k n c q m now sn lr V W fr hm L lkF lkL lkR lkD wts uc lfn ldu frt wtg pln pst pfi pdu hf hs key hom pl sF sL sT sD flw wai lnk rec) (y : Int32) {x : Int32} (hx : x = 1 ∨ x = 2 ∨ x = 7 ∨ x = 6) {R : Prop} (hR : R) {Q : Int64 → Prop} (hQ : ∀ r, wY_sentInfo_26 (fun r' => r' = r ∧ R) y x (nI n) (nI c) (nI q) (nI m) (nI now) (nI sn) idle V worst (nI L.length) flw wai lnk rec → Q r) : wX_sentInfo_26 Q y x (nI n) (nI c) (nI q) (nI m) (nI now) V (nI (qf_S W n)) idle (nI sn) worst sh fh lkF lkL lkR lkD wts uc lfn ldu frt wtg pln pst pfi pdu hf hs key hom pl sF sL sT sD := by
  obtain ⟨hN, hV, hU, hF, hq, hW, hX, hH, hK, hS⟩ := F
  unfold wf_N at hN
  by_cases h0 : y < 0
  · exact br_t h0 (hQ _ (br_t h0 ⟨rfl, hR⟩))
  · obtain ⟨b, hb, rfl⟩ := nI_of h0
    by_cases h1 : b < 32
    · have c1 : ¬ (32 : Int32) ≤ nI b := nI_ge (b := 32) h1 (by decide)
      by_cases h2 : b < sn
      · have c2 : nI b < nI sn := nI_lt h2 (by omega)
        obtain ⟨r1, r2, r7, r6⟩ := hS b h1 h2
        have e : nI sn - 1 - nI b &&& 31 = nI ((sn - 1 - b) % 32) := by
          rw [show nI sn - 1 = nI (sn - 1) from pk_sub (b := 1) (by omega), pk_sub (by omega)]
          exact pk_andN (by omega) 5 (by decide)
        have vs : vp_in (nI ((sn - 1 - b) % 32)) 32 := vp_in_nI (by omega) (by decide)
        have es : (nI ((sn - 1 - b) % 32)).toNatClampNeg = (sn - 1 - b) % 32 := nI_clamp (by omega)
        have hit : ∀ (z : Nat) (r : Int64), z < 10 → x = nI z → rec (10 * b + z) = r → wY_sentInfo_26 (fun r' => r' = r ∧ R) (nI b) x (nI n) (nI c) (nI q) (nI m) (nI now) (nI sn) idle V worst (nI L.length) flw wai lnk rec := by
          intro z r hc hxc h
          subst hxc
          refine br_f h0 (br_f c1 (br_t c2 (And.intro ?_ ⟨?_, hR⟩)))
          · rw [yh_ix]
            exact vp_in_nI (by omega) (by decide)
          · rw [yh_ix, nI_clamp (by omega)]
            exact h
        refine br_f h0 (br_f c1 (br_t c2 (nm_r e ?_)))
        rcases hx with h | h | h | h
        · refine br_t h (And.intro vs (hQ _ (hit 1 _ (by omega) h ?_)))
          rw [es]
          exact r1
        · refine br_f (by rw [h]; decide) (br_t h (And.intro vs (hQ _ (hit 2 _ (by omega) h ?_))))
          rw [es]
          exact r2
        · refine br_f (by rw [h]; decide) (br_f (by rw [h]; decide) (br_t h (And.intro vs (hQ _ (hit 7 _ (by omega) h ?_)))))
          rw [es]
          exact r7
        · refine br_f (by rw [h]; decide) (br_f (by rw [h]; decide) (br_f (by rw [h]; decide) (And.intro vs (hQ _ (hit 6 _ (by omega) h ?_)))))
          rw [es]
          exact r6
      · have c2 : ¬ nI b < nI sn := nI_nlt (by omega) hb
        exact br_f h0 (br_f c1 (br_f c2 (hQ _ (br_f h0 (br_f c1 (br_f c2 ⟨rfl, hR⟩))))))
    · have c1 : (32 : Int32) ≤ nI b := nI_le (a := 32) (by omega) hb
      exact br_f h0 (br_t c1 (hQ _ (br_f h0 (br_t c1 ⟨rfl, hR⟩))))
end
theorem i_vc_flowInfo {k : Nat} {u : SX} {v : SY} (I : i_Rel k u v) (hk : k + 4 ≤ 2052) (v1 : Int32) (v2 : Int32) : wpX_flowInfo (fun r => wpY_flowInfo (fun r' => r' = r ∧ i_Rel (k + 4) u v) v v1 v2) u v1 v2 := by
  refine wf_eli (P := fun u v => wpX_flowInfo (fun r => wpY_flowInfo (fun r' => r' = r ∧ i_Rel (k + 4) u v) v v1 v2) u v1 v2) ?_ I
  intro now n c q m sn lr V W fr hm L lkF lkL lkR lkD wts uc lfn ldu frt wtg pln pst pfi pdu hf hs key hom pl sF sL sT sD flw wai lnk rec idle worst sh fh F
  have hn : n ≤ 16 := F.1.2.1
  have R : i_Rel (k + 4) (nI n, nI c, nI q, nI m, nI now, V, nI (qf_S W n), idle, nI sn, worst, sh, fh, lkF, lkL, lkR, lkD, wts, uc, lfn, ldu, frt, wtg, pln, pst, pfi, pdu, hf, hs, key, hom, pl, sF, sL, sT, sD) (nI n, nI c, nI q, nI m, nI now, nI sn, idle, V, worst, nI L.length, flw, wai, lnk, rec) := wf_rel (wf_up F)
  by_cases h0 : v1 < 0
  · unfold wpX_flowInfo
    refine hx_isn h0 ?_
    exact br_t rfl (br_t h0 ⟨rfl, R⟩)
  · obtain ⟨j, hj, rfl⟩ := nI_of h0
    by_cases h1 : j < n
    · have c1 : nI j < nI n := nI_lt h1 (by omega)
      unfold wpX_flowInfo
      refine hx_isf h1 hn ?_
      refine br_f (by decide) ?_
      by_cases e8 : v2 = 8
      · exact br_t e8 (in_f39 F h1 (Or.inl e8) R (fun r h => br_f h0 (br_t c1 (br_t e8 h))))
      · refine br_f e8 ?_
        by_cases e9 : v2 = 9
        · exact br_t e9 (in_f39 F h1 (Or.inr (Or.inl e9)) R (fun r h => br_f h0 (br_t c1 (br_f e8 (br_t e9 h)))))
        · refine br_f e9 ?_
          by_cases e5 : v2 = 5
          · exact br_t e5 (in_f39 F h1 (Or.inr (Or.inr (Or.inl e5))) R (fun r h => br_f h0 (br_t c1 (br_f e8 (br_f e9 (br_t e5 h))))))
          · refine br_f e5 ?_
            by_cases e6 : v2 = 6
            · exact br_t e6 (in_f39 F h1 (Or.inr (Or.inr (Or.inr e6))) R (fun r h => br_f h0 (br_t c1 (br_f e8 (br_f e9 (br_f e5 (br_t e6 h)))))))
            · exact br_f e6 (br_f h0 (br_t c1 (br_f e8 (br_f e9 (br_f e5 (br_f e6 ⟨rfl, R⟩))))))
    · unfold wpX_flowInfo
      refine hx_isb h0 (nI_le (by omega) hj) ?_
      exact br_t rfl (br_f h0 (br_f (nI_nlt (by omega) hj) ⟨rfl, R⟩))
theorem i_vc_packetInfo {k : Nat} {u : SX} {v : SY} (I : i_Rel k u v) (hk : k + 4 ≤ 2052) (v1 : Int32) (v2 : Int32) (v3 : Int32) : wpX_packetInfo (fun r => wpY_packetInfo (fun r' => r' = r ∧ i_Rel (k + 4) u v) v v1 v2 v3) u v1 v2 v3 := by
  refine wf_eli (P := fun u v => wpX_packetInfo (fun r => wpY_packetInfo (fun r' => r' = r ∧ i_Rel (k + 4) u v) v v1 v2 v3) u v1 v2 v3) ?_ I
  intro now n c q m sn lr V W fr hm L lkF lkL lkR lkD wts uc lfn ldu frt wtg pln pst pfi pdu hf hs key hom pl sF sL sT sD flw wai lnk rec idle worst sh fh F
  have hn : n ≤ 16 := F.1.2.1
  have R : i_Rel (k + 4) (nI n, nI c, nI q, nI m, nI now, V, nI (qf_S W n), idle, nI sn, worst, sh, fh, lkF, lkL, lkR, lkD, wts, uc, lfn, ldu, frt, wtg, pln, pst, pfi, pdu, hf, hs, key, hom, pl, sF, sL, sT, sD) (nI n, nI c, nI q, nI m, nI now, nI sn, idle, V, worst, nI L.length, flw, wai, lnk, rec) := wf_rel (wf_up F)
  by_cases h0 : v1 < 0
  · unfold wpX_packetInfo
    refine hx_isn h0 ?_
    exact br_t rfl (br_t h0 ⟨rfl, R⟩)
  · obtain ⟨j, hj, rfl⟩ := nI_of h0
    by_cases h1 : j < n
    · have c1 : nI j < nI n := nI_lt h1 (by omega)
      unfold wpX_packetInfo
      refine hx_isf h1 hn ?_
      refine br_f (by decide) ?_
      by_cases e8 : v3 = 2
      · exact br_t e8 (in_p37 F h1 (Or.inl e8) v2 R (fun r h => br_f h0 (br_t c1 (br_t e8 h))))
      · refine br_f e8 ?_
        by_cases e9 : v3 = 4
        · exact br_t e9 (in_p37 F h1 (Or.inr (Or.inl e9)) v2 R (fun r h => br_f h0 (br_t c1 (br_f e8 (br_t e9 h)))))
        · refine br_f e9 ?_
          by_cases e5 : v3 = 5
          · exact br_t e5 (in_p37 F h1 (Or.inr (Or.inr (Or.inl e5))) v2 R (fun r h => br_f h0 (br_t c1 (br_f e8 (br_f e9 (br_t e5 h))))))
          · refine br_f e5 ?_
            by_cases e6 : v3 = 6
            · exact br_t e6 (in_p37 F h1 (Or.inr (Or.inr (Or.inr e6))) v2 R (fun r h => br_f h0 (br_t c1 (br_f e8 (br_f e9 (br_f e5 (br_t e6 h)))))))
            · exact br_f e6 (br_f h0 (br_t c1 (br_f e8 (br_f e9 (br_f e5 (br_f e6 ⟨rfl, R⟩))))))
    · unfold wpX_packetInfo
      refine hx_isb h0 (nI_le (by omega) hj) ?_
      exact br_t rfl (br_f h0 (br_f (nI_nlt (by omega) hj) ⟨rfl, R⟩))
theorem i_vc_linkInfo {k : Nat} {u : SX} {v : SY} (I : i_Rel k u v) (hk : k + 4 ≤ 2052) (v1 : Int32) : wpX_linkInfo (fun r => wpY_linkInfo (fun r' => r' = r ∧ i_Rel (k + 4) u v) v v1) u v1 := by
  refine wf_eli (P := fun u v => wpX_linkInfo (fun r => wpY_linkInfo (fun r' => r' = r ∧ i_Rel (k + 4) u v) v v1) u v1) ?_ I
  intro now n c q m sn lr V W fr hm L lkF lkL lkR lkD wts uc lfn ldu frt wtg pln pst pfi pdu hf hs key hom pl sF sL sT sD flw wai lnk rec idle worst sh fh F
  have R : i_Rel (k + 4) (nI n, nI c, nI q, nI m, nI now, V, nI (qf_S W n), idle, nI sn, worst, sh, fh, lkF, lkL, lkR, lkD, wts, uc, lfn, ldu, frt, wtg, pln, pst, pfi, pdu, hf, hs, key, hom, pl, sF, sL, sT, sD) (nI n, nI c, nI q, nI m, nI now, nI sn, idle, V, worst, nI L.length, flw, wai, lnk, rec) := wf_rel (wf_up F)
  by_cases e8 : v1 = 1
  · exact br_t e8 (in_l25 F (Or.inl e8) R (fun r h => br_t e8 h))
  · refine br_f e8 ?_
    by_cases e9 : v1 = 2
    · exact br_t e9 (in_l25 F (Or.inr (Or.inl e9)) R (fun r h => br_f e8 (br_t e9 h)))
    · refine br_f e9 ?_
      by_cases e5 : v1 = 3
      · exact br_t e5 (in_l25 F (Or.inr (Or.inr (Or.inl e5))) R (fun r h => br_f e8 (br_f e9 (br_t e5 h))))
      · refine br_f e5 ?_
        by_cases e6 : v1 = 6
        · exact br_t e6 (in_l25 F (Or.inr (Or.inr (Or.inr e6))) R (fun r h => br_f e8 (br_f e9 (br_f e5 (br_t e6 h)))))
        · exact br_f e6 (br_f e8 (br_f e9 (br_f e5 (br_f e6 ⟨rfl, R⟩))))
theorem i_vc_sentInfo {k : Nat} {u : SX} {v : SY} (I : i_Rel k u v) (hk : k + 4 ≤ 2052) (v1 : Int32) (v2 : Int32) : wpX_sentInfo (fun r => wpY_sentInfo (fun r' => r' = r ∧ i_Rel (k + 4) u v) v v1 v2) u v1 v2 := by
  refine wf_eli (P := fun u v => wpX_sentInfo (fun r => wpY_sentInfo (fun r' => r' = r ∧ i_Rel (k + 4) u v) v v1 v2) u v1 v2) ?_ I
  intro now n c q m sn lr V W fr hm L lkF lkL lkR lkD wts uc lfn ldu frt wtg pln pst pfi pdu hf hs key hom pl sF sL sT sD flw wai lnk rec idle worst sh fh F
  have R : i_Rel (k + 4) (nI n, nI c, nI q, nI m, nI now, V, nI (qf_S W n), idle, nI sn, worst, sh, fh, lkF, lkL, lkR, lkD, wts, uc, lfn, ldu, frt, wtg, pln, pst, pfi, pdu, hf, hs, key, hom, pl, sF, sL, sT, sD) (nI n, nI c, nI q, nI m, nI now, nI sn, idle, V, worst, nI L.length, flw, wai, lnk, rec) := wf_rel (wf_up F)
  by_cases e8 : v2 = 1
  · exact br_t e8 (in_s26 F v1 (Or.inl e8) R (fun r h => br_t e8 h))
  · refine br_f e8 ?_
    by_cases e9 : v2 = 2
    · exact br_t e9 (in_s26 F v1 (Or.inr (Or.inl e9)) R (fun r h => br_f e8 (br_t e9 h)))
    · refine br_f e9 ?_
      by_cases e5 : v2 = 7
      · exact br_t e5 (in_s26 F v1 (Or.inr (Or.inr (Or.inl e5))) R (fun r h => br_f e8 (br_f e9 (br_t e5 h))))
      · refine br_f e5 ?_
        by_cases e6 : v2 = 6
        · exact br_t e6 (in_s26 F v1 (Or.inr (Or.inr (Or.inr e6))) R (fun r h => br_f e8 (br_f e9 (br_f e5 (br_t e6 h)))))
        · exact br_f e6 (br_f e8 (br_f e9 (br_f e5 (br_f e6 ⟨rfl, R⟩))))
end
section
/-! the constructors; a flow gets and gives back its weight -/
theorem in_clamp (x : Int32) (lo hi : Nat) (h1 : lo ≤ hi) (h2 : hi < 2 ^ 31) :
    ∃ r, lo ≤ r ∧ r ≤ hi ∧ (∀ (u : SX) (post : Int32 → Prop), post (nI r) → wpX_clamp post u x (nI lo) (nI hi)) ∧ (∀ (v : SY) (post : Int32 → Prop), post (nI r) → wpY_clamp post v x (nI lo) (nI hi)) := by
  by_cases a : nI lo ≤ x
  · have h0 : ¬ x < 0 := by
      rw [Int32.lt_iff_toInt_lt, show (0 : Int32).toInt = 0 from by decide]
      rw [Int32.le_iff_toInt_le, nI_toInt (by omega)] at a
      omega
    obtain ⟨j, hj, rfl⟩ := nI_of h0
    by_cases b : nI j ≤ nI hi
    · refine ⟨j, (nI_leI (by omega) hj).mp a, (nI_leI hj h2).mp b, fun u post hp => ?_, fun v post hp => ?_⟩
      · obtain ⟨f_flowCount, f_shareTotal, f_queueDepth, f_longest, f_ticksPassed, f_virtual, f_usedWeight, f_idle, f_sent, f_worst, f_startHeap, f_finishHeap, f_linkFlow, f_linkLength, f_linkRemaining, f_linkDue, a_weights, a_unitCharge, a_lastFinish, a_lastDue, a_front, a_waiting, a_packetLength, a_packetStart, a_packetFinish, a_packetDue, a_heapFlow, a_heapSize, a_key, a_home, a_place, a_sentFlow, a_sentLength, a_sentLeft, a_sentDue⟩ := u
        exact br_t a (br_t b hp)
      · obtain ⟨g_n, g_c, g_q, g_m, g_now, g_sent, g_idle, g_v, g_worst, g_count, b_flows, b_waiting, b_link, b_records⟩ := v
        exact br_t a (br_t b hp)
    · refine ⟨hi, h1, Nat.le_refl _, fun u post hp => ?_, fun v post hp => ?_⟩
      · obtain ⟨f_flowCount, f_shareTotal, f_queueDepth, f_longest, f_ticksPassed, f_virtual, f_usedWeight, f_idle, f_sent, f_worst, f_startHeap, f_finishHeap, f_linkFlow, f_linkLength, f_linkRemaining, f_linkDue, a_weights, a_unitCharge, a_lastFinish, a_lastDue, a_front, a_waiting, a_packetLength, a_packetStart, a_packetFinish, a_packetDue, a_heapFlow, a_heapSize, a_key, a_home, a_place, a_sentFlow, a_sentLength, a_sentLeft, a_sentDue⟩ := u
        exact br_t a (br_f b hp)
      · obtain ⟨g_n, g_c, g_q, g_m, g_now, g_sent, g_idle, g_v, g_worst, g_count, b_flows, b_waiting, b_link, b_records⟩ := v
        exact br_t a (br_f b hp)
  · refine ⟨lo, Nat.le_refl _, h1, fun u post hp => ?_, fun v post hp => ?_⟩
    · obtain ⟨f_flowCount, f_shareTotal, f_queueDepth, f_longest, f_ticksPassed, f_virtual, f_usedWeight, f_idle, f_sent, f_worst, f_startHeap, f_finishHeap, f_linkFlow, f_linkLength, f_linkRemaining, f_linkDue, a_weights, a_unitCharge, a_lastFinish, a_lastDue, a_front, a_waiting, a_packetLength, a_packetStart, a_packetFinish, a_packetDue, a_heapFlow, a_heapSize, a_key, a_home, a_place, a_sentFlow, a_sentLength, a_sentLeft, a_sentDue⟩ := u
      exact br_f a hp
    · obtain ⟨g_n, g_c, g_q, g_m, g_now, g_sent, g_idle, g_v, g_worst, g_count, b_flows, b_waiting, b_link, b_records⟩ := v
      exact br_f a hp
theorem qS_0 : ∀ n, qf_S (fun _ => 0) n = 0
  | 0 => rfl
  | n + 1 => qS_0 n
theorem qn_nil {i : Nat} {p : qf_P} (h : ([] : List qf_P)[i]? = some p) : False := by
  rw [List.getElem?_nil] at h
  exact nomatch h
theorem wf_b0 (B : Nat) : wf_b B 0 := by
  unfold wf_b
  rw [show (0 : Int64).toInt = 0 from by decide]
  omega
theorem in_I0 {n c q m : Nat} (h : 2 ≤ n ∧ n ≤ 16 ∧ 1 ≤ c ∧ c ≤ 64 ∧ 1 ≤ q ∧ q ≤ 8 ∧ 1 ≤ m ∧ m ≤ 32) :
    wf_I 4 n c q m 0 0 0 0 (fun _ => 0) (fun _ => 0) (fun _ => 2) [] (-1) 0 0 0 (fun _ => 0) (fun _ => 0) (fun _ => 0) (fun _ => 0) (fun _ => 0) (fun _ => 0) (fun _ => 0) (fun _ => 0) (fun _ => 0) (fun _ => 0) (fun _ => 0) (fun _ => 0) (fun _ => 0) (fun _ => 0) (fun _ => 0) (fun _ => 0) (fun _ => 0) (fun _ => 0) (fun _ => 0) (fun _ => 0) (fun _ => 0) (fun _ => 0) (fun _ => 0) := by
  refine ⟨by unfold wf_N; omega, wf_b0 _, by rw [qS_0]; omega, fun f hf => ⟨Nat.zero_le 8, rfl, rfl, fun _ => ⟨rfl, rfl⟩, fun z => absurd z (Nat.lt_irrefl 0)⟩, ⟨(fun p hp => nomatch hp), fun f hf => Nat.zero_le _⟩, fun i p hp => (qn_nil hp).elim,
    fun f hf => ⟨Nat.zero_lt_succ 7, rfl, rfl, fun j p hp => (qn_nil hp).elim⟩, ⟨⟨fun _ => 0, fun _ _ => 0, fun x hx => ⟨rfl, ⟨fun i hi => absurd hi (Nat.not_lt_zero _), fun i j hi => absurd hi (Nat.not_lt_zero _), fun g hg e => ?_⟩, fun i hi => absurd hi (Nat.not_lt_zero _), fun i h0 hi => absurd hi (Nat.not_lt_zero _)⟩, fun g hg e => ?_⟩, fun g hg => ⟨fun _ => rfl, (fun p t e => nomatch e)⟩⟩,
    Or.inl ⟨rfl, rfl, rfl⟩, fun b h1 h2 => absurd h2 (Nat.not_lt_zero _)⟩
  · have e' : 2 = x := e
    omega
  · have e' : 2 < 2 := e
    omega
theorem i_vc0 (k0 : Int32) (k1 : Int32) (k2 : Int32) (k3 : Int32) : wpX_init (fun u => wpY_init (fun v => i_Rel 4 u v) k0 k1 k2 k3) k0 k1 k2 k3 := by
  obtain ⟨n, n1, n2, nx, ny⟩ := in_clamp k0 2 16 (by decide) (by decide)
  obtain ⟨c, c1, c2, cx, cy⟩ := in_clamp k1 1 64 (by decide) (by decide)
  obtain ⟨q, q1, q2, qx, qy⟩ := in_clamp k2 1 8 (by decide) (by decide)
  obtain ⟨m, m1, m2, mx, my⟩ := in_clamp k3 1 32 (by decide) (by decide)
  have R := wf_rel (idle := 0) (worst := 0) (sh := 0) (fh := 1) (in_I0 (n := n) (c := c) (q := q) (m := m) ⟨n1, n2, c1, c2, q1, q2, m1, m2⟩)
  rw [qS_0] at R
  unfold wpX_init
  refine nx _ _ ?_
  refine cx _ _ ?_
  refine qx _ _ ?_
  refine mx _ _ ?_
  unfold wpY_init
  refine ny _ _ ?_
  refine cy _ _ ?_
  refine qy _ _ ?_
  refine my _ _ ?_
  exact R
theorem in_l0 {x : Nat} (h : x < 2 ^ 31) : lN x ≤ 0 ↔ x = 0 := by
  have := lN_le (a := x) (b := 0) h (by decide)
  constructor
  · intro z
    have := this.mp z
    omega
  · intro z
    exact this.mpr (by omega)
theorem in_i0 {x : Nat} (h : x < 2 ^ 31) : nI x ≤ 0 ↔ x = 0 := by
  have := nI_leI (a := x) (b := 0) h (by decide)
  constructor
  · intro z
    have := this.mp z
    omega
  · intro z
    exact this.mpr (by omega)
section
variable {k : Nat} {n : Nat} {c : Nat} {q : Nat} {m : Nat} {now : Nat} {sn : Nat} {lr : Nat} {V : Int64} {W : Nat → Nat} {fr : Nat → Nat} {hm : Nat → Nat} {L : List qf_P} {lkF : Int32} {lkL : Int32} {lkR : Int32} {lkD : Int64} {wts : Nat → Int32} {uc : Nat → Int32} {lfn : Nat → Int64} {ldu : Nat → Int64} {frt : Nat → Int32} {wtg : Nat → Int32} {pln : Nat → Int32} {pst : Nat → Int64} {pfi : Nat → Int64} {pdu : Nat → Int64} {hf : Nat → Int32} {hs : Nat → Int32} {key : Nat → Int64} {hom : Nat → Int32} {pl : Nat → Int32} {sF : Nat → Int32} {sL : Nat → Int32} {sT : Nat → Int32} {sD : Nat → Int64} {flw : Nat → Int64} {wai : Nat → Int64} {lnk : Nat → Int64} {rec : Nat → Int64} {idle : Int32} {worst : Int64} {sh : Int32} {fh : Int32}
theorem op_rel (F : wf_I k n c q m now sn lr V W fr hm L lkF lkL lkR lkD wts uc lfn ldu frt wtg pln pst pfi pdu hf hs key hom pl sF sL sT sD flw wai lnk rec) {j w : Nat} (hj : j < n) (hw : 1 ≤ w) (hw8 : w ≤ 8) (hc : W j = 0) (hsh : w ≤ c - qf_S W n) : wf_I k n c q m now sn lr V (hp_un W j w) (hp_un fr j 0) hm L lkF lkL lkR lkD (upd wts j (nI w)) (upd uc j (nI (c * (840 / w)))) (vp_updL lfn j 0) (vp_updL ldu j 0) (upd frt j 0) (upd wtg j 0) pln pst pfi pdu hf hs key hom pl sF sL sT sD (vp_updL flw (10 * j + 8) (lN w)) wai lnk rec ∧ qf_S (hp_un W j w) n = qf_S W n + w := by
  have hcl := in_cl F hc
  obtain ⟨hN, hV, hU, hF, hQ, hW, hX, hH, hK, hS⟩ := F
  have hsum := qS_un (F := W) (f := j) (w := w) n hj
  have hWn : ∀ f, 0 < W f → f ≠ j := fun f hf e => by
    rw [e] at hf
    omega
  refine ⟨⟨hN, hV, by omega, fun f hf => ?_, ⟨fun p hp => ?_, hQ.2⟩, hW, fun f hf => ?_, hH, ?_, hS⟩, by omega⟩
  · by_cases e : f = j
    · subst e
      obtain ⟨a1, a2, a3, a4, a5⟩ := hF f hf
      rw [hp_us, pk_us, pk_us, pk_uLs, pk_uLs, pk_uLs, pk_uLn (by omega), pk_uLn (by omega)]
      exact ⟨hw8, rfl, rfl, fun z => by omega, fun _ => ⟨rfl, (a4 hc).1, (a4 hc).2, wf_b0 _⟩⟩
    · rw [hp_unn e, pk_un e, pk_un e, pk_uLn e, pk_uLn e, pk_uLn (by omega), pk_uLn (by omega), pk_uLn (by omega)]
      exact hF f hf
  · obtain ⟨b1, b2, b3, b4, b5, b6⟩ := hQ.1 p hp
    have ne := hWn _ b2
    refine ⟨b1, ?_, b3, b4, ?_, b6⟩
    · rw [hp_unn ne]
      exact b2
    · rw [hp_unn ne]
      exact b5
  · by_cases e : f = j
    · subst e
      rw [hp_us, pk_us, pk_us, hcl]
      exact ⟨by omega, rfl, rfl, fun i p hp => (qn_nil hp).elim⟩
    · rw [hp_unn e, pk_un e, pk_un e]
      exact hX f hf
  · rcases hK with y | ⟨lf, ll, y1, y2, y3⟩
    · exact Or.inl y
    · refine Or.inr ⟨lf, ll, y1, ?_, y3⟩
      rw [hp_unn (hWn _ y2)]
      exact y2
theorem cl_rel (F : wf_I k n c q m now sn lr V W fr hm L lkF lkL lkR lkD wts uc lfn ldu frt wtg pln pst pfi pdu hf hs key hom pl sF sL sT sD flw wai lnk rec) {j : Nat} {fl' : Nat → Int64} (hj : j < n) (hq : qf_q L j = []) (hl : lkF ≠ nI j) (f1 : ∀ x, 10 * j + 0 ≤ x → x < 10 * j + 10 → fl' x = 0) (f2 : ∀ x, (x < 10 * j + 0 ∨ 10 * j + 10 ≤ x) → fl' x = flw x) : wf_I k n c q m now sn lr V (hp_un W j 0) fr hm L lkF lkL lkR lkD (upd wts j 0) uc lfn ldu frt wtg pln pst pfi pdu hf hs key hom pl sF sL sT sD fl' wai lnk rec ∧ qf_S (hp_un W j 0) n = qf_S W n - W j := by
  obtain ⟨hN, hV, hU, hF, hQ, hW, hX, hH, hK, hS⟩ := F
  have hsum := qS_un (F := W) (f := j) (w := 0) n hj
  refine ⟨⟨hN, hV, by omega, fun f hf => ?_, ⟨fun p hp => ?_, hQ.2⟩, hW, hX, hH, ?_, hS⟩, by omega⟩
  · by_cases e : f = j
    · subst e
      rw [hp_us, pk_us, f1 _ (by omega) (by omega), f1 _ (by omega) (by omega), f1 _ (by omega) (by omega)]
      exact ⟨by omega, rfl, rfl, fun z => ⟨rfl, rfl⟩, fun z => absurd z (Nat.lt_irrefl 0)⟩
    · rw [hp_unn e, pk_un e, f2 _ (by omega), f2 _ (by omega), f2 _ (by omega)]
      exact hF f hf
  · obtain ⟨b1, b2, b3, b4, b5, b6⟩ := hQ.1 p hp
    have ne : p.1 ≠ j := fun e => by
      have h1 := qf_in hp e
      rw [hq] at h1
      exact nomatch h1
    refine ⟨b1, ?_, b3, b4, ?_, b6⟩
    · rw [hp_unn ne]
      exact b2
    · rw [hp_unn ne]
      exact b5
  · rcases hK with y | ⟨lf, ll, y1, y2, y3, y4, y5, y6, y7⟩
    · exact Or.inl y
    · refine Or.inr ⟨lf, ll, y1, ?_, y3, y4, y5, y6, y7⟩
      rw [hp_unn (fun e => hl (by rw [y6, e]))]
      exact y2
end
theorem i_vc_open {k : Nat} {u : SX} {v : SY} (I : i_Rel k u v) (hk : k + 4 ≤ 2052) (v1 : Int32) (v2 : Int32) : wpX_open (fun r u' => wpY_open (fun r' v' => r' = r ∧ i_Rel (k + 4) u' v') v v1 v2) u v1 v2 := by
  refine wf_eli (P := fun u v => wpX_open (fun r u' => wpY_open (fun r' v' => r' = r ∧ i_Rel (k + 4) u' v') v v1 v2) u v1 v2) ?_ I
  intro now n c q m sn lr V W fr hm L lkF lkL lkR lkD wts uc lfn ldu frt wtg pln pst pfi pdu hf hs key hom pl sF sL sT sD flw wai lnk rec idle worst sh fh F
  have R : i_Rel (k + 4) (nI n, nI c, nI q, nI m, nI now, V, nI (qf_S W n), idle, nI sn, worst, sh, fh, lkF, lkL, lkR, lkD, wts, uc, lfn, ldu, frt, wtg, pln, pst, pfi, pdu, hf, hs, key, hom, pl, sF, sL, sT, sD) (nI n, nI c, nI q, nI m, nI now, nI sn, idle, V, worst, nI L.length, flw, wai, lnk, rec) := wf_rel (wf_up F)
  have F0 := F
  obtain ⟨hN, hV, hU, hF, hQ, hW, hX, hH, hK, hS⟩ := F0
  unfold wf_N at hN
  by_cases h0 : v1 < 0
  · unfold wpX_open
    refine hx_isn h0 ?_
    exact br_t rfl (br_t h0 ⟨rfl, R⟩)
  · obtain ⟨j, hj, rfl⟩ := nI_of h0
    by_cases h1 : j < n
    · have c1 : nI j < nI n := nI_lt h1 (by omega)
      have vj : vp_in (nI j) 16 := vp_in_nI (by omega) (by decide)
      have ej : (nI j).toNatClampNeg = j := nI_clamp (by omega)
      have y8 : nI j * 10 + 8 = nI (10 * j + 8) := yh_ix j 8
      have vy : vp_in (nI j * 10 + 8) 160 := by
        rw [y8]
        exact vp_in_nI (by omega) (by decide)
      obtain ⟨a1, a2, a3, a4, a5⟩ := hF j h1
      have ey : flw (nI j * 10 + 8).toNatClampNeg = lN (W j) := by
        rw [y8, nI_clamp (by omega)]
        exact a3
      unfold wpX_open
      refine hx_isf h1 (by omega) ?_
      refine br_f (by decide) ?_
      by_cases h2 : v2 < 1
      · exact br_t h2 (br_f h0 (br_t c1 (br_t h2 ⟨rfl, R⟩)))
      · by_cases h3 : v2 ≤ 8
        · obtain ⟨w, hw, rfl⟩ := nI_of2 (x := v2) (M := 8) (n := 8) (by decide) (by
            rw [Int32.lt_iff_toInt_lt] at h2 ⊢
            rw [show (1 : Int32).toInt = 1 from by decide] at h2
            rw [show (0 : Int32).toInt = 0 from by decide]
            omega) h3
          have hw1 : 1 ≤ w := by
            rcases Nat.eq_zero_or_pos w with z | z
            · rw [z] at h2
              exact absurd (by decide : nI 0 < 1) h2
            · exact z
          by_cases h4 : W j = 0
          · have b4 : wts (nI j).toNatClampNeg ≤ 0 := by
              rw [ej, a2]
              exact (in_i0 (by omega)).mpr h4
            have b4y : flw (nI j * 10 + 8).toNatClampNeg ≤ 0 := by
              rw [ey]
              exact (in_l0 (by omega)).mpr h4
            have es : nI c - nI (qf_S W n) = nI (c - qf_S W n) := pk_sub hU
            by_cases h5 : w ≤ c - qf_S W n
            · obtain ⟨F1, e1⟩ := op_rel F h1 hw1 hw h4 h5
              have b5 : nI w ≤ nI c - nI (qf_S W n) := by
                rw [es]
                exact nI_le h5 (by omega)
              have ed : nI c * (840 / nI w) = nI (c * (840 / w)) := by
                rw [show (840 : Int32) / nI w = nI (840 / w) from pk_div (a := 840) (by decide) hw1 (by omega), pk_mul]
              have R1 := wf_rel (idle := idle) (worst := worst) (sh := sh) (fh := fh) (wf_up F1)
              rw [e1, ← nI_add] at R1
              refine br_f h2 (br_t h3 (And.intro vj (br_t b4 (br_t b5 (And.intro vj (nm_r (e' := upd wts j (nI w)) (by rw [ej]) (nm_e (And.intro (nI_ne0 hw1 (by omega)) (And.intro vj (nm_r (e' := upd uc j (nI (c * (840 / w)))) (by rw [ej, ed])
                (And.intro vj (nm_r (e' := vp_updL lfn j 0) (by rw [ej]) (And.intro vj (nm_r (e' := vp_updL ldu j 0) (by rw [ej]) (And.intro vj (nm_r (e' := upd frt j 0) (by rw [ej]) (And.intro vj (nm_r (e' := upd wtg j 0) (by rw [ej]) ?_))))))))))))))))))
              refine br_f h0 (br_t c1 (br_f h2 (br_t h3 (And.intro vy (br_t b4y (yh_free (n := n) (c := c) (W := W) (by omega) (by omega) (fun f hf => (hF f hf).2.2.1) hU ?_))))))
              refine br_t (nI_le h5 (by omega)) (And.intro vy (nm_r (e' := vp_updL flw (10 * j + 8) (lN w)) ?_ ⟨rfl, R1⟩))
              rw [y8, nI_clamp (by omega), nI_l (by omega)]
            · have b5 : ¬ nI w ≤ nI c - nI (qf_S W n) := by
                rw [es]
                exact nI_ge (by omega) (by omega)
              refine br_f h2 (br_t h3 (And.intro vj (br_t b4 (br_f b5 ?_))))
              refine br_f h0 (br_t c1 (br_f h2 (br_t h3 (And.intro vy (br_t b4y (yh_free (n := n) (c := c) (W := W) (by omega) (by omega) (fun f hf => (hF f hf).2.2.1) hU ?_))))))
              exact br_f (nI_ge (by omega) (by omega)) ⟨rfl, R⟩
          · have b4 : ¬ wts (nI j).toNatClampNeg ≤ 0 := by
              rw [ej, a2]
              exact fun z => h4 ((in_i0 (by omega)).mp z)
            have b4y : ¬ flw (nI j * 10 + 8).toNatClampNeg ≤ 0 := by
              rw [ey]
              exact fun z => h4 ((in_l0 (by omega)).mp z)
            exact br_f h2 (br_t h3 (And.intro vj (br_f b4 (br_f h0 (br_t c1 (br_f h2 (br_t h3 (And.intro vy (br_f b4y ⟨rfl, R⟩)))))))))
        · exact br_f h2 (br_f h3 (br_f h0 (br_t c1 (br_f h2 (br_f h3 ⟨rfl, R⟩)))))
    · unfold wpX_open
      refine hx_isb h0 (nI_le (by omega) hj) ?_
      exact br_t rfl (br_f h0 (br_f (nI_nlt (by omega) hj) ⟨rfl, R⟩))
theorem i_vc_close {k : Nat} {u : SX} {v : SY} (I : i_Rel k u v) (hk : k + 4 ≤ 2052) (v1 : Int32) : wpX_close (fun r u' => wpY_close (fun r' v' => r' = r ∧ i_Rel (k + 4) u' v') v v1) u v1 := by
  refine wf_eli (P := fun u v => wpX_close (fun r u' => wpY_close (fun r' v' => r' = r ∧ i_Rel (k + 4) u' v') v v1) u v1) ?_ I
  intro now n c q m sn lr V W fr hm L lkF lkL lkR lkD wts uc lfn ldu frt wtg pln pst pfi pdu hf hs key hom pl sF sL sT sD flw wai lnk rec idle worst sh fh F
  have R : i_Rel (k + 4) (nI n, nI c, nI q, nI m, nI now, V, nI (qf_S W n), idle, nI sn, worst, sh, fh, lkF, lkL, lkR, lkD, wts, uc, lfn, ldu, frt, wtg, pln, pst, pfi, pdu, hf, hs, key, hom, pl, sF, sL, sT, sD) (nI n, nI c, nI q, nI m, nI now, nI sn, idle, V, worst, nI L.length, flw, wai, lnk, rec) := wf_rel (wf_up F)
  have F0 := F
  obtain ⟨hN, hV, hU, hF, hQ, hW, hX, hH, hK, hS⟩ := F0
  have hYL := wf_yL F
  unfold wf_N at hN
  by_cases h0 : v1 < 0
  · unfold wpX_close
    refine hx_isn h0 ?_
    exact br_t rfl (br_t h0 ⟨rfl, R⟩)
  · obtain ⟨j, hj, rfl⟩ := nI_of h0
    by_cases h1 : j < n
    · have c1 : nI j < nI n := nI_lt h1 (by omega)
      have vj : vp_in (nI j) 16 := vp_in_nI (by omega) (by decide)
      have ej : (nI j).toNatClampNeg = j := nI_clamp (by omega)
      have y8 : nI j * 10 + 8 = nI (10 * j + 8) := yh_ix j 8
      have y5 : nI j * 10 + 5 = nI (10 * j + 5) := yh_ix j 5
      have vy : vp_in (nI j * 10 + 8) 160 := by
        rw [y8]
        exact vp_in_nI (by omega) (by decide)
      have vy5 : vp_in (nI j * 10 + 5) 160 := by
        rw [y5]
        exact vp_in_nI (by omega) (by decide)
      obtain ⟨a1, a2, a3, a4, a5⟩ := hF j h1
      have ey : flw (nI j * 10 + 8).toNatClampNeg = lN (W j) := by
        rw [y8, nI_clamp (by omega)]
        exact a3
      obtain ⟨x1, x2, x3, x4⟩ := hX j h1
      have hlen : (qf_q L j).length ≤ 8 := Nat.le_trans (hQ.2 j h1) (by omega)
      unfold wpX_close
      refine hx_isf h1 (by omega) ?_
      refine br_f (by decide) ?_
      by_cases h4 : W j = 0
      · have b4 : wts (nI j).toNatClampNeg = 0 := by
          rw [ej, a2, h4]
          rfl
        have b4y : flw (nI j * 10 + 8).toNatClampNeg = 0 := by
          rw [ey, h4]
          rfl
        exact And.intro vj (br_t b4 (br_f h0 (br_t c1 (And.intro vy (br_t b4y ⟨rfl, R⟩)))))
      · have b4 : ¬ wts (nI j).toNatClampNeg = 0 := by
          rw [ej, a2]
          exact nI_ne0 (by omega) (by omega)
        have b4y : ¬ flw (nI j * 10 + 8).toNatClampNeg = 0 := by
          rw [ey]
          exact yk_ne rfl (by omega) (by omega)
        obtain ⟨d1, d2, d3, d4⟩ := a5 (by omega)
        by_cases h5 : (qf_q L j).length = 0
        · have hq : qf_q L j = [] := List.eq_nil_of_length_eq_zero h5
          have b5 : ¬ 0 < wtg (nI j).toNatClampNeg := by
            rw [ej, x3, h5]
            decide
          have b5y : ¬ 0 < nI (qf_q L j).length := by
            rw [h5]
            decide
          -- what the reference asks of the link
          have link : (lkF = nI j → (∀ post : Int32 → SY → Prop, post (-7) (nI n, nI c, nI q, nI m, nI now, nI sn, idle, V, worst, nI L.length, flw, wai, lnk, rec) → ((lnk 3) ≤ 0 → wY_close_69 post (nI j) (nI n) (nI c) (nI q) (nI m) (nI now) (nI sn) idle V worst (nI L.length) flw wai lnk rec) ∧ (¬ (lnk 3) ≤ 0 → ((lnk 1 = (nI j).toInt64 → post (-7) (nI n, nI c, nI q, nI m, nI now, nI sn, idle, V, worst, nI L.length, flw, wai, lnk, rec)) ∧ (¬ lnk 1 = (nI j).toInt64 → wY_close_69 post (nI j) (nI n) (nI c) (nI q) (nI m) (nI now) (nI sn) idle V worst (nI L.length) flw wai lnk rec))))) ∧
              (lkF ≠ nI j → (∀ post : Int32 → SY → Prop, wY_close_69 post (nI j) (nI n) (nI c) (nI q) (nI m) (nI now) (nI sn) idle V worst (nI L.length) flw wai lnk rec → ((lnk 3) ≤ 0 → wY_close_69 post (nI j) (nI n) (nI c) (nI q) (nI m) (nI now) (nI sn) idle V worst (nI L.length) flw wai lnk rec) ∧ (¬ (lnk 3) ≤ 0 → ((lnk 1 = (nI j).toInt64 → post (-7) (nI n, nI c, nI q, nI m, nI now, nI sn, idle, V, worst, nI L.length, flw, wai, lnk, rec)) ∧ (¬ lnk 1 = (nI j).toInt64 → wY_close_69 post (nI j) (nI n) (nI c) (nI q) (nI m) (nI now) (nI sn) idle V worst (nI L.length) flw wai lnk rec))))) := by
            rcases hK with ⟨y1, y2, y3⟩ | ⟨lf, ll, y1, y2, y3, y4, y5, y6, y7, y8, y9, y10, y11, y12⟩
            · have hz : lnk 3 ≤ 0 := by
                rw [y3]
                exact Int64.le_refl _
              refine ⟨fun e => ?_, fun _ post h => br_t hz h⟩
              rw [y2] at e
              have : (-1 : Int32) < 0 := by decide
              rw [e] at this
              exact absurd this h0
            · have hz : ¬ lnk 3 ≤ 0 := by
                rw [y11]
                exact fun z => by
                  have := (in_l0 (by omega)).mp z
                  omega
              have e1 : (lnk 1 = (nI j).toInt64) ↔ lf = j := by
                rw [y9, nI_l (by omega)]
                exact lN_eq (by omega) (by omega)
              have e2 : (lkF = nI j) ↔ lf = j := by
                rw [y6]
                exact nI_eq (by omega) (by omega)
              exact ⟨fun e post h => br_f hz (br_t (e1.mpr (e2.mp e)) h), fun e post h => br_f hz (br_f (fun z => e (e2.mpr (e1.mp z))) h)⟩
          by_cases h6 : lkF = nI j
          · exact And.intro vj (br_f b4 (And.intro vj (br_f b5 (br_t h6 (br_f h0 (br_t c1 (And.intro vy (br_f b4y (yh_wait hYL (by omega) (br_f b5y (link.1 h6 _ ⟨rfl, R⟩)))))))))))
          · have ef : flw (nI j * 10 + 5).toNatClampNeg = lfn j := by
              rw [y5, nI_clamp (by omega)]
              exact d2
            by_cases h7 : lfn j ≤ V
            · obtain ⟨fl', g1, g2, g3⟩ := yh_cl (g_n := nI n) (g_c := nI c) (g_q := nI q) (g_m := nI m) (g_now := nI now) (g_sent := nI sn) (g_idle := idle) (g_v := V) (g_worst := worst) (g_count := nI L.length) (b_waiting := wai) (b_link := lnk) (b_records := rec) (f := j) (by omega) 10 0 flw (by omega)
              obtain ⟨F1, e1⟩ := cl_rel F h1 hq h6 g1 g2
              have R1 := wf_rel (idle := idle) (worst := worst) (sh := sh) (fh := fh) (wf_up F1)
              have hWs : W j ≤ qf_S W n := by
                have := qS_un (F := W) (f := j) (w := 0) n h1
                omega
              rw [e1, ← pk_sub hWs] at R1
              refine And.intro vj (br_f b4 (And.intro vj (br_f b5 (br_f h6 (And.intro vj (br_t (by rw [ej]; exact h7) (And.intro vj (nm_r (e' := nI (qf_S W n) - nI (W j)) (by rw [ej, a2]) (And.intro vj (nm_r (e' := upd wts j 0) (by rw [ej]) ?_))))))))))
              refine br_f h0 (br_t c1 (And.intro vy (br_f b4y (yh_wait hYL (by omega) (br_f b5y (link.2 h6 _ ?_))))))
              exact And.intro vy5 (br_t (by rw [ef]; exact h7) ⟨11, g3 _ ⟨rfl, R1⟩⟩)
            · refine And.intro vj (br_f b4 (And.intro vj (br_f b5 (br_f h6 (And.intro vj (br_f (by rw [ej]; exact h7) ?_))))))
              refine br_f h0 (br_t c1 (And.intro vy (br_f b4y (yh_wait hYL (by omega) (br_f b5y (link.2 h6 _ ?_))))))
              exact And.intro vy5 (br_f (by rw [ef]; exact h7) ⟨rfl, R⟩)
        · have b5 : 0 < wtg (nI j).toNatClampNeg := by
            rw [ej, x3]
            exact nI_lt (a := 0) (by omega) (by omega)
          have b5y : 0 < nI (qf_q L j).length := nI_lt (a := 0) (by omega) (by omega)
          exact And.intro vj (br_f b4 (And.intro vj (br_t b5 (br_f h0 (br_t c1 (And.intro vy (br_f b4y (yh_wait hYL (by omega) (br_t b5y ⟨rfl, R⟩)))))))))
    · unfold wpX_close
      refine hx_isb h0 (nI_le (by omega) hj) ?_
      exact br_t rfl (br_f h0 (br_f (nI_nlt (by omega) hj) ⟨rfl, R⟩))
end
section
/-! arrive -/
section
variable {k : Nat} {n : Nat} {c : Nat} {q : Nat} {m : Nat} {now : Nat} {sn : Nat} {lr : Nat} {V : Int64} {W : Nat → Nat} {fr : Nat → Nat} {hm : Nat → Nat} {L : List qf_P} {lkF : Int32} {lkL : Int32} {lkR : Int32} {lkD : Int64} {wts : Nat → Int32} {uc : Nat → Int32} {lfn : Nat → Int64} {ldu : Nat → Int64} {frt : Nat → Int32} {wtg : Nat → Int32} {pln : Nat → Int32} {pst : Nat → Int64} {pfi : Nat → Int64} {pdu : Nat → Int64} {hf : Nat → Int32} {hs : Nat → Int32} {key : Nat → Int64} {hom : Nat → Int32} {pl : Nat → Int32} {sF : Nat → Int32} {sL : Nat → Int32} {sT : Nat → Int32} {sD : Nat → Int64} {flw : Nat → Int64} {wai : Nat → Int64} {lnk : Nat → Int64} {rec : Nat → Int64} {idle : Int32} {worst : Int64} {sh : Int32} {fh : Int32} {j len ch : Nat} {st bs : Int64} {hm' : Nat → Nat} {hf' hs' hom' pl' : Nat → Int32} {key' : Nat → Int64}
theorem ar_qj : qf_q (L ++ [(j, len, st, st + lN ch, bs + lN ch)]) j = qf_q L j ++ [(j, len, st, st + lN ch, bs + lN ch)] := by
  rw [qf_app, qf_pos rfl]
  rfl
theorem ar_qo {f : Nat} (h : f ≠ j) : qf_q (L ++ [(j, len, st, st + lN ch, bs + lN ch)]) f = qf_q L f := by
  rw [qf_app, qf_neg (fun z => h z.symm)]
  exact List.append_nil _
theorem ar_ch {w c : Nat} (h1 : len ≤ 32) (h2 : c ≤ 64) : len * (c * (840 / w)) ≤ 1720320 := by
  have h3 : 840 / w ≤ 840 := Nat.div_le_self _ _
  have h4 : c * (840 / w) ≤ 64 * 840 := Nat.mul_le_mul h2 h3
  exact Nat.le_trans (Nat.mul_le_mul h1 h4) (by decide)
theorem ar_rel (hk : k + 4 ≤ 2052) (F : wf_I k n c q m now sn lr V W fr hm L lkF lkL lkR lkD wts uc lfn ldu frt wtg pln pst pfi pdu hf hs key hom pl sF sL sT sD flw wai lnk rec) (hj : j < n) (hw : 0 < W j) (hl : 1 ≤ len) (hlm : len ≤ m) (hq : (qf_q L j).length < q) (hch : ch = len * (c * (840 / W j))) (hst : wf_b (840 * now + 1720320 * k) st)
    (H' : wf_H n V (L ++ [(j, len, st, st + lN ch, bs + lN ch)]) hm' hf' hs' key' hom' pl') : wf_I (k + 4) n c q m now sn lr V W fr hm' (L ++ [(j, len, st, st + lN ch, bs + lN ch)]) lkF lkL lkR lkD wts uc (vp_updL lfn j (st + lN ch)) (vp_updL ldu j (bs + lN ch)) frt (upd wtg j (nI ((qf_q L j).length + 1))) (upd pln (8 * j + (fr j + (qf_q L j).length) % 8) (nI len)) (vp_updL pst (8 * j + (fr j + (qf_q L j).length) % 8) st) (vp_updL pfi (8 * j + (fr j + (qf_q L j).length) % 8) (st + lN ch)) (vp_updL pdu (8 * j + (fr j + (qf_q L j).length) % 8) (bs + lN ch)) hf' hs' key' hom' pl' sF sL sT sD (vp_updL (vp_updL flw (10 * j + 5) (st + lN ch)) (10 * j + 6) (bs + lN ch)) (vp_updL (vp_updL (vp_updL (vp_updL (vp_updL wai (10 * L.length + 1) (lN j)) (10 * L.length + 2) (lN len)) (10 * L.length + 4) st) (10 * L.length + 5) (st + lN ch)) (10 * L.length + 6) (bs + lN ch)) lnk rec := by
  obtain ⟨hN, hV, hU, hF, hQ, hW, hX, hH, hK, hS⟩ := F
  unfold wf_N at hN
  have hchb : ch ≤ 1720320 := by
    rw [hch]
    exact ar_ch (by omega) (by omega)
  have hfb : wf_b (840 * now + 1720320 * (k + 4)) (st + lN ch) := wf_b_mono (wf_b_add hst (by omega) rfl) (by omega)
  refine ⟨hN, wf_b_mono hV (by omega), hU, fun f hf => ?_, ⟨fun p hp => ?_, fun f hf => ?_⟩, ?_, fun f hf => ?_, H', hK, hS⟩
  · obtain ⟨a1, a2, a3, a4, a5⟩ := wf_F_mono hF (by omega : 840 * now + 1720320 * k ≤ 840 * now + 1720320 * (k + 4)) f hf
    by_cases e : f = j
    · subst e
      rw [pk_uLn (by omega), pk_uLn (by omega), pk_uLn (k := 10 * f + 6) (j := 10 * f + 5) (by omega), pk_uLs, pk_uLs, pk_uLs, pk_uLs]
      exact ⟨a1, a2, a3, fun z => by omega, fun z => ⟨(a5 z).1, rfl, rfl, hfb⟩⟩
    · rw [pk_uLn (by omega), pk_uLn (by omega), pk_uLn (by omega), pk_uLn (by omega), pk_uLn (by omega), pk_uLn (by omega), pk_uLn e, pk_uLn e]
      exact ⟨a1, a2, a3, a4, a5⟩
  · rcases List.mem_append.mp hp with z | z
    · exact (wf_Q_mono hQ (by omega : 840 * now + 1720320 * k ≤ 840 * now + 1720320 * (k + 4))).1 p z
    · rw [List.mem_singleton.mp z]
      exact ⟨hj, hw, hl, hlm, by rw [hch], wf_b_mono hst (by omega)⟩
  · by_cases e : f = j
    · subst e
      rw [ar_qj, List.length_append]
      exact hq
    · rw [ar_qo e]
      exact hQ.2 f hf
  · refine qW_app hW (fun x hx => ?_) ⟨?_, ?_, ?_, ?_, ?_⟩
    · rw [pk_uLn (by omega), pk_uLn (by omega), pk_uLn (by omega), pk_uLn (by omega), pk_uLn (by omega)]
    · rw [pk_uLn (by omega), pk_uLn (by omega), pk_uLn (by omega), pk_uLn (by omega), pk_uLs]
    · rw [pk_uLn (by omega), pk_uLn (by omega), pk_uLn (by omega), pk_uLs]
    · rw [pk_uLn (by omega), pk_uLn (by omega), pk_uLs]
    · rw [pk_uLn (by omega), pk_uLs]
    · rw [pk_uLs]
  · obtain ⟨x1, x2, x3, x4⟩ := hX f hf
    have hq8 := hQ.2 f hf
    by_cases e : f = j
    · subst e
      rw [ar_qj, pk_us, List.length_append]
      refine ⟨x1, x2, rfl, fun i p hp => ?_⟩
      by_cases z : i < (qf_q L f).length
      · rw [List.getElem?_append_left z] at hp
        have h1 := x4 i p hp
        rw [pk_un (by omega), pk_uLn (by omega), pk_uLn (by omega), pk_uLn (by omega)]
        exact h1
      · have hi := qf_lt hp
        rw [List.length_append] at hi
        have hi' : i < (qf_q L f).length + 1 := hi
        have ei : i = (qf_q L f).length := by omega
        rw [ei, List.getElem?_concat_length] at hp
        rw [ei, ← Option.some.inj hp, pk_us, pk_uLs, pk_uLs, pk_uLs]
        exact ⟨rfl, rfl, rfl, rfl⟩
    · rw [ar_qo e, pk_un e]
      refine ⟨x1, x2, x3, fun i p hp => ?_⟩
      have h1 := x4 i p hp
      rw [pk_un (by omega), pk_uLn (by omega), pk_uLn (by omega), pk_uLn (by omega)]
      exact h1
theorem ar_H1 (F : wf_I k n c q m now sn lr V W fr hm L lkF lkL lkR lkD wts uc lfn ldu frt wtg pln pst pfi pdu hf hs key hom pl sF sL sT sD flw wai lnk rec) (hj : j < n) (h1 : (qf_q L j).length ≠ 0) : wf_H n V (L ++ [(j, len, st, st + lN ch, bs + lN ch)]) hm hf hs key hom pl := by
  obtain ⟨hN, hV, hU, hF, hQ, hW, hX, hH, hK, hS⟩ := F
  refine ⟨hH.1, fun f hf => ?_⟩
  by_cases e : f = j
  · subst e
    rw [ar_qj]
    cases hq : qf_q L f with
    | nil =>
      rw [hq] at h1
      exact absurd rfl h1
    | cons p0 t =>
      refine ⟨(fun z => nomatch z), fun p t' z => ?_⟩
      have z' : p0 :: (t ++ [(f, len, st, st + lN ch, bs + lN ch)]) = p :: t' := z
      have h2 := (hH.2 f hf).2 p0 t hq
      rw [(List.cons.inj z').1] at h2
      exact h2
  · rw [ar_qo e]
    exact hH.2 f hf
theorem ar_x75 (F : wf_I k n c q m now sn lr V W fr hm L lkF lkL lkR lkD wts uc lfn ldu frt wtg pln pst pfi pdu hf hs key hom pl sF sL sT sD flw wai lnk rec) (hj : j < n) (hq : (qf_q L j).length < q) (st bs : Int64) :
    ∃ (hm' : Nat → Nat) (hf' hs' hom' pl' : Nat → Int32) (key' : Nat → Int64), wf_H n V (L ++ [(j, len, st, st + lN ch, bs + lN ch)]) hm' hf' hs' key' hom' pl' ∧
      ∀ post : SX → Prop, post (nI n, nI c, nI q, nI m, nI now, V, nI (qf_S W n), idle, nI sn, worst, sh, fh, lkF, lkL, lkR, lkD, wts, uc, (vp_updL lfn j (st + lN ch)), (vp_updL ldu j (bs + lN ch)), frt, (upd wtg j (nI ((qf_q L j).length + 1))), (upd pln (8 * j + (fr j + (qf_q L j).length) % 8) (nI len)), (vp_updL pst (8 * j + (fr j + (qf_q L j).length) % 8) st), (vp_updL pfi (8 * j + (fr j + (qf_q L j).length) % 8) (st + lN ch)), (vp_updL pdu (8 * j + (fr j + (qf_q L j).length) % 8) (bs + lN ch)), hf', hs', key', hom', pl', sF, sL, sT, sD) → wX_enqueue_75 post (nI j) (nI len) (lN ch) st bs (nI n) (nI c) (nI q) (nI m) (nI now) V (nI (qf_S W n)) idle (nI sn) worst sh fh lkF lkL lkR lkD wts uc lfn ldu frt wtg pln pst pfi pdu hf hs key hom pl sF sL sT sD := by
  have F0 := F
  obtain ⟨hN, hV, hU, hF, hQ, hW, hX, hH, hK, hS⟩ := F0
  unfold wf_N at hN
  obtain ⟨x1, x2, x3, x4⟩ := hX j hj
  have vj : vp_in (nI j) 16 := vp_in_nI (by omega) (by decide)
  have ej : (nI j).toNatClampNeg = j := nI_clamp (by omega)
  have vs : vp_in (nI (8 * j + (fr j + (qf_q L j).length) % 8)) 128 := vp_in_nI (by omega) (by decide)
  have es : (nI (8 * j + (fr j + (qf_q L j).length) % 8)).toNatClampNeg = 8 * j + (fr j + (qf_q L j).length) % 8 := nI_clamp (by omega)
  by_cases h0 : (qf_q L j).length = 0
  · have hq0 : qf_q L j = [] := List.eq_nil_of_length_eq_zero h0
    have hm2 : hm j = 2 := (hH.2 j hj).1 hq0
    obtain ⟨hf', pl', P1, w1⟩ := hx_insert (f_flowCount := nI n) (f_shareTotal := nI c) (f_queueDepth := nI q) (f_longest := nI m) (f_ticksPassed := nI now) (f_virtual := V) (f_usedWeight := nI (qf_S W n)) (f_idle := idle) (f_sent := nI sn) (f_worst := worst) (f_startHeap := sh) (f_finishHeap := fh) (f_linkFlow := lkF) (f_linkLength := lkL) (f_linkRemaining := lkR) (f_linkDue := lkD) (a_weights := wts) (a_unitCharge := uc) (a_lastFinish := (vp_updL lfn j (st + lN ch))) (a_lastDue := (vp_updL ldu j (bs + lN ch))) (a_front := frt) (a_waiting := (upd wtg j (nI ((qf_q L j).length + 1)))) (a_packetLength := (upd pln (8 * j + (fr j + (qf_q L j).length) % 8) (nI len))) (a_packetStart := (vp_updL pst (8 * j + (fr j + (qf_q L j).length) % 8) st)) (a_packetFinish := (vp_updL pfi (8 * j + (fr j + (qf_q L j).length) % 8) (st + lN ch))) (a_packetDue := (vp_updL pdu (8 * j + (fr j + (qf_q L j).length) % 8) (bs + lN ch))) (a_heapFlow := hf) (a_heapSize := hs) (a_key := key) (a_home := hom) (a_place := pl) (a_sentFlow := sF) (a_sentLength := sL) (a_sentLeft := sT) (a_sentDue := sD) (n := n) (h := 0) (g := j) (hm := hm) st (by omega) hH.1 (by omega) hj hm2
    refine ⟨hp_un hm j 0, hf', upd hs 0 (hs 0 + 1), upd hom j (nI 0), pl', vp_updL key j st, ⟨P1, fun f hf => ?_⟩, fun post hp => ?_⟩
    · by_cases e : f = j
      · subst e
        rw [ar_qj, hq0, hp_us, pk_uLs]
        refine ⟨(fun z => nomatch z), fun p t' z => Or.inl ⟨rfl, ?_⟩⟩
        have z' : [(f, len, st, st + lN ch, bs + lN ch)] = p :: t' := z
        rw [← (List.cons.inj z').1]
      · rw [ar_qo e, hp_unn e, pk_uLn e]
        exact hH.2 f hf
    · refine And.intro vj ?_
      rw [ej, x3]
      refine hx_slot (f := j) (fr := fr j) (j := (qf_q L j).length) (by omega) x2 x1 (by omega) ?_
      refine And.intro vs (nm_r (e' := upd pln (8 * j + (fr j + (qf_q L j).length) % 8) (nI len)) (by rw [es]) (And.intro vs (nm_r (e' := vp_updL pst (8 * j + (fr j + (qf_q L j).length) % 8) st) (by rw [es]) (And.intro vs (nm_r (e' := vp_updL pfi (8 * j + (fr j + (qf_q L j).length) % 8) (st + lN ch)) (by rw [es])
        (And.intro vs (nm_r (e' := vp_updL pdu (8 * j + (fr j + (qf_q L j).length) % 8) (bs + lN ch)) (by rw [es]) (And.intro vj (nm_e (And.intro vj (nm_e (And.intro vj (And.intro vj (nm_r (e' := upd wtg j (nI ((qf_q L j).length + 1))) (by rw [nI_1]) (And.intro vj (br_t ?_ ?_))))))))))))))))
      · rw [pk_us, h0]
        rfl
      · exact w1 _ hp
  · refine ⟨hm, hf, hs, hom, pl, key, ar_H1 F hj h0, fun post hp => ?_⟩
    refine And.intro vj ?_
    rw [ej, x3]
    refine hx_slot (f := j) (fr := fr j) (j := (qf_q L j).length) (by omega) x2 x1 (by omega) ?_
    refine And.intro vs (nm_r (e' := upd pln (8 * j + (fr j + (qf_q L j).length) % 8) (nI len)) (by rw [es]) (And.intro vs (nm_r (e' := vp_updL pst (8 * j + (fr j + (qf_q L j).length) % 8) st) (by rw [es]) (And.intro vs (nm_r (e' := vp_updL pfi (8 * j + (fr j + (qf_q L j).length) % 8) (st + lN ch)) (by rw [es])
      (And.intro vs (nm_r (e' := vp_updL pdu (8 * j + (fr j + (qf_q L j).length) % 8) (bs + lN ch)) (by rw [es]) (And.intro vj (nm_e (And.intro vj (nm_e (And.intro vj (And.intro vj (nm_r (e' := upd wtg j (nI ((qf_q L j).length + 1))) (by rw [nI_1]) (And.intro vj (br_f ?_ ?_))))))))))))))))
    · rw [pk_us]
      intro z
      have := (nI_eq (a := (qf_q L j).length + 1) (b := 1) (by omega) (by decide)).mp z
      omega
    · exact hp
theorem ar_y160 (F : wf_I k n c q m now sn lr V W fr hm L lkF lkL lkR lkD wts uc lfn ldu frt wtg pln pst pfi pdu hf hs key hom pl sF sL sT sD flw wai lnk rec) (hj : j < n) (hq : (qf_q L j).length < q) (hlm : len ≤ 32) {post : Int32 → SY → Prop} (hp : post (nI ((qf_q L j).length + 1)) (nI n, nI c, nI q, nI m, nI now, nI sn, idle, V, worst, nI (L ++ [(j, len, st, st + lN ch, bs + lN ch)]).length, (vp_updL (vp_updL flw (10 * j + 5) (st + lN ch)) (10 * j + 6) (bs + lN ch)), (vp_updL (vp_updL (vp_updL (vp_updL (vp_updL wai (10 * L.length + 1) (lN j)) (10 * L.length + 2) (lN len)) (10 * L.length + 4) st) (10 * L.length + 5) (st + lN ch)) (10 * L.length + 6) (bs + lN ch)), lnk, rec)) : wY_arrive_160 post (nI j) (nI len) (nI (10 * j)) (nI (qf_q L j).length) (lN ch) st bs (nI n) (nI c) (nI q) (nI m) (nI now) (nI sn) idle V worst (nI L.length) flw wai lnk rec := by
  have hYL := wf_yL F
  obtain ⟨hN, hV, hU, hF, hQ, hW, hX, hH, hK, hS⟩ := F
  unfold wf_N at hN
  have hl128 : L.length + 1 ≤ 128 := by
    have hb := qf_bound n (L ++ [(j, len, st, st + lN ch, bs + lN ch)]) (q := q) (fun p hp => ?_) (fun f hf => ?_)
    · rw [List.length_append] at hb
      have hb' : L.length + 1 ≤ n * q := hb
      have h1 : n * q ≤ 16 * 8 := Nat.mul_le_mul (by omega) (by omega)
      omega
    · rcases List.mem_append.mp hp with z | z
      · exact (hQ.1 p z).1
      · rw [List.mem_singleton.mp z]
        exact hj
    · by_cases e : f = j
      · subst e
        rw [ar_qj, List.length_append]
        exact hq
      · rw [ar_qo e]
        exact hQ.2 f hf
  have e5 : nI (10 * j) + 5 = nI (10 * j + 5) := nI_add _ 5
  have e6 : nI (10 * j) + 6 = nI (10 * j + 6) := nI_add _ 6
  have v5 : vp_in (nI (10 * j) + 5) 160 := by
    rw [e5]
    exact vp_in_nI (by omega) (by decide)
  have v6 : vp_in (nI (10 * j) + 6) 160 := by
    rw [e6]
    exact vp_in_nI (by omega) (by decide)
  have w : ∀ x : Nat, x < 10 → vp_in (nI (10 * L.length) + nI x) 1280 ∧ (nI (10 * L.length) + nI x).toNatClampNeg = 10 * L.length + x := by
    intro x hx
    rw [nI_add, nI_clamp (by omega)]
    exact ⟨vp_in_nI (by omega) (by decide), rfl⟩
  have w1 := w 1 (by omega)
  have w2 := w 2 (by omega)
  have w4 := w 4 (by omega)
  have w5 := w 5 (by omega)
  have w6 := w 6 (by omega)
  refine And.intro v5 (nm_r (e' := vp_updL flw (10 * j + 5) (st + lN ch)) (by rw [e5, nI_clamp (by omega)]) (And.intro v6 (nm_r (e' := vp_updL (vp_updL flw (10 * j + 5) (st + lN ch)) (10 * j + 6) (bs + lN ch)) (by rw [e6, nI_clamp (by omega)])
    (nm_r (yh_ix0 L.length) (And.intro w1.1 (nm_r (e' := vp_updL wai (10 * L.length + 1) (lN j)) ?_ (And.intro w2.1 (nm_r (e' := vp_updL (vp_updL wai (10 * L.length + 1) (lN j)) (10 * L.length + 2) (lN len)) ?_
    (And.intro w4.1 (nm_r (e' := vp_updL (vp_updL (vp_updL wai (10 * L.length + 1) (lN j)) (10 * L.length + 2) (lN len)) (10 * L.length + 4) st) ?_
    (And.intro w5.1 (nm_r (e' := vp_updL (vp_updL (vp_updL (vp_updL wai (10 * L.length + 1) (lN j)) (10 * L.length + 2) (lN len)) (10 * L.length + 4) st) (10 * L.length + 5) (st + lN ch)) ?_
    (And.intro w6.1 (nm_r (e' := vp_updL (vp_updL (vp_updL (vp_updL (vp_updL wai (10 * L.length + 1) (lN j)) (10 * L.length + 2) (lN len)) (10 * L.length + 4) st) (10 * L.length + 5) (st + lN ch)) (10 * L.length + 6) (bs + lN ch)) ?_ (nm_r (e' := nI (L ++ [(j, len, st, st + lN ch, bs + lN ch)]).length) ?_ ?_)))))))))))))))
  · rw [show nI (10 * L.length) + 1 = nI (10 * L.length) + nI 1 from rfl, w1.2, nI_l (by omega)]
  · rw [show nI (10 * L.length) + 2 = nI (10 * L.length) + nI 2 from rfl, w2.2, nI_l (by omega)]
  · rw [show nI (10 * L.length) + 4 = nI (10 * L.length) + nI 4 from rfl, w4.2]
  · rw [show nI (10 * L.length) + 5 = nI (10 * L.length) + nI 5 from rfl, w5.2]
  · rw [show nI (10 * L.length) + 6 = nI (10 * L.length) + nI 6 from rfl, w6.2]
  · rw [List.length_append]
    exact nI_1 L.length
  · rw [nI_1]
    exact hp
/-- one start, one due: both sides append the same packet -/
theorem ar_123 (hk : k + 4 ≤ 2052) (F : wf_I k n c q m now sn lr V W fr hm L lkF lkL lkR lkD wts uc lfn ldu frt wtg pln pst pfi pdu hf hs key hom pl sF sL sT sD flw wai lnk rec) (hj : j < n) (hw : 0 < W j) (hl : 1 ≤ len) (hlm : len ≤ m) (hq : (qf_q L j).length < q) (hch : ch = len * (c * (840 / W j))) (hst : wf_b (840 * now + 1720320 * k) st) :
    ∃ (bs : Int64) (hm' : Nat → Nat) (hf' hs' hom' pl' : Nat → Int32) (key' : Nat → Int64), wf_I (k + 4) n c q m now sn lr V W fr hm' (L ++ [(j, len, st, st + lN ch, bs + lN ch)]) lkF lkL lkR lkD wts uc (vp_updL lfn j (st + lN ch)) (vp_updL ldu j (bs + lN ch)) frt (upd wtg j (nI ((qf_q L j).length + 1))) (upd pln (8 * j + (fr j + (qf_q L j).length) % 8) (nI len)) (vp_updL pst (8 * j + (fr j + (qf_q L j).length) % 8) st) (vp_updL pfi (8 * j + (fr j + (qf_q L j).length) % 8) (st + lN ch)) (vp_updL pdu (8 * j + (fr j + (qf_q L j).length) % 8) (bs + lN ch)) hf' hs' key' hom' pl' sF sL sT sD (vp_updL (vp_updL flw (10 * j + 5) (st + lN ch)) (10 * j + 6) (bs + lN ch)) (vp_updL (vp_updL (vp_updL (vp_updL (vp_updL wai (10 * L.length + 1) (lN j)) (10 * L.length + 2) (lN len)) (10 * L.length + 4) st) (10 * L.length + 5) (st + lN ch)) (10 * L.length + 6) (bs + lN ch)) lnk rec ∧ (∀ post : SX → Prop, post (nI n, nI c, nI q, nI m, nI now, V, nI (qf_S W n), idle, nI sn, worst, sh, fh, lkF, lkL, lkR, lkD, wts, uc, (vp_updL lfn j (st + lN ch)), (vp_updL ldu j (bs + lN ch)), frt, (upd wtg j (nI ((qf_q L j).length + 1))), (upd pln (8 * j + (fr j + (qf_q L j).length) % 8) (nI len)), (vp_updL pst (8 * j + (fr j + (qf_q L j).length) % 8) st), (vp_updL pfi (8 * j + (fr j + (qf_q L j).length) % 8) (st + lN ch)), (vp_updL pdu (8 * j + (fr j + (qf_q L j).length) % 8) (bs + lN ch)), hf', hs', key', hom', pl', sF, sL, sT, sD) → wX_enqueue_44 post (nI j) (nI len) (lN ch) st (nI n) (nI c) (nI q) (nI m) (nI now) V (nI (qf_S W n)) idle (nI sn) worst sh fh lkF lkL lkR lkD wts uc lfn ldu frt wtg pln pst pfi pdu hf hs key hom pl sF sL sT sD) ∧
      (∀ post : Int32 → SY → Prop, post (nI ((qf_q L j).length + 1)) (nI n, nI c, nI q, nI m, nI now, nI sn, idle, V, worst, nI (L ++ [(j, len, st, st + lN ch, bs + lN ch)]).length, (vp_updL (vp_updL flw (10 * j + 5) (st + lN ch)) (10 * j + 6) (bs + lN ch)), (vp_updL (vp_updL (vp_updL (vp_updL (vp_updL wai (10 * L.length + 1) (lN j)) (10 * L.length + 2) (lN len)) (10 * L.length + 4) st) (10 * L.length + 5) (st + lN ch)) (10 * L.length + 6) (bs + lN ch)), lnk, rec) → wY_arrive_123 post (nI j) (nI len) (nI (10 * j)) (nI (qf_q L j).length) (lN ch) st (nI n) (nI c) (nI q) (nI m) (nI now) (nI sn) idle V worst (nI L.length) flw wai lnk rec) := by
  have F0 := F
  obtain ⟨hN, hV, hU, hF, hQ, hW, hX, hH, hK, hS⟩ := F0
  unfold wf_N at hN
  obtain ⟨a1, a2, a3, a4, a5⟩ := hF j hj
  obtain ⟨d1, d2, d3, d4⟩ := a5 hw
  have vj : vp_in (nI j) 16 := vp_in_nI (by omega) (by decide)
  have ej : (nI j).toNatClampNeg = j := nI_clamp (by omega)
  have e6 : nI (10 * j) + 6 = nI (10 * j + 6) := nI_add _ 6
  have v6 : vp_in (nI (10 * j) + 6) 160 := by
    rw [e6]
    exact vp_in_nI (by omega) (by decide)
  have ef : flw (nI (10 * j) + 6).toNatClampNeg = ldu j := by
    rw [e6, nI_clamp (by omega)]
    exact d3
  have et := ev_840n (now := now) (by omega)
  by_cases h1 : ldu j ≤ 840 * (nI now).toInt64
  · obtain ⟨hm', hf', hs', hom', pl', key', H', wx⟩ := ar_x75 (len := len) (ch := ch) (idle := idle) (worst := worst) (sh := sh) (fh := fh) F hj hq st (840 * (nI now).toInt64)
    refine ⟨840 * (nI now).toInt64, hm', hf', hs', hom', pl', key', ar_rel hk F hj hw hl hlm hq hch hst H', fun post hp => ?_, fun post hp => ?_⟩
    · exact nm_e (And.intro vj (br_t (by rw [ej]; exact h1) (wx post hp)))
    · have h160 := ar_y160 (idle := idle) (worst := worst) F hj hq (by omega) hp
      refine And.intro v6 (nm_r (e' := ldu j) ef ?_)
      rw [← et]
      by_cases h2 : 840 * (nI now).toInt64 ≤ ldu j
      · have : ldu j = 840 * (nI now).toInt64 := Int64.le_antisymm h1 h2
        refine br_t h2 ?_
        rw [this]
        exact h160
      · exact br_f h2 (nm_e h160)
  · obtain ⟨hm', hf', hs', hom', pl', key', H', wx⟩ := ar_x75 (len := len) (ch := ch) (idle := idle) (worst := worst) (sh := sh) (fh := fh) F hj hq st (ldu j)
    refine ⟨ldu j, hm', hf', hs', hom', pl', key', ar_rel hk F hj hw hl hlm hq hch hst H', fun post hp => ?_, fun post hp => ?_⟩
    · exact nm_e (And.intro vj (br_f (by rw [ej]; exact h1) (And.intro vj (nm_r (e' := ldu j) (by rw [ej]) (wx post hp)))))
    · have h160 := ar_y160 (idle := idle) (worst := worst) F hj hq (by omega) hp
      refine And.intro v6 (nm_r (e' := ldu j) ef ?_)
      rw [← et]
      refine br_t ?_ h160
      rw [Int64.le_iff_toInt_le] at h1 ⊢
      omega
/-- which start: virtual time if nothing waits and it is later, else the last finish -/
def ar_sel (cnt : Nat) (V lf st : Int64) : Prop := (cnt = 0 ∧ ¬ V ≤ lf ∧ st = V) ∨ ((cnt ≠ 0 ∨ V ≤ lf) ∧ st = lf)
theorem ar_xe (F : wf_I k n c q m now sn lr V W fr hm L lkF lkL lkR lkD wts uc lfn ldu frt wtg pln pst pfi pdu hf hs key hom pl sF sL sT sD flw wai lnk rec) (hj : j < n) (hw : 0 < W j) (hlm : len ≤ 32) (hch : ch = len * (c * (840 / W j))) (hsel : ar_sel (qf_q L j).length V (lfn j) st) {post : SX → Prop} (h : wX_enqueue_44 post (nI j) (nI len) (lN ch) st (nI n) (nI c) (nI q) (nI m) (nI now) V (nI (qf_S W n)) idle (nI sn) worst sh fh lkF lkL lkR lkD wts uc lfn ldu frt wtg pln pst pfi pdu hf hs key hom pl sF sL sT sD) : wpX_enqueue post (nI n, nI c, nI q, nI m, nI now, V, nI (qf_S W n), idle, nI sn, worst, sh, fh, lkF, lkL, lkR, lkD, wts, uc, lfn, ldu, frt, wtg, pln, pst, pfi, pdu, hf, hs, key, hom, pl, sF, sL, sT, sD) (nI j) (nI len) := by
  obtain ⟨hN, hV, hU, hF, hQ, hW, hX, hH, hK, hS⟩ := F
  unfold wf_N at hN
  obtain ⟨a1, a2, a3, a4, a5⟩ := hF j hj
  obtain ⟨d1, d2, d3, d4⟩ := a5 hw
  obtain ⟨x1, x2, x3, x4⟩ := hX j hj
  have hq8 := hQ.2 j hj
  have vj : vp_in (nI j) 16 := vp_in_nI (by omega) (by decide)
  have ej : (nI j).toNatClampNeg = j := nI_clamp (by omega)
  have hc2 : c * (840 / W j) ≤ 64 * 840 := Nat.mul_le_mul (by omega) (Nat.div_le_self _ _)
  have ec : (nI len).toInt64 * (uc (nI j).toNatClampNeg).toInt64 = lN ch := by
    rw [ej, d1, nI_l (by omega), nI_l (by omega), lN_mul, hch]
  refine And.intro vj (nm_r ec (And.intro vj (nm_r (e' := lfn j) (by rw [ej]) (And.intro vj ?_))))
  rw [ej, x3]
  rcases hsel with ⟨s1, s2, s3⟩ | ⟨s1, s3⟩
  · subst s3
    exact br_t (by rw [s1]; rfl) (br_f s2 h)
  · subst s3
    by_cases z : (qf_q L j).length = 0
    · refine br_t (by rw [z]; rfl) (br_t (s1.elim (fun y => absurd z y) id) h)
    · exact br_f (nI_ne0 (by omega) (by omega)) h
theorem ar_ye (F : wf_I k n c q m now sn lr V W fr hm L lkF lkL lkR lkD wts uc lfn ldu frt wtg pln pst pfi pdu hf hs key hom pl sF sL sT sD flw wai lnk rec) (hj : j < n) (hw : 0 < W j) (hl : 1 ≤ len) (hlm : len ≤ m) (hq : (qf_q L j).length < q) (hch : ch = len * (c * (840 / W j))) (hsel : ar_sel (qf_q L j).length V (lfn j) st) {post : Int32 → SY → Prop}
    (h : wY_arrive_123 post (nI j) (nI len) (nI (10 * j)) (nI (qf_q L j).length) (lN ch) st (nI n) (nI c) (nI q) (nI m) (nI now) (nI sn) idle V worst (nI L.length) flw wai lnk rec) : wpY_arrive post (nI n, nI c, nI q, nI m, nI now, nI sn, idle, V, worst, nI L.length, flw, wai, lnk, rec) (nI j) (nI len) := by
  have hYL := wf_yL F
  obtain ⟨hN, hV, hU, hF, hQ, hW, hX, hH, hK, hS⟩ := F
  unfold wf_N at hN
  obtain ⟨a1, a2, a3, a4, a5⟩ := hF j hj
  obtain ⟨d1, d2, d3, d4⟩ := a5 hw
  have e8 : nI (10 * j) + 8 = nI (10 * j + 8) := nI_add _ 8
  have e5 : nI (10 * j) + 5 = nI (10 * j + 5) := nI_add _ 5
  have v8 : vp_in (nI (10 * j) + 8) 160 := by
    rw [e8]
    exact vp_in_nI (by omega) (by decide)
  have v5 : vp_in (nI (10 * j) + 5) 160 := by
    rw [e5]
    exact vp_in_nI (by omega) (by decide)
  have hcl : len * c ≤ 32 * 64 := Nat.mul_le_mul (by omega) (by omega)
  have ec : (nI len * nI c).toInt64 * (840 / lN (W j)) = lN ch := by
    rw [pk_mul, nI_l (by omega), show (840 : Int64) / lN (W j) = lN (840 / W j) from pk_lDiv (a := 840) (by decide) hw (by omega), lN_mul, hch, Nat.mul_assoc]
  have b1 : ¬ nI len < 1 := nI_nlt (b := 1) hl (by omega)
  have b8 : (1 : Int64) ≤ lN (W j) := (lN_le (a := 1) (by decide) (by omega)).mpr hw
  refine br_f (nI_pos (by omega)) (br_t (nI_lt hj (by omega)) (br_f b1 (br_t (nI_le hlm (by omega)) (nm_r (yh_ix0 j) (And.intro v8 (nm_r (e' := lN (W j)) (by rw [e8, nI_clamp (by omega)]; exact a3) (br_t b8 (yh_wait hYL (by omega) ?_))))))))
  refine br_t (nI_lt hq (by omega)) (And.intro (yk_ne rfl hw (by omega)) (nm_r ec (And.intro v5 (nm_r (e' := lfn j) (by rw [e5, nI_clamp (by omega)]; exact d2) ?_))))
  rcases hsel with ⟨s1, s2, s3⟩ | ⟨s1, s3⟩
  · subst s3
    exact br_t (by rw [s1]; rfl) (br_f s2 h)
  · subst s3
    by_cases z : (qf_q L j).length = 0
    · refine br_t (by rw [z]; rfl) (br_t (s1.elim (fun y => absurd z y) id) h)
    · exact br_f (nI_ne0 (by omega) (by omega)) h
end
theorem i_vc_arrive {k : Nat} {u : SX} {v : SY} (I : i_Rel k u v) (hk : k + 4 ≤ 2052) (v1 : Int32) (v2 : Int32) : wpX_arrive (fun r u' => wpY_arrive (fun r' v' => r' = r ∧ i_Rel (k + 4) u' v') v v1 v2) u v1 v2 := by
  refine wf_eli (P := fun u v => wpX_arrive (fun r u' => wpY_arrive (fun r' v' => r' = r ∧ i_Rel (k + 4) u' v') v v1 v2) u v1 v2) ?_ I
  intro now n c q m sn lr V W fr hm L lkF lkL lkR lkD wts uc lfn ldu frt wtg pln pst pfi pdu hf hs key hom pl sF sL sT sD flw wai lnk rec idle worst sh fh F
  have R : i_Rel (k + 4) (nI n, nI c, nI q, nI m, nI now, V, nI (qf_S W n), idle, nI sn, worst, sh, fh, lkF, lkL, lkR, lkD, wts, uc, lfn, ldu, frt, wtg, pln, pst, pfi, pdu, hf, hs, key, hom, pl, sF, sL, sT, sD) (nI n, nI c, nI q, nI m, nI now, nI sn, idle, V, worst, nI L.length, flw, wai, lnk, rec) := wf_rel (wf_up F)
  have F0 := F
  obtain ⟨hN, hV, hU, hF, hQ, hW, hX, hH, hK, hS⟩ := F0
  have hYL := wf_yL F
  unfold wf_N at hN
  by_cases h0 : v1 < 0
  · unfold wpX_arrive
    refine hx_isn h0 ?_
    exact br_t rfl (br_t h0 ⟨rfl, R⟩)
  · obtain ⟨j, hj, rfl⟩ := nI_of h0
    by_cases h1 : j < n
    · have c1 : nI j < nI n := nI_lt h1 (by omega)
      have vj : vp_in (nI j) 16 := vp_in_nI (by omega) (by decide)
      have ej : (nI j).toNatClampNeg = j := nI_clamp (by omega)
      have e8 : nI (10 * j) + 8 = nI (10 * j + 8) := nI_add _ 8
      have v8 : vp_in (nI (10 * j) + 8) 160 := by
        rw [e8]
        exact vp_in_nI (by omega) (by decide)
      obtain ⟨a1, a2, a3, a4, a5⟩ := hF j h1
      obtain ⟨x1, x2, x3, x4⟩ := hX j h1
      have ey : flw (nI (10 * j) + 8).toNatClampNeg = lN (W j) := by
        rw [e8, nI_clamp (by omega)]
        exact a3
      have hq8 := hQ.2 j h1
      unfold wpX_arrive
      refine hx_isf h1 (by omega) ?_
      refine br_f (by decide) ?_
      by_cases h2 : v2 < 1
      · exact br_t h2 (br_f h0 (br_t c1 (br_t h2 ⟨rfl, R⟩)))
      · by_cases h3 : v2 ≤ nI m
        · obtain ⟨len, hlen, rfl⟩ := nI_of2 (x := v2) (M := nI m) (n := m) (nI_toInt (by omega)) (by
            rw [Int32.lt_iff_toInt_lt] at h2 ⊢
            rw [show (1 : Int32).toInt = 1 from by decide] at h2
            rw [show (0 : Int32).toInt = 0 from by decide]
            omega) h3
          have hl1 : 1 ≤ len := by
            rcases Nat.eq_zero_or_pos len with z | z
            · rw [z] at h2
              exact absurd (by decide : nI 0 < 1) h2
            · exact z
          by_cases h4 : W j = 0
          · have b4 : wts (nI j).toNatClampNeg = 0 := by
              rw [ej, a2, h4]
              rfl
            have b4y : ¬ (1 : Int64) ≤ lN (W j) := by
              rw [h4]
              decide
            exact br_f h2 (br_t h3 (And.intro vj (br_t b4 (br_f h0 (br_t c1 (br_f h2 (br_t h3 (nm_r (yh_ix0 j) (And.intro v8 (nm_r (e' := lN (W j)) ey (br_f b4y ⟨rfl, R⟩)))))))))))
          · have b4 : ¬ wts (nI j).toNatClampNeg = 0 := by
              rw [ej, a2]
              exact nI_ne0 (by omega) (by omega)
            obtain ⟨d1, d2, d3, d4⟩ := a5 (by omega)
            by_cases h5 : (qf_q L j).length < q
            · have b5 : wtg (nI j).toNatClampNeg < nI q := by
                rw [ej, x3]
                exact nI_lt h5 (by omega)
              have hst : ∃ st, ar_sel (qf_q L j).length V (lfn j) st ∧ wf_b (840 * now + 1720320 * k) st := by
                by_cases z : (qf_q L j).length = 0
                · by_cases y : V ≤ lfn j
                  · exact ⟨_, Or.inr ⟨Or.inr y, rfl⟩, d4⟩
                  · exact ⟨_, Or.inl ⟨z, y, rfl⟩, hV⟩
                · exact ⟨_, Or.inr ⟨Or.inl z, rfl⟩, d4⟩
              obtain ⟨st, hsel, hstb⟩ := hst
              obtain ⟨bs, hm', hf', hs', hom', pl', key', F1, wx, wy⟩ := ar_123 (ch := len * (c * (840 / W j))) (idle := idle) (worst := worst) (sh := sh) (fh := fh) hk F h1 (by omega) hl1 hlen h5 rfl hstb
              refine br_f h2 (br_t h3 (And.intro vj (br_f b4 (And.intro vj (br_t b5 ?_)))))
              refine ar_xe F h1 (by omega) (by omega) rfl hsel (wx _ ?_)
              refine And.intro vj ?_
              refine ar_ye F h1 (by omega) hl1 hlen h5 rfl hsel (wy _ ⟨?_, wf_rel F1⟩)
              rw [ej, pk_us]
            · have b5 : ¬ wtg (nI j).toNatClampNeg < nI q := by
                rw [ej, x3]
                exact nI_nlt (by omega) (by omega)
              have b8 : (1 : Int64) ≤ lN (W j) := (lN_le (a := 1) (by decide) (by omega)).mpr (by omega)
              exact br_f h2 (br_t h3 (And.intro vj (br_f b4 (And.intro vj (br_f b5 (br_f h0 (br_t c1 (br_f h2 (br_t h3 (nm_r (yh_ix0 j) (And.intro v8 (nm_r (e' := lN (W j)) ey (br_t b8 (yh_wait hYL (by omega) (br_f (nI_nlt (by omega) (by omega)) ⟨rfl, R⟩)))))))))))))))
        · exact br_f h2 (br_f h3 (br_f h0 (br_t c1 (br_f h2 (br_f h3 ⟨rfl, R⟩)))))
    · unfold wpX_arrive
      refine hx_isb h0 (nI_le (by omega) hj) ?_
      exact br_t rfl (br_f h0 (br_f (nI_nlt (by omega) hj) ⟨rfl, R⟩))
end
section
/-! flush -/
section
variable {k : Nat} {n : Nat} {c : Nat} {q : Nat} {m : Nat} {now : Nat} {sn : Nat} {lr : Nat} {V : Int64} {W : Nat → Nat} {fr : Nat → Nat} {hm : Nat → Nat} {L : List qf_P} {lkF : Int32} {lkL : Int32} {lkR : Int32} {lkD : Int64} {wts : Nat → Int32} {uc : Nat → Int32} {lfn : Nat → Int64} {ldu : Nat → Int64} {frt : Nat → Int32} {wtg : Nat → Int32} {pln : Nat → Int32} {pst : Nat → Int64} {pfi : Nat → Int64} {pdu : Nat → Int64} {hf : Nat → Int32} {hs : Nat → Int32} {key : Nat → Int64} {hom : Nat → Int32} {pl : Nat → Int32} {sF : Nat → Int32} {sL : Nat → Int32} {sT : Nat → Int32} {sD : Nat → Int64} {flw : Nat → Int64} {wai : Nat → Int64} {lnk : Nat → Int64} {rec : Nat → Int64} {idle : Int32} {worst : Int64} {sh : Int32} {fh : Int32} {j : Nat} {p : qf_P} {t : List qf_P} {hf' hs' pl' : Nat → Int32} {wai' : Nat → Int64}
theorem fl_rel (F : wf_I k n c q m now sn lr V W fr hm L lkF lkL lkR lkD wts uc lfn ldu frt wtg pln pst pfi pdu hf hs key hom pl sF sL sT sD flw wai lnk rec) (hj : j < n) (hw : 0 < W j) (hq : qf_q L j = p :: t) (H' : hp_HP n (hp_un hm j 2) hf' hs' key hom pl') (Y' : yh_L (qf_d L j) wai') : wf_I k n c q m now sn lr V W (hp_un fr j 0) (hp_un hm j 2) (qf_d L j) lkF lkL lkR lkD wts uc (vp_updL lfn j p.2.2.1) (vp_updL ldu j (p.2.2.2.2 - lN (p.2.1 * (c * (840 / W j))))) (upd frt j 0) (upd wtg j 0) pln pst pfi pdu hf' hs' key hom pl' sF sL sT sD (vp_updL (vp_updL flw (10 * j + 5) p.2.2.1) (10 * j + 6) (p.2.2.2.2 - lN (p.2.1 * (c * (840 / W j))))) wai' lnk rec := by
  obtain ⟨hN, hV, hU, hF, hQ, hW, hX, hH, hK, hS⟩ := F
  have hp := hQ.1 p (qf_mem (by rw [hq]; exact List.mem_cons_self)).1
  refine ⟨hN, hV, hU, fun f hf => ?_, ⟨fun x hx => hQ.1 x (qd_mem hx).1, fun f hf => ?_⟩, Y'.1, fun f hf => ?_, ⟨H', fun f hf => ?_⟩, hK, hS⟩
  · obtain ⟨a1, a2, a3, a4, a5⟩ := hF f hf
    by_cases e : f = j
    · subst e
      rw [pk_uLn (by omega), pk_uLn (by omega), pk_uLn (k := 10 * f + 6) (j := 10 * f + 5) (by omega), pk_uLs, pk_uLs, pk_uLs, pk_uLs]
      exact ⟨a1, a2, a3, fun z => by omega, fun z => ⟨(a5 z).1, rfl, rfl, hp.2.2.2.2.2⟩⟩
    · rw [pk_uLn (by omega), pk_uLn (by omega), pk_uLn (by omega), pk_uLn (by omega), pk_uLn (by omega), pk_uLn (by omega), pk_uLn e, pk_uLn e]
      exact ⟨a1, a2, a3, a4, a5⟩
  · by_cases e : f = j
    · rw [e, qd_q]
      exact Nat.zero_le _
    · rw [qd_qn e]
      exact hQ.2 f hf
  · by_cases e : f = j
    · subst e
      rw [hp_us, pk_us, pk_us, qd_q]
      exact ⟨by omega, rfl, rfl, fun i x hx => (qn_nil hx).elim⟩
    · rw [hp_unn e, pk_un e, pk_un e, qd_qn e]
      exact hX f hf
  · by_cases e : f = j
    · subst e
      rw [hp_us, qd_q]
      exact ⟨fun _ => rfl, (fun x t z => nomatch z)⟩
    · rw [hp_unn e, qd_qn e]
      exact hH.2 f hf
end
theorem i_vc_flush {k : Nat} {u : SX} {v : SY} (I : i_Rel k u v) (hk : k + 4 ≤ 2052) (v1 : Int32) : wpX_flush (fun r u' => wpY_flush (fun r' v' => r' = r ∧ i_Rel (k + 4) u' v') v v1) u v1 := by
  refine wf_eli (P := fun u v => wpX_flush (fun r u' => wpY_flush (fun r' v' => r' = r ∧ i_Rel (k + 4) u' v') v v1) u v1) ?_ I
  intro now n c q m sn lr V W fr hm L lkF lkL lkR lkD wts uc lfn ldu frt wtg pln pst pfi pdu hf hs key hom pl sF sL sT sD flw wai lnk rec idle worst sh fh F
  have R : i_Rel (k + 4) (nI n, nI c, nI q, nI m, nI now, V, nI (qf_S W n), idle, nI sn, worst, sh, fh, lkF, lkL, lkR, lkD, wts, uc, lfn, ldu, frt, wtg, pln, pst, pfi, pdu, hf, hs, key, hom, pl, sF, sL, sT, sD) (nI n, nI c, nI q, nI m, nI now, nI sn, idle, V, worst, nI L.length, flw, wai, lnk, rec) := wf_rel (wf_up F)
  have F0 := F
  obtain ⟨hN, hV, hU, hF, hQ, hW, hX, hH, hK, hS⟩ := F0
  have hYL := wf_yL F
  unfold wf_N at hN
  by_cases h0 : v1 < 0
  · unfold wpX_flush
    refine hx_isn h0 ?_
    exact br_t rfl (br_t h0 ⟨rfl, R⟩)
  · obtain ⟨j, hj, rfl⟩ := nI_of h0
    by_cases h1 : j < n
    · have c1 : nI j < nI n := nI_lt h1 (by omega)
      have vj : vp_in (nI j) 16 := vp_in_nI (by omega) (by decide)
      have ej : (nI j).toNatClampNeg = j := nI_clamp (by omega)
      have y8 : nI j * 10 + 8 = nI (10 * j + 8) := yh_ix j 8
      have y5 : nI j * 10 + 5 = nI (10 * j + 5) := yh_ix j 5
      have y6 : nI j * 10 + 6 = nI (10 * j + 6) := yh_ix j 6
      have vy : vp_in (nI j * 10 + 8) 160 := by
        rw [y8]
        exact vp_in_nI (by omega) (by decide)
      have vy5 : vp_in (nI j * 10 + 5) 160 := by
        rw [y5]
        exact vp_in_nI (by omega) (by decide)
      have vy6 : vp_in (nI j * 10 + 6) 160 := by
        rw [y6]
        exact vp_in_nI (by omega) (by decide)
      obtain ⟨a1, a2, a3, a4, a5⟩ := hF j h1
      have ey : flw (nI j * 10 + 8).toNatClampNeg = lN (W j) := by
        rw [y8, nI_clamp (by omega)]
        exact a3
      obtain ⟨x1, x2, x3, x4⟩ := hX j h1
      have hlen : (qf_q L j).length ≤ 8 := Nat.le_trans (hQ.2 j h1) (by omega)
      unfold wpX_flush
      refine hx_isf h1 (by omega) ?_
      refine br_f (by decide) ?_
      by_cases h4 : W j = 0
      · have b4 : wts (nI j).toNatClampNeg = 0 := by
          rw [ej, a2, h4]
          rfl
        have b4y : flw (nI j * 10 + 8).toNatClampNeg = 0 := by
          rw [ey, h4]
          rfl
        exact And.intro vj (br_t b4 (br_f h0 (br_t c1 (And.intro vy (br_t b4y ⟨rfl, R⟩)))))
      · have b4 : ¬ wts (nI j).toNatClampNeg = 0 := by
          rw [ej, a2]
          exact nI_ne0 (by omega) (by omega)
        have b4y : ¬ flw (nI j * 10 + 8).toNatClampNeg = 0 := by
          rw [ey]
          exact yk_ne rfl (by omega) (by omega)
        obtain ⟨d1, d2, d3, d4⟩ := a5 (by omega)
        have ew : wtg (nI j).toNatClampNeg = nI (qf_q L j).length := by
          rw [ej]
          exact x3
        cases hq : qf_q L j with
        | nil =>
          rw [hq] at ew
          refine And.intro vj (br_f b4 (And.intro vj (nm_r ew (br_t rfl ?_))))
          refine br_f h0 (br_t c1 (And.intro vy (br_f b4y (yh_findn hYL (by omega) (fun z hz => ?_) ?_))))
          · rw [hq] at hz
            exact absurd hz (Nat.not_lt_zero _)
          · exact yh_wait hYL (by omega) (br_f (by decide) ⟨rfl, R⟩)
        | cons p t =>
          have hp := hQ.1 p (qf_mem (by rw [hq]; exact List.mem_cons_self)).1
          have hpj : p.1 = j := (qf_mem (L := L) (f := j) (p := p) (by rw [hq]; exact List.mem_cons_self)).2
          obtain ⟨p1, p2, p3, p4, p5, p6⟩ := hp
          rw [hpj] at p5
          obtain ⟨r1, r2, r3, r4⟩ := x4 0 p (by rw [hq]; rfl)
          have hmj : hm j < 2 := by
            rcases (hH.2 j h1).2 p t hq with z | z
            · omega
            · omega
          have hc2 : c * (840 / W j) ≤ 64 * 840 := Nat.mul_le_mul (by omega) (Nat.div_le_self _ _)
          obtain ⟨hf', pl', P1, wx⟩ := hx_remove (f_flowCount := nI n) (f_shareTotal := nI c) (f_queueDepth := nI q) (f_longest := nI m) (f_ticksPassed := nI now) (f_virtual := V) (f_usedWeight := nI (qf_S W n)) (f_idle := idle) (f_sent := nI sn) (f_worst := worst) (f_startHeap := sh) (f_finishHeap := fh) (f_linkFlow := lkF) (f_linkLength := lkL) (f_linkRemaining := lkR) (f_linkDue := lkD) (a_weights := wts) (a_unitCharge := uc) (a_lastFinish := (vp_updL lfn j p.2.2.1)) (a_lastDue := (vp_updL ldu j (p.2.2.2.2 - lN (p.2.1 * (c * (840 / W j)))))) (a_front := frt) (a_waiting := wtg) (a_packetLength := pln) (a_packetStart := pst) (a_packetFinish := pfi) (a_packetDue := pdu) (a_heapFlow := hf) (a_heapSize := hs) (a_key := key) (a_home := hom) (a_place := pl) (a_sentFlow := sF) (a_sentLength := sL) (a_sentLeft := sT) (a_sentDue := sD) (n := n) (h := hm j) (g := j) (hm := hm) (by omega) hH.1 hmj h1 rfl
          obtain ⟨i1, i2, i3⟩ := qi_get hq
          have hi := qf_lt i1
          have hl128 := hYL.2.1
          have hw := hYL.1 _ _ i1
          obtain ⟨wai', Y', wy⟩ := yh_fl (g_n := nI n) (g_c := nI c) (g_q := nI q) (g_m := nI m) (g_now := nI now) (g_sent := nI sn) (g_idle := idle) (g_v := V) (g_worst := worst) (b_flows := (vp_updL (vp_updL flw (10 * j + 5) p.2.2.1) (10 * j + 6) (p.2.2.2.2 - lN (p.2.1 * (c * (840 / W j)))))) (b_link := lnk) (b_records := rec) (L := L) (f := j) (x3 := nI (qf_q L j).length) (by omega) hYL.2.2 hl128 L.length wai (Nat.le_refl _) (by rw [qm_len]; exact hYL)
          rw [qm_len] at wy
          have F1 := fl_rel F h1 (by omega) hq P1 Y'
          have R1 := wf_rel (idle := idle) (worst := worst) (sh := sh) (fh := fh) (wf_up F1)
          have hsl : 8 * j + (fr j + 0) % 8 < 128 := by omega
          have vs : vp_in (nI (8 * j + (fr j + 0) % 8)) 128 := vp_in_nI hsl (by decide)
          have es : (nI (8 * j + (fr j + 0) % 8)).toNatClampNeg = 8 * j + (fr j + 0) % 8 := nI_clamp (by omega)
          have ech : (pln (nI (8 * j + (fr j + 0) % 8)).toNatClampNeg).toInt64 * (uc (nI j).toNatClampNeg).toInt64 = lN (p.2.1 * (c * (840 / W j))) := by
            rw [es, ej, r1, d1, nI_l (by omega), nI_l (by omega), lN_mul]
          refine And.intro vj (br_f b4 (And.intro vj (nm_r ew (br_f ?_ ?_))))
          · rw [hq]
            exact nI_ne0 (Nat.succ_pos _) (by rw [← hq]; omega)
          · refine hx_slot (f := j) (fr := fr j) (j := 0) (by omega) x2 x1 (by omega) ?_
            refine And.intro vs (And.intro vj (nm_r ech (And.intro vs (And.intro vj (nm_r (e' := vp_updL lfn j p.2.2.1) (by rw [es, ej, r2]) (And.intro vs (And.intro vj (nm_r (e' := vp_updL ldu j (p.2.2.2.2 - lN (p.2.1 * (c * (840 / W j))))) (by rw [es, ej, r4]) ?_))))))))
            refine wx _ ?_
            refine And.intro vj (nm_r (e' := upd wtg j 0) (by rw [ej]) (And.intro vj (nm_r (e' := upd frt j 0) (by rw [ej]) ?_)))
            -- the reference
            have e4 : nI (10 * qf_i L j) + 4 = nI (10 * qf_i L j + 4) := nI_add _ 4
            have e5 : nI (10 * qf_i L j) + 5 = nI (10 * qf_i L j + 5) := nI_add _ 5
            have e6 : nI (10 * qf_i L j) + 6 = nI (10 * qf_i L j + 6) := nI_add _ 6
            have v4 : vp_in (nI (10 * qf_i L j) + 4) 1280 := by
              rw [e4]
              exact vp_in_nI (by omega) (by decide)
            have v5 : vp_in (nI (10 * qf_i L j) + 5) 1280 := by
              rw [e5]
              exact vp_in_nI (by omega) (by decide)
            have v6 : vp_in (nI (10 * qf_i L j) + 6) 1280 := by
              rw [e6]
              exact vp_in_nI (by omega) (by decide)
            have w4 : wai (nI (10 * qf_i L j) + 4).toNatClampNeg = p.2.2.1 := by
              rw [e4, nI_clamp (by omega)]
              exact hw.2.2.1
            have w5 : wai (nI (10 * qf_i L j) + 5).toNatClampNeg = p.2.2.2.1 := by
              rw [e5, nI_clamp (by omega)]
              exact hw.2.2.2.1
            have w6 : wai (nI (10 * qf_i L j) + 6).toNatClampNeg = p.2.2.2.2 := by
              rw [e6, nI_clamp (by omega)]
              exact hw.2.2.2.2
            have ed : p.2.2.2.1 - p.2.2.1 = lN (p.2.1 * (c * (840 / W j))) := by
              rw [p5, Int64.add_comm, Int64.add_sub_cancel]
            refine br_f h0 (br_t c1 (And.intro vy (br_f b4y (yh_head hYL (by omega) hq ?_))))
            refine yh_wait hYL (by omega) ?_
            refine br_t (nI_pos' (by omega)) (And.intro v4 (And.intro vy5 (nm_r (e' := vp_updL flw (10 * j + 5) p.2.2.1) (by rw [w4, y5, nI_clamp (by omega)]) (And.intro v6 (And.intro v5 (And.intro v4 (And.intro vy6 (nm_r (e' := vp_updL (vp_updL flw (10 * j + 5) p.2.2.1) (10 * j + 6) (p.2.2.2.2 - lN (p.2.1 * (c * (840 / W j))))) ?_ (nm_e ⟨L.length + 1, wy _ ⟨rfl, R1⟩⟩)))))))))
            rw [w4, w5, w6, ed, y6, nI_clamp (by omega)]
    · unfold wpX_flush
      refine hx_isb h0 (nI_le (by omega) hj) ?_
      exact br_t rfl (br_f h0 (br_f (nI_nlt (by omega) hj) ⟨rfl, R⟩))
end
