section
theorem pk_us {f : Nat → Int32} {k : Nat} {x : Int32} : upd f k x k = x := if_pos rfl
theorem pk_un {f : Nat → Int32} {k j : Nat} {x : Int32} (h : j ≠ k) : upd f k x j = f j := if_neg h
theorem pk_sub {a b : Nat} (h : b ≤ a) : nI a - nI b = nI (a - b) := by
  obtain ⟨c, rfl⟩ : ∃ c, a = c + b := ⟨a - b, by omega⟩
  rw [← nI_add, Int32.add_sub_cancel, Nat.add_sub_cancel]
theorem pk_m1 (n : Nat) : nI (n + 1) + (-1) = nI n := by
  rw [← nI_1, Int32.add_assoc, show (1 : Int32) + (-1) = 0 from rfl, Int32.add_zero]
theorem pk_mul (a b : Nat) : nI a * nI b = nI (a * b) := (Int32.ofNat_mul a b).symm
theorem pk_div {a d : Nat} (ha : a < 2 ^ 31) (h0 : 0 < d) (hd : d < 2 ^ 31) : nI a / nI d = nI (a / d) := by
  apply Int32.toInt_inj.mp
  rw [lg_idiv_nonneg (by rw [nI_toInt ha]; omega) (by rw [nI_toInt hd]; omega), nI_toInt ha, nI_toInt hd, nI_toInt (Nat.lt_of_le_of_lt (Nat.div_le_self a d) ha)]
  first | rfl | exact (Int.natCast_ediv _ _).symm
theorem pk_rem {a d : Nat} (ha : a < 2 ^ 31) (h0 : 0 < d) (hd : d < 2 ^ 31) : nI a - nI a / nI d * nI d = nI (a % d) := by
  rw [pk_div ha h0 hd, pk_mul, pk_sub (Nat.div_mul_le_self a d)]
  exact congrArg nI (by have := Nat.div_add_mod' a d; omega)
theorem pk_sub_toInt {a b : Nat} (ha : a < 2 ^ 30) (hb : b < 2 ^ 30) : (nI a - nI b).toInt = (a : Int) - b := by
  rw [Int32.toInt_sub, nI_toInt (by omega), nI_toInt (by omega)]
  exact Int.bmod_eq_of_le (by omega) (by omega)
theorem pk_sneg {a b : Nat} (hb : b < 2 ^ 30) (h : a < b) : nI a - nI b < 0 := by
  rw [Int32.lt_iff_toInt_lt, pk_sub_toInt (by omega) hb, show (0 : Int32).toInt = 0 from by decide]
  omega
theorem pk_ix (x : Int32) {n : Nat} (hn : n < 2 ^ 31) : x < 0 ∨ nI n ≤ x ∨ ∃ j : Nat, j < n ∧ x = nI j := by
  by_cases h : x < 0
  · exact Or.inl h
  · obtain ⟨j, hj, rfl⟩ := nI_of h
    by_cases h2 : j < n
    · exact Or.inr (Or.inr ⟨j, h2, rfl⟩)
    · exact Or.inr (Or.inl (nI_le (by omega) hj))
theorem pk_le {x y : Int32} {A B : Prop} (a b : Nat) (f : a ≤ b → A) (g : b < a → B) (hx : x = nI a := by rfl) (hy : y = nI b := by rfl) (ha : a < 2 ^ 31 := by omega) (hb : b < 2 ^ 31 := by omega) : (x ≤ y → A) ∧ (¬ x ≤ y → B) := by
  subst hx hy
  rw [nI_leI ha hb]
  exact ⟨f, fun z => g (by omega)⟩
theorem pk_lt {x y : Int32} {A B : Prop} (a b : Nat) (f : a < b → A) (g : b ≤ a → B) (hx : x = nI a := by rfl) (hy : y = nI b := by rfl) (ha : a < 2 ^ 31 := by omega) (hb : b < 2 ^ 31 := by omega) : (x < y → A) ∧ (¬ x < y → B) := by
  subst hx hy
  rw [nI_ltI ha hb]
  exact ⟨f, fun z => g (by omega)⟩
theorem pk_eq {x y : Int32} {A B : Prop} (a b : Nat) (f : a = b → A) (g : a ≠ b → B) (hx : x = nI a := by rfl) (hy : y = nI b := by rfl) (ha : a < 2 ^ 31 := by omega) (hb : b < 2 ^ 31 := by omega) : (x = y → A) ∧ (¬ x = y → B) := by
  subst hx hy
  rw [nI_eq ha hb]
  exact ⟨f, g⟩
theorem pk_in {x : Int32} (n N : Nat) (h : n < N) (hx : x = nI n := by rfl) (hN : N < 2 ^ 31 := by omega) : vp_in x N := by
  subst hx
  exact vp_in_nI h hN
theorem pk_cl {x : Int32} (n : Nat) (hx : x = nI n := by rfl) (h : n < 2 ^ 31 := by omega) : x.toNatClampNeg = n := by
  subst hx
  exact nI_clamp h
theorem pk_least (P : Nat → Prop) (h : ∃ k, P k) : ∃ k, P k ∧ ∀ j, j < k → ¬ P j := by
  obtain ⟨k, hk⟩ := h
  induction k using Nat.strongRecOn with
  | ind k ih =>
    by_cases e : ∃ j, j < k ∧ P j
    · obtain ⟨j, hj, pj⟩ := e
      exact ih j hj pj
    · exact ⟨k, hk, fun j hj pj => e ⟨j, hj, pj⟩⟩
theorem mc_m16 (a : Nat) : (16 : Int32) * nI a = nI (16 * a) := pk_mul 16 a
theorem mc_m48 (a : Nat) : (48 : Int32) * nI a = nI (48 * a) := pk_mul 48 a
theorem mc_m32 (a : Nat) : (32 : Int32) * nI a = nI (32 * a) := pk_mul 32 a
theorem mc_m3 (a : Nat) : (3 : Int32) * nI a = nI (3 * a) := pk_mul 3 a
theorem mc_m4 (a : Nat) : (4 : Int32) * nI a = nI (4 * a) := pk_mul 4 a
theorem mc_a32 (a : Nat) : (32 : Int32) + nI a = nI (32 + a) := nI_add 32 a
theorem mc_a4 (a : Nat) : (4 : Int32) + nI a = nI (4 + a) := nI_add 4 a
theorem mc_a3 (a : Nat) : (3 : Int32) + nI a = nI (3 + a) := nI_add 3 a
theorem mc_d4 {a : Nat} (h : a < 2 ^ 31) : nI a / 4 = nI (a / 4) := pk_div h (by decide) (d := 4) (by decide)
theorem mc_d3 {a : Nat} (h : a < 2 ^ 31) : nI a / 3 = nI (a / 3) := pk_div h (by decide) (d := 3) (by decide)
theorem mc_d16 {a : Nat} (h : a < 2 ^ 31) : nI a / 16 = nI (a / 16) := pk_div h (by decide) (d := 16) (by decide)
theorem mc_r4 {a : Nat} (h : a < 2 ^ 31) : nI a - nI (a / 4) * 4 = nI (a % 4) := by
  rw [← mc_d4 h]; exact pk_rem h (by decide) (d := 4) (by decide)
theorem mc_r3 {a : Nat} (h : a < 2 ^ 31) : nI a - nI (a / 3) * 3 = nI (a % 3) := by
  rw [← mc_d3 h]; exact pk_rem h (by decide) (d := 3) (by decide)
theorem mc_vin {n N : Nat} (h : n < N) (hN : N < 2 ^ 31) : vp_in (nI n) N = True := eq_true (vp_in_nI h hN)
theorem mc_n40 : ¬ (4 : Int32) = 0 := by decide
theorem mc_n30 : ¬ (3 : Int32) = 0 := by decide
theorem mc_n160 : ¬ (16 : Int32) = 0 := by decide
theorem mc_n10 : ¬ (1 : Int32) = 0 := by decide
theorem mc_m1 : ¬ (0 : Int32) ≤ -1 := by decide
theorem mc_m1' : (-1 : Int32) < 0 := by decide
theorem mc_le48 {x : Nat} (h : x < 2 ^ 31) : (48 : Int32) ≤ nI x ↔ 48 ≤ x := nI_leI (a := 48) (by decide) h
theorem mc_le64 {x : Nat} (h : x < 2 ^ 31) : (64 : Int32) ≤ nI x ↔ 64 ≤ x := nI_leI (a := 64) (by decide) h
theorem mc_le80 {x : Nat} (h : x < 2 ^ 31) : (80 : Int32) ≤ nI x ↔ 80 ≤ x := nI_leI (a := 80) (by decide) h
theorem mc_le144 {x : Nat} (h : x < 2 ^ 31) : (144 : Int32) ≤ nI x ↔ 144 ≤ x := nI_leI (a := 144) (by decide) h
theorem mc_le1000 {x : Nat} (h : x < 2 ^ 31) : (1000 : Int32) ≤ nI x ↔ 1000 ≤ x := nI_leI (a := 1000) (by decide) h
theorem mc_le9 {x : Nat} (h : x < 2 ^ 31) : (9 : Int32) ≤ nI x ↔ 9 ≤ x := nI_leI (a := 9) (by decide) h
theorem mc_le4 {x : Nat} (h : x < 2 ^ 31) : (4 : Int32) ≤ nI x ↔ 4 ≤ x := nI_leI (a := 4) (by decide) h
theorem mc_le3 {x : Nat} (h : x < 2 ^ 31) : (3 : Int32) ≤ nI x ↔ 3 ≤ x := nI_leI (a := 3) (by decide) h
theorem mc_le1 {x : Nat} (h : x < 2 ^ 31) : (1 : Int32) ≤ nI x ↔ 1 ≤ x := nI_leI (a := 1) (by decide) h
theorem mc_lt3 {x : Nat} (h : x < 2 ^ 31) : (3 : Int32) < nI x ↔ 3 < x := nI_ltI (a := 3) (by decide) h
theorem mc_lt1 {x : Nat} (h : x < 2 ^ 31) : (1 : Int32) < nI x ↔ 1 < x := nI_ltI (a := 1) (by decide) h
theorem mc_ge0 {x : Nat} (h : x < 2 ^ 31) : nI x ≤ 0 ↔ x = 0 := by
  have e := nI_leI (a := x) (b := 0) h (by decide)
  rw [nI_0] at e; rw [e]; omega
theorem mc_le0 {x : Nat} (h : x < 2 ^ 31) : (0 : Int32) ≤ nI x := nI_pos' h
theorem mc_lt64 {x : Nat} (h : x < 2 ^ 31) : nI x < 64 ↔ x < 64 := nI_ltI (b := 64) h (by decide)
theorem mc_lt99 {x : Nat} (h : x < 2 ^ 31) : nI x < 99 ↔ x < 99 := nI_ltI (b := 99) h (by decide)
theorem mc_glt3 {x : Nat} (h : x < 2 ^ 31) : nI x < 3 ↔ x < 3 := nI_ltI (b := 3) h (by decide)
theorem mc_lt9 {x : Nat} (h : x < 2 ^ 31) : nI x < 9 ↔ x < 9 := nI_ltI (b := 9) h (by decide)
theorem mc_glt1 {x : Nat} (h : x < 2 ^ 31) : nI x < 1 ↔ x < 1 := nI_ltI (b := 1) h (by decide)
theorem mc_e0 {x : Nat} (h : x < 2 ^ 31) : nI x = 0 ↔ x = 0 := nI_eq (b := 0) h (by decide)
theorem mc_e1 {x : Nat} (h : x < 2 ^ 31) : nI x = 1 ↔ x = 1 := nI_eq (b := 1) h (by decide)
theorem mc_e2 {x : Nat} (h : x < 2 ^ 31) : nI x = 2 ↔ x = 2 := nI_eq (b := 2) h (by decide)
theorem mc_e3 {x : Nat} (h : x < 2 ^ 31) : nI x = 3 ↔ x = 3 := nI_eq (b := 3) h (by decide)
theorem mc_e4 {x : Nat} (h : x < 2 ^ 31) : nI x = 4 ↔ x = 4 := nI_eq (b := 4) h (by decide)
theorem mc_nneg {x : Nat} (h : x < 2 ^ 31) : (nI x < 0) = False := eq_false (nI_pos h)
theorem mc_ne1 {x : Nat} (h : x < 2 ^ 31) : ¬ nI x = -1 := fun e => nI_pos h (e ▸ mc_m1')
theorem mc_c0 : (0 : Int32).toNatClampNeg = 0 := by decide
noncomputable def mc_if (P : Prop) (a b : Nat) : Nat := @ite Nat P (Classical.propDecidable P) a b
theorem mc_if_t {P : Prop} {a b : Nat} (h : P) : mc_if P a b = a := by unfold mc_if; rw [if_pos h]
theorem mc_if_f {P : Prop} {a b : Nat} (h : ¬ P) : mc_if P a b = b := by unfold mc_if; rw [if_neg h]
noncomputable def mc_b01 (P : Prop) : Nat := mc_if P 1 0
theorem mc_b01_t {P : Prop} (h : P) : mc_b01 P = 1 := mc_if_t h
theorem mc_b01_f {P : Prop} (h : ¬ P) : mc_b01 P = 0 := mc_if_f h
theorem mc_b01_le (P : Prop) : mc_b01 P ≤ 1 := by
  rcases Classical.em P with h | h
  · rw [mc_b01_t h]; omega
  · rw [mc_b01_f h]; omega
theorem mc_b01_mono {P Q : Prop} (h : P → Q) : mc_b01 P ≤ mc_b01 Q := by
  rcases Classical.em P with hp | hp
  · rw [mc_b01_t hp, mc_b01_t (h hp)]; omega
  · rw [mc_b01_f hp]; omega
noncomputable def mc_cn (P : Nat → Prop) : Nat → Nat
  | 0 => 0
  | k + 1 => mc_cn P k + mc_b01 (P k)
theorem mc_cn_mono {P Q : Nat → Prop} : ∀ {N : Nat}, (∀ k, k < N → P k → Q k) → mc_cn P N ≤ mc_cn Q N
  | 0, _ => Nat.le_refl _
  | N + 1, h => by
    have a := mc_cn_mono (P := P) (Q := Q) (N := N) (fun k hk => h k (by omega))
    have b := mc_b01_mono (h N (by omega))
    simp only [mc_cn]; omega
theorem mc_cn_lt {P Q : Nat → Prop} {a : Nat} (hp : ¬ P a) (hq : Q a) : ∀ {N : Nat}, (∀ k, k < N → P k → Q k) → a < N → mc_cn P N < mc_cn Q N
  | 0, _, h => by omega
  | N + 1, h, ha => by
    simp only [mc_cn]
    rcases Nat.lt_or_ge a N with z | z
    · have x := mc_cn_lt hp hq (N := N) (fun k hk => h k (by omega)) z
      have b := mc_b01_mono (h N (by omega))
      omega
    · have e : a = N := by omega
      subst e
      have x := mc_cn_mono (P := P) (Q := Q) (N := a) (fun k hk => h k (by omega))
      rw [mc_b01_t hq, mc_b01_f hp]; omega
theorem mc_cn_le (P : Nat → Prop) : ∀ N, mc_cn P N ≤ N
  | 0 => Nat.le_refl _
  | N + 1 => by have := mc_cn_le P N; have := mc_b01_le (P N); simp only [mc_cn]; omega
theorem mc_cn_eq {P Q : Nat → Prop} {N : Nat} (h : ∀ k, k < N → (P k ↔ Q k)) : mc_cn P N = mc_cn Q N :=
  Nat.le_antisymm (mc_cn_mono fun k hk => (h k hk).mp) (mc_cn_mono fun k hk => (h k hk).mpr)
theorem mc_cn_full (P : Nat → Prop) : ∀ N, N ≤ mc_cn P N → ∀ k, k < N → P k
  | 0, _, k, hk => by omega
  | N + 1, h, k, hk => by
    simp only [mc_cn] at h
    have a := mc_cn_le P N
    have b := mc_b01_le (P N)
    rcases Nat.lt_or_ge k N with z | z
    · exact mc_cn_full P N (by omega) k z
    · have e : k = N := by omega
      subst e
      apply Classical.byContradiction
      intro hn
      rw [mc_b01_f hn] at h
      omega
theorem mc_cn_pos {P : Nat → Prop} : ∀ {N a : Nat}, a < N → P a → 1 ≤ mc_cn P N
  | 0, _, h, _ => by omega
  | N + 1, a, h, hp => by
    simp only [mc_cn]
    rcases Nat.lt_or_ge a N with z | z
    · have := mc_cn_pos z hp; omega
    · have e : a = N := by omega
      subst e
      rw [mc_b01_t hp]; omega
/-- a set that grows at every stage or is closed: bound by its room -/
theorem mc_grow (A : Nat → Nat → Prop) (N : Nat) (hm : ∀ k s, s < N → A k s → A (k + 1) s) (h0 : (∀ j s, s < N → A j s → A 0 s) ∨ ∃ s, s < N ∧ A 0 s)
    (hc : ∀ k, (∀ s, s < N → A (k + 1) s → A k s) → ∀ j s, s < N → A j s → A k s) : ∀ k, (∀ j s, s < N → A j s → A k s) ∨ k + 1 ≤ mc_cn (A k) N := by
  intro k
  induction k with
  | zero =>
    rcases h0 with h | ⟨s, hs, h⟩
    · exact Or.inl h
    · exact Or.inr (mc_cn_pos hs h)
  | succ k ih =>
    rcases ih with h | h
    · exact Or.inl fun j s hs hj => hm k s hs (h j s hs hj)
    · by_cases e : ∀ s, s < N → A (k + 1) s → A k s
      · exact Or.inl fun j s hs hj => hm k s hs (hc k e j s hs hj)
      · refine Or.inr ?_
        have e2 : ∃ s, s < N ∧ A (k + 1) s ∧ ¬ A k s := by
          apply Classical.byContradiction
          intro hn
          apply e
          intro s hs hA
          apply Classical.byContradiction
          intro hk
          exact hn ⟨s, hs, hA, hk⟩
        obtain ⟨s, hs, hA, hk⟩ := e2
        have := mc_cn_lt (P := A k) (Q := A (k + 1)) hk hA (N := N) (fun q hq => hm k q hq) hs
        omega
end
section
/-! the program as a graph: successors, counts, phases; what a path reaches -/
def mc_fF (op : Nat → Int32) (b l p : Nat) : Option Nat := if op (b + p) = 5 then none else if p + 1 < l then some (p + 1) else none
def mc_fB (op ar : Nat → Int32) (b l p : Nat) : Option Nat := if op (b + p) = 5 ∨ op (b + p) = 6 then (if (ar (b + p)).toNatClampNeg < l then some (ar (b + p)).toNatClampNeg else none) else none
def mc_oI (o : Option Nat) : Int32 := match o with | none => -1 | some q => nI q
def mc_sc (op ar : Nat → Int32) (b l p q : Nat) : Prop := mc_fF op b l p = some q ∨ mc_fB op ar b l p = some q
def mc_n0 (op ar : Nat → Int32) (b l p : Nat) : Option Nat := if op (b + p) = 5 then mc_fB op ar b l p else mc_fF op b l p
def mc_n1 (op ar : Nat → Int32) (b l p : Nat) : Option Nat := if op (b + p) = 5 ∨ op (b + p) = 6 then mc_fB op ar b l p else mc_fF op b l p
theorem mc_oI_n : mc_oI none = -1 := rfl
theorem mc_oI_s (q : Nat) : mc_oI (some q) = nI q := rfl
def mc_IN (V C L : Nat) (o a : Int32) : Prop :=
  (∃ k, 1 ≤ k ∧ k ≤ 10 ∧ o = nI k) ∧ (¬ 3 < o → ∃ k, k < V ∧ a = nI k) ∧ (o = 5 ∨ o = 6 → ∃ k, k ≤ C ∧ a = nI k) ∧ (o = 7 ∨ o = 8 → ∃ k, k < L ∧ a = nI k)
def mc_PG (T C V L : Nat) (ln op ar : Nat → Int32) (lf : Nat → Nat) : Prop :=
  (1 ≤ T ∧ T ≤ 3) ∧ (8 ≤ C ∧ C ≤ 16) ∧ (1 ≤ V ∧ V ≤ 4) ∧ (1 ≤ L ∧ L ≤ 3) ∧ (∀ t, t < 3 → ln t = nI (lf t) ∧ lf t ≤ C) ∧ (∀ t, T ≤ t → t < 3 → lf t = 0) ∧
  (∀ t p, t < T → p < lf t → mc_IN V C L (op (16 * t + p)) (ar (16 * t + p)))
section
variable {op ar : Nat → Int32} {b l : Nat}
theorem mc_fF_lt {p q : Nat} (h : mc_fF op b l p = some q) : q < l := by
  unfold mc_fF at h
  split at h
  · cases h
  · split at h
    · cases h; assumption
    · cases h
theorem mc_fB_lt {p q : Nat} (h : mc_fB op ar b l p = some q) : q < l := by
  unfold mc_fB at h
  split at h
  · split at h
    · cases h; assumption
    · cases h
  · cases h
theorem mc_sc_lt {p q : Nat} (h : mc_sc op ar b l p q) : q < l := h.elim mc_fF_lt mc_fB_lt
theorem mc_n0_sc {p q : Nat} (h : mc_n0 op ar b l p = some q) : mc_sc op ar b l p q := by
  unfold mc_n0 at h
  split at h
  · exact Or.inr h
  · exact Or.inl h
theorem mc_n1_sc {p q : Nat} (h : mc_n1 op ar b l p = some q) : mc_sc op ar b l p q := by
  unfold mc_n1 at h
  split at h
  · exact Or.inr h
  · exact Or.inl h
theorem mc_sc_n {p q : Nat} (h : mc_sc op ar b l p q) : mc_n0 op ar b l p = some q ∨ mc_n1 op ar b l p = some q := by
  unfold mc_n0 mc_n1
  by_cases h5 : op (b + p) = 5
  · rw [if_pos h5]
    rcases h with h | h
    · unfold mc_fF at h; rw [if_pos h5] at h; cases h
    · exact Or.inl h
  · rw [if_neg h5]
    by_cases h6 : op (b + p) = 6
    · rw [if_pos (Or.inr h6)]; exact h
    · rcases h with h | h
      · exact Or.inl h
      · unfold mc_fB at h; rw [if_neg (fun z => z.elim h5 h6)] at h; cases h
end
def mc_cA (op ar : Nat → Int32) (b lk p c : Nat) : Nat := if ar (b + p) = nI lk then (if op (b + p) = 7 ∧ c < 3 then c + 1 else if op (b + p) = 8 ∧ 0 < c then c - 1 else c) else c
def mc_Rc (op ar : Nat → Int32) (b l lk p c : Nat) : Prop :=
  ∀ S : Nat → Nat → Prop, (0 < l → S 0 0) → (∀ p c q, S p c → mc_sc op ar b l p q → S q (mc_cA op ar b lk p c)) → S p c
noncomputable def mc_mm (op ar : Nat → Int32) (b l lk p : Nat) : Nat :=
  mc_if (mc_Rc op ar b l lk p 0) 0 (mc_if (mc_Rc op ar b l lk p 1) 1 (mc_if (mc_Rc op ar b l lk p 2) 2 (mc_if (mc_Rc op ar b l lk p 3) 3 4)))
section
variable {op ar : Nat → Int32} {b l lk : Nat}
theorem mc_cA_3 {p c : Nat} (h : c ≤ 3) : mc_cA op ar b lk p c ≤ 3 := by
  unfold mc_cA
  split
  · split
    · omega
    · split <;> omega
  · exact h
theorem mc_cA_m {p c c' : Nat} (h : c ≤ c') (h3 : c' ≤ 3) : mc_cA op ar b lk p c ≤ mc_cA op ar b lk p c' := by
  unfold mc_cA
  by_cases ha : ar (b + p) = nI lk
  · rw [if_pos ha, if_pos ha]
    by_cases h7 : op (b + p) = 7
    · have h8 : ¬ op (b + p) = 8 := by rw [h7]; decide
      simp only [h7, show ¬ (7 : Int32) = 8 by decide, true_and, false_and, if_false]
      split <;> split <;> omega
    · by_cases h8 : op (b + p) = 8
      · simp only [h8, show ¬ (8 : Int32) = 7 by decide, true_and, false_and, if_false]
        split <;> split <;> omega
      · simp only [h7, h8, false_and, if_false]; exact h
  · rw [if_neg ha, if_neg ha]; exact h
theorem mc_Rc_0 (h : 0 < l) : mc_Rc op ar b l lk 0 0 := fun _ h0 _ => h0 h
theorem mc_Rc_s {p c q : Nat} (h : mc_Rc op ar b l lk p c) (hs : mc_sc op ar b l p q) : mc_Rc op ar b l lk q (mc_cA op ar b lk p c) :=
  fun S h0 h1 => h1 p c q (h S h0 h1) hs
theorem mc_Rc_b {p c : Nat} (h : mc_Rc op ar b l lk p c) : p < l ∧ c ≤ 3 :=
  h (fun p c => p < l ∧ c ≤ 3) (fun h => ⟨h, by omega⟩) (fun _ _ _ hS hs => ⟨mc_sc_lt hs, mc_cA_3 hS.2⟩)
theorem mc_Rc_t {p c : Nat} (lk' : Nat) (h : mc_Rc op ar b l lk p c) : ∃ c', mc_Rc op ar b l lk' p c' :=
  h (fun p _ => ∃ c', mc_Rc op ar b l lk' p c') (fun h => ⟨0, mc_Rc_0 h⟩) (fun _ _ _ hS hs => hS.elim fun _ hc => ⟨_, mc_Rc_s hc hs⟩)
theorem mc_mm_u {p m : Nat} (h4 : m ≤ 4) (h1 : m < 4 → mc_Rc op ar b l lk p m) (h2 : ∀ c, mc_Rc op ar b l lk p c → m ≤ c) : mc_mm op ar b l lk p = m := by
  have hn : ∀ c, c < m → ¬ mc_Rc op ar b l lk p c := fun c hc z => by have := h2 c z; omega
  unfold mc_mm
  have e : m = 0 ∨ m = 1 ∨ m = 2 ∨ m = 3 ∨ m = 4 := by omega
  rcases e with e | e | e | e | e <;> subst e
  · rw [mc_if_t (h1 (by omega))]
  · rw [mc_if_f (hn 0 (by omega)), mc_if_t (h1 (by omega))]
  · rw [mc_if_f (hn 0 (by omega)), mc_if_f (hn 1 (by omega)), mc_if_t (h1 (by omega))]
  · rw [mc_if_f (hn 0 (by omega)), mc_if_f (hn 1 (by omega)), mc_if_f (hn 2 (by omega)), mc_if_t (h1 (by omega))]
  · rw [mc_if_f (hn 0 (by omega)), mc_if_f (hn 1 (by omega)), mc_if_f (hn 2 (by omega)), mc_if_f (hn 3 (by omega))]
theorem mc_mm_p (op ar : Nat → Int32) (b l lk p : Nat) : mc_mm op ar b l lk p ≤ 4 ∧ (mc_mm op ar b l lk p < 4 → mc_Rc op ar b l lk p (mc_mm op ar b l lk p)) ∧ (∀ c, mc_Rc op ar b l lk p c → mc_mm op ar b l lk p ≤ c) := by
  by_cases h : ∃ c, mc_Rc op ar b l lk p c
  · obtain ⟨m, hm, hl⟩ := pk_least _ h
    have h3 := (mc_Rc_b hm).2
    have e : mc_mm op ar b l lk p = m := mc_mm_u (by omega) (fun _ => hm) (fun c hc => Classical.byContradiction fun z => hl c (by omega) hc)
    rw [e]
    exact ⟨by omega, fun _ => hm, fun c hc => Classical.byContradiction fun z => hl c (by omega) hc⟩
  · have e : mc_mm op ar b l lk p = 4 := mc_mm_u (by omega) (fun z => absurd z (by omega)) (fun c hc => absurd ⟨c, hc⟩ h)
    rw [e]
    exact ⟨by omega, fun z => absurd z (by omega), fun c hc => absurd ⟨c, hc⟩ h⟩
theorem mc_mm_4 {p : Nat} (lk' : Nat) (h : mc_mm op ar b l lk p = 4) : mc_mm op ar b l lk' p = 4 := by
  have h1 := mc_mm_p op ar b l lk p
  have h2 := mc_mm_p op ar b l lk' p
  apply Classical.byContradiction
  intro z
  obtain ⟨c, hc⟩ := mc_Rc_t lk (h2.2.1 (by omega))
  have h3 := h1.2.2 c hc
  have h4 := (mc_Rc_b hc).2
  omega
theorem mc_mm_out {p : Nat} (h : l ≤ p) : mc_mm op ar b l lk p = 4 := by
  have h1 := mc_mm_p op ar b l lk p
  apply Classical.byContradiction
  intro z
  have := (mc_Rc_b (h1.2.1 (by omega))).1
  omega
theorem mc_mm_l {p : Nat} (h : mc_mm op ar b l lk p ≠ 4) : p < l := by
  apply Classical.byContradiction
  intro z
  exact h (mc_mm_out (by omega))
/-- sound and closed counts are the least ones -/
theorem mc_fix {m : Nat → Nat} (h4 : ∀ p, p < 16 → m p ≤ 4) (hl : l ≤ 16) (h0 : 0 < l → m 0 = 0) (hs : ∀ p, p < 16 → m p < 4 → mc_Rc op ar b l lk p (m p))
    (hc : ∀ p q, p < l → m p < 4 → mc_sc op ar b l p q → m q ≤ mc_cA op ar b lk p (m p)) : ∀ p, p < 16 → mc_mm op ar b l lk p = m p := by
  intro p hp
  refine mc_mm_u (h4 p hp) (hs p hp) fun c hc' => ?_
  have key := hc' (fun p c => p < l ∧ c ≤ 3 ∧ m p ≤ c) (fun h => ⟨h, by omega, by rw [h0 h]; omega⟩)
    (fun p c q hS hq => ⟨mc_sc_lt hq, mc_cA_3 hS.2.1, Nat.le_trans (hc p q hS.1 (by omega) hq) (mc_cA_m hS.2.2 hS.2.1)⟩)
  exact key.2.2
end
end
section
/-! distances to an offending state -/
def mc_pa (op cl : Nat → Int32) (b p h : Nat) : Nat := if h = 0 then (if op (b + p) = 9 then 1 else 0) else if op (b + p) = 10 then 0 else if cl (b + p) = 2 ∨ cl (b + p) = 3 then 2 else h
def mc_of (cl : Nat → Int32) (b p h : Nat) : Prop := h = 2 ∧ (cl (b + p) = 1 ∨ cl (b + p) = 3)
def mc_Wk (op ar cl : Nat → Int32) (b l : Nat) : Nat → Nat → Nat → Prop
  | 0, p, h => p < l ∧ mc_of cl b p h
  | k + 1, p, h => mc_Wk op ar cl b l k p h ∨ (p < l ∧ ∃ q, mc_sc op ar b l p q ∧ mc_Wk op ar cl b l k q (mc_pa op cl b p h))
def mc_DD (op ar cl : Nat → Int32) (b l : Nat) (dd : Nat → Nat → Nat) : Prop :=
  (∀ p h, p < l → h < 3 → (dd p h = 0 ↔ mc_of cl b p h)) ∧
  (∀ p h q, p < l → h < 3 → mc_sc op ar b l p q → dd p h ≤ dd q (mc_pa op cl b p h) + 1) ∧
  (∀ p h, p < l → h < 3 → dd p h ≠ 0 → dd p h ≠ 99 → ∃ q, mc_sc op ar b l p q ∧ dd q (mc_pa op cl b p h) + 1 = dd p h) ∧
  (∀ p h, h < 3 → dd p h ≤ 47 ∨ dd p h = 99) ∧ (∀ p h, l ≤ p → dd p h = 99)
section
variable {op ar cl : Nat → Int32} {b l : Nat}
theorem mc_pa_3 {p h : Nat} (hh : h < 3) : mc_pa op cl b p h < 3 := by
  unfold mc_pa
  split
  · split <;> omega
  · split
    · omega
    · split <;> omega
theorem mc_Wk_l : ∀ {k p h : Nat}, mc_Wk op ar cl b l k p h → p < l
  | 0, _, _, z => z.1
  | _ + 1, _, _, z => z.elim mc_Wk_l And.left
theorem mc_Wk_m {k j p h : Nat} (z : mc_Wk op ar cl b l k p h) : mc_Wk op ar cl b l (k + j) p h := by
  induction j with
  | zero => exact z
  | succ j ih => exact Or.inl ih
theorem mc_Wk_47 (hl : l ≤ 16) {k p h : Nat} (hh : h < 3) (z : mc_Wk op ar cl b l k p h) : mc_Wk op ar cl b l 47 p h := by
  have G := mc_grow (fun k s => mc_Wk op ar cl b l k (s / 3) (s % 3)) 48 (fun k s _ hs => Or.inl hs) (by
      by_cases e : ∃ s, s < 48 ∧ mc_Wk op ar cl b l 0 (s / 3) (s % 3)
      · exact Or.inr e
      · refine Or.inl fun j => ?_
        induction j with
        | zero => intro s _ hs; exact hs
        | succ j ih =>
          intro s hs hj
          rcases hj with hj | ⟨_, q, hq, hj⟩
          · exact ih s hs hj
          · have hq' := mc_sc_lt hq
            have h3 : mc_pa op cl b (s / 3) (s % 3) < 3 := mc_pa_3 (by omega)
            refine absurd ⟨3 * q + mc_pa op cl b (s / 3) (s % 3), by omega, ih _ (by omega) ?_⟩ e
            have e1 : (3 * q + mc_pa op cl b (s / 3) (s % 3)) / 3 = q := by omega
            have e2 : (3 * q + mc_pa op cl b (s / 3) (s % 3)) % 3 = mc_pa op cl b (s / 3) (s % 3) := by omega
            show mc_Wk op ar cl b l j ((3 * q + mc_pa op cl b (s / 3) (s % 3)) / 3) ((3 * q + mc_pa op cl b (s / 3) (s % 3)) % 3)
            rw [e1, e2]; exact hj)
    (by
      intro k hk j
      induction j with
      | zero =>
        intro s hs h0
        have := mc_Wk_m (j := k) h0
        rw [Nat.zero_add] at this
        exact this
      | succ j ih =>
        intro s hs hj
        rcases hj with hj | ⟨hp, q, hq, hj⟩
        · exact ih s hs hj
        · have hq' := mc_sc_lt hq
          have h3 : mc_pa op cl b (s / 3) (s % 3) < 3 := mc_pa_3 (by omega)
          have e1 : (3 * q + mc_pa op cl b (s / 3) (s % 3)) / 3 = q := by omega
          have e2 : (3 * q + mc_pa op cl b (s / 3) (s % 3)) % 3 = mc_pa op cl b (s / 3) (s % 3) := by omega
          have := ih (3 * q + mc_pa op cl b (s / 3) (s % 3)) (by omega) (by
            show mc_Wk op ar cl b l j ((3 * q + mc_pa op cl b (s / 3) (s % 3)) / 3) ((3 * q + mc_pa op cl b (s / 3) (s % 3)) % 3)
            rw [e1, e2]; exact hj)
          have this2 : mc_Wk op ar cl b l k ((3 * q + mc_pa op cl b (s / 3) (s % 3)) / 3) ((3 * q + mc_pa op cl b (s / 3) (s % 3)) % 3) := this
          rw [e1, e2] at this2
          exact hk s hs (Or.inr ⟨hp, q, hq, this2⟩)) 47
  have hp := mc_Wk_l z
  have e1 : (3 * p + h) / 3 = p := by omega
  have e2 : (3 * p + h) % 3 = h := by omega
  have hs : 3 * p + h < 48 := by omega
  have fin : mc_Wk op ar cl b l 47 ((3 * p + h) / 3) ((3 * p + h) % 3) := by
    rcases G with G | G
    · refine G k _ hs ?_
      show mc_Wk op ar cl b l k ((3 * p + h) / 3) ((3 * p + h) % 3)
      rw [e1, e2]; exact z
    · exact mc_cn_full _ 48 G _ hs
  rw [e1, e2] at fin
  exact fin
theorem mc_DD_ex (hl : l ≤ 16) : ∃ dd, mc_DD op ar cl b l dd := by
  have H : ∀ x : Nat × Nat, ∃ d, (d ≤ 47 ∧ mc_Wk op ar cl b l d x.1 x.2 ∧ ∀ j, j < d → ¬ mc_Wk op ar cl b l j x.1 x.2) ∨ (d = 99 ∧ (x.2 < 3 → ∀ j, ¬ mc_Wk op ar cl b l j x.1 x.2)) := by
    intro x
    by_cases e : x.2 < 3 ∧ ∃ k, mc_Wk op ar cl b l k x.1 x.2
    · obtain ⟨h3, k0, hk0⟩ := e
      obtain ⟨k, hk, hm⟩ := pk_least (fun k => mc_Wk op ar cl b l k x.1 x.2) ⟨47, mc_Wk_47 hl h3 hk0⟩
      refine ⟨k, Or.inl ⟨Classical.byContradiction fun z => hm 47 (by omega) (mc_Wk_47 hl h3 hk0), hk, hm⟩⟩
    · exact ⟨99, Or.inr ⟨rfl, fun h3 j hj => e ⟨h3, j, hj⟩⟩⟩
  obtain ⟨f, hf⟩ := Classical.skolem.mp H
  have R : ∀ p h d, h < 3 → mc_Wk op ar cl b l d p h → f (p, h) ≤ d := by
    intro p h d hh hd
    rcases hf (p, h) with ⟨_, _, z⟩ | ⟨_, z⟩
    · exact Classical.byContradiction fun q => z d (by omega) hd
    · exact absurd hd (z hh d)
  have R2 : ∀ p h, h < 3 → f (p, h) ≠ 99 → mc_Wk op ar cl b l (f (p, h)) p h := by
    intro p h hh hd
    rcases hf (p, h) with ⟨_, z, _⟩ | ⟨z, _⟩
    · exact z
    · exact absurd z hd
  have R3 : ∀ p h, f (p, h) ≤ 47 ∨ f (p, h) = 99 := fun p h => (hf (p, h)).elim (fun z => Or.inl z.1) (fun z => Or.inr z.1)
  refine ⟨fun p h => f (p, h), ?_, ?_, ?_, fun p h _ => R3 p h, ?_⟩
  · intro p h hp hh
    constructor
    · intro z
      have := R2 p h hh (by show f (p, h) ≠ 99; rw [show f (p, h) = 0 from z]; decide)
      rw [show f (p, h) = 0 from z] at this
      exact this.2
    · intro z
      have := R p h 0 hh ⟨hp, z⟩
      show f (p, h) = 0
      omega
  · intro p h q hp hh hq
    have h3 : mc_pa op cl b p h < 3 := mc_pa_3 hh
    show f (p, h) ≤ f (q, mc_pa op cl b p h) + 1
    rcases R3 q (mc_pa op cl b p h) with z | z
    · exact R p h _ hh (Or.inr ⟨hp, q, hq, R2 q _ h3 (by omega)⟩)
    · have := R3 p h
      omega
  · intro p h hp hh h0 h99
    have h3 : mc_pa op cl b p h < 3 := mc_pa_3 hh
    have h0' : f (p, h) ≠ 0 := h0
    have h99' : f (p, h) ≠ 99 := h99
    have w := R2 p h hh h99'
    obtain ⟨d, hd⟩ : ∃ d, f (p, h) = d + 1 := ⟨f (p, h) - 1, by omega⟩
    rw [hd] at w
    rcases w with w | ⟨_, q, hq, w⟩
    · have := R p h d hh w
      omega
    · refine ⟨q, hq, ?_⟩
      show f (q, mc_pa op cl b p h) + 1 = f (p, h)
      have a := R q _ d h3 w
      have a' := R3 q (mc_pa op cl b p h)
      have a'' := R3 p h
      have c := R p h (f (q, mc_pa op cl b p h) + 1) hh (Or.inr ⟨hp, q, hq, R2 q _ h3 (by omega)⟩)
      omega
  · intro p h hp
    show f (p, h) = 99
    rcases hf (p, h) with ⟨_, z, _⟩ | ⟨z, _⟩
    · exact absurd (mc_Wk_l z) (by omega)
    · exact z
end
end
section
/-! choices of the nearest successor, the two ways -/
def mc_dO (D : Nat → Nat) (o : Option Nat) : Nat := match o with | none => 99 | some q => D q
def mc_ch (D : Nat → Nat) (oF oB : Option Nat) : Option Nat :=
  if mc_dO D oB ≤ mc_dO D oF then (if mc_dO D oF ≤ mc_dO D oB then (if mc_oI oB ≤ mc_oI oF then oB else oF) else oB) else oF
def mc_bq (F : Nat → Nat) (o r : Option Nat) : Option Nat :=
  match o, r with
  | none, none => none
  | none, some r => some r
  | some q, none => some q
  | some q, some r => if F r < F q then some r else if F r = F q then (if q ≤ r then some q else some r) else some q
def mc_bI (h : Nat) (o : Option Nat) : Int32 := match o with | none => -1 | some q => nI (3 * q + h)
def mc_ee (d : Nat) : Nat := if d = 99 then 1000 else d + 1
theorem mc_ee_lt {a c : Nat} (h : a < c) (hc : c ≤ 99) : mc_ee a < mc_ee c := by
  unfold mc_ee
  rw [if_neg (by omega)]
  split <;> omega
theorem mc_ch_d {D : Nat → Nat} {oF oB : Option Nat} : mc_dO D (mc_ch D oF oB) = min (mc_dO D oF) (mc_dO D oB) := by
  unfold mc_ch
  split
  · split
    · split
      · omega
      · omega
    · omega
  · omega
theorem mc_ch_c {D : Nat → Nat} {oF oB : Option Nat} : mc_ch D oF oB = oF ∨ mc_ch D oF oB = oB := by
  unfold mc_ch
  split
  · split
    · split
      · exact Or.inr rfl
      · exact Or.inl rfl
    · exact Or.inr rfl
  · exact Or.inl rfl
theorem mc_bq_n {F : Nat → Nat} {o r : Option Nat} (h : mc_bq F o r = none) : o = none ∧ r = none := by
  cases o with
  | none =>
    cases r with
    | none => exact ⟨rfl, rfl⟩
    | some r => cases h
  | some q =>
    cases r with
    | none => cases h
    | some r =>
      unfold mc_bq at h
      dsimp only at h
      split at h
      · cases h
      · split at h
        · split at h <;> cases h
        · cases h
theorem mc_bq_s {F : Nat → Nat} {o r : Option Nat} {q : Nat} (h : mc_bq F o r = some q) : (o = some q ∨ r = some q) ∧ ∀ q', o = some q' ∨ r = some q' → F q ≤ F q' := by
  cases o with
  | none =>
    cases r with
    | none => cases h
    | some r =>
      cases h
      refine ⟨Or.inr rfl, fun q' z => ?_⟩
      rcases z with z | z
      · cases z
      · cases z; exact Nat.le_refl _
  | some a =>
    cases r with
    | none =>
      cases h
      refine ⟨Or.inl rfl, fun q' z => ?_⟩
      rcases z with z | z
      · cases z; exact Nat.le_refl _
      · cases z
    | some r =>
      unfold mc_bq at h
      dsimp only at h
      split at h
      · cases h
        refine ⟨Or.inr rfl, fun q' z => ?_⟩
        rcases z with z | z <;> cases z <;> omega
      · split at h
        · split at h
          · cases h
            refine ⟨Or.inl rfl, fun q' z => ?_⟩
            rcases z with z | z <;> cases z <;> omega
          · cases h
            refine ⟨Or.inr rfl, fun q' z => ?_⟩
            rcases z with z | z <;> cases z <;> omega
        · cases h
          refine ⟨Or.inl rfl, fun q' z => ?_⟩
          rcases z with z | z <;> cases z <;> omega
section
variable {op ar : Nat → Int32} {b l p d : Nat} {E : Nat → Nat}
theorem mc_ch_bq (hl : l ≤ 16) (hE : ∀ q, E q ≤ 99) (hd : d < 99) (h1 : ∃ q, mc_sc op ar b l p q ∧ E q = d) (h2 : ∀ q, mc_sc op ar b l p q → d ≤ E q) :
    ∃ q, mc_sc op ar b l p q ∧ E q = d ∧ mc_ch E (mc_fF op b l p) (mc_fB op ar b l p) = some q ∧ mc_bq (fun q => mc_ee (E q)) (mc_n0 op ar b l p) (mc_n1 op ar b l p) = some q := by
  obtain ⟨q, hq, hE0⟩ := h1
  by_cases h5 : op (b + p) = 5
  · have eF : mc_fF op b l p = none := by unfold mc_fF; rw [if_pos h5]
    have e0 : mc_n0 op ar b l p = mc_fB op ar b l p := by unfold mc_n0; rw [if_pos h5]
    have e1 : mc_n1 op ar b l p = mc_fB op ar b l p := by unfold mc_n1; rw [if_pos (Or.inl h5)]
    have eB : mc_fB op ar b l p = some q := hq.elim (fun z => by rw [eF] at z; cases z) id
    refine ⟨q, hq, hE0, ?_, ?_⟩
    · rw [eF, eB]
      unfold mc_ch mc_dO
      dsimp only
      rw [if_pos (hE q), if_neg (by omega)]
    · rw [e0, e1, eB]
      unfold mc_bq
      dsimp only
      rw [if_neg (by omega), if_pos rfl, if_pos (Nat.le_refl _)]
  · have e0 : mc_n0 op ar b l p = mc_fF op b l p := by unfold mc_n0; rw [if_neg h5]
    by_cases h6 : op (b + p) = 6
    · have e1 : mc_n1 op ar b l p = mc_fB op ar b l p := by unfold mc_n1; rw [if_pos (Or.inr h6)]
      rw [e0, e1]
      cases eF : mc_fF op b l p with
      | none =>
        have eB : mc_fB op ar b l p = some q := hq.elim (fun z => by rw [eF] at z; cases z) id
        refine ⟨q, hq, hE0, ?_, ?_⟩
        · rw [eB]
          unfold mc_ch mc_dO
          dsimp only
          rw [if_pos (hE q), if_neg (by omega)]
        · rw [eB]; rfl
      | some f =>
        cases eB : mc_fB op ar b l p with
        | none =>
          have ef : q = f := hq.elim (fun z => by rw [eF] at z; cases z; rfl) (fun z => by rw [eB] at z; cases z)
          refine ⟨q, hq, hE0, ?_, ?_⟩
          · subst ef
            unfold mc_ch mc_dO
            dsimp only
            rw [if_neg (by omega)]
          · subst ef; rfl
        | some c =>
          have hf := h2 f (Or.inl eF)
          have hc := h2 c (Or.inr eB)
          have hf16 := mc_fF_lt eF
          have hc16 := mc_fB_lt eB
          have hm : E f = d ∨ E c = d := hq.elim (fun z => by rw [eF] at z; cases z; exact Or.inl hE0) (fun z => by rw [eB] at z; cases z; exact Or.inr hE0)
          have hEf := hE f
          have hEc := hE c
          by_cases x1 : E c < E f
          · refine ⟨c, Or.inr eB, by omega, ?_, ?_⟩
            · unfold mc_ch mc_dO
              dsimp only
              rw [if_pos (by omega), if_neg (by omega)]
            · unfold mc_bq
              dsimp only
              rw [if_pos (mc_ee_lt x1 hEf)]
          · by_cases x2 : E f < E c
            · refine ⟨f, Or.inl eF, by omega, ?_, ?_⟩
              · unfold mc_ch mc_dO
                dsimp only
                rw [if_neg (by omega)]
              · have := mc_ee_lt x2 hEc
                unfold mc_bq
                dsimp only
                rw [if_neg (by omega), if_neg (by omega)]
            · have x3 : E c = E f := by omega
              by_cases x4 : c ≤ f
              · refine ⟨c, Or.inr eB, by omega, ?_, ?_⟩
                · unfold mc_ch mc_dO
                  dsimp only
                  rw [if_pos (by omega), if_pos (by omega), if_pos (show mc_oI (some c) ≤ mc_oI (some f) from nI_le x4 (by omega))]
                · unfold mc_bq
                  dsimp only
                  have x5 : mc_ee (E c) = mc_ee (E f) := by rw [x3]
                  rw [if_neg (by omega), if_pos x5]
                  split
                  · exact congrArg some (by omega)
                  · rfl
              · refine ⟨f, Or.inl eF, by omega, ?_, ?_⟩
                · unfold mc_ch mc_dO
                  dsimp only
                  rw [if_pos (by omega), if_pos (by omega), if_neg (show ¬ mc_oI (some c) ≤ mc_oI (some f) from nI_ge (by omega) (by omega))]
                · unfold mc_bq
                  dsimp only
                  have x5 : mc_ee (E c) = mc_ee (E f) := by rw [x3]
                  rw [if_neg (by omega), if_pos x5, if_pos (by omega)]
    · have e1 : mc_n1 op ar b l p = mc_fF op b l p := by unfold mc_n1; rw [if_neg (fun z => z.elim h5 h6)]
      have eB : mc_fB op ar b l p = none := by unfold mc_fB; rw [if_neg (fun z => z.elim h5 h6)]
      have eF : mc_fF op b l p = some q := hq.elim id (fun z => by rw [eB] at z; cases z)
      refine ⟨q, hq, hE0, ?_, ?_⟩
      · rw [eF, eB]
        unfold mc_ch mc_dO
        dsimp only
        rw [if_neg (by omega)]
      · rw [e0, e1, eF]
        unfold mc_bq
        dsimp only
        rw [if_neg (by omega), if_pos rfl, if_pos (Nat.le_refl _)]
end
/-- the walk along the nearest successors -/
def mc_tr (op ar cl : Nat → Int32) (b l : Nat) (dd : Nat → Nat → Nat) : Nat → Nat × Nat
  | 0 => (0, 0)
  | i + 1 => ((mc_ch (fun q => dd q (mc_pa op cl b (mc_tr op ar cl b l dd i).1 (mc_tr op ar cl b l dd i).2)) (mc_fF op b l (mc_tr op ar cl b l dd i).1) (mc_fB op ar b l (mc_tr op ar cl b l dd i).1)).getD 0,
      mc_pa op cl b (mc_tr op ar cl b l dd i).1 (mc_tr op ar cl b l dd i).2)
section
variable {op ar cl : Nat → Int32} {b l : Nat} {dd : Nat → Nat → Nat}
theorem mc_DD_99 (H : mc_DD op ar cl b l dd) {p h : Nat} (hh : h < 3) : dd p h ≤ 99 := by
  have := H.2.2.2.1 p h hh
  omega
theorem mc_DD_st (hl : l ≤ 16) (H : mc_DD op ar cl b l dd) {p h d : Nat} (hp : p < l) (hh : h < 3) (hd : dd p h = d + 1) (h99 : dd p h ≠ 99) :
    ∃ q, mc_sc op ar b l p q ∧ dd q (mc_pa op cl b p h) = d ∧ mc_ch (fun q => dd q (mc_pa op cl b p h)) (mc_fF op b l p) (mc_fB op ar b l p) = some q ∧
      mc_bq (fun q => mc_ee (dd q (mc_pa op cl b p h))) (mc_n0 op ar b l p) (mc_n1 op ar b l p) = some q := by
  have h3 : mc_pa op cl b p h < 3 := mc_pa_3 hh
  have hx := H.2.2.2.1 p h hh
  refine mc_ch_bq (E := fun q => dd q (mc_pa op cl b p h)) hl (fun q => mc_DD_99 H h3) (by omega) ?_ ?_
  · obtain ⟨q, hq, e⟩ := H.2.2.1 p h hp hh (by omega) h99
    exact ⟨q, hq, by show dd q (mc_pa op cl b p h) = d; omega⟩
  · intro q hq
    have := H.2.1 p h q hp hh hq
    show d ≤ dd q (mc_pa op cl b p h)
    omega
theorem mc_tr_i (hl : l ≤ 16) (H : mc_DD op ar cl b l dd) (h99 : dd 0 0 ≠ 99) : ∀ i, i ≤ dd 0 0 →
    (mc_tr op ar cl b l dd i).1 < l ∧ (mc_tr op ar cl b l dd i).2 < 3 ∧ dd (mc_tr op ar cl b l dd i).1 (mc_tr op ar cl b l dd i).2 + i = dd 0 0 := by
  intro i
  induction i with
  | zero =>
    intro _
    refine ⟨?_, by show 0 < 3; decide, rfl⟩
    apply Classical.byContradiction
    intro z
    exact h99 (H.2.2.2.2 0 0 (by show l ≤ 0; have : ¬ 0 < l := z; omega))
  | succ i ih =>
    intro hi
    obtain ⟨h1, h2, h3⟩ := ih (by omega)
    have h47 := H.2.2.2.1 0 0 (by decide)
    obtain ⟨q, hq, hd, hc, _⟩ := mc_DD_st hl H h1 h2 (d := dd 0 0 - i - 1) (by omega) (by omega)
    have e : mc_tr op ar cl b l dd (i + 1) = (q, mc_pa op cl b (mc_tr op ar cl b l dd i).1 (mc_tr op ar cl b l dd i).2) := by
      show (Option.getD _ 0, _) = _
      rw [hc]; rfl
    rw [e]
    exact ⟨mc_sc_lt hq, mc_pa_3 h2, by show dd q (mc_pa op cl b (mc_tr op ar cl b l dd i).1 (mc_tr op ar cl b l dd i).2) + (i + 1) = dd 0 0; omega⟩
theorem mc_tr_s (hl : l ≤ 16) (H : mc_DD op ar cl b l dd) (h99 : dd 0 0 ≠ 99) {i : Nat} (hi : i < dd 0 0) :
    mc_tr op ar cl b l dd (i + 1) = ((mc_tr op ar cl b l dd (i + 1)).1, mc_pa op cl b (mc_tr op ar cl b l dd i).1 (mc_tr op ar cl b l dd i).2) ∧
    mc_ch (fun q => dd q (mc_pa op cl b (mc_tr op ar cl b l dd i).1 (mc_tr op ar cl b l dd i).2)) (mc_fF op b l (mc_tr op ar cl b l dd i).1) (mc_fB op ar b l (mc_tr op ar cl b l dd i).1) = some (mc_tr op ar cl b l dd (i + 1)).1 ∧
    mc_bq (fun q => mc_ee (dd q (mc_pa op cl b (mc_tr op ar cl b l dd i).1 (mc_tr op ar cl b l dd i).2))) (mc_n0 op ar b l (mc_tr op ar cl b l dd i).1) (mc_n1 op ar b l (mc_tr op ar cl b l dd i).1) = some (mc_tr op ar cl b l dd (i + 1)).1 := by
  obtain ⟨h1, h2, h3⟩ := mc_tr_i hl H h99 i (by omega)
  have h47 := H.2.2.2.1 0 0 (by decide)
  obtain ⟨q, hq, hd, hc, hb⟩ := mc_DD_st hl H h1 h2 (d := dd 0 0 - i - 1) (by omega) (by omega)
  have e : mc_tr op ar cl b l dd (i + 1) = (q, mc_pa op cl b (mc_tr op ar cl b l dd i).1 (mc_tr op ar cl b l dd i).2) := by
    show (Option.getD _ 0, _) = _
    rw [hc]; rfl
  rw [e]
  exact ⟨rfl, hc, hb⟩
/-- a stable table is the distance -/
theorem mc_stab (H : mc_DD op ar cl b l dd) {D : Nat → Nat → Nat} (hb : ∀ p h, p < l → h < 3 → dd p h ≤ D p h ∧ D p h ≤ 99) (h0 : ∀ p h, p < l → h < 3 → dd p h = 0 → D p h = 0)
    (hs : ∀ p h q, p < l → h < 3 → mc_sc op ar b l p q → D p h ≤ D q (mc_pa op cl b p h) + 1) : ∀ p h, p < l → h < 3 → D p h = dd p h := by
  have key : ∀ k p h, p < l → h < 3 → dd p h = k → D p h = dd p h := by
    intro k
    induction k with
    | zero => intro p h hp hh e; rw [h0 p h hp hh e, e]
    | succ k ih =>
      intro p h hp hh e
      have hb1 := hb p h hp hh
      by_cases h99 : dd p h = 99
      · omega
      · obtain ⟨q, hq, hd⟩ := H.2.2.1 p h hp hh (by omega) h99
        have e2 := ih q (mc_pa op cl b p h) (mc_sc_lt hq) (mc_pa_3 hh) (by omega)
        have e3 := hs p h q hp hh hq
        omega
  exact fun p h hp hh => key _ p h hp hh rfl
end
end
section
/-! the run: units and their commits -/
def mc_iC (rT bf af : Nat → Int32) (t : Int32) (k : Nat) : Prop := rT k = t ∧ bf k = 1 ∧ ¬ af k = 1
def mc_U (T n : Nat) (rT bf af su uc ou ph : Nat → Int32) (i : Nat) : Prop :=
  ∃ t u, t < T ∧ rT i = nI t ∧ u ≤ i ∧ su i = nI u ∧ rT u = nI t ∧ bf u = 0 ∧ (∀ k, u < k → k ≤ i → rT k = nI t → ¬ bf k = 0) ∧
   ((bf i = 0 ∧ af i = 0 ∧ u = i ∧ uc u = nI i) ∨
    (¬ (bf i = 0 ∧ af i = 0) ∧ ∃ k, u ≤ k ∧ k < n ∧ uc u = nI k ∧ mc_iC rT bf af (nI t) k ∧ ∀ j, u ≤ j → j < k → ¬ mc_iC rT bf af (nI t) j) ∨
    (¬ (bf i = 0 ∧ af i = 0) ∧ uc u = -1 ∧ ph t = 1 ∧ ou t = nI u ∧ ∀ j, u ≤ j → j < n → ¬ mc_iC rT bf af (nI t) j))
def mc_O (n : Nat) (rT bf af uc ou ph : Nat → Int32) (t : Nat) : Prop :=
  ph t = 0 ∨ ∃ u, u < n ∧ ou t = nI u ∧ rT u = nI t ∧ bf u = 0 ∧ (∀ k, u < k → k < n → rT k = nI t → ¬ bf k = 0) ∧ ¬ af u = 0 ∧
    (ph t = 1 → uc u = -1 ∧ ∀ j, u ≤ j → j < n → ¬ mc_iC rT bf af (nI t) j) ∧
    (¬ ph t = 1 → ∃ k, u ≤ k ∧ k < n ∧ uc u = nI k ∧ mc_iC rT bf af (nI t) k ∧ ∀ j, u ≤ j → j < k → ¬ mc_iC rT bf af (nI t) j)
def mc_RN (T n : Nat) (rT bf af su uc ou ph : Nat → Int32) : Prop :=
  n ≤ 64 ∧ (∀ i, i < n → mc_U T n rT bf af su uc ou ph i) ∧ (∀ t, t < T → mc_O n rT bf af uc ou ph t)
theorem mc_RN_0 {T : Nat} {rT bf af su uc ou ph : Nat → Int32} (h : ∀ t, t < T → ph t = 0) : mc_RN T 0 rT bf af su uc ou ph :=
  ⟨by omega, fun i hi => absurd hi (by omega), fun t ht => Or.inl (h t ht)⟩
section
variable {T n t : Nat} {rT bf af su uc ou ph : Nat → Int32} {a c : Int32}
theorem mc_iC_n {k : Nat} {x y : Int32} (hk : k < n) : mc_iC (upd rT n x) (upd bf n y) (upd af n a) c k ↔ mc_iC rT bf af c k := by
  unfold mc_iC
  rw [pk_un (show k ≠ n by omega), pk_un (show k ≠ n by omega), pk_un (show k ≠ n by omega)]
/-- an old step whose unit's commit stays -/
theorem mc_U_k {i : Nat} {uc' ou' : Nat → Int32} (hT : T ≤ 3) (ht : t < T) (h : mc_U T n rT bf af su uc ou ph i) (hi : i < n) {x : Int32} (hsu : x = x)
    (h1 : ∀ u, u < n → su i = nI u → (∃ k, uc u = nI k ∧ k ≤ n) ∨ uc u = -1 → uc' u = uc u)
    (h3 : ∀ ti u, ti < T → su i = nI u → u < n → ph ti = 1 → ou ti = nI u → upd ph t a ti = 1 ∧ ou' ti = nI u ∧ ¬ mc_iC (upd rT n (nI t)) (upd bf n (ph t)) (upd af n a) (nI ti) n) :
    mc_U T (n + 1) (upd rT n (nI t)) (upd bf n (ph t)) (upd af n a) (upd su n x) uc' ou' (upd ph t a) i := by
  obtain ⟨ti, u, hti, e1, hu, e2, e3, e4, e5, e6⟩ := h
  have ne : ∀ k, k < n → k ≠ n := fun k hk => by omega
  refine ⟨ti, u, hti, ?_, hu, ?_, ?_, ?_, ?_, ?_⟩
  · rw [pk_un (ne i hi)]; exact e1
  · rw [pk_un (ne i hi)]; exact e2
  · rw [pk_un (ne u (by omega))]; exact e3
  · rw [pk_un (ne u (by omega))]; exact e4
  · intro k k1 k2
    rw [pk_un (ne k (by omega)), pk_un (ne k (by omega))]
    exact e5 k k1 k2
  · rw [pk_un (ne i hi), pk_un (ne i hi)]
    rcases e6 with ⟨z1, z2, z3, z4⟩ | ⟨z1, k, z2, z3, z4, z5, z6⟩ | ⟨z1, z2, z3, z4, z5⟩
    · exact Or.inl ⟨z1, z2, z3, by rw [h1 u (by omega) e2 (Or.inl ⟨i, z4, by omega⟩)]; exact z4⟩
    · refine Or.inr (Or.inl ⟨z1, k, z2, by omega, by rw [h1 u (by omega) e2 (Or.inl ⟨k, z4, by omega⟩)]; exact z4, (mc_iC_n z3).mpr z5, ?_⟩)
      intro j j1 j2 j3
      exact z6 j j1 j2 ((mc_iC_n (by omega)).mp j3)
    · obtain ⟨y1, y2, y3⟩ := h3 ti u hti e2 (by omega) z3 z4
      refine Or.inr (Or.inr ⟨z1, by rw [h1 u (by omega) e2 (Or.inr z2)]; exact z2, y1, y2, ?_⟩)
      intro j j1 j2 j3
      by_cases e : j = n
      · subst e; exact y3 j3
      · exact z5 j j1 (by omega) ((mc_iC_n (by omega)).mp j3)
/-- another thread's open unit -/
theorem mc_O_k {ti : Nat} {uc' ou' : Nat → Int32} (hT : T ≤ 3) (ht : t < T) (hti : ti < T) (hne : ti ≠ t) (h : mc_O n rT bf af uc ou ph ti)
    (h1 : ∀ u, u < n → rT u = nI ti → uc' u = uc u) (h2 : ou' ti = ou ti) :
    mc_O (n + 1) (upd rT n (nI t)) (upd bf n (ph t)) (upd af n a) uc' ou' (upd ph t a) ti := by
  have ep : upd ph t a ti = ph ti := pk_un hne
  have nt : ¬ nI t = nI ti := fun z => hne ((nI_eq (by omega) (by omega)).mp z).symm
  have ne : ∀ k, k < n → k ≠ n := fun k hk => by omega
  rcases h with h | ⟨u, hu, e1, e2, e3, e4, e5, e6, e7⟩
  · exact Or.inl (ep.trans h)
  · refine Or.inr ⟨u, by omega, h2.trans e1, ?_, ?_, ?_, ?_, ?_, ?_⟩
    · rw [pk_un (ne u hu)]; exact e2
    · rw [pk_un (ne u hu)]; exact e3
    · intro k k1 k2 k3
      by_cases e : k = n
      · subst e; rw [pk_us] at k3; exact absurd k3 nt
      · rw [pk_un e] at k3 ⊢; exact e4 k k1 (by omega) k3
    · rw [pk_un (ne u hu)]; exact e5
    · rw [ep, h1 u hu e2]
      intro z
      refine ⟨(e6 z).1, fun j j1 j2 j3 => ?_⟩
      by_cases e : j = n
      · subst e
        have := j3.1
        rw [pk_us] at this
        exact nt this
      · exact (e6 z).2 j j1 (by omega) ((mc_iC_n (by omega)).mp j3)
    · rw [ep, h1 u hu e2]
      intro z
      obtain ⟨k, k1, k2, k3, k4, k5⟩ := e7 z
      exact ⟨k, k1, by omega, k3, (mc_iC_n k2).mpr k4, fun j j1 j2 j3 => k5 j j1 j2 ((mc_iC_n (by omega)).mp j3)⟩
theorem mc_ne_t {i j : Nat} (hi : i < 3) (hj : j < 3) (h : i ≠ j) : ¬ nI i = nI j := fun z => h ((nI_eq (by omega) (by omega)).mp z)
/-- a step outside a block -/
theorem mc_RN_a (R : mc_RN T n rT bf af su uc ou ph) (hn : n < 64) (ht : t < T) (hT : T ≤ 3) (hb : ph t = 0) (h0 : a = 0 ∨ a = 1) {x : Int32} (hx : (a = 0 → x = nI n) ∧ (¬ a = 0 → x = -1)) :
    mc_RN T (n + 1) (upd rT n (nI t)) (upd bf n (ph t)) (upd af n a) (upd su n (nI n)) (upd uc n x) (upd ou t (nI n)) (upd ph t a) := by
  obtain ⟨R1, R2, R3⟩ := R
  refine ⟨by omega, ?_, ?_⟩
  · intro i hi
    by_cases e : i = n
    · subst e
      refine ⟨t, i, ht, pk_us, Nat.le_refl _, pk_us, pk_us, by rw [pk_us]; exact hb, fun k k1 k2 => absurd k1 (by omega), ?_⟩
      rw [pk_us, pk_us, pk_us, pk_us]
      rcases h0 with z | z
      · exact Or.inl ⟨hb, z, rfl, hx.1 z⟩
      · have z0 : ¬ a = 0 := by rw [z]; decide
        refine Or.inr (Or.inr ⟨fun q => z0 q.2, hx.2 z0, by first | exact z | (rw [pk_us]; exact z), by first | rfl | exact pk_us, ?_⟩)
        intro j j1 j2 j3
        have e : j = i := by omega
        subst e
        have := j3.2.1
        rw [pk_us, hb] at this
        exact absurd this (by decide)
    · have hi' : i < n := by omega
      refine mc_U_k hT ht (R2 i hi') hi' rfl (fun u hu _ _ => pk_un (by omega)) ?_
      intro ti u hti _ hu h1 h2
      have e : ti ≠ t := fun z => by subst z; rw [hb] at h1; exact absurd h1 (by decide)
      refine ⟨by rw [pk_un e]; exact h1, by rw [pk_un e]; exact h2, fun z => ?_⟩
      have := z.1
      rw [pk_us] at this
      exact mc_ne_t (by omega) (by omega) e this.symm
  · intro ti hti
    by_cases e : ti = t
    · subst e
      rcases h0 with z | z
      · exact Or.inl (by rw [pk_us]; exact z)
      · have z0 : ¬ a = 0 := by rw [z]; decide
        refine Or.inr ⟨n, by omega, pk_us, pk_us, by rw [pk_us]; exact hb, fun k k1 k2 => absurd k1 (by omega), by rw [pk_us]; exact z0, ?_, ?_⟩
        · rw [pk_us, pk_us]
          refine fun _ => ⟨hx.2 z0, ?_⟩
          intro j j1 j2 j3
          have e : j = n := by omega
          subst e
          have := j3.2.1
          rw [pk_us, hb] at this
          exact absurd this (by decide)
        · rw [pk_us]; exact fun q => absurd z q
    · exact mc_O_k hT ht hti e (R3 ti hti) (fun u hu _ => pk_un (by omega)) (pk_un e)
/-- a step inside a block that doesn't commit -/
theorem mc_RN_b (R : mc_RN T n rT bf af su uc ou ph) (hn : n < 64) (ht : t < T) (hT : T ≤ 3) (hb : ¬ ph t = 0) (h2 : ¬ ph t = 1 → ¬ a = 1) (hc : ¬ ph t = 1 ∨ a = 1) :
    mc_RN T (n + 1) (upd rT n (nI t)) (upd bf n (ph t)) (upd af n a) (upd su n (ou t)) uc ou (upd ph t a) := by
  obtain ⟨R1, R2, R3⟩ := R
  rcases R3 t ht with z | ⟨u, hu, e1, e2, e3, e4, e5, e6, e7⟩
  · exact absurd z hb
  have ne : ∀ k, k < n → k ≠ n := fun k hk => by omega
  have hiC : ¬ mc_iC (upd rT n (nI t)) (upd bf n (ph t)) (upd af n a) (nI t) n := by
    intro z
    have z1 := z.2.1
    have z2 := z.2.2
    rw [pk_us] at z1 z2
    rcases hc with q | q
    · exact q z1
    · exact z2 q
  have hk : ∀ k, u < k → k < n + 1 → upd rT n (nI t) k = nI t → ¬ upd bf n (ph t) k = 0 := by
    intro k k1 k2 k3
    by_cases e : k = n
    · subst e; rw [pk_us]; exact hb
    · rw [pk_un e] at k3 ⊢; exact e4 k k1 (by omega) k3
  have hno : (∀ j, u ≤ j → j < n → ¬ mc_iC rT bf af (nI t) j) → ∀ j, u ≤ j → j < n + 1 → ¬ mc_iC (upd rT n (nI t)) (upd bf n (ph t)) (upd af n a) (nI t) j := by
    intro H j j1 j2 j3
    by_cases e : j = n
    · subst e; exact hiC j3
    · exact H j j1 (by omega) ((mc_iC_n (by omega)).mp j3)
  have hyes : (∃ k, u ≤ k ∧ k < n ∧ uc u = nI k ∧ mc_iC rT bf af (nI t) k ∧ ∀ j, u ≤ j → j < k → ¬ mc_iC rT bf af (nI t) j) →
      ∃ k, u ≤ k ∧ k < n + 1 ∧ uc u = nI k ∧ mc_iC (upd rT n (nI t)) (upd bf n (ph t)) (upd af n a) (nI t) k ∧ ∀ j, u ≤ j → j < k → ¬ mc_iC (upd rT n (nI t)) (upd bf n (ph t)) (upd af n a) (nI t) j := by
    rintro ⟨k, k1, k2, k3, k4, k5⟩
    exact ⟨k, k1, by omega, k3, (mc_iC_n k2).mpr k4, fun j j1 j2 j3 => k5 j j1 j2 ((mc_iC_n (by omega)).mp j3)⟩
  refine ⟨by omega, ?_, ?_⟩
  · intro i hi
    by_cases e : i = n
    · subst e
      refine ⟨t, u, ht, pk_us, by omega, by rw [pk_us]; exact e1, by rw [pk_un (ne u hu)]; exact e2, by rw [pk_un (ne u hu)]; exact e3, fun k k1 k2 => hk k k1 (by omega), ?_⟩
      rw [pk_us, pk_us, pk_us]
      by_cases p1 : ph t = 1
      · have a1 : a = 1 := hc.elim (fun q => absurd p1 q) id
        exact Or.inr (Or.inr ⟨fun q => hb q.1, (e6 p1).1, a1, e1, hno (e6 p1).2⟩)
      · exact Or.inr (Or.inl ⟨fun q => hb q.1, hyes (e7 p1)⟩)
    · have hi' : i < n := by omega
      refine mc_U_k hT ht (R2 i hi') hi' rfl (fun u hu _ _ => rfl) ?_
      intro ti v hti _ hv h1 h2'
      by_cases e' : ti = t
      · subst e'
        have a1 : a = 1 := hc.elim (fun q => absurd h1 q) id
        exact ⟨by rw [pk_us]; exact a1, h2', hiC⟩
      · refine ⟨by rw [pk_un e']; exact h1, h2', fun z => ?_⟩
        have := z.1
        rw [pk_us] at this
        exact mc_ne_t (by omega) (by omega) e' this.symm
  · intro ti hti
    by_cases e : ti = t
    · subst e
      by_cases a0 : a = 0
      · exact Or.inl (by rw [pk_us]; exact a0)
      · refine Or.inr ⟨u, by omega, e1, by rw [pk_un (ne u hu)]; exact e2, by rw [pk_un (ne u hu)]; exact e3, hk, by rw [pk_un (ne u hu)]; exact e5, ?_, ?_⟩
        · rw [pk_us]
          intro a1
          have p1 : ph ti = 1 := Classical.byContradiction fun q => h2 q a1
          exact ⟨(e6 p1).1, hno (e6 p1).2⟩
        · rw [pk_us]
          intro a1
          exact hyes (e7 (hc.elim id (fun q => absurd q a1)))
    · exact mc_O_k hT ht hti e (R3 ti hti) (fun u hu _ => rfl) rfl
/-- the step that commits -/
theorem mc_RN_c (R : mc_RN T n rT bf af su uc ou ph) (hn : n < 64) (ht : t < T) (hT : T ≤ 3) (hb : ph t = 1) (ha : ¬ a = 1) :
    mc_RN T (n + 1) (upd rT n (nI t)) (upd bf n (ph t)) (upd af n a) (upd su n (ou t)) (upd uc (ou t).toNatClampNeg (nI n)) ou (upd ph t a) := by
  obtain ⟨R1, R2, R3⟩ := R
  rcases R3 t ht with z | ⟨u, hu, e1, e2, e3, e4, e5, e6, e7⟩
  · exact absurd z (by rw [hb]; decide)
  obtain ⟨e6a, e6b⟩ := e6 hb
  have eu : (ou t).toNatClampNeg = u := by rw [e1]; exact nI_clamp (by omega)
  rw [eu]
  have ne : ∀ k, k < n → k ≠ n := fun k hk => by omega
  have hiC : mc_iC (upd rT n (nI t)) (upd bf n (ph t)) (upd af n a) (nI t) n := ⟨pk_us, by rw [pk_us]; exact hb, by rw [pk_us]; exact ha⟩
  have hk : ∀ k, u < k → k < n + 1 → upd rT n (nI t) k = nI t → ¬ upd bf n (ph t) k = 0 := by
    intro k k1 k2 k3
    by_cases e : k = n
    · subst e; rw [pk_us, hb]; decide
    · rw [pk_un e] at k3 ⊢; exact e4 k k1 (by omega) k3
  have hyes : ∃ k, u ≤ k ∧ k < n + 1 ∧ upd uc u (nI n) u = nI k ∧ mc_iC (upd rT n (nI t)) (upd bf n (ph t)) (upd af n a) (nI t) k ∧ ∀ j, u ≤ j → j < k → ¬ mc_iC (upd rT n (nI t)) (upd bf n (ph t)) (upd af n a) (nI t) j :=
    ⟨n, by omega, by omega, pk_us, hiC, fun j j1 j2 j3 => e6b j j1 j2 ((mc_iC_n (by omega)).mp j3)⟩
  refine ⟨by omega, ?_, ?_⟩
  · intro i hi
    by_cases e : i = n
    · subst e
      refine ⟨t, u, ht, pk_us, by omega, by rw [pk_us]; exact e1, by rw [pk_un (ne u hu)]; exact e2, by rw [pk_un (ne u hu)]; exact e3, fun k k1 k2 => hk k k1 (by omega), ?_⟩
      refine Or.inr (Or.inl ⟨fun q => ?_, hyes⟩)
      have := q.1
      rw [pk_us, hb] at this
      exact absurd this (by decide)
    · have hi' : i < n := by omega
      by_cases es : su i = nI u
      · obtain ⟨ti, v, hti, w1, hv, w2, w3, w4, w5, w6⟩ := R2 i hi'
        have ev : v = u := (nI_eq (by omega) (by omega)).mp (w2.symm.trans es)
        subst ev
        have et : ti = t := Classical.byContradiction fun q => mc_ne_t (by omega) (by omega) q (w3.symm.trans e2)
        subst et
        refine ⟨ti, v, hti, by rw [pk_un (ne i hi')]; exact w1, hv, by rw [pk_un (ne i hi')]; exact w2, by rw [pk_un (ne v hu)]; exact w3, by rw [pk_un (ne v hu)]; exact w4, ?_, ?_⟩
        · intro k k1 k2
          rw [pk_un (ne k (by omega)), pk_un (ne k (by omega))]
          exact w5 k k1 k2
        · rw [pk_un (ne i hi'), pk_un (ne i hi')]
          rcases w6 with ⟨z1, z2, z3, z4⟩ | ⟨z1, k, z2, z3, z4, z5, z6⟩ | ⟨z1, z2, z3, z4, z5⟩
          · exact absurd (by rw [z3]; exact z2) e5
          · rw [e6a] at z4
            exact absurd z4.symm (mc_ne1 (by omega))
          · exact Or.inr (Or.inl ⟨z1, hyes⟩)
      · refine mc_U_k hT ht (R2 i hi') hi' rfl (fun v hv ev _ => pk_un (fun z => es (by rw [ev, z]))) ?_
        intro ti v hti ev hv h1 h2'
        have e' : ti ≠ t := fun z => by subst z; exact es (by rw [ev, ← h2', e1])
        refine ⟨by rw [pk_un e']; exact h1, h2', fun z => ?_⟩
        have := z.1
        rw [pk_us] at this
        exact mc_ne_t (by omega) (by omega) e' this.symm
  · intro ti hti
    by_cases e : ti = t
    · subst e
      by_cases a0 : a = 0
      · exact Or.inl (by rw [pk_us]; exact a0)
      · refine Or.inr ⟨u, by omega, e1, by rw [pk_un (ne u hu)]; exact e2, by rw [pk_un (ne u hu)]; exact e3, hk, by rw [pk_un (ne u hu)]; exact e5, ?_, ?_⟩
        · rw [pk_us]; exact fun q => absurd q ha
        · exact fun _ => hyes
    · refine mc_O_k hT ht hti e (R3 ti hti) (fun v hv ev => pk_un (fun z => ?_)) rfl
      subst z
      exact mc_ne_t (by omega) (by omega) e (ev.symm.trans e2)
end
/-! the serial order: a step's place is the number of steps ahead of it -/
noncomputable def mc_rk (cf : Nat → Nat) (n j : Nat) : Nat := mc_cn (fun k => cf k < cf j ∨ (cf k = cf j ∧ k < j)) n
theorem mc_cn_or {P Q : Nat → Prop} (h : ∀ k, P k → ¬ Q k) : ∀ N, mc_cn (fun k => P k ∨ Q k) N = mc_cn P N + mc_cn Q N
  | 0 => rfl
  | N + 1 => by
    have e := mc_cn_or h N
    have : mc_b01 (P N ∨ Q N) = mc_b01 (P N) + mc_b01 (Q N) := by
      by_cases hp : P N
      · rw [mc_b01_t (Or.inl hp), mc_b01_t hp, mc_b01_f (h N hp)]
      · by_cases hq : Q N
        · rw [mc_b01_t (Or.inr hq), mc_b01_f hp, mc_b01_t hq]
        · rw [mc_b01_f (fun z => z.elim hp hq), mc_b01_f hp, mc_b01_f hq]
    simp only [mc_cn]
    omega
theorem mc_cn_cut {Q : Nat → Prop} {j : Nat} : ∀ N, j ≤ N → mc_cn (fun k => Q k ∧ k < j) N = mc_cn Q j
  | 0, h => by
    have : j = 0 := by omega
    subst this; rfl
  | N + 1, h => by
    by_cases e : j = N + 1
    · subst e
      exact mc_cn_eq fun k hk => ⟨And.left, fun q => ⟨q, hk⟩⟩
    · have := mc_cn_cut (Q := Q) (j := j) N (by omega)
      simp only [mc_cn]
      rw [this, mc_b01_f (fun z => by have := z.2; omega), Nat.add_zero]
theorem mc_rk_e {cf : Nat → Nat} {n j : Nat} (hj : j ≤ n) : mc_rk cf n j = mc_cn (fun k => cf k < cf j) n + mc_cn (fun k => cf k = cf j) j := by
  unfold mc_rk
  rw [mc_cn_or (P := fun k => cf k < cf j) (Q := fun k => cf k = cf j ∧ k < j) (fun k h1 h2 => by have := h2.1; omega), mc_cn_cut (Q := fun k => cf k = cf j) n hj]
theorem mc_cn_s {cf : Nat → Nat} {n c : Nat} : mc_cn (fun k => cf k < c) n + mc_cn (fun k => cf k = c) n = mc_cn (fun k => cf k < c + 1) n := by
  rw [← mc_cn_or (P := fun k => cf k < c) (Q := fun k => cf k = c) (fun k h1 h2 => by omega)]
  exact mc_cn_eq fun k _ => ⟨fun z => by rcases z with z | z <;> omega, fun z => by rcases Nat.lt_or_ge (cf k) c with q | q; exact Or.inl q; exact Or.inr (by omega)⟩
theorem mc_cn_all {P : Nat → Prop} : ∀ N, (∀ k, k < N → P k) → mc_cn P N = N
  | 0, _ => rfl
  | N + 1, h => by
    simp only [mc_cn]
    rw [mc_cn_all N (fun k hk => h k (by omega)), mc_b01_t (h N (by omega))]
theorem mc_cn_no {P : Nat → Prop} : ∀ N, (∀ k, k < N → ¬ P k) → mc_cn P N = 0
  | 0, _ => rfl
  | N + 1, h => by
    simp only [mc_cn]
    rw [mc_cn_no N (fun k hk => h k (by omega)), mc_b01_f (h N (by omega))]
theorem mc_rk_lt {cf : Nat → Nat} {n j : Nat} (hj : j < n) : mc_rk cf n j < n := by
  have := mc_cn_lt (P := fun k => cf k < cf j ∨ (cf k = cf j ∧ k < j)) (Q := fun _ => True) (a := j) (fun z => by rcases z with z | z <;> omega) trivial (N := n) (fun _ _ _ => trivial) hj
  rw [mc_cn_all n (fun _ _ => trivial)] at this
  exact this
theorem mc_rk_m {cf : Nat → Nat} {n i j : Nat} (hi : i < n) (h : cf i < cf j ∨ (cf i = cf j ∧ i < j)) : mc_rk cf n i < mc_rk cf n j := by
  unfold mc_rk
  refine mc_cn_lt (a := i) (fun z => by rcases z with z | z <;> omega) h ?_ hi
  intro k _ hk
  rcases hk with z | z <;> rcases h with y | y <;> omega
theorem mc_rk_inj {cf : Nat → Nat} {n i j : Nat} (hi : i < n) (hj : j < n) (h : mc_rk cf n i = mc_rk cf n j) : i = j := by
  rcases Nat.lt_trichotomy (cf i) (cf j) with z | z | z
  · have := mc_rk_m hi (Or.inl z); omega
  · rcases Nat.lt_trichotomy i j with y | y | y
    · have := mc_rk_m hi (Or.inr ⟨z, y⟩); omega
    · exact y
    · have := mc_rk_m hj (Or.inr ⟨z.symm, y⟩); omega
  · have := mc_rk_m hj (Or.inl z); omega
end
section
/-! kinds and classes, as pure values -/
noncomputable def mc_mx (op ar : Nat → Int32) (lf : Nat → Nat) (lk x : Nat) : Nat := mc_mm op ar (16 * (x / 16)) (lf (x / 16)) lk (x % 16)
def mc_Ac (op ar : Nat → Int32) (lf : Nat → Nat) (c x : Nat) : Prop := mc_mx op ar lf 0 x ≠ 4 ∧ ¬ 3 < op x ∧ ar x = nI c
def mc_G (op ar : Nat → Int32) (lf : Nat → Nat) (c lk : Nat) : Prop := ∀ x, x < 48 → mc_Ac op ar lf c x → mc_mx op ar lf lk x ≠ 0
noncomputable def mc_gk (op ar : Nat → Int32) (lf : Nat → Nat) (L c : Nat) : Nat :=
  mc_if (0 < L ∧ mc_G op ar lf c 0) 4 (mc_if (1 < L ∧ mc_G op ar lf c 1) 5 (mc_if (2 < L ∧ mc_G op ar lf c 2) 6 3))
noncomputable def mc_kv (op ar : Nat → Int32) (lf : Nat → Nat) (L c : Nat) : Nat :=
  mc_if (∃ x, x < 48 ∧ mc_Ac op ar lf c x) (mc_if (∃ x, x < 48 ∧ mc_Ac op ar lf c x ∧ ¬ op x = 1) (mc_if (∃ x y, x < 48 ∧ y < 48 ∧ mc_Ac op ar lf c x ∧ mc_Ac op ar lf c y ∧ x / 16 ≠ y / 16) (mc_gk op ar lf L c) 2) 1) 0
noncomputable def mc_cv (op ar : Nat → Int32) (lf : Nat → Nat) (L x : Nat) : Int32 :=
  if mc_mx op ar lf 0 x = 4 then -1 else if ¬ 3 < op x then (if mc_kv op ar lf L (ar x).toNatClampNeg = 3 then 3 else 0)
  else if op x = 7 then (if mc_mx op ar lf (ar x).toNatClampNeg x = 0 then 1 else 0) else if op x = 8 then (if 1 < mc_mx op ar lf (ar x).toNatClampNeg x then 0 else 2) else 0
def mc_KI (op ar : Nat → Int32) (lf : Nat → Nat) (c b : Nat) (x2 x3 x4 : Int32) : Prop :=
  (¬ x2 = 0 ↔ ∃ x, x < b ∧ mc_Ac op ar lf c x ∧ ¬ op x = 1) ∧ (¬ x3 = 0 ↔ ∃ x y, x < b ∧ y < b ∧ mc_Ac op ar lf c x ∧ mc_Ac op ar lf c y ∧ x / 16 ≠ y / 16) ∧
  ((x4 = -1 ∧ ∀ x, x < b → ¬ mc_Ac op ar lf c x) ∨ ∃ x, x < b ∧ mc_Ac op ar lf c x ∧ x4 = nI (x / 16))
section
variable {op ar : Nat → Int32} {lf : Nat → Nat} {L c b : Nat} {x2 x3 x4 : Int32}
theorem mc_mx_e {t p lk : Nat} (hp : p < 16) : mc_mx op ar lf lk (16 * t + p) = mc_mm op ar (16 * t) (lf t) lk p := by
  unfold mc_mx
  rw [show (16 * t + p) / 16 = t by omega, show (16 * t + p) % 16 = p by omega]
theorem mc_mx_4 {lk lk' x : Nat} (h : mc_mx op ar lf lk x = 4) : mc_mx op ar lf lk' x = 4 := mc_mm_4 lk' h
theorem mc_mx_le {lk x : Nat} : mc_mx op ar lf lk x ≤ 4 := (mc_mm_p op ar _ _ lk _).1
theorem mc_Ac_l {x : Nat} (h : mc_Ac op ar lf c x) : x % 16 < lf (x / 16) := mc_mm_l h.1
theorem mc_KI_0 : mc_KI op ar lf c 0 0 0 (-1) :=
  ⟨⟨fun h => absurd rfl h, fun ⟨x, h, _⟩ => absurd h (by omega)⟩, ⟨fun h => absurd rfl h, fun ⟨x, y, h, _⟩ => absurd h (by omega)⟩, Or.inl ⟨rfl, fun x h => absurd h (by omega)⟩⟩
theorem mc_KI_g {b' : Nat} (h : mc_KI op ar lf c b x2 x3 x4) (hb : b ≤ b') (hn : ∀ x, b ≤ x → x < b' → ¬ mc_Ac op ar lf c x) : mc_KI op ar lf c b' x2 x3 x4 := by
  have key : ∀ x, x < b' → mc_Ac op ar lf c x → x < b := fun x h1 h2 => Classical.byContradiction fun z => hn x (by omega) h1 h2
  obtain ⟨h1, h2, h3⟩ := h
  refine ⟨h1.trans ⟨?_, ?_⟩, h2.trans ⟨?_, ?_⟩, ?_⟩
  · rintro ⟨x, a, d, e⟩; exact ⟨x, by omega, d, e⟩
  · rintro ⟨x, a, d, e⟩; exact ⟨x, key x a d, d, e⟩
  · rintro ⟨x, y, a, a', d, d', e⟩; exact ⟨x, y, by omega, by omega, d, d', e⟩
  · rintro ⟨x, y, a, a', d, d', e⟩; exact ⟨x, y, key x a d, key y a' d', d, d', e⟩
  · rcases h3 with ⟨a, d⟩ | ⟨x, a, d, e⟩
    · exact Or.inl ⟨a, fun x hx hA => d x (key x hx hA) hA⟩
    · exact Or.inr ⟨x, by omega, d, e⟩
theorem mc_KI_y {x2' x3' : Int32} (hb : b < 48) (h : mc_KI op ar lf c b x2 x3 x4) (hA : mc_Ac op ar lf c b) (h2 : (op b = 1 ∧ x2' = x2) ∨ (¬ op b = 1 ∧ x2' = 1))
    (h3 : ((x4 < 0 ∨ x4 = nI (b / 16)) ∧ x3' = x3) ∨ (¬ x4 < 0 ∧ ¬ x4 = nI (b / 16) ∧ x3' = 1)) : mc_KI op ar lf c (b + 1) x2' x3' (nI (b / 16)) := by
  obtain ⟨e1, e2, e3⟩ := h
  refine ⟨?_, ?_, Or.inr ⟨b, by omega, hA, rfl⟩⟩
  · rcases h2 with ⟨a, rfl⟩ | ⟨a, rfl⟩
    · refine e1.trans ⟨?_, ?_⟩
      · rintro ⟨x, a, d, e⟩; exact ⟨x, by omega, d, e⟩
      · rintro ⟨x, a', d, e⟩
        exact ⟨x, Classical.byContradiction fun z => e (by rw [show x = b by omega]; exact a), d, e⟩
    · exact ⟨fun _ => ⟨b, by omega, hA, a⟩, fun _ => mc_n10⟩
  · rcases h3 with ⟨a, rfl⟩ | ⟨a, a', rfl⟩
    · refine e2.trans ⟨?_, ?_⟩
      · rintro ⟨x, y, a, a', d, d', e⟩; exact ⟨x, y, by omega, by omega, d, d', e⟩
      · have key : ∀ y, y < b → mc_Ac op ar lf c y → y / 16 ≠ b / 16 → ∃ x y, x < b ∧ y < b ∧ mc_Ac op ar lf c x ∧ mc_Ac op ar lf c y ∧ x / 16 ≠ y / 16 := by
          intro y hy hAy hne
          rcases e3 with ⟨z, z'⟩ | ⟨x, hx, hAx, z⟩
          · exact absurd hAy (z' y hy)
          · rcases a with a | a
            · rw [z] at a; exact absurd a (nI_pos (by omega))
            · have : x / 16 = b / 16 := (nI_eq (by omega) (by omega)).mp (z.symm.trans a)
              exact ⟨x, y, hx, hy, hAx, hAy, by omega⟩
        rintro ⟨x, y, hx, hy, d, d', e⟩
        by_cases ex : x = b
        · subst ex
          exact key y (Classical.byContradiction fun z => e (by rw [show y = x by omega])) d' (fun z => e z.symm)
        · by_cases ey : y = b
          · subst ey; exact key x (by omega) d e
          · exact ⟨x, y, by omega, by omega, d, d', e⟩
    · refine ⟨fun _ => ?_, fun _ => mc_n10⟩
      rcases e3 with ⟨z, z'⟩ | ⟨x, hx, hAx, z⟩
      · rw [z] at a; exact absurd mc_m1' a
      · exact ⟨x, b, by omega, by omega, hAx, hA, fun q => a' (by rw [z, q])⟩
theorem mc_kv_c (h : mc_KI op ar lf c 48 x2 x3 x4) : (¬ 0 ≤ x4 → mc_kv op ar lf L c = 0) ∧ (0 ≤ x4 → x2 = 0 → mc_kv op ar lf L c = 1) ∧
    (0 ≤ x4 → ¬ x2 = 0 → x3 = 0 → mc_kv op ar lf L c = 2) ∧ (0 ≤ x4 → ¬ x2 = 0 → ¬ x3 = 0 → mc_kv op ar lf L c = mc_gk op ar lf L c) := by
  obtain ⟨e1, e2, e3⟩ := h
  unfold mc_kv
  rcases e3 with ⟨z, z'⟩ | ⟨x, hx, hA, z⟩
  · have n0 : ¬ 0 ≤ x4 := by rw [z]; exact mc_m1
    exact ⟨fun _ => mc_if_f (fun ⟨x, hx, hA⟩ => z' x hx hA), fun q => absurd q n0, fun q => absurd q n0, fun q => absurd q n0⟩
  · have p0 : 0 ≤ x4 := by rw [z]; exact nI_pos' (by omega)
    rw [mc_if_t ⟨x, hx, hA⟩]
    refine ⟨fun q => absurd p0 q, fun _ q => ?_, fun _ q q' => ?_, fun _ q q' => ?_⟩
    · exact mc_if_f (fun w => absurd q (e1.mpr w))
    · rw [mc_if_t (e1.mp q)]; exact mc_if_f (fun w => absurd q' (e2.mpr w))
    · rw [mc_if_t (e1.mp q), mc_if_t (e2.mp q')]
theorem mc_gk_y {k : Nat} (hL : L ≤ 3) (hk : k < L) (h : ∀ i, i < k → ¬ mc_G op ar lf c i) (hG : mc_G op ar lf c k) : mc_gk op ar lf L c = 4 + k := by
  unfold mc_gk
  have e : k = 0 ∨ k = 1 ∨ k = 2 := by omega
  rcases e with e | e | e <;> subst e
  · rw [mc_if_t ⟨hk, hG⟩]
  · rw [mc_if_f (fun z => h 0 (by omega) z.2), mc_if_t ⟨hk, hG⟩]
  · rw [mc_if_f (fun z => h 0 (by omega) z.2), mc_if_f (fun z => h 1 (by omega) z.2), mc_if_t ⟨hk, hG⟩]
theorem mc_gk_n (h : ∀ i, i < L → ¬ mc_G op ar lf c i) : mc_gk op ar lf L c = 3 := by
  unfold mc_gk
  rw [mc_if_f (fun z => h 0 z.1 z.2), mc_if_f (fun z => h 1 z.1 z.2), mc_if_f (fun z => h 2 z.1 z.2)]
theorem mc_kv_le (op ar : Nat → Int32) (lf : Nat → Nat) (L c : Nat) : mc_kv op ar lf L c ≤ 6 := by
  have key : ∀ (P : Prop) (a b : Nat), a ≤ 6 → b ≤ 6 → mc_if P a b ≤ 6 := fun P a b ha hb => by
    by_cases h : P
    · rw [mc_if_t h]; exact ha
    · rw [mc_if_f h]; exact hb
  unfold mc_kv mc_gk
  exact key _ _ _ (key _ _ _ (key _ _ _ (key _ _ _ (by omega) (key _ _ _ (by omega) (key _ _ _ (by omega) (by omega)))) (by omega)) (by omega)) (by omega)
end
end
section
/-! the component's must counts -/
def mc_TH (C V L : Nat) (ln op ar : Nat → Int32) (t l : Nat) : Prop :=
  t < 3 ∧ ln t = nI l ∧ l ≤ 16 ∧ C ≤ 16 ∧ V ≤ 4 ∧ L ≤ 3 ∧ ∀ p, p < l → mc_IN V C L (op (16 * t + p)) (ar (16 * t + p))
def mc_up (m : Nat → Nat) (q c : Nat) : Nat → Nat := fun j => if j = q then c else m j
theorem mc_up_s {m : Nat → Nat} {q c : Nat} : mc_up m q c q = c := if_pos rfl
theorem mc_up_n {m : Nat → Nat} {q c j : Nat} (h : j ≠ q) : mc_up m q c j = m j := if_neg h
def mc_sm (m : Nat → Nat) : Nat → Nat
  | 0 => 0
  | k + 1 => mc_sm m k + m k
theorem mc_sm_o {m : Nat → Nat} {q c : Nat} : ∀ N, N ≤ q → mc_sm (mc_up m q c) N = mc_sm m N
  | 0, _ => rfl
  | N + 1, h => by simp only [mc_sm]; rw [mc_sm_o N (by omega), mc_up_n (by omega)]
theorem mc_sm_u {m : Nat → Nat} {q c : Nat} (hc : c < m q) : ∀ N, q < N → mc_sm (mc_up m q c) N < mc_sm m N
  | 0, h => by omega
  | N + 1, h => by
    simp only [mc_sm]
    by_cases e : q = N
    · subst e; rw [mc_sm_o q (Nat.le_refl _), mc_up_s]; omega
    · have := mc_sm_u hc N (by omega)
      rw [mc_up_n (show N ≠ q by omega)]; omega
def mc_MA (t lk : Nat) (xm : Nat → Int32) (m : Nat → Nat) : Prop := ∀ p, p < 16 → xm (48 * t + 3 * p + lk) = nI (m p) ∧ m p ≤ 4
def mc_fr (t lk : Nat) (xm xm' : Nat → Int32) : Prop := ∀ j, (∀ p, p < 16 → j ≠ 48 * t + 3 * p + lk) → xm' j = xm j
theorem mc_MA_u {t lk q c : Nat} {xm : Nat → Int32} {m : Nat → Nat} (h : mc_MA t lk xm m) (hc : c ≤ 4) : mc_MA t lk (upd xm (48 * t + 3 * q + lk) (nI c)) (mc_up m q c) := by
  intro p hp
  by_cases e : p = q
  · subst e; rw [pk_us, mc_up_s]; exact ⟨rfl, hc⟩
  · rw [pk_un (by omega), mc_up_n e]; exact h p hp
theorem mc_fr_u {t lk q : Nat} {x : Int32} {xm xm' : Nat → Int32} (h : mc_fr t lk xm xm') (hq : q < 16) : mc_fr t lk xm (upd xm' (48 * t + 3 * q + lk) x) := by
  intro j hj
  rw [pk_un (hj q hq)]; exact h j hj
theorem mc_fr_r {t lk : Nat} {xm : Nat → Int32} : mc_fr t lk xm xm := fun _ _ => rfl
theorem mc_fr_t {t lk : Nat} {x y z : Nat → Int32} (h : mc_fr t lk x y) (h' : mc_fr t lk y z) : mc_fr t lk x z := fun j hj => (h' j hj).trans (h j hj)
def mc_cl1 (op ar : Nat → Int32) (b l lk p : Nat) (m : Nat → Nat) : Prop := m p < 4 → ∀ q, mc_sc op ar b l p q → m q ≤ mc_cA op ar b lk p (m p)
def mc_so (op ar : Nat → Int32) (b l lk : Nat) (m : Nat → Nat) : Prop := ∀ q, q < 16 → m q < 4 → mc_Rc op ar b l lk q (m q)
def mc_SF (op ar : Nat → Int32) (b l lk p : Nat) (m m' : Nat → Nat) (r : Int32) : Prop :=
  (∀ q, m' q ≤ m q) ∧ (mc_so op ar b l lk m → mc_so op ar b l lk m') ∧ (r = 0 → m' = m ∧ mc_cl1 op ar b l lk p m) ∧ (¬ r = 0 → mc_sm m' 16 < mc_sm m 16)
section
variable {op ar : Nat → Int32} {b l lk p q c : Nat} {m : Nat → Nat}
theorem mc_so_u (hp : p < 16) (h4 : m p < 4) (hs : mc_sc op ar b l p q) (h : mc_so op ar b l lk m) (h' : mc_Rc op ar b l lk p (m p)) : mc_so op ar b l lk (mc_up m q (mc_cA op ar b lk p (m p))) := by
  intro j hj hm
  by_cases e : j = q
  · subst e; rw [mc_up_s]; exact mc_Rc_s h' hs
  · rw [mc_up_n e] at hm ⊢; exact h j hj hm
theorem mc_up_le (h : c < m q) : ∀ j, mc_up m q c j ≤ m j := by
  intro j
  by_cases e : j = q
  · subst e; rw [mc_up_s]; omega
  · rw [mc_up_n e]; exact Nat.le_refl _
end
section
variable {T C V L : Nat} {fu ff sl vd st : Int32} {ln op ar ini xm kd mv ds oP oL ce ac pc ph he rT rP su uc ou od sc : Nat → Int32}
variable {t p l lk : Nat}
theorem mc_x_fall {post : Int32 → Prop} (H : mc_TH C V L ln op ar t l) (hp : p < l) (h : post (mc_oI (mc_fF op (16 * t) l p))) : wpX_fallOf post (nI T, nI C, nI V, nI L, fu, ff, sl, vd, st, ln, op, ar, ini, xm, kd, mv, ds, oP, oL, ce, ac, pc, ph, he, rT, rP, su, uc, ou, od, sc) (nI t) (nI p) := by
  obtain ⟨ht, hl, h16, -, -, -, -⟩ := H
  unfold wpX_fallOf
  simp (disch := omega) only [nI_clamp, mc_m16, mc_m48, mc_m3, mc_vin, nI_add, nI_1, true_and, forall_eq, hl, nI_ltI]
  unfold mc_fF at h
  by_cases h5 : op (16 * t + p) = 5
  · rw [if_pos h5] at h; exact br_t h5 h
  · rw [if_neg h5] at h
    refine br_f h5 ?_
    by_cases h1 : p + 1 < l
    · rw [if_pos h1] at h; exact br_t h1 h
    · rw [if_neg h1] at h; exact br_f h1 h
theorem mc_x_branch {post : Int32 → Prop} (H : mc_TH C V L ln op ar t l) (hp : p < l) (h : post (mc_oI (mc_fB op ar (16 * t) l p))) : wpX_branchOf post (nI T, nI C, nI V, nI L, fu, ff, sl, vd, st, ln, op, ar, ini, xm, kd, mv, ds, oP, oL, ce, ac, pc, ph, he, rT, rP, su, uc, ou, od, sc) (nI t) (nI p) := by
  obtain ⟨ht, hl, h16, hC, -, -, hI⟩ := H
  have hA := (hI p hp).2.2.1
  unfold wpX_branchOf
  simp (disch := omega) only [nI_clamp, mc_m16, mc_m48, mc_m3, mc_vin, nI_add, nI_1, true_and, forall_eq]
  unfold mc_fB at h
  by_cases h56 : op (16 * t + p) = 5 ∨ op (16 * t + p) = 6
  · obtain ⟨k, hk, e⟩ := hA h56
    rw [if_pos h56, e, nI_clamp (by omega)] at h
    have w : wX_branchOf_25 post (nI t) (nI p) (nI T) (nI C) (nI V) (nI L) fu ff sl vd st ln op ar ini xm kd mv ds oP oL ce ac pc ph he rT rP su uc ou od sc := by
      unfold wX_branchOf_25
      simp (disch := omega) only [nI_clamp, mc_m16, mc_m48, mc_m3, mc_vin, nI_add, nI_1, true_and, forall_eq, e, hl, nI_leI]
      by_cases h1 : k < l
      · rw [if_pos h1] at h; exact br_f (by omega) h
      · rw [if_neg h1] at h; exact br_t (by omega) h
    by_cases h5 : op (16 * t + p) = 5
    · exact br_t h5 w
    · exact br_f h5 (br_t (h56.resolve_left h5) w)
  · rw [if_neg h56] at h
    exact br_f (fun z => h56 (Or.inl z)) (br_f (fun z => h56 (Or.inr z)) h)
theorem mc_x_count {post : Int32 → Prop} {c : Nat} (H : mc_TH C V L ln op ar t l) (hp : p < l) (hc : c ≤ 3) (h : post (nI (mc_cA op ar (16 * t) lk p c))) : wpX_countAfter post (nI T, nI C, nI V, nI L, fu, ff, sl, vd, st, ln, op, ar, ini, xm, kd, mv, ds, oP, oL, ce, ac, pc, ph, he, rT, rP, su, uc, ou, od, sc) (nI t) (nI p) (nI lk) (nI c) := by
  obtain ⟨ht, hl, h16, -, -, -, -⟩ := H
  unfold wpX_countAfter
  simp (disch := omega) only [nI_clamp, mc_m16, mc_m48, mc_m3, mc_vin, nI_add, nI_1, true_and, forall_eq, mc_le3]
  unfold mc_cA at h
  by_cases ha : ar (16 * t + p) = nI lk
  · rw [if_pos ha] at h
    refine br_t ha ?_
    have w : ¬ (op (16 * t + p) = 7 ∧ c < 3) → wX_countAfter_49 post (nI c) (op (16 * t + p)) (nI T) (nI C) (nI V) (nI L) fu ff sl vd st ln op ar ini xm kd mv ds oP oL ce ac pc ph he rT rP su uc ou od sc := by
      intro h7
      rw [if_neg h7] at h
      unfold wX_countAfter_49
      simp (disch := omega) only [mc_ge0]
      by_cases h8 : op (16 * t + p) = 8
      · refine br_t h8 ?_
        by_cases c0 : c = 0
        · rw [if_neg (fun z => by have := z.2; omega)] at h; exact br_t c0 h
        · rw [if_pos ⟨h8, by omega⟩] at h
          refine br_f c0 ?_
          have e : nI c - 1 = nI (c - 1) := pk_sub (b := 1) (by omega)
          rw [e]; exact h
      · rw [if_neg (fun z => h8 z.1)] at h; exact br_f h8 h
    by_cases h7 : op (16 * t + p) = 7
    · refine br_t h7 ?_
      by_cases h3 : 3 ≤ c
      · exact br_t h3 (w (fun z => by have := z.2; omega))
      · rw [if_pos ⟨h7, by omega⟩] at h; exact br_f h3 h
    · exact br_f h7 (w (fun z => h7 z.1))
  · rw [if_neg ha] at h; exact br_f ha h
theorem mc_x_lower {post : Int32 → SX → Prop} {c : Nat} {o : Option Nat} {m : Nat → Nat} (ht : t < 3) (hlk : lk < 3) (hc : c ≤ 3) (ho : ∀ q, o = some q → q < 16) (hM : mc_MA t lk xm m)
    (h0 : (∀ q, o = some q → m q ≤ c) → post 0 (nI T, nI C, nI V, nI L, fu, ff, sl, vd, st, ln, op, ar, ini, xm, kd, mv, ds, oP, oL, ce, ac, pc, ph, he, rT, rP, su, uc, ou, od, sc)) (h1 : ∀ q, o = some q → c < m q → post 1 (nI T, nI C, nI V, nI L, fu, ff, sl, vd, st, ln, op, ar, ini, upd xm (48 * t + 3 * q + lk) (nI c), kd, mv, ds, oP, oL, ce, ac, pc, ph, he, rT, rP, su, uc, ou, od, sc)) : wpX_lower post (nI T, nI C, nI V, nI L, fu, ff, sl, vd, st, ln, op, ar, ini, xm, kd, mv, ds, oP, oL, ce, ac, pc, ph, he, rT, rP, su, uc, ou, od, sc) (nI t) (mc_oI o) (nI lk) (nI c) := by
  cases o with
  | none =>
    unfold wpX_lower
    exact br_f mc_m1 (h0 (fun q z => nomatch z))
  | some q =>
    have hq := ho q rfl
    obtain ⟨e, e4⟩ := hM q hq
    rw [mc_oI_s]
    unfold wpX_lower
    simp (disch := omega) only [nI_clamp, mc_m16, mc_m48, mc_m3, mc_vin, nI_add, nI_1, true_and, forall_eq, wpX_mustAt, e, nI_ltI]
    refine br_t (mc_le0 (by omega)) ?_
    by_cases z : c < m q
    · exact br_t z (h1 q rfl z)
    · exact br_f z (h0 (fun q' e' => by cases e'; omega))
theorem mc_x_sf {post : Int32 → SX → Prop} {m : Nat → Nat} (H : mc_TH C V L ln op ar t l) (hlk : lk < 3) (hp : p < l) (hM : mc_MA t lk xm m) (hso : mc_so op ar (16 * t) l lk m)
    (K : ∀ r xm' m', mc_MA t lk xm' m' → mc_fr t lk xm xm' → mc_SF op ar (16 * t) l lk p m m' r → post r (nI T, nI C, nI V, nI L, fu, ff, sl, vd, st, ln, op, ar, ini, xm', kd, mv, ds, oP, oL, ce, ac, pc, ph, he, rT, rP, su, uc, ou, od, sc)) : wpX_spreadFrom post (nI T, nI C, nI V, nI L, fu, ff, sl, vd, st, ln, op, ar, ini, xm, kd, mv, ds, oP, oL, ce, ac, pc, ph, he, rT, rP, su, uc, ou, od, sc) (nI t) (nI p) (nI lk) := by
  have ⟨ht, hl, h16, _⟩ := H
  obtain ⟨e, e4⟩ := hM p (by omega)
  unfold wpX_spreadFrom
  simp (disch := omega) only [nI_clamp, mc_m16, mc_m48, mc_m3, mc_vin, nI_add, nI_1, true_and, forall_eq, wpX_mustAt, e, mc_e4]
  by_cases h4 : m p = 4
  · exact br_t h4 (K 0 xm m hM mc_fr_r ⟨fun _ => Nat.le_refl _, id, fun _ => ⟨rfl, fun z => absurd z (by omega)⟩, fun z => absurd rfl z⟩)
  · have h4' : m p < 4 := by omega
    have hc3 : mc_cA op ar (16 * t) lk p (m p) ≤ 3 := mc_cA_3 (by omega)
    have hR := hso p (by omega) h4'
    refine br_f h4 (mc_x_count H hp (by omega) (mc_x_fall H hp (mc_x_branch H hp ?_)))
    refine mc_x_lower ht hlk hc3 (fun q z => by have := mc_fF_lt z; omega) hM ?_ ?_
    · intro n1
      refine mc_x_lower ht hlk hc3 (fun q z => by have := mc_fB_lt z; omega) hM ?_ ?_
      · intro n2
        refine br_t rfl (br_t rfl (K 0 xm m hM mc_fr_r ⟨fun _ => Nat.le_refl _, id, fun _ => ⟨rfl, fun _ q hq => hq.elim (n1 q) (n2 q)⟩, fun z => absurd rfl z⟩))
      · intro q hq hlt
        have hq16 : q < 16 := by have := mc_fB_lt hq; omega
        exact br_t rfl (br_f mc_n10 (K 1 _ (mc_up m q _) (mc_MA_u hM (by omega)) (mc_fr_u mc_fr_r hq16) ⟨mc_up_le hlt, fun _ => mc_so_u (by omega) h4' (Or.inr hq) hso hR, fun z => absurd z mc_n10, fun _ => mc_sm_u hlt 16 hq16⟩))
    · intro q hq hlt
      have hq16 : q < 16 := by have := mc_fF_lt hq; omega
      have hM1 : mc_MA t lk (upd xm (48 * t + 3 * q + lk) (nI (mc_cA op ar (16 * t) lk p (m p)))) (mc_up m q (mc_cA op ar (16 * t) lk p (m p))) := mc_MA_u hM (by omega)
      have hs1 : mc_so op ar (16 * t) l lk (mc_up m q (mc_cA op ar (16 * t) lk p (m p))) := mc_so_u (by omega) h4' (Or.inl hq) hso hR
      refine mc_x_lower ht hlk hc3 (fun q z => by have := mc_fB_lt z; omega) hM1 ?_ ?_
      · intro n2
        exact br_f mc_n10 (K 1 _ _ hM1 (mc_fr_u mc_fr_r hq16) ⟨mc_up_le hlt, fun _ => hs1, fun z => absurd z mc_n10, fun _ => mc_sm_u hlt 16 hq16⟩)
      · intro q' hq' hlt'
        have hq16' : q' < 16 := by have := mc_fB_lt hq'; omega
        refine br_f mc_n10 (K 1 _ (mc_up (mc_up m q (mc_cA op ar (16 * t) lk p (m p))) q' (mc_cA op ar (16 * t) lk p (m p))) (mc_MA_u hM1 (by omega)) (mc_fr_u (mc_fr_u mc_fr_r hq16) hq16') ⟨fun j => Nat.le_trans (mc_up_le hlt' j) (mc_up_le hlt j), fun _ => ?_, fun z => absurd z mc_n10, fun _ => Nat.lt_trans (mc_sm_u hlt' 16 hq16') (mc_sm_u hlt 16 hq16)⟩)
        intro j hj hm
        by_cases ej : j = q'
        · subst ej; rw [mc_up_s]; exact mc_Rc_s hR (Or.inr hq')
        · rw [mc_up_n ej] at hm ⊢; exact hs1 j hj hm
end
end
section
def mc_I34 (op ar : Nat → Int32) (b l lk p : Nat) (m0 m : Nat → Nat) (x3 : Int32) : Prop :=
  (∀ q, m q ≤ m0 q) ∧ mc_so op ar b l lk m ∧ (x3 = 0 → ∀ p', p' < p → mc_cl1 op ar b l lk p' m) ∧ (¬ x3 = 0 → mc_sm m 16 < mc_sm m0 16) ∧ mc_sm m 16 ≤ mc_sm m0 16
section
variable {T C V L : Nat} {fu ff sl vd st : Int32} {ln op ar ini xm kd mv ds oP oL ce ac pc ph he rT rP su uc ou od sc : Nat → Int32}
variable {t p l lk : Nat}
theorem mc_x_sl34 {post : SX → Prop} {J : Int32 → Int32 → Int32 → Int32 → Int32 → Int32 → Int32 → Int32 → Int32 → Int32 → Int32 → (Nat → Int32) → (Nat → Int32) → (Nat → Int32) → (Nat → Int32) → (Nat → Int32) → (Nat → Int32) → (Nat → Int32) → (Nat → Int32) → (Nat → Int32) → (Nat → Int32) → (Nat → Int32) → (Nat → Int32) → (Nat → Int32) → (Nat → Int32) → (Nat → Int32) → (Nat → Int32) → (Nat → Int32) → (Nat → Int32) → (Nat → Int32) → (Nat → Int32) → (Nat → Int32) → (Nat → Int32) → Prop}
    {k : Nat} {xm0 : Nat → Int32} {m0 : Nat → Nat} (H : mc_TH C V L ln op ar t l) (hlk : lk < 3)
    (K : ∀ x3 xm m, mc_MA t lk xm m → mc_fr t lk xm0 xm → mc_I34 op ar (16 * t) l lk l m0 m x3 → J x3 (nI (k + 1)) (nI T) (nI C) (nI V) (nI L) fu ff sl vd st ln op ar ini xm kd mv ds oP oL ce ac pc ph he rT rP su uc ou od sc) :
    ∀ n p x3 xm m, l - p < n → p ≤ l → mc_MA t lk xm m → mc_fr t lk xm0 xm → mc_I34 op ar (16 * t) l lk p m0 m x3 → wX_spreadLock_34 post J (nI t) (nI lk) (nI k) n x3 (nI p) (nI T) (nI C) (nI V) (nI L) fu ff sl vd st ln op ar ini xm kd mv ds oP oL ce ac pc ph he rT rP su uc ou od sc := by
  have ⟨ht, hl, h16, _⟩ := H
  intro n
  induction n with
  | zero => intro p x3 xm m h; omega
  | succ n ih =>
    intro p x3 xm m hn hp hM hF hI
    rw [wX_spreadLock_34]
    simp (disch := omega) only [nI_clamp, mc_m16, mc_m48, mc_m3, mc_vin, nI_add, nI_1, true_and, forall_eq, hl, nI_leI]
    by_cases e : l ≤ p
    · have : p = l := by omega
      subst this
      exact br_t e (K x3 xm m hM hF hI)
    · refine br_f e ?_
      obtain ⟨i1, i2, i3, i4, i5⟩ := hI
      refine mc_x_sf H hlk (by omega) hM i2 ?_
      intro r xm' m' hM' hF' hS
      obtain ⟨s1, s2, s3, s4⟩ := hS
      by_cases r0 : r = 0
      · obtain ⟨em, ec⟩ := s3 r0
        subst em
        refine br_t r0 (ih (p + 1) x3 xm' m' (by omega) (by omega) hM' (mc_fr_t hF hF') ⟨i1, i2, fun z p' hp' => ?_, i4, i5⟩)
        by_cases ep : p' = p
        · subst ep; exact ec
        · exact i3 z p' (by omega)
      · have := s4 r0
        exact br_f r0 (ih (p + 1) 1 xm' m' (by omega) (by omega) hM' (mc_fr_t hF hF') ⟨fun q => Nat.le_trans (s1 q) (i1 q), s2 i2, fun z => absurd z mc_n10, fun _ => by omega, by omega⟩)
theorem mc_x_sl18 {post : SX → Prop} {xm0 : Nat → Int32} (H : mc_TH C V L ln op ar t l) (hlk : lk < 3) (hl0 : 0 < l)
    (K : ∀ xm, mc_fr t lk xm0 xm → (∀ p, p < 16 → xm (48 * t + 3 * p + lk) = nI (mc_mm op ar (16 * t) l lk p)) → post (nI T, nI C, nI V, nI L, fu, ff, sl, vd, st, ln, op, ar, ini, xm, kd, mv, ds, oP, oL, ce, ac, pc, ph, he, rT, rP, su, uc, ou, od, sc)) :
    ∀ n k x3 xm m, 81 - k < n → k ≤ 80 → mc_MA t lk xm m → mc_fr t lk xm0 xm → mc_so op ar (16 * t) l lk m → m 0 = 0 →
      (x3 = 0 → ∀ p, p < l → mc_cl1 op ar (16 * t) l lk p m) → (¬ x3 = 0 → mc_sm m 16 + k ≤ 60) → wX_spreadLock_18 post (nI t) (nI lk) n x3 (nI k) (nI T) (nI C) (nI V) (nI L) fu ff sl vd st ln op ar ini xm kd mv ds oP oL ce ac pc ph he rT rP su uc ou od sc := by
  have ⟨ht, hl, h16, _⟩ := H
  intro n
  induction n with
  | zero => intro k x3 xm m h; omega
  | succ n ih =>
    intro k x3 xm m hn hk hM hF hS h0 h1 h2
    have fin : x3 = 0 → post (nI T, nI C, nI V, nI L, fu, ff, sl, vd, st, ln, op, ar, ini, xm, kd, mv, ds, oP, oL, ce, ac, pc, ph, he, rT, rP, su, uc, ou, od, sc) := fun z => K xm hF (fun p hp => by
      rw [mc_fix (fun p hp => (hM p hp).2) h16 (fun _ => h0) hS (fun p q hp h4 hq => h1 z p hp h4 q hq) p hp]
      exact (hM p hp).1)
    rw [wX_spreadLock_18]
    simp (disch := omega) only [mc_le80]
    by_cases e : 80 ≤ k
    · exact br_t e (fin (Classical.byContradiction fun z => by have := h2 z; omega))
    · refine br_f e ?_
      by_cases z : x3 = 0
      · exact br_t z (fin z)
      · have hb := h2 z
        refine br_f z ⟨l + 1, mc_x_sl34 (k := k) (xm0 := xm) (m0 := m) H hlk ?_ (l + 1) 0 0 xm m (by omega) (by omega) hM mc_fr_r ⟨fun _ => Nat.le_refl _, hS, fun _ p' hp' => absurd hp' (by omega), fun z => absurd rfl z, Nat.le_refl _⟩⟩
        intro x3' xm' m' hM' hF' hI'
        obtain ⟨i1, i2, i3, i4, i5⟩ := hI'
        refine ih (k + 1) x3' xm' m' (by omega) (by omega) hM' (mc_fr_t hF hF') i2 ?_ i3 ?_
        · have := i1 0; omega
        · intro z'; have := i4 z'; omega
theorem mc_x_sl {post : SX → Prop} (H : mc_TH C V L ln op ar t l) (hlk : lk < 3) (hl0 : 0 < l) (h4 : ∀ p, p < 16 → xm (48 * t + 3 * p + lk) = 4)
    (K : ∀ xm', mc_fr t lk xm xm' → (∀ p, p < 16 → xm' (48 * t + 3 * p + lk) = nI (mc_mm op ar (16 * t) l lk p)) → post (nI T, nI C, nI V, nI L, fu, ff, sl, vd, st, ln, op, ar, ini, xm', kd, mv, ds, oP, oL, ce, ac, pc, ph, he, rT, rP, su, uc, ou, od, sc)) : wpX_spreadLock post (nI T, nI C, nI V, nI L, fu, ff, sl, vd, st, ln, op, ar, ini, xm, kd, mv, ds, oP, oL, ce, ac, pc, ph, he, rT, rP, su, uc, ou, od, sc) (nI t) (nI lk) := by
  have ⟨ht, hl, h16, _⟩ := H
  have e : ((48 : Int32) * nI t + 3 * 0) + nI lk = nI (48 * t + 3 * 0 + lk) := by
    have := (nI_add (48 * t + 3 * 0) lk); rw [← this, ← nI_add, ← mc_m48, ← mc_m3, nI_0]
  unfold wpX_spreadLock
  simp (disch := omega) only [wpX_mustAt, e, mc_vin, true_and, forall_eq, nI_clamp]
  have hM : mc_MA t lk xm (fun _ => 4) := fun p hp => ⟨h4 p hp, Nat.le_refl _⟩
  refine ⟨82, mc_x_sl18 (xm0 := xm) H hlk hl0 K 82 0 1 _ (mc_up (fun _ => 4) 0 0) (by omega) (by omega) (mc_MA_u (c := 0) hM (by omega)) (mc_fr_u mc_fr_r (by omega)) ?_ mc_up_s (fun z => absurd z mc_n10) (fun _ => by decide)⟩
  intro q hq hm
  by_cases eq : q = 0
  · subst eq; rw [mc_up_s]; exact mc_Rc_0 hl0
  · rw [mc_up_n eq] at hm; exact absurd hm (by decide)
def mc_XM (op ar : Nat → Int32) (t l lk : Nat) (xm : Nat → Int32) : Prop := ∀ p, p < 16 → xm (48 * t + 3 * p + lk) = nI (mc_mm op ar (16 * t) l lk p)
def mc_fo (t : Nat) (xm xm' : Nat → Int32) : Prop := ∀ j, j < 48 * t ∨ 48 * t + 48 ≤ j → xm' j = xm j
theorem mc_x_fm38 {post : SX → Prop} {xm0 : Nat → Int32} (H : mc_TH C V L ln op ar t l) (hl0 : 0 < l)
    (K : ∀ xm, mc_fo t xm0 xm → (∀ lk, lk < L → mc_XM op ar t l lk xm) → post (nI T, nI C, nI V, nI L, fu, ff, sl, vd, st, ln, op, ar, ini, xm, kd, mv, ds, oP, oL, ce, ac, pc, ph, he, rT, rP, su, uc, ou, od, sc)) :
    ∀ n k xm, L - k < n → k ≤ L → mc_fo t xm0 xm → (∀ lk, lk < k → mc_XM op ar t l lk xm) → (∀ lk, k ≤ lk → lk < 3 → ∀ p, p < 16 → xm (48 * t + 3 * p + lk) = 4) → wX_findMust_38 post (nI t) n (nI k) (nI T) (nI C) (nI V) (nI L) fu ff sl vd st ln op ar ini xm kd mv ds oP oL ce ac pc ph he rT rP su uc ou od sc := by
  have ⟨ht, hl, h16, hC, hV, hL, _⟩ := H
  intro n
  induction n with
  | zero => intro k xm h; omega
  | succ n ih =>
    intro k xm hn hk hF h1 h2
    rw [wX_findMust_38]
    simp (disch := omega) only [nI_leI, nI_1, forall_eq]
    by_cases e : L ≤ k
    · have : k = L := by omega
      subst this
      exact br_t e (K xm hF h1)
    · refine br_f e (mc_x_sl H (by omega) hl0 (h2 k (Nat.le_refl _) (by omega)) ?_)
      intro xm' hF' hX
      refine ih (k + 1) xm' (by omega) (by omega) (fun j hj => (hF' j (fun p hp => by omega)).trans (hF j hj)) ?_ ?_
      · intro lk hlk p hp
        by_cases ek : lk = k
        · subst ek; exact hX p hp
        · rw [hF' _ (fun p' hp' => by omega)]; exact h1 lk (by omega) p hp
      · intro lk a1 a2 p hp
        rw [hF' _ (fun p' hp' => by omega)]; exact h2 lk (by omega) a2 p hp
theorem mc_x_fm2 {post : SX → Prop} {xm0 : Nat → Int32} (H : mc_TH C V L ln op ar t l)
    (K : ∀ xm, mc_fo t xm0 xm → (∀ lk, lk < L → mc_XM op ar t l lk xm) → post (nI T, nI C, nI V, nI L, fu, ff, sl, vd, st, ln, op, ar, ini, xm, kd, mv, ds, oP, oL, ce, ac, pc, ph, he, rT, rP, su, uc, ou, od, sc)) :
    ∀ n i xm, 48 - i < n → i ≤ 48 → mc_fo t xm0 xm → (∀ j, j < i → xm (48 * t + j) = 4) → wX_findMust_2 post (nI t) (nI T) (nI C) (nI V) (nI L) fu ff sl vd st n (nI i) ln op ar ini xm kd mv ds oP oL ce ac pc ph he rT rP su uc ou od sc := by
  have ⟨ht, hl, h16, hC, hV, hL, _⟩ := H
  intro n
  induction n with
  | zero => intro k xm h; omega
  | succ n ih =>
    intro i xm hn hi hF h1
    rw [wX_findMust_2]
    simp (disch := omega) only [nI_clamp, mc_m16, mc_m48, mc_m3, mc_vin, nI_add, nI_1, true_and, forall_eq, mc_le48, hl, mc_e0]
    by_cases e : 48 ≤ i
    · refine br_t e ?_
      by_cases l0 : l = 0
      · refine br_t l0 (K xm hF fun lk hlk p hp => ?_)
        rw [mc_mm_out (by omega), Nat.add_assoc]; exact h1 (3 * p + lk) (by omega)
      · refine br_f l0 ⟨L + 1, mc_x_fm38 (xm0 := xm0) H (by omega) K (L + 1) 0 xm (by omega) (by omega) hF (fun lk hlk => absurd hlk (by omega)) ?_⟩
        intro lk _ hlk p hp
        rw [Nat.add_assoc]; exact h1 (3 * p + lk) (by omega)
    · refine br_f e ⟨vp_in_nI (by omega) (by omega), ih (i + 1) _ (by omega) (by omega) ?_ ?_⟩
      · intro j hj
        rw [pk_un (by omega)]; exact hF j hj
      · intro j hj
        by_cases ej : j = i
        · subst ej; rw [pk_us]
        · rw [pk_un (by omega)]; exact h1 j (by omega)
theorem mc_x_fm {post : SX → Prop} (H : mc_TH C V L ln op ar t l)
    (K : ∀ xm', mc_fo t xm xm' → (∀ lk, lk < L → mc_XM op ar t l lk xm') → post (nI T, nI C, nI V, nI L, fu, ff, sl, vd, st, ln, op, ar, ini, xm', kd, mv, ds, oP, oL, ce, ac, pc, ph, he, rT, rP, su, uc, ou, od, sc)) : wpX_findMust post (nI T, nI C, nI V, nI L, fu, ff, sl, vd, st, ln, op, ar, ini, xm, kd, mv, ds, oP, oL, ce, ac, pc, ph, he, rT, rP, su, uc, ou, od, sc) (nI t) := by
  unfold wpX_findMust
  exact ⟨49, mc_x_fm2 (xm0 := xm) H K 49 0 xm (by omega) (by omega) (fun _ _ => rfl) (fun j hj => absurd hj (by omega))⟩
end
end
section
/-! the component's kinds and classes -/
def mc_XA (T L : Nat) (op ar : Nat → Int32) (lf : Nat → Nat) (xm : Nat → Int32) : Prop := ∀ t, t < T → ∀ lk, lk < L → mc_XM op ar t (lf t) lk xm
section
variable {T C V L : Nat} {fu ff sl vd st : Int32} {ln op ar ini xm kd mv ds oP oL ce ac pc ph he rT rP su uc ou od sc : Nat → Int32}
variable {lf : Nat → Nat} {t p c : Nat}
theorem mc_PG_TH (P : mc_PG T C V L ln op ar lf) (ht : t < T) : mc_TH C V L ln op ar t (lf t) := by
  obtain ⟨⟨a1, a2⟩, ⟨b1, b2⟩, ⟨c1, c2⟩, ⟨d1, d2⟩, e, f, g⟩ := P
  have := (e t (by omega)).2
  exact ⟨by omega, (e t (by omega)).1, by omega, b2, c2, d2, fun p hp => g t p ht hp⟩
theorem mc_PG_out (P : mc_PG T C V L ln op ar lf) {x : Nat} (h1 : 16 * T ≤ x) (h2 : x < 48) : ¬ mc_Ac op ar lf c x := by
  obtain ⟨⟨a1, a2⟩, ⟨b1, b2⟩, ⟨c1, c2⟩, ⟨d1, d2⟩, e, f, g⟩ := P
  intro h
  have := mc_Ac_l h
  rw [f (x / 16) (by omega) (by omega)] at this
  omega
theorem mc_x_rea {post : Int32 → Prop} {l : Nat} (ht : t < 3) (hp : p < 16) (hX : mc_XM op ar t l 0 xm) (h0 : mc_mm op ar (16 * t) l 0 p = 4 → post 0) (h1 : ¬ mc_mm op ar (16 * t) l 0 p = 4 → post 1) : wpX_isReachable post (nI T, nI C, nI V, nI L, fu, ff, sl, vd, st, ln, op, ar, ini, xm, kd, mv, ds, oP, oL, ce, ac, pc, ph, he, rT, rP, su, uc, ou, od, sc) (nI t) (nI p) := by
  have e : xm (48 * t + 3 * p) = nI (mc_mm op ar (16 * t) l 0 p) := hX p hp
  have h4 := (mc_mm_p op ar (16 * t) l 0 p).1
  unfold wpX_isReachable
  simp (disch := omega) only [nI_clamp, mc_m16, mc_m48, mc_m3, mc_vin, nI_add, nI_1, true_and, forall_eq, wpX_mustAt, Int32.add_zero, e, mc_e4]
  exact br_c h0 h1
theorem mc_x_acc {post : Int32 → Prop} (ht : t < 3) (hp : p < 16) (hX : mc_XM op ar t (lf t) 0 xm) (h1 : mc_Ac op ar lf c (16 * t + p) → post 1) (h0 : ¬ mc_Ac op ar lf c (16 * t + p) → post 0) :
    wpX_accesses post (nI T, nI C, nI V, nI L, fu, ff, sl, vd, st, ln, op, ar, ini, xm, kd, mv, ds, oP, oL, ce, ac, pc, ph, he, rT, rP, su, uc, ou, od, sc) (nI t) (nI p) (nI c) := by
  unfold mc_Ac at h0 h1
  rw [mc_mx_e hp] at h0 h1
  unfold wpX_accesses
  refine mc_x_rea ht hp hX (fun z => br_t rfl (h0 (fun q => q.1 z))) (fun z => br_f mc_n10 ?_)
  simp (disch := omega) only [nI_clamp, mc_m16, mc_m48, mc_m3, mc_vin, nI_add, nI_1, true_and, forall_eq]
  refine br_c (fun q => h0 (fun w => w.2.1 q)) (fun q => br_c (fun q' => h1 ⟨z, q, q'⟩) (fun q' => h0 (fun w => q' w.2.2)))
theorem mc_x_gu13 {post : Int32 → Prop} {J : Int32 → Prop} {k : Nat} (P : mc_PG T C V L ln op ar lf) (ht : t < T) (hk : k < L) (hX : mc_XA T L op ar lf xm)
    (h0 : ¬ mc_G op ar lf c k → post 0) (K : (∀ x, x < 16 * (t + 1) → mc_Ac op ar lf c x → mc_mx op ar lf k x ≠ 0) → J (nI (t + 1))) :
    ∀ n p, lf t - p < n → p ≤ lf t → (∀ x, x < 16 * t + p → mc_Ac op ar lf c x → mc_mx op ar lf k x ≠ 0) → wX_guards_13 post J (nI k) (nI c) (nI t) (nI T) (nI C) (nI V) (nI L) fu ff sl vd st ln op ar ini xm kd mv ds oP oL ce ac pc ph he rT rP su uc ou od sc n (nI p) := by
  have ⟨ht3, hl, h16, hC, hV, hL, _⟩ := mc_PG_TH P ht
  have hL1 := P.2.2.2.1.1
  intro n
  induction n with
  | zero => intro p h; omega
  | succ n ih =>
    intro p hn hp hI
    rw [wX_guards_13]
    simp (disch := omega) only [nI_clamp, mc_m16, mc_m48, mc_m3, mc_vin, nI_add, nI_1, true_and, forall_eq, hl, nI_leI]
    by_cases e : lf t ≤ p
    · refine br_t e (K fun x hx hA => hI x ?_ hA)
      apply Classical.byContradiction
      intro z
      have := mc_Ac_l hA
      rw [show x / 16 = t by omega] at this
      omega
    · refine br_f e (mc_x_acc ht3 (by omega) (hX t ht 0 (by omega)) ?_ ?_)
      · intro hA
        have em := hX t ht k hk p (by omega)
        have ex := mc_mx_e (op := op) (ar := ar) (lf := lf) (t := t) (p := p) (lk := k) (by omega)
        have h4 := (mc_mm_p op ar (16 * t) (lf t) k p).1
        refine br_f mc_n10 ?_
        unfold wpX_mustAt
        simp (disch := omega) only [nI_clamp, mc_m16, mc_m48, mc_m3, mc_vin, nI_add, nI_1, true_and, forall_eq, em, mc_le1]
        by_cases z : 1 ≤ mc_mm op ar (16 * t) (lf t) k p
        · refine br_t z (ih (p + 1) (by omega) (by omega) fun x hx hAx => ?_)
          by_cases exx : x = 16 * t + p
          · subst exx; rw [ex]; omega
          · exact hI x (by omega) hAx
        · exact br_f z (h0 fun G => G (16 * t + p) (by omega) hA (by rw [ex]; omega))
      · intro hA
        refine br_t rfl (ih (p + 1) (by omega) (by omega) fun x hx hAx => ?_)
        by_cases exx : x = 16 * t + p
        · subst exx; exact absurd hAx hA
        · exact hI x (by omega) hAx
theorem mc_x_gu2 {post : Int32 → Prop} {k : Nat} (P : mc_PG T C V L ln op ar lf) (hk : k < L) (hX : mc_XA T L op ar lf xm)
    (h0 : ¬ mc_G op ar lf c k → post 0) (h1 : mc_G op ar lf c k → post 1) :
    ∀ n t, T - t < n → t ≤ T → (∀ x, x < 16 * t → mc_Ac op ar lf c x → mc_mx op ar lf k x ≠ 0) → wX_guards_2 post (nI k) (nI c) (nI T) (nI C) (nI V) (nI L) fu ff sl vd st ln op ar ini xm kd mv ds oP oL ce ac pc ph he rT rP su uc ou od sc n (nI t) := by
  have hT := P.1.2
  intro n
  induction n with
  | zero => intro p h; omega
  | succ n ih =>
    intro t hn ht hI
    rw [wX_guards_2]
    simp (disch := omega) only [nI_leI]
    by_cases e : T ≤ t
    · refine br_t e (h1 fun x hx hA => hI x ?_ hA)
      apply Classical.byContradiction
      intro z
      exact mc_PG_out P (by omega) hx hA
    · refine br_f e ⟨lf t + 1, mc_x_gu13 P (by omega) hk hX h0 (fun hI' => ih (t + 1) (by omega) (by omega) hI') (lf t + 1) 0 (by omega) (by omega) (fun x hx => hI x (by omega))⟩
theorem mc_x_gk2 {post : Int32 → Prop} (P : mc_PG T C V L ln op ar lf) (hX : mc_XA T L op ar lf xm) (h : post (nI (mc_gk op ar lf L c))) :
    ∀ n k, L - k < n → k ≤ L → (∀ i, i < k → ¬ mc_G op ar lf c i) → wX_guardKind_2 post (nI c) (nI T) (nI C) (nI V) (nI L) fu ff sl vd st ln op ar ini xm kd mv ds oP oL ce ac pc ph he rT rP su uc ou od sc n (nI k) := by
  have hT := P.1.2
  have hL := P.2.2.2.1.2
  intro n
  induction n with
  | zero => intro p h; omega
  | succ n ih =>
    intro k hn hk hI
    rw [wX_guardKind_2]
    simp (disch := omega) only [nI_leI, nI_1, forall_eq, mc_a4]
    by_cases e : L ≤ k
    · have : k = L := by omega
      subst this
      rw [mc_gk_n hI] at h
      exact br_t e h
    · refine br_f e ?_
      unfold wpX_guards
      refine ⟨T + 1, mc_x_gu2 P (by omega) hX ?_ ?_ (T + 1) 0 (by omega) (by omega) (fun x hx => absurd hx (by omega))⟩
      · intro hG
        refine br_t rfl (ih (k + 1) (by omega) (by omega) fun i hi => ?_)
        by_cases ei : i = k
        · subst ei; exact hG
        · exact hI i (by omega)
      · intro hG
        rw [mc_gk_y hL (by omega) hI hG] at h
        exact br_f mc_n10 h
theorem mc_x_k65 {post : Int32 → Prop} {J10 J22 : Int32 → Int32 → Int32 → Int32 → Prop} {x2 x3 x4 x2' : Int32} (ht : t < 3) (hp : p < 16) (hI : mc_KI op ar lf c (16 * t + p) x2 x3 x4)
    (hA : mc_Ac op ar lf c (16 * t + p)) (h2 : (op (16 * t + p) = 1 ∧ x2' = x2) ∨ (¬ op (16 * t + p) = 1 ∧ x2' = 1))
    (K : ∀ x2 x3 x4, mc_KI op ar lf c (16 * t + (p + 1)) x2 x3 x4 → J22 x2 x3 x4 (nI (p + 1))) : wX_kindOf_65 post J10 J22 (nI c) x2' x3 x4 (nI t) (nI p) (nI T) (nI C) (nI V) (nI L) fu ff sl vd st ln op ar ini xm kd mv ds oP oL ce ac pc ph he rT rP su uc ou od sc := by
  have et : (16 * t + p) / 16 = t := by omega
  have key : ∀ x3', ((x4 < 0 ∨ x4 = nI t) ∧ x3' = x3) ∨ (¬ x4 < 0 ∧ ¬ x4 = nI t ∧ x3' = 1) → J22 x2' x3' (nI t) (nI (p + 1)) := by
    intro x3' h3
    have := mc_KI_y (by omega) hI hA h2 (x3' := x3') (by rw [et]; exact h3)
    rw [et] at this
    exact K _ _ _ this
  unfold wX_kindOf_65
  simp only [nI_1, forall_eq]
  exact br_c (fun z => key x3 (Or.inl ⟨Or.inl z, rfl⟩)) (fun z => br_c (fun z' => key x3 (Or.inl ⟨Or.inr z', rfl⟩)) (fun z' => key 1 (Or.inr ⟨z, z', rfl⟩)))
theorem mc_x_k22 {post : Int32 → Prop} {J10 : Int32 → Int32 → Int32 → Int32 → Prop} (P : mc_PG T C V L ln op ar lf) (ht : t < T) (hX : mc_XA T L op ar lf xm)
    (K : ∀ x2 x3 x4, mc_KI op ar lf c (16 * (t + 1)) x2 x3 x4 → J10 x2 x3 x4 (nI (t + 1))) :
    ∀ n p x2 x3 x4, lf t - p < n → p ≤ lf t → mc_KI op ar lf c (16 * t + p) x2 x3 x4 → wX_kindOf_22 post J10 (nI c) (nI t) (nI T) (nI C) (nI V) (nI L) fu ff sl vd st ln op ar ini xm kd mv ds oP oL ce ac pc ph he rT rP su uc ou od sc n x2 x3 x4 (nI p) := by
  have ⟨ht3, hl, h16, hC, hV, hL, _⟩ := mc_PG_TH P ht
  have hL1 := P.2.2.2.1.1
  intro n
  induction n with
  | zero => intro p x2 x3 x4 h; omega
  | succ n ih =>
    intro p x2 x3 x4 hn hp hI
    rw [wX_kindOf_22]
    simp (disch := omega) only [nI_clamp, mc_m16, mc_m48, mc_m3, mc_vin, nI_add, nI_1, true_and, forall_eq, hl, nI_leI]
    by_cases e : lf t ≤ p
    · refine br_t e (K _ _ _ (mc_KI_g hI (by omega) ?_))
      intro x h1 h2 hA
      have := mc_Ac_l hA
      rw [show x / 16 = t by omega] at this
      omega
    · refine br_f e (mc_x_acc ht3 (by omega) (hX t ht 0 (by omega)) ?_ ?_)
      · intro hA
        refine br_f mc_n10 ⟨vp_in_nI (by omega) (by omega), br_c ?_ ?_⟩
        · intro z
          exact mc_x_k65 (x2 := x2) ht3 (by omega) hI hA (Or.inl ⟨z, rfl⟩) (fun a b c h => ih (p + 1) a b c (by omega) (by omega) h)
        · intro z
          exact mc_x_k65 (x2 := x2) ht3 (by omega) hI hA (Or.inr ⟨z, rfl⟩) (fun a b c h => ih (p + 1) a b c (by omega) (by omega) h)
      · intro hA
        refine br_t rfl (ih (p + 1) _ _ _ (by omega) (by omega) (mc_KI_g hI (by omega) fun x h1 h2 => ?_))
        rw [show x = 16 * t + p by omega]; exact hA
theorem mc_x_k10 {post : Int32 → Prop} (P : mc_PG T C V L ln op ar lf) (hX : mc_XA T L op ar lf xm) (h : post (nI (mc_kv op ar lf L c))) :
    ∀ n t x2 x3 x4, T - t < n → t ≤ T → mc_KI op ar lf c (16 * t) x2 x3 x4 → wX_kindOf_10 post (nI c) (nI T) (nI C) (nI V) (nI L) fu ff sl vd st ln op ar ini xm kd mv ds oP oL ce ac pc ph he rT rP su uc ou od sc n x2 x3 x4 (nI t) := by
  have hT := P.1.2
  intro n
  induction n with
  | zero => intro p x2 x3 x4 h; omega
  | succ n ih =>
    intro t x2 x3 x4 hn ht hI
    rw [wX_kindOf_10]
    simp (disch := omega) only [nI_leI]
    by_cases e : T ≤ t
    · obtain ⟨k0, k1, k2, k3⟩ := mc_kv_c (L := L) (mc_KI_g hI (show 16 * t ≤ 48 by omega) (fun x h1 h2 => mc_PG_out P (by omega) h2))
      refine br_t e (br_c (fun z => br_c (fun z2 => ?_) (fun z2 => br_c (fun z3 => ?_) (fun z3 => ?_))) (fun z => ?_))
      · rw [k1 z z2] at h; exact h
      · rw [k2 z z2 z3] at h; exact h
      · rw [k3 z z2 z3] at h
        unfold wpX_guardKind
        exact ⟨L + 1, mc_x_gk2 P hX h (L + 1) 0 (by omega) (by omega) (fun i hi => absurd hi (by omega))⟩
      · rw [k0 z] at h; exact h
    · exact br_f e ⟨lf t + 1, mc_x_k22 P (by omega) hX (fun a b c h => ih (t + 1) a b c (by omega) (by omega) h) (lf t + 1) 0 x2 x3 x4 (by omega) (by omega) hI⟩
theorem mc_x_kind {post : Int32 → Prop} (P : mc_PG T C V L ln op ar lf) (hX : mc_XA T L op ar lf xm) (h : post (nI (mc_kv op ar lf L c))) : wpX_kindOf post (nI T, nI C, nI V, nI L, fu, ff, sl, vd, st, ln, op, ar, ini, xm, kd, mv, ds, oP, oL, ce, ac, pc, ph, he, rT, rP, su, uc, ou, od, sc) (nI c) := by
  unfold wpX_kindOf
  exact ⟨T + 1, mc_x_k10 P hX h (T + 1) 0 0 0 (-1) (by omega) (by omega) mc_KI_0⟩
theorem mc_x_cls {post : Int32 → Prop} (P : mc_PG T C V L ln op ar lf) (hX : mc_XA T L op ar lf xm) (hK : ∀ c, c < V → kd c = nI (mc_kv op ar lf L c)) (ht : t < T) (hp : p < lf t)
    (hr : ¬ mc_mm op ar (16 * t) (lf t) 0 p = 4) (h : post (mc_cv op ar lf L (16 * t + p))) : wpX_classOf post (nI T, nI C, nI V, nI L, fu, ff, sl, vd, st, ln, op, ar, ini, xm, kd, mv, ds, oP, oL, ce, ac, pc, ph, he, rT, rP, su, uc, ou, od, sc) (nI t) (nI p) := by
  have ⟨ht3, hl, h16, hC, hV, hL, hI⟩ := mc_PG_TH P ht
  obtain ⟨-, iA, -, iL⟩ := hI p hp
  unfold mc_cv at h
  rw [mc_mx_e (by omega), if_neg hr] at h
  unfold wpX_classOf
  simp (disch := omega) only [nI_clamp, mc_m16, mc_m48, mc_m3, mc_vin, nI_add, nI_1, true_and, forall_eq]
  by_cases h3 : 3 < op (16 * t + p)
  · rw [if_neg (fun z => z h3)] at h
    refine br_t h3 ?_
    by_cases h7 : op (16 * t + p) = 7
    · obtain ⟨k, hk, e⟩ := iL (Or.inl h7)
      have em := hX t ht k hk p (by omega)
      have h4 := (mc_mm_p op ar (16 * t) (lf t) k p).1
      rw [if_pos h7, e, nI_clamp (by omega), mc_mx_e (by omega)] at h
      refine br_t h7 ?_
      simp (disch := omega) only [nI_clamp, mc_m16, mc_m48, mc_m3, mc_vin, nI_add, nI_1, true_and, forall_eq, wpX_mustAt, e, em, mc_e0]
      by_cases z : mc_mm op ar (16 * t) (lf t) k p = 0
      · rw [if_pos z] at h; exact br_t z h
      · rw [if_neg z] at h; exact br_f z h
    · rw [if_neg h7] at h
      refine br_f h7 ?_
      by_cases h8 : op (16 * t + p) = 8
      · obtain ⟨k, hk, e⟩ := iL (Or.inr h8)
        have em := hX t ht k hk p (by omega)
        have h4 := (mc_mm_p op ar (16 * t) (lf t) k p).1
        rw [if_pos h8, e, nI_clamp (by omega), mc_mx_e (by omega)] at h
        refine br_t h8 ?_
        simp (disch := omega) only [nI_clamp, mc_m16, mc_m48, mc_m3, mc_vin, nI_add, nI_1, true_and, forall_eq, wpX_mustAt, e, em, mc_lt1]
        by_cases z : 1 < mc_mm op ar (16 * t) (lf t) k p
        · rw [if_pos z] at h; exact br_t z h
        · rw [if_neg z] at h; exact br_f z h
      · rw [if_neg h8] at h; exact br_f h8 h
  · obtain ⟨k, hk, e⟩ := iA h3
    rw [if_pos h3, e, nI_clamp (by omega)] at h
    have hkv := mc_kv_le op ar lf L k
    refine br_f h3 ?_
    simp (disch := omega) only [nI_clamp, mc_m16, mc_m48, mc_m3, mc_vin, nI_add, nI_1, true_and, forall_eq, e, hK k hk, mc_e3]
    by_cases z : mc_kv op ar lf L k = 3
    · rw [if_pos z] at h; exact br_t z h
    · rw [if_neg z] at h; exact br_f z h
def mc_MV (op ar : Nat → Int32) (lf : Nat → Nat) (L t : Nat) (mv : Nat → Int32) : Prop := ∀ p, p < lf t → mv (16 * t + p) = mc_cv op ar lf L (16 * t + p)
theorem mc_x_cf2 {post : SX → Prop} {mv0 : Nat → Int32} (P : mc_PG T C V L ln op ar lf) (hX : mc_XA T L op ar lf xm) (hK : ∀ c, c < V → kd c = nI (mc_kv op ar lf L c)) (ht : t < T)
    (K : ∀ mv, (∀ j, j < 16 * t ∨ 16 * t + 16 ≤ j → mv j = mv0 j) → mc_MV op ar lf L t mv → post (nI T, nI C, nI V, nI L, fu, ff, sl, vd, st, ln, op, ar, ini, xm, kd, mv, ds, oP, oL, ce, ac, pc, ph, he, rT, rP, su, uc, ou, od, sc)) :
    ∀ n p mv, lf t - p < n → p ≤ lf t → (∀ j, j < 16 * t ∨ 16 * t + 16 ≤ j → mv j = mv0 j) → (∀ p', p' < p → mv (16 * t + p') = mc_cv op ar lf L (16 * t + p')) → wX_classify_2 post (nI t) (nI T) (nI C) (nI V) (nI L) fu ff sl vd st n (nI p) ln op ar ini xm kd mv ds oP oL ce ac pc ph he rT rP su uc ou od sc := by
  have ⟨ht3, hl, h16, hC, hV, hL, hI⟩ := mc_PG_TH P ht
  have hL1 := P.2.2.2.1.1
  intro n
  induction n with
  | zero => intro p mv h; omega
  | succ n ih =>
    intro p mv hn hp hF hM
    rw [wX_classify_2]
    simp (disch := omega) only [nI_clamp, mc_m16, mc_m48, mc_m3, mc_vin, nI_add, nI_1, true_and, forall_eq, hl, nI_leI]
    by_cases e : lf t ≤ p
    · have : p = lf t := by omega
      subst this
      exact br_t e (K mv hF hM)
    · have nxt : ∀ x, x = mc_cv op ar lf L (16 * t + p) → wX_classify_2 post (nI t) (nI T) (nI C) (nI V) (nI L) fu ff sl vd st n (nI (p + 1)) ln op ar ini xm kd (upd mv (16 * t + p) x) ds oP oL ce ac pc ph he rT rP su uc ou od sc := by
        intro x hx
        refine ih (p + 1) _ (by omega) (by omega) ?_ ?_
        · intro j hj
          rw [pk_un (by omega)]; exact hF j hj
        · intro p' hp'
          by_cases ep : p' = p
          · subst ep; rw [pk_us]; exact hx
          · rw [pk_un (by omega)]; exact hM p' (by omega)
      refine br_f e (mc_x_rea ht3 (by omega) (hX t ht 0 (by omega)) ?_ ?_)
      · intro z
        refine br_t rfl ⟨vp_in_nI (by omega) (by omega), nxt (-1) ?_⟩
        unfold mc_cv
        rw [mc_mx_e (by omega), if_pos z]
      · intro z
        exact br_f mc_n10 (mc_x_cls P hX hK ht (by omega) z ⟨vp_in_nI (by omega) (by omega), nxt _ rfl⟩)
theorem mc_x_cf {post : SX → Prop} (P : mc_PG T C V L ln op ar lf) (hX : mc_XA T L op ar lf xm) (hK : ∀ c, c < V → kd c = nI (mc_kv op ar lf L c)) (ht : t < T)
    (K : ∀ mv', (∀ j, j < 16 * t ∨ 16 * t + 16 ≤ j → mv' j = mv j) → mc_MV op ar lf L t mv' → post (nI T, nI C, nI V, nI L, fu, ff, sl, vd, st, ln, op, ar, ini, xm, kd, mv', ds, oP, oL, ce, ac, pc, ph, he, rT, rP, su, uc, ou, od, sc)) : wpX_classify post (nI T, nI C, nI V, nI L, fu, ff, sl, vd, st, ln, op, ar, ini, xm, kd, mv, ds, oP, oL, ce, ac, pc, ph, he, rT, rP, su, uc, ou, od, sc) (nI t) := by
  unfold wpX_classify
  exact ⟨lf t + 1, mc_x_cf2 (mv0 := mv) P hX hK ht K (lf t + 1) 0 mv (by omega) (by omega) (fun _ _ => rfl) (fun p' hp' => absurd hp' (by omega))⟩
end
end
section
/-! the component's offenses -/
def mc_DA (l : Nat) (ds : Nat → Int32) (D : Nat → Nat → Nat) : Prop := (l = 0 → ds 0 = 99) ∧ ∀ p h, p < l → h < 3 → ds (16 * h + p) = nI (D p h) ∧ D p h ≤ 99
def mc_u2 (D : Nat → Nat → Nat) (p h c : Nat) : Nat → Nat → Nat := fun p' h' => if p' = p ∧ h' = h then c else D p' h'
theorem mc_u2_s {D : Nat → Nat → Nat} {p h c : Nat} : mc_u2 D p h c p h = c := if_pos ⟨rfl, rfl⟩
theorem mc_u2_n {D : Nat → Nat → Nat} {p h c p' h' : Nat} (z : ¬ (p' = p ∧ h' = h)) : mc_u2 D p h c p' h' = D p' h' := if_neg z
theorem mc_DA_u {l p h c : Nat} {ds : Nat → Int32} {D : Nat → Nat → Nat} (H : mc_DA l ds D) (hl : l ≤ 16) (hp : p < l) (hc : c ≤ 99) : mc_DA l (upd ds (16 * h + p) (nI c)) (mc_u2 D p h c) := by
  refine ⟨fun z => absurd hp (by omega), ?_⟩
  intro p' h' hp' hh'
  by_cases e : p' = p ∧ h' = h
  · obtain ⟨rfl, rfl⟩ := e
    rw [pk_us, mc_u2_s]; exact ⟨rfl, hc⟩
  · rw [pk_un (by omega), mc_u2_n e]; exact H.2 p' h' hp' hh'
def mc_lo (l : Nat) (dd D : Nat → Nat → Nat) : Prop := ∀ p h, p < l → h < 3 → dd p h ≤ D p h ∧ D p h ≤ 99
def mc_ex (l r : Nat) (dd D : Nat → Nat → Nat) : Prop := ∀ p h, p < l → h < 3 → dd p h ≤ r → D p h = dd p h
/-- within a pass: the states ahead of place w (16 * phase + position) are done -/
def mc_IX (op ar cl : Nat → Int32) (b l r w : Nat) (dd D : Nat → Nat → Nat) (x : Int32) : Prop :=
  mc_lo l dd D ∧ mc_ex l r dd D ∧ (∀ p h, p < l → h < 3 → 16 * h + p < w → dd p h = r + 1 → D p h = dd p h) ∧
  (x = 0 → ∀ p h q, p < l → h < 3 → 16 * h + p < w → mc_sc op ar b l p q → D p h ≤ D q (mc_pa op cl b p h) + 1) ∧ (x = 0 ∨ x = 1)
section
variable {op ar cl : Nat → Int32} {b l r p h : Nat} {dd D : Nat → Nat → Nat} {x : Int32}
theorem mc_dO_le {E : Nat → Nat} {o : Option Nat} (hE : ∀ q, o = some q → E q ≤ 99) : mc_dO E o ≤ 99 := by
  cases o with
  | none => exact Nat.le_refl _
  | some q => exact hE q rfl
/-- one relaxation keeps the pass -/
theorem mc_IX_n (hl : l ≤ 16) (H : mc_DD op ar cl b l dd) (hp : p < l) (hh : h < 3) (I : mc_IX op ar cl b l r (16 * h + p) dd D x) {m : Nat}
    (hm : m = min (mc_dO (fun q => D q (mc_pa op cl b p h)) (mc_fF op b l p)) (mc_dO (fun q => D q (mc_pa op cl b p h)) (mc_fB op ar b l p))) :
    (m + 1 < D p h → mc_IX op ar cl b l r (16 * h + p + 1) dd (mc_u2 D p h (m + 1)) 1) ∧ (¬ m + 1 < D p h → mc_IX op ar cl b l r (16 * h + p + 1) dd D x) := by
  obtain ⟨i1, i2, i3, i4, i5⟩ := I
  have h3 : mc_pa op cl b p h < 3 := mc_pa_3 hh
  have mle : ∀ q, mc_sc op ar b l p q → m ≤ D q (mc_pa op cl b p h) := by
    intro q hq
    rcases hq with z | z
    · rw [z] at hm
      have : mc_dO (fun q => D q (mc_pa op cl b p h)) (some q) = D q (mc_pa op cl b p h) := rfl
      omega
    · rw [z] at hm
      have : mc_dO (fun q => D q (mc_pa op cl b p h)) (some q) = D q (mc_pa op cl b p h) := rfl
      omega
  have mge : dd p h ≤ m + 1 := by
    have key : ∀ o, (∀ q, o = some q → mc_sc op ar b l p q) → dd p h ≤ mc_dO (fun q => D q (mc_pa op cl b p h)) o + 1 := by
      intro o ho
      cases o with
      | none =>
        have := mc_DD_99 H hh (p := p)
        show dd p h ≤ 99 + 1
        omega
      | some q =>
        have a := H.2.1 p h q hp hh (ho q rfl)
        have c := (i1 q (mc_pa op cl b p h) (mc_sc_lt (ho q rfl)) h3).1
        show dd p h ≤ D q (mc_pa op cl b p h) + 1
        omega
    have k1 := key _ (fun q z => (Or.inl z : mc_sc op ar b l p q))
    have k2 := key _ (fun q z => (Or.inr z : mc_sc op ar b l p q))
    omega
  have pl : ∀ p' h', p' < l → h' < 3 → 16 * h' + p' < 16 * h + p + 1 → ¬ (p' = p ∧ h' = h) → 16 * h' + p' < 16 * h + p := by
    intro p' h' a1 a2 a3 a4
    omega
  have up : dd p h = r + 1 → dd p h ≠ 99 → m ≤ r := by
    intro e h99
    obtain ⟨q, hq, hd⟩ := H.2.2.1 p h hp hh (by omega) h99
    have a := i2 q (mc_pa op cl b p h) (mc_sc_lt hq) h3 (by omega)
    have c := mle q hq
    omega
  constructor
  · intro lt
    have ub := (i1 p h hp hh).2
    refine ⟨?_, ?_, ?_, fun z => absurd z mc_n10, Or.inr rfl⟩
    · intro p' h' a1 a2
      by_cases e : p' = p ∧ h' = h
      · obtain ⟨rfl, rfl⟩ := e; rw [mc_u2_s]; exact ⟨mge, by omega⟩
      · rw [mc_u2_n e]; exact i1 p' h' a1 a2
    · intro p' h' a1 a2 a3
      by_cases e : p' = p ∧ h' = h
      · obtain ⟨rfl, rfl⟩ := e; rw [mc_u2_s]; have := i2 p' h' a1 a2 a3; omega
      · rw [mc_u2_n e]; exact i2 p' h' a1 a2 a3
    · intro p' h' a1 a2 a3 a4
      by_cases e : p' = p ∧ h' = h
      · obtain ⟨rfl, rfl⟩ := e; rw [mc_u2_s]; have := up a4 (by omega); omega
      · rw [mc_u2_n e]; exact i3 p' h' a1 a2 (pl p' h' a1 a2 a3 e) a4
  · intro lt
    refine ⟨i1, i2, ?_, ?_, i5⟩
    · intro p' h' a1 a2 a3 a4
      by_cases e : p' = p ∧ h' = h
      · obtain ⟨rfl, rfl⟩ := e
        have c := i1 p' h' hp hh
        by_cases h99 : dd p' h' = 99
        · omega
        · have a := up a4 h99
          omega
      · exact i3 p' h' a1 a2 (pl p' h' a1 a2 a3 e) a4
    · intro x0 p' h' q a1 a2 a3 a4
      by_cases e : p' = p ∧ h' = h
      · obtain ⟨rfl, rfl⟩ := e
        have := mle q a4
        omega
      · exact i4 x0 p' h' q a1 a2 (pl p' h' a1 a2 a3 e) a4
end
section
variable {T C V L : Nat} {fu ff sl vd st : Int32} {ln op ar ini xm kd mv ds oP oL ce ac pc ph he rT rP su uc ou od sc : Nat → Int32}
variable {t p l h : Nat} {cl : Nat → Int32} {D dd : Nat → Nat → Nat}
theorem mc_x_pa {post : Int32 → Prop} (ht : t < 3) (hp : p < 16) (hh : h < 3) (hm : mv (16 * t + p) = cl (16 * t + p)) (hq : post (nI (mc_pa op cl (16 * t) p h))) : wpX_phaseAfter post (nI T, nI C, nI V, nI L, fu, ff, sl, vd, st, ln, op, ar, ini, xm, kd, mv, ds, oP, oL, ce, ac, pc, ph, he, rT, rP, su, uc, ou, od, sc) (nI t) (nI p) (nI h) := by
  unfold wpX_phaseAfter
  simp (disch := omega) only [nI_clamp, mc_m16, mc_m48, mc_m3, mc_vin, nI_add, nI_1, true_and, forall_eq, hm, mc_e0]
  unfold mc_pa at hq
  by_cases h0 : h = 0
  · rw [if_pos h0] at hq
    refine br_t h0 ?_
    by_cases h9 : op (16 * t + p) = 9
    · rw [if_pos h9] at hq; exact br_t h9 hq
    · rw [if_neg h9] at hq; exact br_f h9 hq
  · rw [if_neg h0] at hq
    refine br_f h0 ?_
    by_cases h10 : op (16 * t + p) = 10
    · rw [if_pos h10] at hq; exact br_t h10 hq
    · rw [if_neg h10] at hq
      refine br_f h10 ?_
      by_cases h2 : cl (16 * t + p) = 2
      · rw [if_pos (Or.inl h2)] at hq; exact br_t h2 hq
      · refine br_f h2 ?_
        by_cases h3 : cl (16 * t + p) = 3
        · rw [if_pos (Or.inr h3)] at hq; exact br_t h3 hq
        · rw [if_neg (fun z => z.elim h2 h3)] at hq; exact br_f h3 hq
theorem mc_x_da {post : Int32 → Prop} {o : Option Nat} (hl : l ≤ 16) (hh : h < 3) (hD : mc_DA l ds D) (ho : ∀ q, o = some q → q < l) (hq : post (nI (mc_dO (fun q => D q h) o))) : wpX_distanceAt post (nI T, nI C, nI V, nI L, fu, ff, sl, vd, st, ln, op, ar, ini, xm, kd, mv, ds, oP, oL, ce, ac, pc, ph, he, rT, rP, su, uc, ou, od, sc) (mc_oI o) (nI h) := by
  cases o with
  | none =>
    unfold wpX_distanceAt
    exact br_f mc_m1 hq
  | some q =>
    have hq' := ho q rfl
    rw [mc_oI_s]
    unfold wpX_distanceAt
    simp (disch := omega) only [nI_clamp, mc_m16, mc_m48, mc_m3, mc_vin, nI_add, nI_1, true_and, forall_eq, (hD.2 q h hq' hh).1]
    exact br_t (mc_le0 (by omega)) hq
theorem mc_x_closer {post : Int32 → Prop} (H : mc_TH C V L ln op ar t l) (hp : p < l) (hh : h < 3) (hD : mc_DA l ds D) (hq : post (mc_oI (mc_ch (fun q => D q h) (mc_fF op (16 * t) l p) (mc_fB op ar (16 * t) l p)))) : wpX_closer post (nI T, nI C, nI V, nI L, fu, ff, sl, vd, st, ln, op, ar, ini, xm, kd, mv, ds, oP, oL, ce, ac, pc, ph, he, rT, rP, su, uc, ou, od, sc) (nI t) (nI p) (nI h) := by
  have ⟨ht, hl, h16, _⟩ := H
  have b1 : mc_dO (fun q => D q h) (mc_fF op (16 * t) l p) ≤ 99 := mc_dO_le (fun q z => (hD.2 q h (mc_fF_lt z) hh).2)
  have b2 : mc_dO (fun q => D q h) (mc_fB op ar (16 * t) l p) ≤ 99 := mc_dO_le (fun q z => (hD.2 q h (mc_fB_lt z) hh).2)
  unfold wpX_closer
  refine mc_x_fall H hp (mc_x_branch H hp (mc_x_da h16 hh hD (fun q z => mc_fF_lt z) (mc_x_da h16 hh hD (fun q z => mc_fB_lt z) ?_)))
  simp (disch := omega) only [nI_leI]
  unfold mc_ch at hq
  by_cases c1 : mc_dO (fun q => D q h) (mc_fB op ar (16 * t) l p) ≤ mc_dO (fun q => D q h) (mc_fF op (16 * t) l p)
  · rw [if_pos c1] at hq
    refine br_t c1 ?_
    by_cases c2 : mc_dO (fun q => D q h) (mc_fF op (16 * t) l p) ≤ mc_dO (fun q => D q h) (mc_fB op ar (16 * t) l p)
    · rw [if_pos c2] at hq
      refine br_t c2 ?_
      by_cases c3 : mc_oI (mc_fB op ar (16 * t) l p) ≤ mc_oI (mc_fF op (16 * t) l p)
      · rw [if_pos c3] at hq; exact br_t c3 hq
      · rw [if_neg c3] at hq; exact br_f c3 hq
    · rw [if_neg c2] at hq; exact br_f c2 hq
  · rw [if_neg c1] at hq; exact br_f c1 hq
theorem mc_x_relax {post : Int32 → SX → Prop} {r : Nat} {x : Int32} (H : mc_TH C V L ln op ar t l) (hm : ∀ p, p < l → mv (16 * t + p) = cl (16 * t + p)) (hDD : mc_DD op ar cl (16 * t) l dd) (hp : p < l) (hh : h < 3)
    (hD : mc_DA l ds D) (I : mc_IX op ar cl (16 * t) l r (16 * h + p) dd D x)
    (K1 : ∀ ds' D', mc_DA l ds' D' → mc_IX op ar cl (16 * t) l r (16 * h + p + 1) dd D' 1 → post 1 (nI T, nI C, nI V, nI L, fu, ff, sl, vd, st, ln, op, ar, ini, xm, kd, mv, ds', oP, oL, ce, ac, pc, ph, he, rT, rP, su, uc, ou, od, sc)) (K0 : mc_IX op ar cl (16 * t) l r (16 * h + p + 1) dd D x → post 0 (nI T, nI C, nI V, nI L, fu, ff, sl, vd, st, ln, op, ar, ini, xm, kd, mv, ds, oP, oL, ce, ac, pc, ph, he, rT, rP, su, uc, ou, od, sc)) :
    wpX_relax post (nI T, nI C, nI V, nI L, fu, ff, sl, vd, st, ln, op, ar, ini, xm, kd, mv, ds, oP, oL, ce, ac, pc, ph, he, rT, rP, su, uc, ou, od, sc) (nI t) (nI p) (nI h) := by
  have ⟨ht, hl, h16, _⟩ := H
  have h3 : mc_pa op cl (16 * t) p h < 3 := mc_pa_3 hh
  obtain ⟨n1, n0⟩ := mc_IX_n h16 hDD hp hh I rfl
  have b1 : mc_dO (fun q => D q (mc_pa op cl (16 * t) p h)) (mc_fF op (16 * t) l p) ≤ 99 := mc_dO_le (fun q z => (hD.2 q _ (mc_fF_lt z) h3).2)
  unfold wpX_relax
  refine mc_x_pa ht (by omega) hh (hm p hp) (mc_x_closer H hp h3 hD (mc_x_da h16 h3 hD ?_ ?_))
  · intro q z
    rcases mc_ch_c (D := fun q => D q (mc_pa op cl (16 * t) p h)) (oF := mc_fF op (16 * t) l p) (oB := mc_fB op ar (16 * t) l p) with e | e
    · rw [e] at z; exact mc_fF_lt z
    · rw [e] at z; exact mc_fB_lt z
  · rw [mc_ch_d]
    have e := (hD.2 p h hp hh).1
    have e99 := (hD.2 p h hp hh).2
    simp (disch := omega) only [nI_clamp, mc_m16, mc_m48, mc_m3, mc_vin, nI_add, nI_1, true_and, forall_eq, e, nI_ltI]
    by_cases z : min (mc_dO (fun q => D q (mc_pa op cl (16 * t) p h)) (mc_fF op (16 * t) l p)) (mc_dO (fun q => D q (mc_pa op cl (16 * t) p h)) (mc_fB op ar (16 * t) l p)) + 1 < D p h
    · exact br_t z (K1 _ _ (mc_DA_u hD h16 hp (by omega)) (n1 z))
    · exact br_f z (K0 (n0 z))
theorem mc_x_ra12 {post : Int32 → SX → Prop} {J : Int32 → Int32 → Int32 → Int32 → Int32 → Int32 → Int32 → Int32 → Int32 → Int32 → Int32 → (Nat → Int32) → (Nat → Int32) → (Nat → Int32) → (Nat → Int32) → (Nat → Int32) → (Nat → Int32) → (Nat → Int32) → (Nat → Int32) → (Nat → Int32) → (Nat → Int32) → (Nat → Int32) → (Nat → Int32) → (Nat → Int32) → (Nat → Int32) → (Nat → Int32) → (Nat → Int32) → (Nat → Int32) → (Nat → Int32) → (Nat → Int32) → (Nat → Int32) → (Nat → Int32) → (Nat → Int32) → Prop}
    {r : Nat} (H : mc_TH C V L ln op ar t l) (hm : ∀ p, p < l → mv (16 * t + p) = cl (16 * t + p)) (hDD : mc_DD op ar cl (16 * t) l dd) (hh : h < 3)
    (K : ∀ x ds D, mc_DA l ds D → mc_IX op ar cl (16 * t) l r (16 * (h + 1)) dd D x → J x (nI (h + 1)) (nI T) (nI C) (nI V) (nI L) fu ff sl vd st ln op ar ini xm kd mv ds oP oL ce ac pc ph he rT rP su uc ou od sc) :
    ∀ n p x ds D, l - p < n → p ≤ l → mc_DA l ds D → mc_IX op ar cl (16 * t) l r (16 * h + p) dd D x → wX_relaxAll_12 post J (nI t) (nI h) n x (nI p) (nI T) (nI C) (nI V) (nI L) fu ff sl vd st ln op ar ini xm kd mv ds oP oL ce ac pc ph he rT rP su uc ou od sc := by
  have ⟨ht, hl, h16, _⟩ := H
  intro n
  induction n with
  | zero => intro p x ds D h; omega
  | succ n ih =>
    intro p x ds D hn hp hD I
    rw [wX_relaxAll_12]
    simp (disch := omega) only [nI_clamp, mc_m16, mc_m48, mc_m3, mc_vin, nI_add, nI_1, true_and, forall_eq, hl, nI_leI]
    by_cases e : l ≤ p
    · refine br_t e (K x ds D hD ?_)
      obtain ⟨i1, i2, i3, i4, i5⟩ := I
      exact ⟨i1, i2, fun p' h' a1 a2 a3 => i3 p' h' a1 a2 (by omega), fun z p' h' q a1 a2 a3 => i4 z p' h' q a1 a2 (by omega), i5⟩
    · refine br_f e (mc_x_relax H hm hDD (by omega) hh hD I ?_ ?_)
      · intro ds' D' hD' I'
        exact br_f mc_n10 (ih (p + 1) 1 ds' D' (by omega) (by omega) hD' I')
      · intro I'
        exact br_t rfl (ih (p + 1) x ds D (by omega) (by omega) hD I')
theorem mc_x_ra4 {post : Int32 → SX → Prop} {r : Nat} (H : mc_TH C V L ln op ar t l) (hm : ∀ p, p < l → mv (16 * t + p) = cl (16 * t + p)) (hDD : mc_DD op ar cl (16 * t) l dd)
    (K : ∀ x ds D, mc_DA l ds D → mc_IX op ar cl (16 * t) l r 48 dd D x → post x (nI T, nI C, nI V, nI L, fu, ff, sl, vd, st, ln, op, ar, ini, xm, kd, mv, ds, oP, oL, ce, ac, pc, ph, he, rT, rP, su, uc, ou, od, sc)) :
    ∀ n h x ds D, 3 - h < n → h ≤ 3 → mc_DA l ds D → mc_IX op ar cl (16 * t) l r (16 * h) dd D x → wX_relaxAll_4 post (nI t) n x (nI h) (nI T) (nI C) (nI V) (nI L) fu ff sl vd st ln op ar ini xm kd mv ds oP oL ce ac pc ph he rT rP su uc ou od sc := by
  have ⟨ht, hl, h16, _⟩ := H
  intro n
  induction n with
  | zero => intro h x ds D z; omega
  | succ n ih =>
    intro h x ds D hn hh hD I
    rw [wX_relaxAll_4]
    simp (disch := omega) only [mc_le3]
    by_cases e : 3 ≤ h
    · have : h = 3 := by omega
      subst this
      refine br_t e ⟨?_, K x ds D hD I⟩
      rcases I.2.2.2.2 with z | z <;> subst z <;> rfl
    · exact br_f e ⟨l + 1, mc_x_ra12 H hm hDD (by omega) (fun x ds D hD I => ih (h + 1) x ds D (by omega) (by omega) hD I) (l + 1) 0 x ds D (by omega) (by omega) hD I⟩
theorem mc_x_tr36 {post : SX → Prop} {oP0 : Nat → Int32} (H : mc_TH C V L ln op ar t l) (hm : ∀ p, p < l → mv (16 * t + p) = cl (16 * t + p)) (hDD : mc_DD op ar cl (16 * t) l dd) (hD : mc_DA l ds dd) (h99 : dd 0 0 ≠ 99)
    (K : ∀ oP, (∀ j, j < 48 * t ∨ 48 * t + 48 ≤ j → oP j = oP0 j) → (∀ i, i ≤ dd 0 0 → oP (48 * t + i) = nI (mc_tr op ar cl (16 * t) l dd i).1) → post (nI T, nI C, nI V, nI L, fu, ff, sl, vd, st, ln, op, ar, ini, xm, kd, mv, ds, oP, upd oL t (nI (dd 0 0 + 1)), ce, ac, pc, ph, he, rT, rP, su, uc, ou, od, sc)) :
    ∀ n i x3 x4 oP, dd 0 0 + 1 - i < n → i ≤ dd 0 0 + 1 → (i ≤ dd 0 0 → x3 = nI (mc_tr op ar cl (16 * t) l dd i).1 ∧ x4 = nI (mc_tr op ar cl (16 * t) l dd i).2) →
      (∀ j, j < 48 * t ∨ 48 * t + 48 ≤ j → oP j = oP0 j) → (∀ j, j < i → oP (48 * t + j) = nI (mc_tr op ar cl (16 * t) l dd j).1) → wX_tracePath_36 post (nI t) (nI (dd 0 0 + 1)) (nI T) (nI C) (nI V) (nI L) fu ff sl vd st n x3 x4 (nI i) ln op ar ini xm kd mv ds oP oL ce ac pc ph he rT rP su uc ou od sc := by
  have ⟨ht, hl, h16, _⟩ := H
  have h47 := hDD.2.2.2.1 0 0 (by decide)
  intro n
  induction n with
  | zero => intro i x3 x4 oP z; omega
  | succ n ih =>
    intro i x3 x4 oP hn hi hx hF hP
    rw [wX_tracePath_36]
    simp (disch := omega) only [nI_clamp, mc_m16, mc_m48, mc_m3, mc_vin, nI_add, nI_1, true_and, forall_eq, nI_leI]
    by_cases e : dd 0 0 + 1 ≤ i
    · exact br_t e (K oP hF (fun j hj => hP j (by omega)))
    · obtain ⟨e3, e4⟩ := hx (by omega)
      obtain ⟨q1, q2, q3⟩ := mc_tr_i h16 hDD h99 i (by omega)
      subst e3 e4
      refine br_f e (br_f (nI_pos (by omega)) ⟨vp_in_nI (by omega) (by omega), ?_⟩)
      have h3 : mc_pa op cl (16 * t) (mc_tr op ar cl (16 * t) l dd i).1 (mc_tr op ar cl (16 * t) l dd i).2 < 3 := mc_pa_3 q2
      refine mc_x_pa ht (by omega) q2 (hm _ q1) (mc_x_closer H q1 h3 hD ?_)
      refine ih (i + 1) _ _ _ (by omega) (by omega) ?_ ?_ ?_
      · intro hi'
        obtain ⟨s1, s2, s3⟩ := mc_tr_s h16 hDD h99 (i := i) (by omega)
        rw [s2]
        exact ⟨rfl, rfl⟩
      · intro j hj
        rw [pk_un (by omega)]; exact hF j hj
      · intro j hj
        by_cases ej : j = i
        · subst ej; rw [pk_us]
        · rw [pk_un (by omega)]; exact hP j (by omega)
end
end
section
/-- what a thread's offense is: its length and its path -/
def mc_OF (op ar cl : Nat → Int32) (t l : Nat) (dd : Nat → Nat → Nat) (oL oP : Nat → Int32) : Prop :=
  (dd 0 0 = 99 ∧ oL t = 0) ∨ (dd 0 0 ≤ 47 ∧ oL t = nI (dd 0 0 + 1) ∧ ∀ i, i ≤ dd 0 0 → oP (48 * t + i) = nI (mc_tr op ar cl (16 * t) l dd i).1)
section
variable {T C V L : Nat} {fu ff sl vd st : Int32} {ln op ar ini xm kd mv ds oP oL ce ac pc ph he rT rP su uc ou od sc : Nat → Int32}
variable {t p l h : Nat} {cl : Nat → Int32} {D dd : Nat → Nat → Nat}
theorem mc_x_tp {post : SX → Prop} (H : mc_TH C V L ln op ar t l) (hm : ∀ p, p < l → mv (16 * t + p) = cl (16 * t + p)) (hDD : mc_DD op ar cl (16 * t) l dd) (hD : mc_DA l ds dd)
    (K : ∀ oL' oP', (∀ j, j ≠ t → oL' j = oL j) → (∀ j, j < 48 * t ∨ 48 * t + 48 ≤ j → oP' j = oP j) → mc_OF op ar cl t l dd oL' oP' → post (nI T, nI C, nI V, nI L, fu, ff, sl, vd, st, ln, op, ar, ini, xm, kd, mv, ds, oP', oL', ce, ac, pc, ph, he, rT, rP, su, uc, ou, od, sc)) : wpX_tracePath post (nI T, nI C, nI V, nI L, fu, ff, sl, vd, st, ln, op, ar, ini, xm, kd, mv, ds, oP, oL, ce, ac, pc, ph, he, rT, rP, su, uc, ou, od, sc) (nI t) := by
  have ⟨ht, hl, h16, _⟩ := H
  have h47 := hDD.2.2.2.1 0 0 (by decide)
  have e0 : ds 0 = nI (dd 0 0) := by
    by_cases z : l = 0
    · rw [hD.1 z, hDD.2.2.2.2 0 0 (by omega)]; rfl
    · exact (hD.2 0 0 (by omega) (by omega)).1
  unfold wpX_tracePath
  simp (disch := omega) only [nI_clamp, mc_m16, mc_m48, mc_m3, mc_vin, nI_add, nI_1, true_and, forall_eq, e0, mc_lt99]
  by_cases z : dd 0 0 < 99
  · refine br_t z ⟨dd 0 0 + 2, mc_x_tr36 (oP0 := oP) H hm hDD hD (by omega) ?_ (dd 0 0 + 2) 0 0 0 oP (by omega) (by omega) (fun _ => ⟨rfl, rfl⟩) (fun _ _ => rfl) (fun j hj => absurd hj (by omega))⟩
    intro oP' hF hP
    refine K _ oP' ?_ hF (Or.inr ⟨by omega, pk_us, hP⟩)
    intro j hj
    rw [pk_un hj, pk_un hj]
  · exact br_f z (K _ oP (fun j hj => pk_un hj) (fun _ _ => rfl) (Or.inl ⟨by omega, pk_us⟩))
theorem mc_x_fo9 {post : SX → Prop} (H : mc_TH C V L ln op ar t l) (hm : ∀ p, p < l → mv (16 * t + p) = cl (16 * t + p)) (hDD : mc_DD op ar cl (16 * t) l dd)
    (K : ∀ oL' oP' ds', (∀ j, j ≠ t → oL' j = oL j) → (∀ j, j < 48 * t ∨ 48 * t + 48 ≤ j → oP' j = oP j) → mc_OF op ar cl t l dd oL' oP' → post (nI T, nI C, nI V, nI L, fu, ff, sl, vd, st, ln, op, ar, ini, xm, kd, mv, ds', oP', oL', ce, ac, pc, ph, he, rT, rP, su, uc, ou, od, sc)) :
    ∀ n r x ds D, 49 - r < n → r ≤ 48 → mc_DA l ds D → mc_lo l dd D → mc_ex l r dd D → (x = 0 → ∀ p h, p < l → h < 3 → D p h = dd p h) → wX_findOffense_9 post (nI t) n x (nI r) (nI T) (nI C) (nI V) (nI L) fu ff sl vd st ln op ar ini xm kd mv ds oP oL ce ac pc ph he rT rP su uc ou od sc := by
  have ⟨ht, hl, h16, _⟩ := H
  intro n
  induction n with
  | zero => intro r x ds D z; omega
  | succ n ih =>
    intro r x ds D hn hr hD hlo hex hx
    have fin : (∀ p h, p < l → h < 3 → D p h = dd p h) → wX_findOffense_31 post (nI t) (nI T) (nI C) (nI V) (nI L) fu ff sl vd st ln op ar ini xm kd mv ds oP oL ce ac pc ph he rT rP su uc ou od sc := by
      intro z
      unfold wX_findOffense_31
      refine mc_x_tp H hm hDD ⟨hD.1, fun p h a1 a2 => ?_⟩ (fun oL' oP' k1 k2 k3 => K oL' oP' ds k1 k2 k3)
      have := hD.2 p h a1 a2
      rw [z p h a1 a2] at this
      exact this
    rw [wX_findOffense_9]
    by_cases e : 48 ≤ r
    all_goals simp (disch := omega) only [mc_le48, nI_1, forall_eq]
    · refine br_t e (fin fun p h a1 a2 => ?_)
      have h47 := hDD.2.2.2.1 p h a2
      by_cases z : dd p h ≤ r
      · exact hex p h a1 a2 z
      · have := hlo p h a1 a2
        omega
    · refine br_f e ?_
      by_cases z : x = 0
      · exact br_t z (fin (hx z))
      · refine br_f z ?_
        unfold wpX_relaxAll
        refine ⟨4, mc_x_ra4 (r := r) H hm hDD ?_ 4 0 0 ds D (by omega) (by omega) hD ⟨hlo, hex, fun p' h' _ _ a => absurd a (by omega), fun _ p' h' q _ _ a => absurd a (by omega), Or.inl rfl⟩⟩
        intro x' ds' D' hD' I'
        obtain ⟨i1, i2, i3, i4, i5⟩ := I'
        refine ih (r + 1) x' ds' D' (by omega) (by omega) hD' i1 ?_ ?_
        · intro p h a1 a2 a3
          by_cases q : dd p h ≤ r
          · exact i2 p h a1 a2 q
          · exact i3 p h a1 a2 (by omega) (by omega)
        · intro x0
          exact mc_stab hDD i1 (fun p h a1 a2 a3 => by have := i2 p h a1 a2 (by omega); omega) (fun p h q a1 a2 a3 => i4 x0 p h q a1 a2 (by omega) a3)
/-- the start of the distances -/
def mc_D0 (cl : Nat → Int32) (b l i : Nat) (ds : Nat → Int32) : Prop := ∀ s, s < 48 → ds s = if 32 ≤ s ∧ s < 32 + i ∧ s < 32 + l ∧ (cl (b + (s - 32)) = 1 ∨ cl (b + (s - 32)) = 3) then 0 else 99
theorem mc_D0_DA (hl : l ≤ 16) (hDD : mc_DD op ar cl (16 * t) l dd) (hD : mc_D0 cl (16 * t) l l ds) : ∃ D, mc_DA l ds D ∧ mc_lo l dd D ∧ mc_ex l 0 dd D := by
  have key : ∀ p h, p < l → h < 3 → (mc_of cl (16 * t) p h → ds (16 * h + p) = 0) ∧ (¬ mc_of cl (16 * t) p h → ds (16 * h + p) = 99) := by
    intro p h hp hh
    have e := hD (16 * h + p) (by omega)
    constructor
    · rintro ⟨z, z'⟩
      subst z
      rw [e, if_pos]
      refine ⟨by omega, by omega, by omega, ?_⟩
      rw [show 16 * 2 + p - 32 = p by omega]
      exact z'
    · intro z
      rw [e, if_neg]
      rintro ⟨q1, q2, q3, q4⟩
      have h2 : h = 2 := by omega
      subst h2
      rw [show 16 * 2 + p - 32 = p by omega] at q4
      exact z ⟨rfl, q4⟩
  refine ⟨fun p h => if dd p h = 0 then 0 else 99, ⟨?_, ?_⟩, ?_, ?_⟩
  · intro z
    rw [hD 0 (by omega), if_neg (by omega)]
  · intro p h hp hh
    dsimp only
    by_cases z : dd p h = 0
    · rw [if_pos z]; exact ⟨(key p h hp hh).1 ((hDD.1 p h hp hh).mp z), by omega⟩
    · rw [if_neg z]; exact ⟨(key p h hp hh).2 (fun q => z ((hDD.1 p h hp hh).mpr q)), by omega⟩
  · intro p h hp hh
    dsimp only
    have := mc_DD_99 hDD hh (p := p)
    split <;> omega
  · intro p h hp hh z
    dsimp only
    rw [if_pos (by omega)]; omega
theorem mc_x_mo24 {post : SX → Prop} (H : mc_TH C V L ln op ar t l) (hm : ∀ p, p < l → mv (16 * t + p) = cl (16 * t + p)) (K : ∀ ds, mc_D0 cl (16 * t) l l ds → post (nI T, nI C, nI V, nI L, fu, ff, sl, vd, st, ln, op, ar, ini, xm, kd, mv, ds, oP, oL, ce, ac, pc, ph, he, rT, rP, su, uc, ou, od, sc)) :
    ∀ n i ds, l - i < n → i ≤ l → mc_D0 cl (16 * t) l i ds → wX_markOffending_24 post (nI t) (nI T) (nI C) (nI V) (nI L) fu ff sl vd st n (nI i) ln op ar ini xm kd mv ds oP oL ce ac pc ph he rT rP su uc ou od sc := by
  have ⟨ht, hl, h16, _⟩ := H
  intro n
  induction n with
  | zero => intro i ds z; omega
  | succ n ih =>
    intro i ds hn hi hD
    rw [wX_markOffending_24]
    by_cases e : l ≤ i
    all_goals simp (disch := omega) only [nI_clamp, mc_m16, mc_m48, mc_m3, mc_vin, nI_add, nI_1, true_and, forall_eq, hl, nI_leI]
    · have : i = l := by omega
      subst this
      exact br_t e (K ds hD)
    · refine br_f e ?_
      rw [hm i (by omega)]
      have w : cl (16 * t + i) = 1 ∨ cl (16 * t + i) = 3 → wX_markOffending_56 post (wX_markOffending_24 post (nI t) (nI T) (nI C) (nI V) (nI L) fu ff sl vd st n) (nI t) (nI i) (nI T) (nI C) (nI V) (nI L) fu ff sl vd st ln op ar ini xm kd mv ds oP oL ce ac pc ph he rT rP su uc ou od sc := by
        intro z
        unfold wX_markOffending_56
        simp (disch := omega) only [nI_clamp, mc_m16, mc_m48, mc_m3, mc_vin, nI_add, nI_1, true_and, forall_eq, mc_a32]
        refine ih (i + 1) _ (by omega) (by omega) ?_
        intro s hs
        by_cases es : s = 32 + i
        · subst es
          rw [pk_us, if_pos]
          refine ⟨by omega, by omega, by omega, ?_⟩
          rw [show 32 + i - 32 = i by omega]; exact z
        · rw [pk_un es, hD s hs]
          by_cases q : 32 ≤ s ∧ s < 32 + i ∧ s < 32 + l ∧ (cl (16 * t + (s - 32)) = 1 ∨ cl (16 * t + (s - 32)) = 3)
          · rw [if_pos q, if_pos ⟨q.1, by omega, q.2.2⟩]
          · rw [if_neg q, if_neg (fun q' => q ⟨q'.1, by omega, q'.2.2⟩)]
      by_cases c1 : cl (16 * t + i) = 1
      · exact br_t c1 (w (Or.inl c1))
      · refine br_f c1 ?_
        by_cases c3 : cl (16 * t + i) = 3
        · exact br_t c3 (w (Or.inr c3))
        · refine br_f c3 (ih (i + 1) ds (by omega) (by omega) ?_)
          intro s hs
          rw [hD s hs]
          by_cases q : 32 ≤ s ∧ s < 32 + i ∧ s < 32 + l ∧ (cl (16 * t + (s - 32)) = 1 ∨ cl (16 * t + (s - 32)) = 3)
          · rw [if_pos q, if_pos ⟨q.1, by omega, q.2.2⟩]
          · rw [if_neg q, if_neg]
            rintro ⟨q1, q2, q3, q4⟩
            by_cases es : s = 32 + i
            · subst es
              rw [show 32 + i - 32 = i by omega] at q4
              exact q4.elim c1 c3
            · exact q ⟨q1, by omega, q3, q4⟩
theorem mc_x_mo2 {post : SX → Prop} (H : mc_TH C V L ln op ar t l) (hm : ∀ p, p < l → mv (16 * t + p) = cl (16 * t + p)) (K : ∀ ds, mc_D0 cl (16 * t) l l ds → post (nI T, nI C, nI V, nI L, fu, ff, sl, vd, st, ln, op, ar, ini, xm, kd, mv, ds, oP, oL, ce, ac, pc, ph, he, rT, rP, su, uc, ou, od, sc)) :
    ∀ n i ds, 48 - i < n → i ≤ 48 → (∀ s, s < i → ds s = 99) → wX_markOffending_2 post (nI t) (nI T) (nI C) (nI V) (nI L) fu ff sl vd st n (nI i) ln op ar ini xm kd mv ds oP oL ce ac pc ph he rT rP su uc ou od sc := by
  have ⟨ht, hl, h16, _⟩ := H
  intro n
  induction n with
  | zero => intro i ds z; omega
  | succ n ih =>
    intro i ds hn hi hD
    rw [wX_markOffending_2]
    by_cases e : 48 ≤ i
    all_goals simp (disch := omega) only [nI_clamp, mc_m16, mc_m48, mc_m3, mc_vin, nI_add, nI_1, true_and, forall_eq, mc_le48]
    · refine br_t e ⟨l + 1, mc_x_mo24 H hm K (l + 1) 0 ds (by omega) (by omega) ?_⟩
      intro s hs
      rw [hD s (by omega), if_neg (by omega)]
    · refine br_f e (ih (i + 1) _ (by omega) (by omega) ?_)
      intro s hs
      by_cases es : s = i
      · subst es; rw [pk_us]
      · rw [pk_un es]; exact hD s (by omega)
theorem mc_x_fo {post : SX → Prop} (H : mc_TH C V L ln op ar t l) (hm : ∀ p, p < l → mv (16 * t + p) = cl (16 * t + p)) (hDD : mc_DD op ar cl (16 * t) l dd)
    (K : ∀ oL' oP' ds', (∀ j, j ≠ t → oL' j = oL j) → (∀ j, j < 48 * t ∨ 48 * t + 48 ≤ j → oP' j = oP j) → mc_OF op ar cl t l dd oL' oP' → post (nI T, nI C, nI V, nI L, fu, ff, sl, vd, st, ln, op, ar, ini, xm, kd, mv, ds', oP', oL', ce, ac, pc, ph, he, rT, rP, su, uc, ou, od, sc)) : wpX_findOffense post (nI T, nI C, nI V, nI L, fu, ff, sl, vd, st, ln, op, ar, ini, xm, kd, mv, ds, oP, oL, ce, ac, pc, ph, he, rT, rP, su, uc, ou, od, sc) (nI t) := by
  have h16 := H.2.2.1
  unfold wpX_findOffense wpX_markOffending
  refine ⟨49, mc_x_mo2 H hm ?_ 49 0 ds (by omega) (by omega) (fun s hs => absurd hs (by omega))⟩
  intro ds' hD'
  obtain ⟨D, d1, d2, d3⟩ := mc_D0_DA h16 hDD hD'
  exact ⟨50, mc_x_fo9 H hm hDD K 50 0 1 ds' D (by omega) (by omega) d1 d2 d3 (fun z => absurd z mc_n10)⟩
end
end
section
/-! the component's analysis and reset -/
def mc_AL (T L : Nat) (op ar : Nat → Int32) (lf : Nat → Nat) (tt : Nat) (dd : Nat → Nat → Nat → Nat) (mv oL oP : Nat → Int32) : Prop :=
  ∀ t, t < tt → mc_MV op ar lf L t mv ∧ mc_OF op ar (mc_cv op ar lf L) t (lf t) (dd t) oL oP
def mc_DS (T L : Nat) (op ar : Nat → Int32) (lf : Nat → Nat) (dd : Nat → Nat → Nat → Nat) : Prop := ∀ t, t < T → mc_DD op ar (mc_cv op ar lf L) (16 * t) (lf t) (dd t)
def mc_VD (tt : Nat) (dd : Nat → Nat → Nat → Nat) (vd : Int32) : Prop := (vd = 8 ∧ ∀ t, t < tt → dd t 0 0 = 99) ∨ (vd = 9 ∧ ∃ t, t < tt ∧ dd t 0 0 ≠ 99)
section
variable {T C V L : Nat} {fu ff sl vd st : Int32} {ln op ar ini xm kd mv ds oP oL ce ac pc ph he rT rP su uc ou od sc : Nat → Int32}
variable {lf : Nat → Nat} {dd : Nat → Nat → Nat → Nat}
theorem mc_DS_ex (P : mc_PG T C V L ln op ar lf) : ∃ dd, mc_DS T L op ar lf dd := by
  have : ∀ t, ∃ d, t < T → mc_DD op ar (mc_cv op ar lf L) (16 * t) (lf t) d := by
    intro t
    by_cases ht : t < T
    · obtain ⟨d, hd⟩ := mc_DD_ex (op := op) (ar := ar) (cl := mc_cv op ar lf L) (b := 16 * t) (mc_PG_TH P ht).2.2.1
      exact ⟨d, fun _ => hd⟩
    · exact ⟨fun _ _ => 0, fun z => absurd z ht⟩
  obtain ⟨f, hf⟩ := Classical.skolem.mp this
  exact ⟨f, hf⟩
theorem mc_x_an56 {post : SX → Prop} (P : mc_PG T C V L ln op ar lf) (hX : mc_XA T L op ar lf xm) (hK : ∀ c, c < V → kd c = nI (mc_kv op ar lf L c)) (hD : mc_DS T L op ar lf dd)
    (K : ∀ mv ds oL oP vd, mc_AL T L op ar lf T dd mv oL oP → mc_VD T dd vd → post (nI T, nI C, nI V, nI L, fu, ff, sl, vd, st, ln, op, ar, ini, xm, kd, mv, ds, oP, oL, ce, ac, pc, ph, he, rT, rP, su, uc, ou, od, sc)) :
    ∀ n t mv ds oL oP vd, T - t < n → t ≤ T → mc_AL T L op ar lf t dd mv oL oP → mc_VD t dd vd → wX_analyse_56 post n (nI t) (nI T) (nI C) (nI V) (nI L) fu ff sl vd st ln op ar ini xm kd mv ds oP oL ce ac pc ph he rT rP su uc ou od sc := by
  have hT := P.1.2
  intro n
  induction n with
  | zero => intro t mv ds oL oP vd z; omega
  | succ n ih =>
    intro t mv ds oL oP vd hn ht hA hV
    rw [wX_analyse_56]
    by_cases e : T ≤ t
    all_goals simp (disch := omega) only [nI_leI]
    · have : t = T := by omega
      subst this
      exact br_t e (K mv ds oL oP vd hA hV)
    · have htT : t < T := by omega
      have H := mc_PG_TH P htT
      refine br_f e (mc_x_cf P hX hK htT ?_)
      intro mv' f1 m1
      refine mc_x_fo H m1 (hD t htT) ?_
      intro oL' oP' ds' f2 f3 o1
      have hA' : mc_AL T L op ar lf (t + 1) dd mv' oL' oP' := by
        intro t' ht'
        by_cases et : t' = t
        · subst et; exact ⟨m1, o1⟩
        · obtain ⟨a1, a2⟩ := hA t' (by omega)
          have H' := mc_PG_TH P (show t' < T by omega)
          have h16 := H'.2.2.1
          have h16' := H.2.2.1
          refine ⟨fun p hp => (f1 _ (by omega)).trans (a1 p hp), ?_⟩
          rcases a2 with ⟨z1, z2⟩ | ⟨z1, z2, z3⟩
          · exact Or.inl ⟨z1, (f2 t' et).trans z2⟩
          · exact Or.inr ⟨z1, (f2 t' et).trans z2, fun i hi => (f3 _ (by omega)).trans (z3 i hi)⟩
      simp (disch := omega) only [nI_clamp, mc_vin, true_and, nI_1, forall_eq]
      rcases o1 with ⟨z1, z2⟩ | ⟨z1, z2, z3⟩
      · rw [z2]
        refine br_t (by decide) (ih (t + 1) mv' ds' oL' oP' vd (by omega) (by omega) hA' ?_)
        rcases hV with ⟨v1, v2⟩ | ⟨v1, t', v2, v3⟩
        · refine Or.inl ⟨v1, fun t' ht' => ?_⟩
          by_cases et : t' = t
          · subst et; exact z1
          · exact v2 t' (by omega)
        · exact Or.inr ⟨v1, t', by omega, v3⟩
      · rw [z2]
        exact br_f (nI_nle (by omega) (by omega)) (ih (t + 1) mv' ds' oL' oP' 9 (by omega) (by omega) hA' (Or.inr ⟨rfl, t, by omega, by omega⟩))
theorem mc_x_an23 {post : SX → Prop} (P : mc_PG T C V L ln op ar lf) (hX : mc_XA T L op ar lf xm) (hD : mc_DS T L op ar lf dd)
    (K : ∀ kd mv ds oL oP vd, (∀ c, c < V → kd c = nI (mc_kv op ar lf L c)) → mc_AL T L op ar lf T dd mv oL oP → mc_VD T dd vd → post (nI T, nI C, nI V, nI L, fu, ff, sl, vd, st, ln, op, ar, ini, xm, kd, mv, ds, oP, oL, ce, ac, pc, ph, he, rT, rP, su, uc, ou, od, sc)) :
    ∀ n c kd, V - c < n → c ≤ V → (∀ c', c' < c → kd c' = nI (mc_kv op ar lf L c')) → wX_analyse_23 post (nI T) (nI C) (nI V) (nI L) fu ff sl vd st n (nI c) ln op ar ini xm kd mv ds oP oL ce ac pc ph he rT rP su uc ou od sc := by
  have hV := P.2.2.1.2
  intro n
  induction n with
  | zero => intro c kd z; omega
  | succ n ih =>
    intro c kd hn hc hK
    rw [wX_analyse_23]
    by_cases e : V ≤ c
    all_goals simp (disch := omega) only [nI_leI, nI_clamp, mc_m16, mc_m48, mc_m3, mc_vin, nI_add, nI_1, true_and, forall_eq]
    · have : c = V := by omega
      subst this
      exact br_t e ⟨T + 1, mc_x_an56 P hX hK hD (fun mv ds oL oP vd a b => K kd mv ds oL oP vd hK a b) (T + 1) 0 mv ds oL oP 8 (by omega) (by omega) (fun t ht => absurd ht (by omega)) (Or.inl ⟨rfl, fun t ht => absurd ht (by omega)⟩)⟩
    · refine br_f e (mc_x_kind P hX ?_)
      refine ih (c + 1) _ (by omega) (by omega) ?_
      intro c' hc'
      by_cases ec : c' = c
      · subst ec; rw [pk_us]
      · rw [pk_un ec]; exact hK c' (by omega)
theorem mc_x_an2 {post : SX → Prop} (P : mc_PG T C V L ln op ar lf) (hD : mc_DS T L op ar lf dd)
    (K : ∀ xm kd mv ds oL oP vd, mc_XA T L op ar lf xm → (∀ c, c < V → kd c = nI (mc_kv op ar lf L c)) → mc_AL T L op ar lf T dd mv oL oP → mc_VD T dd vd → post (nI T, nI C, nI V, nI L, fu, ff, sl, vd, st, ln, op, ar, ini, xm, kd, mv, ds, oP, oL, ce, ac, pc, ph, he, rT, rP, su, uc, ou, od, sc)) :
    ∀ n t xm, T - t < n → t ≤ T → (∀ t', t' < t → ∀ lk, lk < L → mc_XM op ar t' (lf t') lk xm) → wX_analyse_2 post n (nI t) (nI T) (nI C) (nI V) (nI L) fu ff sl vd st ln op ar ini xm kd mv ds oP oL ce ac pc ph he rT rP su uc ou od sc := by
  have hT := P.1.2
  have hL := P.2.2.2.1.2
  intro n
  induction n with
  | zero => intro t xm z; omega
  | succ n ih =>
    intro t xm hn ht hX
    rw [wX_analyse_2]
    by_cases e : T ≤ t
    all_goals simp (disch := omega) only [nI_leI, nI_1, forall_eq]
    · have : t = T := by omega
      subst this
      exact br_t e ⟨V + 1, mc_x_an23 P hX hD (fun kd mv ds oL oP vd a b c => K xm kd mv ds oL oP vd hX a b c) (V + 1) 0 kd (by omega) (by omega) (fun c hc => absurd hc (by omega))⟩
    · refine br_f e (mc_x_fm (mc_PG_TH P (by omega)) ?_)
      intro xm' f1 m1
      refine ih (t + 1) xm' (by omega) (by omega) ?_
      intro t' ht' lk hlk
      by_cases et : t' = t
      · subst et; exact m1 lk hlk
      · intro p hp
        rw [f1 _ (by omega)]; exact hX t' (by omega) lk hlk p hp
theorem mc_x_an {post : SX → Prop} (P : mc_PG T C V L ln op ar lf) (hD : mc_DS T L op ar lf dd)
    (K : ∀ xm kd mv ds oL oP vd, mc_XA T L op ar lf xm → (∀ c, c < V → kd c = nI (mc_kv op ar lf L c)) → mc_AL T L op ar lf T dd mv oL oP → mc_VD T dd vd → post (nI T, nI C, nI V, nI L, fu, ff, sl, vd, st, ln, op, ar, ini, xm, kd, mv, ds, oP, oL, ce, ac, pc, ph, he, rT, rP, su, uc, ou, od, sc)) : wpX_analyse post (nI T, nI C, nI V, nI L, fu, ff, sl, vd, st, ln, op, ar, ini, xm, kd, mv, ds, oP, oL, ce, ac, pc, ph, he, rT, rP, su, uc, ou, od, sc) := by
  unfold wpX_analyse
  exact ⟨T + 1, mc_x_an2 P hD K (T + 1) 0 xm (by omega) (by omega) (fun t ht => absurd ht (by omega))⟩
end
end
section
/-! reset, both sides -/
def mc_z (n : Nat) (f : Nat → Int32) : Nat → Int32 := fun j => if j < n then 0 else f j
def mc_cp (n : Nat) (g f : Nat → Int32) : Nat → Int32 := fun j => if j < n then g j else f j
theorem mc_z_0 {f : Nat → Int32} : mc_z 0 f = f := funext fun j => if_neg (by omega)
theorem mc_cp_0 {g f : Nat → Int32} : mc_cp 0 g f = f := funext fun j => if_neg (by omega)
theorem mc_z_s {n : Nat} {f : Nat → Int32} : upd (mc_z n f) n 0 = mc_z (n + 1) f := by
  funext j
  unfold mc_z
  by_cases e : j = n
  · subst e; rw [pk_us, if_pos (by omega)]
  · rw [pk_un e]
    by_cases h : j < n
    · rw [if_pos h, if_pos (by omega)]
    · rw [if_neg h, if_neg (by omega)]
theorem mc_cp_s {n : Nat} {g f : Nat → Int32} : upd (mc_cp n g f) n (g n) = mc_cp (n + 1) g f := by
  funext j
  unfold mc_cp
  by_cases e : j = n
  · subst e; rw [pk_us, if_pos (by omega)]
  · rw [pk_un e]
    by_cases h : j < n
    · rw [if_pos h, if_pos (by omega)]
    · rw [if_neg h, if_neg (by omega)]
theorem mc_z_lt {n j : Nat} {f : Nat → Int32} (h : j < n) : mc_z n f j = 0 := if_pos h
section
variable {T C V L : Nat} {fu ff sl vd st : Int32} {ln op ar ini xm kd mv ds oP oL ce ac pc ph he rT rP su uc ou od sc : Nat → Int32}
theorem mc_x_rs61 {post : SX → Prop} {he0 : Nat → Int32} (K : post (nI T, nI C, nI V, nI L, fu, ff, sl, vd, 0, ln, op, ar, ini, xm, kd, mv, ds, oP, oL, ce, ac, pc, ph, mc_z 9 he0, rT, rP, su, uc, ou, od, sc)) : ∀ n i, 9 - i < n → i ≤ 9 → wX_resetMachine_61 post (nI T) (nI C) (nI V) (nI L) fu ff sl vd st n (nI i) ln op ar ini xm kd mv ds oP oL ce ac pc ph (mc_z i he0) rT rP su uc ou od sc := by
  intro n
  induction n with
  | zero => intro i z; omega
  | succ n ih =>
    intro i hn hi
    rw [wX_resetMachine_61]
    by_cases e : 9 ≤ i
    all_goals simp (disch := omega) only [nI_clamp, mc_m16, mc_m48, mc_m3, mc_vin, nI_add, nI_1, true_and, forall_eq, mc_le9, mc_z_s]
    · have : i = 9 := by omega
      subst this
      exact br_t e K
    · exact br_f e (ih (i + 1) (by omega) (by omega))
theorem mc_x_rs27 {post : SX → Prop} {ac0 pc0 ph0 : Nat → Int32} (K : post (nI T, nI C, nI V, nI L, fu, ff, sl, vd, 0, ln, op, ar, ini, xm, kd, mv, ds, oP, oL, ce, mc_z 3 ac0, mc_z 3 pc0, mc_z 3 ph0, mc_z 9 he, rT, rP, su, uc, ou, od, sc)) :
    ∀ n i, 3 - i < n → i ≤ 3 → wX_resetMachine_27 post (nI T) (nI C) (nI V) (nI L) fu ff sl vd st n (nI i) ln op ar ini xm kd mv ds oP oL ce (mc_z i ac0) (mc_z i pc0) (mc_z i ph0) he rT rP su uc ou od sc := by
  intro n
  induction n with
  | zero => intro i z; omega
  | succ n ih =>
    intro i hn hi
    rw [wX_resetMachine_27]
    by_cases e : 3 ≤ i
    all_goals simp (disch := omega) only [nI_clamp, mc_m16, mc_m48, mc_m3, mc_vin, nI_add, nI_1, true_and, forall_eq, mc_le3, mc_z_s]
    · have : i = 3 := by omega
      subst this
      have := mc_x_rs61 (st := st) (he0 := he) K 10 0 (by omega) (by omega)
      rw [mc_z_0] at this
      exact br_t e ⟨10, this⟩
    · exact br_f e (ih (i + 1) (by omega) (by omega))
theorem mc_x_rs2 {post : SX → Prop} {ce0 : Nat → Int32} (K : post (nI T, nI C, nI V, nI L, fu, ff, sl, vd, 0, ln, op, ar, ini, xm, kd, mv, ds, oP, oL, mc_cp 4 ini ce0, mc_z 3 ac, mc_z 3 pc, mc_z 3 ph, mc_z 9 he, rT, rP, su, uc, ou, od, sc)) :
    ∀ n i, 4 - i < n → i ≤ 4 → wX_resetMachine_2 post (nI T) (nI C) (nI V) (nI L) fu ff sl vd st n (nI i) ln op ar ini xm kd mv ds oP oL (mc_cp i ini ce0) ac pc ph he rT rP su uc ou od sc := by
  intro n
  induction n with
  | zero => intro i z; omega
  | succ n ih =>
    intro i hn hi
    rw [wX_resetMachine_2]
    by_cases e : 4 ≤ i
    all_goals simp (disch := omega) only [nI_clamp, mc_m16, mc_m48, mc_m3, mc_vin, nI_add, nI_1, true_and, forall_eq, mc_le4, mc_cp_s]
    · have : i = 4 := by omega
      subst this
      have := mc_x_rs27 (st := st) (ac0 := ac) (pc0 := pc) (ph0 := ph) K 4 0 (by omega) (by omega)
      rw [mc_z_0, mc_z_0, mc_z_0] at this
      exact br_t e ⟨4, this⟩
    · exact br_f e (ih (i + 1) (by omega) (by omega))
theorem mc_x_reset {post : SX → Prop} (K : post (nI T, nI C, nI V, nI L, fu, ff, sl, vd, 0, ln, op, ar, ini, xm, kd, mv, ds, oP, oL, mc_cp 4 ini ce, mc_z 3 ac, mc_z 3 pc, mc_z 3 ph, mc_z 9 he, rT, rP, su, uc, ou, od, sc)) : wpX_resetMachine post (nI T, nI C, nI V, nI L, fu, ff, sl, vd, st, ln, op, ar, ini, xm, kd, mv, ds, oP, oL, ce, ac, pc, ph, he, rT, rP, su, uc, ou, od, sc) := by
  unfold wpX_resetMachine
  have := mc_x_rs2 (st := st) (ce0 := ce) K 5 0 (by omega) (by omega)
  rw [mc_cp_0] at this
  exact ⟨5, this⟩
end
section
variable {T C V L : Nat} {sl st : Int32} {op ar ln ini ce ac pc ph he rT rP bf af ym cl sn fr cm yo : Nat → Int32}
theorem mc_y_rs61 {post : SY → Prop} {he0 : Nat → Int32} (K : post (nI T, nI C, nI V, nI L, sl, 0, op, ar, ln, ini, ce, ac, pc, ph, mc_z 9 he0, rT, rP, bf, af, ym, cl, sn, fr, cm, yo)) : ∀ n i, 9 - i < n → i ≤ 9 → wY_reset_61 post (nI T) (nI C) (nI V) (nI L) sl st n (nI i) op ar ln ini ce ac pc ph (mc_z i he0) rT rP bf af ym cl sn fr cm yo := by
  intro n
  induction n with
  | zero => intro i z; omega
  | succ n ih =>
    intro i hn hi
    rw [wY_reset_61]
    by_cases e : 9 ≤ i
    all_goals simp (disch := omega) only [nI_clamp, mc_m16, mc_m48, mc_m3, mc_vin, nI_add, nI_1, true_and, forall_eq, mc_le9, mc_z_s]
    · have : i = 9 := by omega
      subst this
      exact br_t e K
    · exact br_f e (ih (i + 1) (by omega) (by omega))
theorem mc_y_rs27 {post : SY → Prop} {ac0 pc0 ph0 : Nat → Int32} (K : post (nI T, nI C, nI V, nI L, sl, 0, op, ar, ln, ini, ce, mc_z 3 ac0, mc_z 3 pc0, mc_z 3 ph0, mc_z 9 he, rT, rP, bf, af, ym, cl, sn, fr, cm, yo)) :
    ∀ n i, 3 - i < n → i ≤ 3 → wY_reset_27 post (nI T) (nI C) (nI V) (nI L) sl st n (nI i) op ar ln ini ce (mc_z i ac0) (mc_z i pc0) (mc_z i ph0) he rT rP bf af ym cl sn fr cm yo := by
  intro n
  induction n with
  | zero => intro i z; omega
  | succ n ih =>
    intro i hn hi
    rw [wY_reset_27]
    by_cases e : 3 ≤ i
    all_goals simp (disch := omega) only [nI_clamp, mc_m16, mc_m48, mc_m3, mc_vin, nI_add, nI_1, true_and, forall_eq, mc_le3, mc_z_s]
    · have : i = 3 := by omega
      subst this
      have := mc_y_rs61 (st := st) (he0 := he) K 10 0 (by omega) (by omega)
      rw [mc_z_0] at this
      exact br_t e ⟨10, this⟩
    · exact br_f e (ih (i + 1) (by omega) (by omega))
theorem mc_y_rs2 {post : SY → Prop} {ce0 : Nat → Int32} (K : post (nI T, nI C, nI V, nI L, sl, 0, op, ar, ln, ini, mc_cp 4 ini ce0, mc_z 3 ac, mc_z 3 pc, mc_z 3 ph, mc_z 9 he, rT, rP, bf, af, ym, cl, sn, fr, cm, yo)) :
    ∀ n i, 4 - i < n → i ≤ 4 → wY_reset_2 post (nI T) (nI C) (nI V) (nI L) sl st n (nI i) op ar ln ini (mc_cp i ini ce0) ac pc ph he rT rP bf af ym cl sn fr cm yo := by
  intro n
  induction n with
  | zero => intro i z; omega
  | succ n ih =>
    intro i hn hi
    rw [wY_reset_2]
    by_cases e : 4 ≤ i
    all_goals simp (disch := omega) only [nI_clamp, mc_m16, mc_m48, mc_m3, mc_vin, nI_add, nI_1, true_and, forall_eq, mc_le4, mc_cp_s]
    · have : i = 4 := by omega
      subst this
      have := mc_y_rs27 (st := st) (ac0 := ac) (pc0 := pc) (ph0 := ph) K 4 0 (by omega) (by omega)
      rw [mc_z_0, mc_z_0, mc_z_0] at this
      exact br_t e ⟨4, this⟩
    · exact br_f e (ih (i + 1) (by omega) (by omega))
theorem mc_y_reset {post : SY → Prop} (K : post (nI T, nI C, nI V, nI L, sl, 0, op, ar, ln, ini, mc_cp 4 ini ce, mc_z 3 ac, mc_z 3 pc, mc_z 3 ph, mc_z 9 he, rT, rP, bf, af, ym, cl, sn, fr, cm, yo)) : wpY_reset post (nI T, nI C, nI V, nI L, sl, st, op, ar, ln, ini, ce, ac, pc, ph, he, rT, rP, bf, af, ym, cl, sn, fr, cm, yo) := by
  unfold wpY_reset
  have := mc_y_rs2 (st := st) (ce0 := ce) K 5 0 (by omega) (by omega)
  rw [mc_cp_0] at this
  exact ⟨5, this⟩
end
end
section
/-! the reference's must counts -/
def mc_yv (m : Nat) : Int32 := if m = 4 then -1 else nI m
def mc_st (sn : Nat → Int32) (c : Nat) (o : Option Nat) : Nat → Int32 := match o with | none => sn | some q => upd sn (4 * q + c) 1
theorem mc_nb1 : vp_nar .boolean 1 = 1 := rfl
theorem mc_nb0 : vp_nar .boolean 0 = 0 := rfl
theorem mc_st_m {sn : Nat → Int32} {c j : Nat} {o : Option Nat} (h : ¬ sn j = 0) : ¬ mc_st sn c o j = 0 := by
  cases o with
  | none => exact h
  | some q =>
    show ¬ upd sn (4 * q + c) 1 j = 0
    by_cases e : j = 4 * q + c
    · subst e; rw [pk_us]; exact mc_n10
    · rw [pk_un e]; exact h
theorem mc_st_y {sn : Nat → Int32} {c q : Nat} : ¬ mc_st sn c (some q) (4 * q + c) = 0 := by
  show ¬ upd sn (4 * q + c) 1 (4 * q + c) = 0
  rw [pk_us]; exact mc_n10
theorem mc_st_i {sn : Nat → Int32} {c j : Nat} {o : Option Nat} (h : ¬ mc_st sn c o j = 0) : ¬ sn j = 0 ∨ ∃ q, o = some q ∧ j = 4 * q + c := by
  cases o with
  | none => exact Or.inl h
  | some q =>
    have h' : ¬ upd sn (4 * q + c) 1 j = 0 := h
    by_cases e : j = 4 * q + c
    · exact Or.inr ⟨q, rfl, e⟩
    · rw [pk_un e] at h'; exact Or.inl h'
def mc_s1 (op ar : Nat → Int32) (b l lk : Nat) (sn : Nat → Int32) : Prop := ∀ j, j < 64 → ¬ sn j = 0 → mc_Rc op ar b l lk (j / 4) (j % 4)
def mc_H1 (op ar : Nat → Int32) (b l lk s : Nat) (sn0 sn : Nat → Int32) : Prop :=
  (∀ j, ¬ sn0 j = 0 → ¬ sn j = 0) ∧ mc_s1 op ar b l lk sn ∧ (∀ j, j < s → ¬ sn0 j = 0 → ∀ q, mc_sc op ar b l (j / 4) q → ¬ sn (4 * q + mc_cA op ar b lk (j / 4) (j % 4)) = 0)
def mc_cs (op ar : Nat → Int32) (b l lk : Nat) (sn : Nat → Int32) : Prop := ∀ p c, mc_Rc op ar b l lk p c → ¬ sn (4 * p + c) = 0
section
variable {op ar : Nat → Int32} {b l lk s : Nat} {sn0 sn : Nat → Int32}
theorem mc_H1_n (h : mc_H1 op ar b l lk s sn0 sn) (hz : sn s = 0) : mc_H1 op ar b l lk (s + 1) sn0 sn := by
  obtain ⟨h1, h2, h3⟩ := h
  refine ⟨h1, h2, fun j hj hn => ?_⟩
  by_cases e : j = s
  · subst e; exact absurd hz (h1 j hn)
  · exact h3 j (by omega) hn
theorem mc_H1_y (hs : s < 64) (h : mc_H1 op ar b l lk s sn0 sn) (hz : ¬ sn s = 0) :
    mc_H1 op ar b l lk (s + 1) sn0 (mc_st (mc_st sn (mc_cA op ar b lk (s / 4) (s % 4)) (mc_n0 op ar b l (s / 4))) (mc_cA op ar b lk (s / 4) (s % 4)) (mc_n1 op ar b l (s / 4))) := by
  obtain ⟨h1, h2, h3⟩ := h
  have hR := h2 s hs hz
  have hc3 : mc_cA op ar b lk (s / 4) (s % 4) ≤ 3 := mc_cA_3 (by omega)
  refine ⟨fun j hj => mc_st_m (mc_st_m (h1 j hj)), ?_, ?_⟩
  · have key : ∀ j q, mc_sc op ar b l (s / 4) q → j = 4 * q + mc_cA op ar b lk (s / 4) (s % 4) → mc_Rc op ar b l lk (j / 4) (j % 4) := by
      intro j q hq e
      have e1 : j / 4 = q := by omega
      have e2 : j % 4 = mc_cA op ar b lk (s / 4) (s % 4) := by omega
      rw [e1, e2]; exact mc_Rc_s hR hq
    intro j hj hn
    rcases mc_st_i hn with z | ⟨q, z, e⟩
    · rcases mc_st_i z with z | ⟨q, z, e⟩
      · exact h2 j hj z
      · exact key j q (mc_n0_sc z) e
    · exact key j q (mc_n1_sc z) e
  · intro j hj hn q hq
    by_cases e : j = s
    · subst e
      rcases mc_sc_n hq with z | z
      · apply mc_st_m
        rw [z]; exact mc_st_y
      · rw [z]; exact mc_st_y
    · exact mc_st_m (mc_st_m (h3 j (by omega) hn q hq))
theorem mc_H1_r {k : Nat} (hl : l ≤ 16) (h : mc_H1 op ar b l lk 64 sn0 sn) (h0 : 0 < l → ¬ sn0 0 = 0) (hc : mc_cs op ar b l lk sn0 ∨ k + 1 ≤ mc_cn (fun j => ¬ sn0 j = 0) 64) :
    mc_cs op ar b l lk sn ∨ k + 1 + 1 ≤ mc_cn (fun j => ¬ sn j = 0) 64 := by
  obtain ⟨h1, h2, h3⟩ := h
  rcases hc with hc | hc
  · exact Or.inl fun p c hR => h1 _ (hc p c hR)
  · by_cases e : ∃ j, j < 64 ∧ ¬ sn j = 0 ∧ sn0 j = 0
    · obtain ⟨j, hj, e1, e2⟩ := e
      have := mc_cn_lt (P := fun j => ¬ sn0 j = 0) (Q := fun j => ¬ sn j = 0) (a := j) (fun z => z e2) e1 (N := 64) (fun k _ hk => h1 k hk) hj
      exact Or.inr (by omega)
    · refine Or.inl fun p c hR => h1 _ ?_
      have key := hR (fun p c => p < l ∧ c ≤ 3 ∧ ¬ sn0 (4 * p + c) = 0) (fun h => ⟨h, by omega, h0 h⟩) ?_
      · exact key.2.2
      · intro p c q hS hq
        have hq' := mc_sc_lt hq
        have hc3 : mc_cA op ar b lk p c ≤ 3 := mc_cA_3 hS.2.1
        refine ⟨hq', hc3, fun z => e ⟨4 * q + mc_cA op ar b lk p c, by omega, ?_, z⟩⟩
        have := h3 (4 * p + c) (by omega) hS.2.2
        rw [show (4 * p + c) / 4 = p by omega, show (4 * p + c) % 4 = c by omega] at this
        exact this q hq
end
section
variable {T C V L : Nat} {sl st : Int32} {op ar ln ini ce ac pc ph he rT rP bf af ym cl sn fr cm yo : Nat → Int32}
variable {t p l lk s : Nat}
theorem mc_y_48 {post : Int32 → Prop} {q : Nat} (ht : t < 3) (hl : ln t = nI l) (h16 : l ≤ 16) (hq : q ≤ 16) (h : post (mc_oI (if q < l then some q else none))) : wY_next_48 post (nI t) (nI q) (nI T) (nI C) (nI V) (nI L) sl st op ar ln ini ce ac pc ph he rT rP bf af ym cl sn fr cm yo := by
  unfold wY_next_48
  simp (disch := omega) only [nI_clamp, mc_m16, mc_m48, mc_m3, mc_vin, nI_add, nI_1, true_and, forall_eq, hl, nI_leI]
  by_cases z : q < l
  · rw [if_pos z] at h; exact br_f (by omega) h
  · rw [if_neg z] at h; exact br_t (by omega) h
theorem mc_y_31 {post : Int32 → Prop} (H : mc_TH C V L ln op ar t l) (hp : p < l) (h56 : op (16 * t + p) = 5 ∨ op (16 * t + p) = 6) (h : post (mc_oI (mc_fB op ar (16 * t) l p))) : wY_next_31 post (nI t) (nI p) (nI T) (nI C) (nI V) (nI L) sl st op ar ln ini ce ac pc ph he rT rP bf af ym cl sn fr cm yo := by
  obtain ⟨ht, hl, h16, hC, -, -, hI⟩ := H
  obtain ⟨k, hk, e⟩ := (hI p hp).2.2.1 h56
  unfold mc_fB at h
  rw [if_pos h56, e, nI_clamp (by omega)] at h
  unfold wY_next_31
  simp (disch := omega) only [nI_clamp, mc_m16, mc_m48, mc_m3, mc_vin, nI_add, nI_1, true_and, forall_eq, e]
  exact mc_y_48 ht hl h16 (by omega) h
theorem mc_y_45 {post : Int32 → Prop} (H : mc_TH C V L ln op ar t l) (hp : p < l) (h5 : ¬ op (16 * t + p) = 5) (h : post (mc_oI (mc_fF op (16 * t) l p))) : wY_next_45 post (nI t) (nI p) (nI T) (nI C) (nI V) (nI L) sl st op ar ln ini ce ac pc ph he rT rP bf af ym cl sn fr cm yo := by
  obtain ⟨ht, hl, h16, hC, -, -, hI⟩ := H
  unfold mc_fF at h
  rw [if_neg h5] at h
  unfold wY_next_45
  rw [nI_1]
  exact mc_y_48 ht hl h16 (by omega) h
theorem mc_y_n0 {post : Int32 → Prop} (H : mc_TH C V L ln op ar t l) (hp : p < l) (h : post (mc_oI (mc_n0 op ar (16 * t) l p))) : wpY_next post (nI T, nI C, nI V, nI L, sl, st, op, ar, ln, ini, ce, ac, pc, ph, he, rT, rP, bf, af, ym, cl, sn, fr, cm, yo) (nI t) (nI p) 0 := by
  have ⟨ht, hl, h16, _⟩ := H
  unfold mc_n0 at h
  unfold wpY_next
  simp (disch := omega) only [nI_clamp, mc_m16, mc_m48, mc_m3, mc_vin, nI_add, nI_1, true_and, forall_eq]
  by_cases h5 : op (16 * t + p) = 5
  · rw [if_pos h5] at h; exact br_t h5 (mc_y_31 H hp (Or.inl h5) h)
  · rw [if_neg h5] at h
    exact br_f h5 (br_c (fun _ => br_f (by decide) (mc_y_45 H hp h5 h)) (fun _ => mc_y_45 H hp h5 h))
theorem mc_y_n1 {post : Int32 → Prop} (H : mc_TH C V L ln op ar t l) (hp : p < l) (h : post (mc_oI (mc_n1 op ar (16 * t) l p))) : wpY_next post (nI T, nI C, nI V, nI L, sl, st, op, ar, ln, ini, ce, ac, pc, ph, he, rT, rP, bf, af, ym, cl, sn, fr, cm, yo) (nI t) (nI p) 1 := by
  have ⟨ht, hl, h16, _⟩ := H
  unfold mc_n1 at h
  unfold wpY_next
  simp (disch := omega) only [nI_clamp, mc_m16, mc_m48, mc_m3, mc_vin, nI_add, nI_1, true_and, forall_eq]
  by_cases h5 : op (16 * t + p) = 5
  · rw [if_pos (Or.inl h5)] at h; exact br_t h5 (mc_y_31 H hp (Or.inl h5) h)
  · by_cases h6 : op (16 * t + p) = 6
    · rw [if_pos (Or.inr h6)] at h; exact br_f h5 (br_t h6 (br_t trivial (mc_y_31 H hp (Or.inr h6) h)))
    · rw [if_neg (fun z => z.elim h5 h6)] at h; exact br_f h5 (br_f h6 (mc_y_45 H hp h5 h))
theorem mc_y_194 {post : SY → Prop} {J43 J52 : Int32 → (Nat → Int32) → (Nat → Int32) → (Nat → Int32) → (Nat → Int32) → (Nat → Int32) → (Nat → Int32) → (Nat → Int32) → (Nat → Int32) → (Nat → Int32) → (Nat → Int32) → (Nat → Int32) → (Nat → Int32) → (Nat → Int32) → (Nat → Int32) → (Nat → Int32) → (Nat → Int32) → (Nat → Int32) → (Nat → Int32) → (Nat → Int32) → Prop}
    {x3 : Int32} {c : Nat} {o : Option Nat} (hc : c ≤ 3) (ho : ∀ q, o = some q → q < 16) (K : J52 (nI (s + 1)) op ar ln ini ce ac pc ph he rT rP bf af ym cl (mc_st sn c o) fr cm yo) : wY_holds_194 post J43 J52 (nI t) (nI lk) x3 (nI s) (nI c) (mc_oI o) (nI T) (nI C) (nI V) (nI L) sl st op ar ln ini ce ac pc ph he rT rP bf af ym cl sn fr cm yo := by
  unfold wY_holds_194
  cases o with
  | none =>
    simp only [nI_1, forall_eq]
    exact br_t mc_m1' K
  | some q =>
    have hq := ho q rfl
    rw [mc_oI_s]
    simp (disch := omega) only [nI_clamp, mc_m16, mc_m48, mc_m3, mc_vin, nI_add, nI_1, true_and, forall_eq, mc_m4, mc_nb1]
    exact br_f (nI_pos (by omega)) K
theorem mc_y_156 {post : SY → Prop} {J43 J52 : Int32 → (Nat → Int32) → (Nat → Int32) → (Nat → Int32) → (Nat → Int32) → (Nat → Int32) → (Nat → Int32) → (Nat → Int32) → (Nat → Int32) → (Nat → Int32) → (Nat → Int32) → (Nat → Int32) → (Nat → Int32) → (Nat → Int32) → (Nat → Int32) → (Nat → Int32) → (Nat → Int32) → (Nat → Int32) → (Nat → Int32) → (Nat → Int32) → Prop}
    {x3 : Int32} {c : Nat} (H : mc_TH C V L ln op ar t l) (hp : p < l) (hc : c ≤ 3) (K : J52 (nI (s + 1)) op ar ln ini ce ac pc ph he rT rP bf af ym cl (mc_st (mc_st sn c (mc_n0 op ar (16 * t) l p)) c (mc_n1 op ar (16 * t) l p)) fr cm yo) :
    wY_holds_156 post J43 J52 (nI t) (nI lk) x3 (nI s) (nI p) (nI c) (nI T) (nI C) (nI V) (nI L) sl st op ar ln ini ce ac pc ph he rT rP bf af ym cl sn fr cm yo := by
  have ⟨ht, hl, h16, _⟩ := H
  have b0 : ∀ q, mc_n0 op ar (16 * t) l p = some q → q < 16 := fun q z => by have := mc_sc_lt (mc_n0_sc z); omega
  have b1 : ∀ q, mc_n1 op ar (16 * t) l p = some q → q < 16 := fun q z => by have := mc_sc_lt (mc_n1_sc z); omega
  unfold wY_holds_156
  refine mc_y_n0 H hp (mc_y_n1 H hp ?_)
  cases e : mc_n0 op ar (16 * t) l p with
  | none =>
    rw [e] at K
    exact br_t mc_m1' (mc_y_194 hc b1 K)
  | some q =>
    rw [e] at K
    have hq := b0 q e
    rw [mc_oI_s]
    simp (disch := omega) only [nI_clamp, mc_m16, mc_m48, mc_m3, mc_vin, nI_add, nI_1, true_and, forall_eq, mc_m4, mc_nb1]
    exact br_f (nI_pos (by omega)) (mc_y_194 hc b1 K)
end
end
section
section
variable {T C V L : Nat} {sl st : Int32} {op ar ln ini ce ac pc ph he rT rP bf af ym cl sn fr cm yo : Nat → Int32}
variable {t p l lk s : Nat}
theorem mc_y_125 {post : SY → Prop} {J43 J52 : Int32 → (Nat → Int32) → (Nat → Int32) → (Nat → Int32) → (Nat → Int32) → (Nat → Int32) → (Nat → Int32) → (Nat → Int32) → (Nat → Int32) → (Nat → Int32) → (Nat → Int32) → (Nat → Int32) → (Nat → Int32) → (Nat → Int32) → (Nat → Int32) → (Nat → Int32) → (Nat → Int32) → (Nat → Int32) → (Nat → Int32) → (Nat → Int32) → Prop} {x3 : Int32} {c : Nat} (H : mc_TH C V L ln op ar t l) (hp : p < l) (hc : c ≤ 3) (h7 : ¬ (op (16 * t + p) = 7 ∧ ar (16 * t + p) = nI lk ∧ c < 3))
    (K : J52 (nI (s + 1)) op ar ln ini ce ac pc ph he rT rP bf af ym cl (mc_st (mc_st sn (mc_cA op ar (16 * t) lk p c) (mc_n0 op ar (16 * t) l p)) (mc_cA op ar (16 * t) lk p c) (mc_n1 op ar (16 * t) l p)) fr cm yo) :
    wY_holds_125 post J43 J52 (nI t) (nI lk) x3 (nI s) (nI p) (nI c) (nI (16 * t + p)) (nI T) (nI C) (nI V) (nI L) sl st op ar ln ini ce ac pc ph he rT rP bf af ym cl sn fr cm yo := by
  have ⟨ht, hl, h16, _⟩ := H
  unfold wY_holds_125
  simp (disch := omega) only [nI_clamp, mc_m16, mc_m48, mc_m3, mc_vin, nI_add, nI_1, true_and, forall_eq, mc_ge0]
  unfold mc_cA at K
  by_cases ha : ar (16 * t + p) = nI lk
  · rw [if_pos ha, if_neg (fun z => h7 ⟨z.1, ha, z.2⟩)] at K
    by_cases h8 : op (16 * t + p) = 8
    · refine br_t h8 (br_t ha ?_)
      by_cases c0 : c = 0
      · rw [if_neg (fun z => by have := z.2; omega)] at K
        exact br_t c0 (mc_y_156 H hp hc K)
      · rw [if_pos ⟨h8, by omega⟩] at K
        have e : nI c + (-1) = nI (c - 1) := by
          have := pk_m1 (c - 1)
          rw [show c - 1 + 1 = c by omega] at this
          exact this
        rw [e]
        exact br_f c0 (mc_y_156 H hp (by omega) K)
    · rw [if_neg (fun z => h8 z.1)] at K
      exact br_f h8 (mc_y_156 H hp hc K)
  · rw [if_neg ha] at K
    exact br_c (fun _ => br_f ha (mc_y_156 H hp hc K)) (fun _ => mc_y_156 H hp hc K)
theorem mc_y_52 {post : SY → Prop} {J43 : Int32 → (Nat → Int32) → (Nat → Int32) → (Nat → Int32) → (Nat → Int32) → (Nat → Int32) → (Nat → Int32) → (Nat → Int32) → (Nat → Int32) → (Nat → Int32) → (Nat → Int32) → (Nat → Int32) → (Nat → Int32) → (Nat → Int32) → (Nat → Int32) → (Nat → Int32) → (Nat → Int32) → (Nat → Int32) → (Nat → Int32) → (Nat → Int32) → Prop} {sn0 : Nat → Int32} {k : Nat} (H : mc_TH C V L ln op ar t l)
    (K : ∀ sn, mc_H1 op ar (16 * t) l lk 64 sn0 sn → J43 (nI (k + 1)) op ar ln ini ce ac pc ph he rT rP bf af ym cl sn fr cm yo) :
    ∀ n s sn, 64 - s < n → s ≤ 64 → mc_H1 op ar (16 * t) l lk s sn0 sn → wY_holds_52 post J43 (nI t) (nI lk) (nI k) (nI T) (nI C) (nI V) (nI L) sl st n (nI s) op ar ln ini ce ac pc ph he rT rP bf af ym cl sn fr cm yo := by
  have ⟨ht, hl, h16, _⟩ := H
  intro n
  induction n with
  | zero => intro s sn z; omega
  | succ n ih =>
    intro s sn hn hs hI
    rw [wY_holds_52]
    by_cases e : 64 ≤ s
    all_goals simp (disch := omega) only [nI_clamp, mc_m16, mc_m48, mc_m3, mc_vin, nI_add, nI_1, true_and, forall_eq, mc_le64, mc_d4, mc_r4, mc_le3]
    · have : s = 64 := by omega
      subst this
      exact br_t e (K sn hI)
    · refine br_f e ?_
      by_cases z : sn s = 0
      · exact br_t z (ih (s + 1) sn (by omega) (by omega) (mc_H1_n hI z))
      · have hR := mc_Rc_b (hI.2.1 s (by omega) z)
        have hc : s % 4 ≤ 3 := by omega
        have K' := ih (s + 1) _ (by omega) (by omega) (mc_H1_y (by omega) hI z)
        refine br_f z ⟨mc_n40, mc_n40, ?_⟩
        by_cases h7 : op (16 * t + s / 4) = 7
        · refine br_t h7 ?_
          by_cases ha : ar (16 * t + s / 4) = nI lk
          · refine br_t ha ?_
            by_cases h3 : 3 ≤ s % 4
            · exact br_t h3 (mc_y_125 H hR.1 hc (fun w => by have := w.2.2; omega) K')
            · have e2 : mc_cA op ar (16 * t) lk (s / 4) (s % 4) = s % 4 + 1 := by
                unfold mc_cA; rw [if_pos ha, if_pos ⟨h7, by omega⟩]
              rw [e2] at K'
              exact br_f h3 (mc_y_156 H hR.1 (by omega) K')
          · exact br_f ha (mc_y_125 H hR.1 hc (fun w => ha w.2.1) K')
        · exact br_f h7 (mc_y_125 H hR.1 hc (fun w => h7 w.1) K')
def mc_fy (t lk : Nat) (ym ym' : Nat → Int32) : Prop := ∀ j, (∀ p, p < 16 → j ≠ 3 * (16 * t + p) + lk) → ym' j = ym j
def mc_dn (k : Nat) : Int32 := if k = 0 then -1 else nI (k - 1)
theorem mc_dn_s (k : Nat) : nI k + (-1) = mc_dn k := by
  unfold mc_dn
  by_cases h : k = 0
  · subst h; rw [if_pos rfl, nI_0]; decide
  · rw [if_neg h]
    have := pk_m1 (k - 1)
    rw [show k - 1 + 1 = k by omega] at this
    exact this
def mc_I2 (t lk k : Nat) (sn ym : Nat → Int32) (m : Nat → Nat) : Prop :=
  ∀ p, p < 16 → ym (3 * (16 * t + p) + lk) = mc_yv (m p) ∧ m p ≤ 4 ∧ (m p < 4 → ¬ sn (4 * p + m p) = 0) ∧ (∀ c, c ≤ 3 → k ≤ 4 * p + c → ¬ sn (4 * p + c) = 0 → m p ≤ c)
theorem mc_y_227 {post : SY → Prop} {ym0 : Nat → Int32} (ht : t < 3) (hlk : lk < 3) (K : ∀ ym m, mc_fy t lk ym0 ym → mc_I2 t lk 0 sn ym m → post (nI T, nI C, nI V, nI L, sl, st, op, ar, ln, ini, ce, ac, pc, ph, he, rT, rP, bf, af, ym, cl, sn, fr, cm, yo)) :
    ∀ n k ym m, k < n → k ≤ 64 → mc_fy t lk ym0 ym → mc_I2 t lk k sn ym m → wY_holds_227 post (nI t) (nI lk) (nI T) (nI C) (nI V) (nI L) sl st n (mc_dn k) op ar ln ini ce ac pc ph he rT rP bf af ym cl sn fr cm yo := by
  intro n
  induction n with
  | zero => intro k ym m z; omega
  | succ n ih =>
    intro k ym m hn hk hF hI
    rw [wY_holds_227]
    by_cases e : k = 0
    · subst e
      exact br_t mc_m1' (K ym m hF hI)
    · have ed : mc_dn k = nI (k - 1) := if_neg e
      rw [ed]
      simp (disch := omega) only [nI_clamp, mc_m16, mc_m48, mc_m3, mc_vin, nI_add, nI_1, true_and, forall_eq, mc_d4, mc_r4, mc_dn_s]
      refine br_f (nI_pos (by omega)) ?_
      by_cases z : sn (k - 1) = 0
      · refine br_t z (ih (k - 1) ym m (by omega) (by omega) hF ?_)
        intro p hp
        obtain ⟨i1, i2, i3, i4⟩ := hI p hp
        refine ⟨i1, i2, i3, fun c hc hk' hs => i4 c hc ?_ hs⟩
        by_cases ee : 4 * p + c = k - 1
        · rw [ee] at hs; exact absurd z hs
        · omega
      · refine br_f z ⟨mc_n40, mc_n40, ?_⟩
        refine ih (k - 1) _ (mc_up m ((k - 1) / 4) ((k - 1) % 4)) (by omega) (by omega) ?_ ?_
        · intro j hj
          rw [pk_un (hj _ (by omega))]; exact hF j hj
        · intro p hp
          by_cases ep : p = (k - 1) / 4
          · subst ep
            rw [pk_us, mc_up_s]
            refine ⟨?_, by omega, fun _ => ?_, fun c hc hk' hs => by omega⟩
            · unfold mc_yv; rw [if_neg (by omega)]
            · rw [show 4 * ((k - 1) / 4) + (k - 1) % 4 = k - 1 by omega]; exact z
          · obtain ⟨i1, i2, i3, i4⟩ := hI p hp
            rw [pk_un (by omega), mc_up_n ep]
            exact ⟨i1, i2, i3, fun c hc hk' hs => i4 c hc (by omega) hs⟩
theorem mc_y_43 {post : SY → Prop} (H : mc_TH C V L ln op ar t l) (hlk : lk < 3) (h1 : ∀ p, p < 16 → ym (3 * (16 * t + p) + lk) = -1)
    (K : ∀ ym' sn', mc_fy t lk ym ym' → (∀ p, p < 16 → ym' (3 * (16 * t + p) + lk) = mc_yv (mc_mm op ar (16 * t) l lk p)) → post (nI T, nI C, nI V, nI L, sl, st, op, ar, ln, ini, ce, ac, pc, ph, he, rT, rP, bf, af, ym', cl, sn', fr, cm, yo)) :
    ∀ n k sn, 65 - k < n → k ≤ 64 → mc_s1 op ar (16 * t) l lk sn → (0 < l → ¬ sn 0 = 0) → (mc_cs op ar (16 * t) l lk sn ∨ k + 1 ≤ mc_cn (fun j => ¬ sn j = 0) 64) → wY_holds_43 post (nI t) (nI lk) (nI T) (nI C) (nI V) (nI L) sl st n (nI k) op ar ln ini ce ac pc ph he rT rP bf af ym cl sn fr cm yo := by
  have ⟨ht, hl, h16, _⟩ := H
  intro n
  induction n with
  | zero => intro k sn z; omega
  | succ n ih =>
    intro k sn hn hk hS h0 hc
    rw [wY_holds_43]
    by_cases e : 64 ≤ k
    all_goals simp (disch := omega) only [mc_le64]
    · have hcs : mc_cs op ar (16 * t) l lk sn := by
        rcases hc with hc | hc
        · exact hc
        · have := mc_cn_le (fun j => ¬ sn j = 0) 64
          omega
      refine br_t e ⟨65, mc_y_227 (ym0 := ym) ht hlk ?_ 65 64 ym (fun _ => 4) (by omega) (by omega) (fun _ _ => rfl) ?_⟩
      · intro ym' m hF hI
        refine K ym' sn hF fun p hp => ?_
        obtain ⟨i1, i2, i3, i4⟩ := hI p hp
        rw [i1, mc_mm_u i2 ?_ ?_]
        · intro h4
          have := hS (4 * p + m p) (by omega) (i3 h4)
          rw [show (4 * p + m p) / 4 = p by omega, show (4 * p + m p) % 4 = m p by omega] at this
          exact this
        · intro c hR
          exact i4 c (mc_Rc_b hR).2 (by omega) (hcs p c hR)
      · intro p hp
        exact ⟨h1 p hp, Nat.le_refl _, fun z => absurd (show 4 < 4 from z) (by omega), fun c hc hk' _ => by show 4 ≤ c; omega⟩
    · refine br_f e ⟨65, mc_y_52 (sn0 := sn) H ?_ 65 0 sn (by omega) (by omega) ⟨fun _ z => z, hS, fun j hj => absurd hj (by omega)⟩⟩
      intro sn' hI
      exact ih (k + 1) sn' (by omega) (by omega) hI.2.1 (fun z => hI.1 0 (h0 z)) (mc_H1_r h16 hI h0 hc)
theorem mc_y_h2 {post : SY → Prop} (H : mc_TH C V L ln op ar t l) (hlk : lk < 3) (h1 : ∀ p, p < 16 → ym (3 * (16 * t + p) + lk) = -1)
    (K : ∀ ym' sn', mc_fy t lk ym ym' → (∀ p, p < 16 → ym' (3 * (16 * t + p) + lk) = mc_yv (mc_mm op ar (16 * t) l lk p)) → post (nI T, nI C, nI V, nI L, sl, st, op, ar, ln, ini, ce, ac, pc, ph, he, rT, rP, bf, af, ym', cl, sn', fr, cm, yo)) :
    ∀ n i sn, 64 - i < n → i ≤ 64 → (∀ j, j < i → sn j = 0) → wY_holds_2 post (nI t) (nI lk) (nI T) (nI C) (nI V) (nI L) sl st n (nI i) op ar ln ini ce ac pc ph he rT rP bf af ym cl sn fr cm yo := by
  have ⟨ht, hl, h16, _⟩ := H
  intro n
  induction n with
  | zero => intro k sn z; omega
  | succ n ih =>
    intro i sn hn hi hS
    rw [wY_holds_2]
    by_cases e : 64 ≤ i
    all_goals simp (disch := omega) only [nI_clamp, mc_m16, mc_m48, mc_m3, mc_vin, nI_add, nI_1, true_and, forall_eq, mc_le64, hl, mc_ge0, mc_nb1, mc_nb0]
    · refine br_t e ?_
      by_cases l0 : l = 0
      · refine br_t l0 ⟨66, mc_y_43 H hlk h1 K 66 0 _ (by omega) (by omega) ?_ (fun z => absurd z (by omega)) (Or.inl fun p c hR => absurd (mc_Rc_b hR).1 (by omega))⟩
        intro j hj hz
        refine absurd ?_ hz
        by_cases ej : j = 0
        · subst ej; rw [pk_us]
        · rw [pk_un ej]; exact hS j (by omega)
      · refine br_f l0 ⟨66, mc_y_43 H hlk h1 K 66 0 _ (by omega) (by omega) ?_ (fun _ => by rw [pk_us]; exact mc_n10) (Or.inr (mc_cn_pos (a := 0) (by omega) (by rw [pk_us]; exact mc_n10)))⟩
        intro j hj hz
        by_cases ej : j = 0
        · subst ej; exact mc_Rc_0 (by omega)
        · rw [pk_un ej] at hz; exact absurd (hS j (by omega)) hz
    · refine br_f e (ih (i + 1) _ (by omega) (by omega) ?_)
      intro j hj
      by_cases ej : j = i
      · subst ej; rw [pk_us]
      · rw [pk_un ej]; exact hS j (by omega)
theorem mc_y_holds {post : SY → Prop} (H : mc_TH C V L ln op ar t l) (hlk : lk < 3) (h1 : ∀ p, p < 16 → ym (3 * (16 * t + p) + lk) = -1)
    (K : ∀ ym' sn', mc_fy t lk ym ym' → (∀ p, p < 16 → ym' (3 * (16 * t + p) + lk) = mc_yv (mc_mm op ar (16 * t) l lk p)) → post (nI T, nI C, nI V, nI L, sl, st, op, ar, ln, ini, ce, ac, pc, ph, he, rT, rP, bf, af, ym', cl, sn', fr, cm, yo)) : wpY_holds post (nI T, nI C, nI V, nI L, sl, st, op, ar, ln, ini, ce, ac, pc, ph, he, rT, rP, bf, af, ym, cl, sn, fr, cm, yo) (nI t) (nI lk) := by
  unfold wpY_holds
  exact ⟨65, mc_y_h2 H hlk h1 K 65 0 sn (by omega) (by omega) (fun j hj => absurd hj (by omega))⟩
end
end
section
/-! the reference's kinds and classes -/
def mc_YA (L : Nat) (op ar : Nat → Int32) (lf : Nat → Nat) (ym : Nat → Int32) : Prop := ∀ x, x < 48 → ∀ lk, lk < L → ym (3 * x + lk) = mc_yv (mc_mx op ar lf lk x)
section
variable {T C V L : Nat} {sl st : Int32} {op ar ln ini ce ac pc ph he rT rP bf af ym cl sn fr cm yo : Nat → Int32}
variable {lf : Nat → Nat} {x c : Nat}
theorem mc_PG_x (P : mc_PG T C V L ln op ar lf) (hx : x < 48) (h : mc_mx op ar lf 0 x ≠ 4) : x / 16 < T ∧ x % 16 < lf (x / 16) ∧ mc_IN V C L (op x) (ar x) := by
  have h1 : x % 16 < lf (x / 16) := mc_mm_l h
  have h2 : x / 16 < T := by
    apply Classical.byContradiction
    intro z
    rw [P.2.2.2.2.2.1 (x / 16) (by omega) (by omega)] at h1
    omega
  have := P.2.2.2.2.2.2 (x / 16) (x % 16) h2 h1
  rw [show 16 * (x / 16) + x % 16 = x by omega] at this
  exact ⟨h2, h1, this⟩
theorem mc_yv_4 : mc_yv 4 = -1 := if_pos rfl
theorem mc_yv_n {m : Nat} (h : m ≠ 4) : mc_yv m = nI m := if_neg h
theorem mc_o1 {o a : Int32} (h : mc_IN V C L o a) : ¬ o < 1 := by
  obtain ⟨⟨k, k1, k2, e⟩, -⟩ := h
  rw [e]; exact nI_nlt (b := 1) k1 (by omega)
theorem mc_y_acc {post : Int32 → Prop} (P : mc_PG T C V L ln op ar lf) (hY : mc_YA L op ar lf ym) (hx : x < 48) (h1 : mc_Ac op ar lf c x → post 1) (h0 : ¬ mc_Ac op ar lf c x → post 0) :
    wpY_accesses post (nI T, nI C, nI V, nI L, sl, st, op, ar, ln, ini, ce, ac, pc, ph, he, rT, rP, bf, af, ym, cl, sn, fr, cm, yo) (nI x) (nI c) := by
  have hL1 := P.2.2.2.1.1
  have e : ym (3 * x) = mc_yv (mc_mx op ar lf 0 x) := hY x hx 0 (by omega)
  unfold wpY_accesses
  simp (disch := omega) only [nI_clamp, mc_m16, mc_m48, mc_m3, mc_vin, nI_add, nI_1, true_and, forall_eq, e]
  by_cases z : mc_mx op ar lf 0 x = 4
  · rw [z, mc_yv_4]
    exact br_t mc_m1' (h0 (fun q => q.1 z))
  · have h4 := mc_mx_le (op := op) (ar := ar) (lf := lf) (lk := 0) (x := x)
    rw [mc_yv_n z]
    refine br_f (nI_pos (by omega)) (br_f (mc_o1 (mc_PG_x P hx z).2.2) ?_)
    exact br_c (fun q => h0 (fun w => w.2.1 q)) (fun q => br_c (fun q' => h1 ⟨z, q, q'⟩) (fun q' => h0 (fun w => q' w.2.2)))
theorem mc_y_126 {post : Int32 → Prop} {J : Int32 → Prop} {k : Nat} (P : mc_PG T C V L ln op ar lf) (hY : mc_YA L op ar lf ym) (hk : k < L)
    (h1 : mc_G op ar lf c k → post (nI (4 + k))) (h0 : ¬ mc_G op ar lf c k → J (nI (k + 1))) :
    ∀ n x x6, 48 - x < n → x ≤ 48 → (¬ x6 = 0 ↔ ∀ y, y < x → mc_Ac op ar lf c y → mc_mx op ar lf k y ≠ 0) → wY_cellKind_126 post J (nI c) (nI k) (nI T) (nI C) (nI V) (nI L) sl st op ar ln ini ce ac pc ph he rT rP bf af ym cl sn fr cm yo n x6 (nI x) := by
  have hL := P.2.2.2.1.2
  intro n
  induction n with
  | zero => intro x x6 z; omega
  | succ n ih =>
    intro x x6 hn hx hI
    rw [wY_cellKind_126]
    by_cases e : 48 ≤ x
    all_goals simp (disch := omega) only [nI_clamp, mc_m16, mc_m48, mc_m3, mc_vin, nI_add, nI_1, true_and, forall_eq, mc_le48, mc_a4]
    · have : x = 48 := by omega
      subst this
      refine br_t e (br_c (fun z => h0 (fun G => absurd z (hI.mpr G))) (fun z => h1 (hI.mp z)))
    · refine br_f e (mc_y_acc P hY (by omega) ?_ ?_)
      · intro hA
        have em := hY x (by omega) k hk
        have hne : mc_mx op ar lf k x ≠ 4 := fun z => hA.1 (mc_mx_4 z)
        have h4 := mc_mx_le (op := op) (ar := ar) (lf := lf) (lk := k) (x := x)
        rw [mc_yv_n hne] at em
        refine br_f mc_n10 ?_
        simp (disch := omega) only [nI_clamp, mc_m16, mc_m48, mc_m3, mc_vin, nI_add, nI_1, true_and, forall_eq, em, mc_le1]
        by_cases z : 1 ≤ mc_mx op ar lf k x
        · refine br_t z (ih (x + 1) x6 (by omega) (by omega) (hI.trans ⟨fun H y hy hAy => ?_, fun H y hy => H y (by omega)⟩))
          by_cases ey : y = x
          · subst ey; omega
          · exact H y (by omega) hAy
        · refine br_f z (ih (x + 1) 0 (by omega) (by omega) ⟨fun q => absurd rfl q, fun H => absurd (H x (by omega) hA) (by omega)⟩)
      · intro hA
        refine br_t rfl (ih (x + 1) x6 (by omega) (by omega) (hI.trans ⟨fun H y hy hAy => ?_, fun H y hy => H y (by omega)⟩))
        by_cases ey : y = x
        · subst ey; exact absurd hAy hA
        · exact H y (by omega) hAy
theorem mc_y_111 {post : Int32 → Prop} (P : mc_PG T C V L ln op ar lf) (hY : mc_YA L op ar lf ym) (h : post (nI (mc_gk op ar lf L c))) :
    ∀ n k, L - k < n → k ≤ L → (∀ i, i < k → ¬ mc_G op ar lf c i) → wY_cellKind_111 post (nI c) (nI T) (nI C) (nI V) (nI L) sl st op ar ln ini ce ac pc ph he rT rP bf af ym cl sn fr cm yo n (nI k) := by
  have hL := P.2.2.2.1.2
  intro n
  induction n with
  | zero => intro k z; omega
  | succ n ih =>
    intro k hn hk hI
    rw [wY_cellKind_111]
    by_cases e : L ≤ k
    all_goals simp (disch := omega) only [nI_leI]
    · have : k = L := by omega
      subst this
      rw [mc_gk_n hI] at h
      exact br_t e h
    · refine br_f e ⟨49, mc_y_126 P hY (by omega) ?_ ?_ 49 0 1 (by omega) (by omega) ⟨fun _ y hy => absurd hy (by omega), fun _ => mc_n10⟩⟩
      · intro hG
        rw [mc_gk_y hL (by omega) hI hG] at h
        exact h
      · intro hG
        refine ih (k + 1) (by omega) (by omega) fun i hi => ?_
        by_cases ei : i = k
        · subst ei; exact hG
        · exact hI i (by omega)
theorem mc_y_61 {post : Int32 → Prop} {J31 : Int32 → Int32 → Int32 → Int32 → Prop} {x2 x3 x4 x3' : Int32} (hx : x < 48) (hI : mc_KI op ar lf c x x3 x4 x2)
    (hA : mc_Ac op ar lf c x) (h2 : (op x = 1 ∧ x3' = x3) ∨ (¬ op x = 1 ∧ x3' = 1))
    (K : ∀ x2 x3 x4, mc_KI op ar lf c (x + 1) x3 x4 x2 → J31 x2 x3 x4 (nI (x + 1))) : wY_cellKind_61 post J31 (nI c) x2 x3' x4 (nI x) (nI T) (nI C) (nI V) (nI L) sl st op ar ln ini ce ac pc ph he rT rP bf af ym cl sn fr cm yo := by
  have key : ∀ x4', ((x2 < 0 ∨ x2 = nI (x / 16)) ∧ x4' = x4) ∨ (¬ x2 < 0 ∧ ¬ x2 = nI (x / 16) ∧ x4' = 1) → J31 (nI (x / 16)) x3' x4' (nI (x + 1)) := fun x4' h3 => K _ _ _ (mc_KI_y hx hI hA h2 h3)
  unfold wY_cellKind_61
  simp (disch := omega) only [nI_1, forall_eq, mc_d16]
  exact br_c (fun z => ⟨mc_n160, key x4 (Or.inl ⟨Or.inl z, rfl⟩)⟩) (fun z => ⟨mc_n160, br_c (fun z' => ⟨mc_n160, key x4 (Or.inl ⟨Or.inr z', rfl⟩)⟩) (fun z' => ⟨mc_n160, key 1 (Or.inr ⟨z, z', rfl⟩)⟩)⟩)
theorem mc_y_ck31 {post : Int32 → Prop} (P : mc_PG T C V L ln op ar lf) (hY : mc_YA L op ar lf ym) (h : post (nI (mc_kv op ar lf L c))) :
    ∀ n x x2 x3 x4, 48 - x < n → x ≤ 48 → mc_KI op ar lf c x x3 x4 x2 → wY_cellKind_31 post (nI c) (nI T) (nI C) (nI V) (nI L) sl st op ar ln ini ce ac pc ph he rT rP bf af ym cl sn fr cm yo n x2 x3 x4 (nI x) := by
  intro n
  induction n with
  | zero => intro x x2 x3 x4 z; omega
  | succ n ih =>
    intro x x2 x3 x4 hn hx hI
    rw [wY_cellKind_31]
    by_cases e : 48 ≤ x
    all_goals simp (disch := omega) only [nI_clamp, mc_m16, mc_m48, mc_m3, mc_vin, nI_add, nI_1, true_and, forall_eq, mc_le48]
    · have : x = 48 := by omega
      subst this
      obtain ⟨k0, k1, k2, k3⟩ := mc_kv_c (L := L) hI
      refine br_t e (br_c (fun z => br_c (fun z2 => ?_) (fun z2 => br_c (fun z3 => ?_) (fun z3 => ?_))) (fun z => ?_))
      · rw [k1 z z2] at h; exact h
      · rw [k2 z z2 z3] at h; exact h
      · rw [k3 z z2 z3] at h
        exact ⟨L + 1, mc_y_111 P hY h (L + 1) 0 (by omega) (by omega) (fun i hi => absurd hi (by omega))⟩
      · rw [k0 z] at h; exact h
    · refine br_f e (mc_y_acc P hY (by omega) ?_ ?_)
      · intro hA
        refine br_f mc_n10 (br_c ?_ ?_)
        · intro z
          exact mc_y_61 (x3 := x3) (by omega) hI hA (Or.inl ⟨z, rfl⟩) (fun a b d h => ih (x + 1) a b d (by omega) (by omega) h)
        · intro z
          exact mc_y_61 (x3 := x3) (by omega) hI hA (Or.inr ⟨z, rfl⟩) (fun a b d h => ih (x + 1) a b d (by omega) (by omega) h)
      · intro hA
        refine br_t rfl (ih (x + 1) _ _ _ (by omega) (by omega) (mc_KI_g hI (by omega) fun y h1 h2 => ?_))
        rw [show y = x by omega]; exact hA
theorem mc_y_ck {post : Int32 → Prop} (P : mc_PG T C V L ln op ar lf) (hY : mc_YA L op ar lf ym) (hs : ¬ sl = 0) (hc : c < V) (h : post (nI (mc_kv op ar lf L c))) : wpY_cellKind post (nI T, nI C, nI V, nI L, sl, st, op, ar, ln, ini, ce, ac, pc, ph, he, rT, rP, bf, af, ym, cl, sn, fr, cm, yo) (nI c) := by
  have hV := P.2.2.1.2
  unfold wpY_cellKind
  exact br_f hs (br_f (nI_pos (by omega)) (br_t (nI_lt hc (by omega)) ⟨49, mc_y_ck31 P hY h 49 0 (-1) 0 0 (by omega) (by omega) mc_KI_0⟩))
theorem mc_y_cls {post : Int32 → Prop} (P : mc_PG T C V L ln op ar lf) (hY : mc_YA L op ar lf ym) (hs : ¬ sl = 0) (hx : x < 48) (h : post (mc_cv op ar lf L x)) : wpY_classOf post (nI T, nI C, nI V, nI L, sl, st, op, ar, ln, ini, ce, ac, pc, ph, he, rT, rP, bf, af, ym, cl, sn, fr, cm, yo) (nI x) := by
  have hL := P.2.2.2.1
  have hV := P.2.2.1.2
  have e : ym (3 * x) = mc_yv (mc_mx op ar lf 0 x) := hY x hx 0 (by omega)
  unfold mc_cv at h
  unfold wpY_classOf
  simp (disch := omega) only [nI_clamp, mc_m16, mc_m48, mc_m3, mc_vin, nI_add, nI_1, true_and, forall_eq, e]
  by_cases z : mc_mx op ar lf 0 x = 4
  · rw [z, mc_yv_4]
    rw [if_pos z] at h
    exact br_f mc_m1 h
  · have h4 := mc_mx_le (op := op) (ar := ar) (lf := lf) (lk := 0) (x := x)
    obtain ⟨-, -, hIN⟩ := mc_PG_x P hx z
    obtain ⟨-, iA, -, iL⟩ := hIN
    rw [mc_yv_n z]
    rw [if_neg z] at h
    refine br_t (mc_le0 (by omega)) ?_
    by_cases h3 : 3 < op x
    · rw [if_neg (fun z => z h3)] at h
      refine br_t h3 ?_
      by_cases h7 : op x = 7
      · obtain ⟨k, hk, ea⟩ := iL (Or.inl h7)
        have em := hY x hx k hk
        have hne : mc_mx op ar lf k x ≠ 4 := fun w => z (mc_mx_4 w)
        have h4' := mc_mx_le (op := op) (ar := ar) (lf := lf) (lk := k) (x := x)
        rw [mc_yv_n hne] at em
        rw [if_pos h7, ea, nI_clamp (by omega)] at h
        refine br_t h7 ?_
        simp (disch := omega) only [nI_clamp, mc_m16, mc_m48, mc_m3, mc_vin, nI_add, nI_1, true_and, forall_eq, ea, em, mc_e0]
        by_cases w : mc_mx op ar lf k x = 0
        · rw [if_pos w] at h; exact br_t w h
        · rw [if_neg w] at h; exact br_f w h
      · rw [if_neg h7] at h
        refine br_f h7 ?_
        by_cases h8 : op x = 8
        · obtain ⟨k, hk, ea⟩ := iL (Or.inr h8)
          have em := hY x hx k hk
          have hne : mc_mx op ar lf k x ≠ 4 := fun w => z (mc_mx_4 w)
          have h4' := mc_mx_le (op := op) (ar := ar) (lf := lf) (lk := k) (x := x)
          rw [mc_yv_n hne] at em
          rw [if_pos h8, ea, nI_clamp (by omega)] at h
          refine br_t h8 ?_
          simp (disch := omega) only [nI_clamp, mc_m16, mc_m48, mc_m3, mc_vin, nI_add, nI_1, true_and, forall_eq, ea, em, mc_lt1]
          by_cases w : 1 < mc_mx op ar lf k x
          · rw [if_pos w] at h; exact br_t w h
          · rw [if_neg w] at h; exact br_f w h
        · rw [if_neg h8] at h; exact br_f h8 h
    · obtain ⟨k, hk, ea⟩ := iA h3
      rw [if_pos h3, ea, nI_clamp (by omega)] at h
      have hkv := mc_kv_le op ar lf L k
      rw [ea]
      refine br_f h3 (mc_y_ck P hY hs hk ?_)
      simp (disch := omega) only [mc_e3]
      by_cases w : mc_kv op ar lf L k = 3
      · rw [if_pos w] at h; exact br_t w h
      · rw [if_neg w] at h; exact br_f w h
end
end
section
/-! the reference's offenses -/
def mc_FA (l : Nat) (fr : Nat → Int32) (F : Nat → Nat → Nat) : Prop := (l = 0 → fr 0 = 1000) ∧ ∀ p h, p < l → h < 3 → fr (3 * p + h) = nI (F p h) ∧ F p h ≤ 1000
theorem mc_FA_u {l p h c : Nat} {fr : Nat → Int32} {F : Nat → Nat → Nat} (H : mc_FA l fr F) (hp : p < l) (hh : h < 3) (hc : c ≤ 1000) : mc_FA l (upd fr (3 * p + h) (nI c)) (mc_u2 F p h c) := by
  refine ⟨fun z => absurd hp (by omega), ?_⟩
  intro p' h' hp' hh'
  by_cases e : p' = p ∧ h' = h
  · obtain ⟨rfl, rfl⟩ := e
    rw [pk_us, mc_u2_s]; exact ⟨rfl, hc⟩
  · rw [pk_un (by omega), mc_u2_n e]; exact H.2 p' h' hp' hh'
theorem mc_bI_s (h q : Nat) : mc_bI h (some q) = nI (3 * q + h) := rfl
def mc_IY (op ar cl : Nat → Int32) (b l r w : Nat) (dd F : Nat → Nat → Nat) : Prop :=
  (∀ p h, p < l → h < 3 → mc_ee (dd p h) ≤ F p h ∧ F p h ≤ 1000) ∧ (∀ p h, p < l → h < 3 → dd p h ≤ r → F p h = mc_ee (dd p h)) ∧
  (∀ p h, p < l → h < 3 → 3 * p + h < w → dd p h = r + 1 → F p h = mc_ee (dd p h))
theorem mc_ee_1000 {d : Nat} (h : d ≤ 99) : mc_ee d ≤ 1000 ∧ d + 1 ≤ mc_ee d := by
  unfold mc_ee
  split <;> omega
section
variable {op ar cl : Nat → Int32} {b l r p h : Nat} {dd F : Nat → Nat → Nat}
theorem mc_IY_n (hl : l ≤ 16) (H : mc_DD op ar cl b l dd) (hp : p < l) (hh : h < 3) (I : mc_IY op ar cl b l r (3 * p + h) dd F) :
    (mc_bq (fun q => F q (mc_pa op cl b p h)) (mc_n0 op ar b l p) (mc_n1 op ar b l p) = none → mc_IY op ar cl b l r (3 * p + h + 1) dd F) ∧
    (∀ q, mc_bq (fun q => F q (mc_pa op cl b p h)) (mc_n0 op ar b l p) (mc_n1 op ar b l p) = some q → q < l ∧
      (F p h ≤ F q (mc_pa op cl b p h) + 1 → mc_IY op ar cl b l r (3 * p + h + 1) dd F) ∧
      (¬ F p h ≤ F q (mc_pa op cl b p h) + 1 → mc_IY op ar cl b l r (3 * p + h + 1) dd (mc_u2 F p h (F q (mc_pa op cl b p h) + 1)))) := by
  obtain ⟨i1, i2, i3⟩ := I
  have h3 : mc_pa op cl b p h < 3 := mc_pa_3 hh
  have pl : ∀ p' h', p' < l → h' < 3 → 3 * p' + h' < 3 * p + h + 1 → ¬ (p' = p ∧ h' = h) → 3 * p' + h' < 3 * p + h := by
    intro p' h' a1 a2 a3 a4
    omega
  have h47 := H.2.2.2.1 p h hh
  -- a state at distance r + 1 has a successor at distance r, or is far away
  have suc : dd p h = r + 1 → dd p h ≠ 99 → ∃ q, mc_sc op ar b l p q ∧ F q (mc_pa op cl b p h) + 1 = mc_ee (dd p h) := by
    intro e h99
    obtain ⟨q, hq, hd⟩ := H.2.2.1 p h hp hh (by omega) h99
    refine ⟨q, hq, ?_⟩
    rw [i2 q _ (mc_sc_lt hq) h3 (by omega)]
    unfold mc_ee
    rw [if_neg (by omega), if_neg (by omega)]
    omega
  constructor
  · intro hn
    obtain ⟨n0, n1⟩ := mc_bq_n hn
    refine ⟨i1, i2, fun p' h' a1 a2 a3 a4 => ?_⟩
    by_cases e : p' = p ∧ h' = h
    · obtain ⟨rfl, rfl⟩ := e
      by_cases h99 : dd p' h' = 99
      · have := i1 p' h' a1 a2
        rw [h99] at this ⊢
        have e99 : mc_ee 99 = 1000 := rfl
        omega
      · obtain ⟨q, hq, _⟩ := suc a4 h99
        rcases mc_sc_n hq with z | z
        · rw [n0] at z; cases z
        · rw [n1] at z; cases z
    · exact i3 p' h' a1 a2 (pl p' h' a1 a2 a3 e) a4
  · intro q hq
    obtain ⟨s1, s2⟩ := mc_bq_s hq
    have hsc : mc_sc op ar b l p q := s1.elim mc_n0_sc mc_n1_sc
    have hql := mc_sc_lt hsc
    have low : mc_ee (dd p h) ≤ F q (mc_pa op cl b p h) + 1 ∨ F q (mc_pa op cl b p h) = 1000 := by
      have a := H.2.1 p h q hp hh hsc
      have c := i1 q _ hql h3
      have d := H.2.2.2.1 q _ h3
      by_cases h99 : dd q (mc_pa op cl b p h) = 99
      · rw [h99] at c
        have e99 : mc_ee 99 = 1000 := rfl
        exact Or.inr (by omega)
      · refine Or.inl ?_
        have c1 : mc_ee (dd q (mc_pa op cl b p h)) = dd q (mc_pa op cl b p h) + 1 := if_neg h99
        have c2 : mc_ee (dd p h) = dd p h + 1 := if_neg (by omega)
        omega
    have up : dd p h = r + 1 → dd p h ≠ 99 → F q (mc_pa op cl b p h) + 1 ≤ mc_ee (dd p h) := by
      intro e h99
      obtain ⟨q', hq', e'⟩ := suc e h99
      have a : F q (mc_pa op cl b p h) ≤ F q' (mc_pa op cl b p h) := s2 q' (mc_sc_n hq')
      omega
    have b1 := i1 p h hp hh
    refine ⟨hql, fun hle => ⟨i1, i2, fun p' h' a1 a2 a3 a4 => ?_⟩, fun hgt => ⟨?_, ?_, ?_⟩⟩
    · by_cases e : p' = p ∧ h' = h
      · obtain ⟨rfl, rfl⟩ := e
        by_cases h99 : dd p' h' = 99
        · have := i1 p' h' a1 a2
          rw [h99] at this ⊢
          have e99 : mc_ee 99 = 1000 := rfl
          omega
        · have := up a4 h99
          omega
      · exact i3 p' h' a1 a2 (pl p' h' a1 a2 a3 e) a4
    · intro p' h' a1 a2
      by_cases e : p' = p ∧ h' = h
      · obtain ⟨rfl, rfl⟩ := e; rw [mc_u2_s]; omega
      · rw [mc_u2_n e]; exact i1 p' h' a1 a2
    · intro p' h' a1 a2 a3
      by_cases e : p' = p ∧ h' = h
      · obtain ⟨rfl, rfl⟩ := e; rw [mc_u2_s]; have := i2 p' h' a1 a2 a3; omega
      · rw [mc_u2_n e]; exact i2 p' h' a1 a2 a3
    · intro p' h' a1 a2 a3 a4
      by_cases e : p' = p ∧ h' = h
      · obtain ⟨rfl, rfl⟩ := e
        rw [mc_u2_s]
        by_cases h99 : dd p' h' = 99
        · rw [h99] at b1 low ⊢
          have e99 : mc_ee 99 = 1000 := rfl
          omega
        · have := up a4 h99
          omega
      · rw [mc_u2_n e]; exact i3 p' h' a1 a2 (pl p' h' a1 a2 a3 e) a4
end
section
variable {T C V L : Nat} {sl st : Int32} {op ar ln ini ce ac pc ph he rT rP bf af ym cl sn fr cm yo : Nat → Int32}
variable {t p l h : Nat} {cv : Nat → Int32} {F dd : Nat → Nat → Nat}
theorem mc_y_pa {post : Int32 → Prop} (ht : t < 3) (hp : p < 16) (hh : h < 3) (hm : cl (16 * t + p) = cv (16 * t + p)) (hq : post (nI (mc_pa op cv (16 * t) p h))) : wpY_phaseAfter post (nI T, nI C, nI V, nI L, sl, st, op, ar, ln, ini, ce, ac, pc, ph, he, rT, rP, bf, af, ym, cl, sn, fr, cm, yo) (nI h) (nI (16 * t + p)) := by
  unfold wpY_phaseAfter
  simp (disch := omega) only [nI_clamp, mc_m16, mc_m48, mc_m3, mc_vin, nI_add, nI_1, true_and, forall_eq, hm, mc_e0, mc_e1]
  unfold mc_pa at hq
  by_cases h0 : h = 0
  · rw [if_pos h0] at hq
    refine br_t h0 ?_
    by_cases h9 : op (16 * t + p) = 9
    · rw [if_pos h9] at hq; exact br_t h9 hq
    · rw [if_neg h9] at hq; exact br_f h9 hq
  · rw [if_neg h0] at hq
    refine br_f h0 ?_
    by_cases h10 : op (16 * t + p) = 10
    · rw [if_pos h10] at hq; exact br_t h10 hq
    · rw [if_neg h10] at hq
      refine br_f h10 ?_
      by_cases h1 : h = 1
      · refine br_t h1 ?_
        by_cases h2 : cv (16 * t + p) = 2
        · rw [if_pos (Or.inl h2)] at hq; exact br_t h2 hq
        · refine br_f h2 ?_
          by_cases h3 : cv (16 * t + p) = 3
          · rw [if_pos (Or.inr h3)] at hq; exact br_t h3 hq
          · rw [if_neg (fun z => z.elim h2 h3)] at hq; exact br_f h3 hq
      · have : h = 2 := by omega
        subst this
        refine br_f h1 ?_
        split at hq <;> exact hq
theorem mc_y_best {post : Int32 → Prop} (H : mc_TH C V L ln op ar t l) (hp : p < l) (hh : h < 3) (hm : ∀ p, p < l → cl (16 * t + p) = cv (16 * t + p)) (hF : mc_FA l fr F)
    (hq : post (mc_bI (mc_pa op cv (16 * t) p h) (mc_bq (fun q => F q (mc_pa op cv (16 * t) p h)) (mc_n0 op ar (16 * t) l p) (mc_n1 op ar (16 * t) l p)))) : wpY_best post (nI T, nI C, nI V, nI L, sl, st, op, ar, ln, ini, ce, ac, pc, ph, he, rT, rP, bf, af, ym, cl, sn, fr, cm, yo) (nI t) (nI (3 * p + h)) := by
  have ⟨ht, hl, h16, _⟩ := H
  have h3 : mc_pa op cv (16 * t) p h < 3 := mc_pa_3 hh
  have e1 : (3 * p + h) / 3 = p := by omega
  have e2 : (3 * p + h) % 3 = h := by omega
  have e3 : nI (3 * p + h) - nI p * 3 = nI h := by
    have := mc_r3 (a := 3 * p + h) (by omega)
    rw [e1, e2] at this; exact this
  unfold wpY_best
  simp (disch := omega) only [mc_d3, e1, e3, forall_eq, mc_m16, nI_add]
  refine ⟨mc_n30, mc_n30, mc_y_pa ht (by omega) hh (hm p hp) (mc_y_n0 H hp (mc_y_n1 H hp ?_))⟩
  have b0 : ∀ q, mc_n0 op ar (16 * t) l p = some q → q < l := fun q z => mc_sc_lt (mc_n0_sc z)
  have b1 : ∀ q, mc_n1 op ar (16 * t) l p = some q → q < l := fun q z => mc_sc_lt (mc_n1_sc z)
  generalize mc_n0 op ar (16 * t) l p = o at b0 hq ⊢
  generalize mc_n1 op ar (16 * t) l p = r at b1 hq ⊢
  cases o with
  | none =>
    cases r with
    | none => exact br_f mc_m1 (br_f mc_m1 hq)
    | some r =>
      have hr := b1 r rfl
      have hrp : (0 : Int32) ≤ mc_oI (some r) := mc_le0 (by omega)
      refine br_f mc_m1 (br_t hrp ?_)
      unfold wY_best_49
      refine br_f mc_m1 ?_
      rw [mc_oI_s, mc_m3, nI_add]
      exact hq
  | some q =>
    have hq' := b0 q rfl
    have hqp : (0 : Int32) ≤ mc_oI (some q) := mc_le0 (by omega)
    refine br_t hqp ?_
    unfold wY_best_49
    refine br_t hqp ?_
    cases r with
    | none =>
      refine br_f mc_m1 ?_
      rw [mc_oI_s, mc_m3, nI_add]
      exact hq
    | some r =>
      have hr := b1 r rfl
      have hrp : (0 : Int32) ≤ mc_oI (some r) := mc_le0 (by omega)
      refine br_t hrp ?_
      obtain ⟨f1, f2⟩ := hF.2 q _ hq' h3
      obtain ⟨g1, g2⟩ := hF.2 r _ hr h3
      rw [mc_oI_s, mc_oI_s]
      simp (disch := omega) only [nI_clamp, mc_m16, mc_m48, mc_m3, mc_vin, nI_add, nI_1, true_and, forall_eq, f1, g1, nI_ltI, nI_eq, nI_leI]
      unfold mc_bq at hq
      dsimp only at hq
      by_cases c1 : F r (mc_pa op cv (16 * t) p h) < F q (mc_pa op cv (16 * t) p h)
      · rw [if_pos c1] at hq; exact br_t c1 hq
      · rw [if_neg c1] at hq
        refine br_f c1 ?_
        by_cases c2 : F r (mc_pa op cv (16 * t) p h) = F q (mc_pa op cv (16 * t) p h)
        · rw [if_pos c2] at hq
          refine br_t c2 ?_
          by_cases c3 : q ≤ r
          · rw [if_pos c3] at hq; exact br_t c3 hq
          · rw [if_neg c3] at hq; exact br_f c3 hq
        · rw [if_neg c2] at hq; exact br_f c2 hq
theorem mc_y_97 {post : Int32 → SY → Prop} {J : Int32 → (Nat → Int32) → (Nat → Int32) → (Nat → Int32) → (Nat → Int32) → (Nat → Int32) → (Nat → Int32) → (Nat → Int32) → (Nat → Int32) → (Nat → Int32) → (Nat → Int32) → (Nat → Int32) → (Nat → Int32) → (Nat → Int32) → (Nat → Int32) → (Nat → Int32) → (Nat → Int32) → (Nat → Int32) → (Nat → Int32) → (Nat → Int32) → Prop} {x2 : Int32} {r : Nat} (H : mc_TH C V L ln op ar t l) (hm : ∀ p, p < l → cl (16 * t + p) = cv (16 * t + p)) (hDD : mc_DD op ar cv (16 * t) l dd)
    (K : ∀ fr F, mc_FA l fr F → mc_IY op ar cv (16 * t) l r (3 * l) dd F → J (nI (r + 1)) op ar ln ini ce ac pc ph he rT rP bf af ym cl sn fr cm yo) :
    ∀ n s fr F, 3 * l - s < n → s ≤ 3 * l → mc_FA l fr F → mc_IY op ar cv (16 * t) l r s dd F → wY_offense_97 post J (nI t) x2 (nI r) (nI T) (nI C) (nI V) (nI L) sl st n (nI s) op ar ln ini ce ac pc ph he rT rP bf af ym cl sn fr cm yo := by
  have ⟨ht, hl, h16, _⟩ := H
  intro n
  induction n with
  | zero => intro s fr F z; omega
  | succ n ih =>
    intro s fr F hn hs hF I
    rw [wY_offense_97]
    by_cases e : 3 * l ≤ s
    all_goals simp (disch := omega) only [nI_clamp, mc_m16, mc_m48, mc_m3, mc_vin, nI_add, nI_1, true_and, forall_eq, hl, nI_leI]
    · have : s = 3 * l := by omega
      subst this
      exact br_t e (K fr F hF I)
    · obtain ⟨p, h, hp, hh, es⟩ : ∃ p h, p < l ∧ h < 3 ∧ s = 3 * p + h := ⟨s / 3, s % 3, by omega, by omega, by omega⟩
      subst es
      have h3 : mc_pa op cv (16 * t) p h < 3 := mc_pa_3 hh
      obtain ⟨nn, ns⟩ := mc_IY_n h16 hDD hp hh I
      refine br_f e (mc_y_best H hp hh hm hF ?_)
      cases eb : mc_bq (fun q => F q (mc_pa op cv (16 * t) p h)) (mc_n0 op ar (16 * t) l p) (mc_n1 op ar (16 * t) l p) with
      | none => exact br_t mc_m1' (ih _ fr F (by omega) (by omega) hF (nn eb))
      | some q =>
        obtain ⟨hq, k1, k2⟩ := ns q eb
        obtain ⟨f1, f2⟩ := hF.2 q _ hq h3
        obtain ⟨g1, g2⟩ := hF.2 p h hp hh
        rw [mc_bI_s]
        simp (disch := omega) only [nI_clamp, mc_m16, mc_m48, mc_m3, mc_vin, nI_add, nI_1, true_and, forall_eq, f1, g1, nI_leI]
        refine br_f (nI_pos (by omega)) ?_
        by_cases z : F p h ≤ F q (mc_pa op cv (16 * t) p h) + 1
        · exact br_t z (ih _ fr F (by omega) (by omega) hF (k1 z))
        · exact br_f z (ih _ _ _ (by omega) (by omega) (mc_FA_u hF hp hh (by omega)) (k2 z))
theorem mc_y_200 {post : Int32 → SY → Prop} {i : Nat} (H : mc_TH C V L ln op ar t l) (hm : ∀ p, p < l → cl (16 * t + p) = cv (16 * t + p)) (hDD : mc_DD op ar cv (16 * t) l dd)
    (hF : mc_FA l fr (fun p h => mc_ee (dd p h))) (h99 : dd 0 0 ≠ 99) (hi : i ≤ dd 0 0) (K : post (nI (mc_tr op ar cv (16 * t) l dd i).1) (nI T, nI C, nI V, nI L, sl, st, op, ar, ln, ini, ce, ac, pc, ph, he, rT, rP, bf, af, ym, cl, sn, fr, cm, yo)) :
    ∀ n k, i - k < n → k ≤ i → wY_offense_200 post (nI t) (nI i) (nI T) (nI C) (nI V) (nI L) sl st op ar ln ini ce ac pc ph he rT rP bf af ym cl sn fr cm yo n (nI (3 * (mc_tr op ar cv (16 * t) l dd k).1 + (mc_tr op ar cv (16 * t) l dd k).2)) (nI k) := by
  have ⟨ht, hl, h16, _⟩ := H
  have h47 := hDD.2.2.2.1 0 0 (by decide)
  intro n
  induction n with
  | zero => intro k z; omega
  | succ n ih =>
    intro k hn hk
    obtain ⟨q1, q2, q3⟩ := mc_tr_i h16 hDD h99 k (by omega)
    rw [wY_offense_200]
    by_cases e : i ≤ k
    all_goals simp (disch := omega) only [nI_leI, nI_1, forall_eq]
    · have : k = i := by omega
      subst this
      refine br_t e ?_
      unfold wY_offense_223
      refine br_t (mc_le0 (by omega)) ⟨mc_n30, ?_⟩
      rw [mc_d3 (by omega), show (3 * (mc_tr op ar cv (16 * t) l dd k).1 + (mc_tr op ar cv (16 * t) l dd k).2) / 3 = (mc_tr op ar cv (16 * t) l dd k).1 by omega]
      exact K
    · refine br_f e (br_f (nI_pos (by omega)) (mc_y_best H q1 q2 hm hF ?_))
      obtain ⟨s1, s2, s3⟩ := mc_tr_s h16 hDD h99 (i := k) (by omega)
      have e2 : (mc_tr op ar cv (16 * t) l dd (k + 1)).2 = mc_pa op cv (16 * t) (mc_tr op ar cv (16 * t) l dd k).1 (mc_tr op ar cv (16 * t) l dd k).2 := rfl
      rw [s3, mc_bI_s, ← e2]
      exact ih (k + 1) (by omega) (by omega)
def mc_yo (op ar cl : Nat → Int32) (t l i : Nat) (dd : Nat → Nat → Nat) : Int32 := if dd 0 0 ≠ 99 ∧ i ≤ dd 0 0 then nI (mc_tr op ar cl (16 * t) l dd i).1 else -1
theorem mc_y_88 {post : Int32 → SY → Prop} {i : Nat} (H : mc_TH C V L ln op ar t l) (hm : ∀ p, p < l → cl (16 * t + p) = cv (16 * t + p)) (hDD : mc_DD op ar cv (16 * t) l dd) (hi : i < 2 ^ 31)
    (K : ∀ fr, post (mc_yo op ar cv t l i dd) (nI T, nI C, nI V, nI L, sl, st, op, ar, ln, ini, ce, ac, pc, ph, he, rT, rP, bf, af, ym, cl, sn, fr, cm, yo)) :
    ∀ n r fr F, 48 - r < n → r ≤ 48 → mc_FA l fr F → mc_IY op ar cv (16 * t) l r 0 dd F → wY_offense_88 post (nI t) (nI i) (nI T) (nI C) (nI V) (nI L) sl st n (nI r) op ar ln ini ce ac pc ph he rT rP bf af ym cl sn fr cm yo := by
  have ⟨ht, hl, h16, _⟩ := H
  have h47 := hDD.2.2.2.1 0 0 (by decide)
  intro n
  induction n with
  | zero => intro r fr F z; omega
  | succ n ih =>
    intro r fr F hn hr hF I
    rw [wY_offense_88]
    by_cases e : 48 ≤ r
    all_goals simp (disch := omega) only [mc_le48]
    · obtain ⟨i1, i2, i3⟩ := I
      have hE : mc_FA l fr (fun p h => mc_ee (dd p h)) := by
        refine ⟨hF.1, fun p h hp hh => ?_⟩
        have e1 := hF.2 p h hp hh
        have e2 : F p h = mc_ee (dd p h) := by
          have h47' := hDD.2.2.2.1 p h hh
          by_cases z : dd p h = 99
          · have := i1 p h hp hh
            rw [z] at this ⊢
            have e99 : mc_ee 99 = 1000 := rfl
            omega
          · exact i2 p h hp hh (by omega)
        rw [e2] at e1
        exact e1
      have e0 : fr 0 = nI (mc_ee (dd 0 0)) := by
        by_cases z : l = 0
        · rw [hF.1 z, hDD.2.2.2.2 0 0 (by omega)]; rfl
        · exact (hE.2 0 0 (by omega) (by omega)).1
      have Kf := K fr
      unfold mc_yo at Kf
      refine br_t e ?_
      rw [e0]
      by_cases z : dd 0 0 = 99
      · rw [if_neg (fun q => q.1 z)] at Kf
        rw [z]
        exact br_t (by decide) Kf
      · have ee : mc_ee (dd 0 0) = dd 0 0 + 1 := if_neg z
        rw [ee]
        refine br_f (nI_ge (b := 1000) (by omega) (by omega)) ?_
        by_cases y : i ≤ dd 0 0
        · rw [if_pos ⟨z, y⟩] at Kf
          exact br_t (nI_lt (by omega) (by omega)) ⟨i + 1, mc_y_200 H hm hDD hE z y Kf (i + 1) 0 (by omega) (by omega)⟩
        · rw [if_neg (fun q => y q.2)] at Kf
          exact br_f (nI_nlt (by omega) (by omega)) Kf
    · refine br_f e ⟨3 * l + 1, mc_y_97 H hm hDD ?_ (3 * l + 1) 0 fr F (by omega) (by omega) hF I⟩
      intro fr' F' hF' I'
      obtain ⟨i1, i2, i3⟩ := I'
      refine ih (r + 1) fr' F' (by omega) (by omega) hF' ⟨i1, fun p h a1 a2 a3 => ?_, fun p h _ _ a => absurd a (by omega)⟩
      by_cases q : dd p h ≤ r
      · exact i2 p h a1 a2 q
      · exact i3 p h a1 a2 (by omega) (by omega)
def mc_F0 (cv : Nat → Int32) (b l i : Nat) (fr : Nat → Int32) : Prop := ∀ s, s < i → s < 48 → fr s = if s % 3 = 2 ∧ (cv (b + s / 3) = 1 ∨ cv (b + s / 3) = 3) then 1 else 1000
theorem mc_F0_FA (hl : l ≤ 16) (hDD : mc_DD op ar cv (16 * t) l dd) (h : mc_F0 cv (16 * t) l 48 fr) (h0 : l = 0 → fr 0 = 1000) : ∃ F, mc_FA l fr F ∧ mc_IY op ar cv (16 * t) l 0 0 dd F := by
  refine ⟨fun p h => if dd p h = 0 then 1 else 1000, ⟨h0, ?_⟩, ?_, ?_, fun p h _ _ a => absurd a (by omega)⟩
  · intro p h' hp hh
    have e := h (3 * p + h') (by omega) (by omega)
    rw [show (3 * p + h') % 3 = h' by omega, show (3 * p + h') / 3 = p by omega] at e
    dsimp only
    by_cases z : dd p h' = 0
    · rw [if_pos z]
      rw [if_pos (show h' = 2 ∧ (cv (16 * t + p) = 1 ∨ cv (16 * t + p) = 3) from (hDD.1 p h' hp hh).mp z)] at e
      exact ⟨e, by omega⟩
    · rw [if_neg z]
      rw [if_neg (show ¬ (h' = 2 ∧ (cv (16 * t + p) = 1 ∨ cv (16 * t + p) = 3)) from fun q => z ((hDD.1 p h' hp hh).mpr q))] at e
      exact ⟨e, by omega⟩
  · intro p h hp hh
    dsimp only
    have := mc_ee_1000 (mc_DD_99 hDD hh (p := p))
    by_cases z : dd p h = 0
    · rw [if_pos z, z]; exact ⟨by decide, by omega⟩
    · rw [if_neg z]; omega
  · intro p h hp hh z
    dsimp only
    rw [if_pos (by omega), show dd p h = 0 by omega]; rfl
theorem mc_y_27 {post : Int32 → SY → Prop} {i : Nat} (H : mc_TH C V L ln op ar t l) (hm : ∀ p, p < 16 → cl (16 * t + p) = cv (16 * t + p)) (hDD : mc_DD op ar cv (16 * t) l dd) (hi : i < 2 ^ 31)
    (K : ∀ fr, post (mc_yo op ar cv t l i dd) (nI T, nI C, nI V, nI L, sl, st, op, ar, ln, ini, ce, ac, pc, ph, he, rT, rP, bf, af, ym, cl, sn, fr, cm, yo)) :
    ∀ n s fr, 48 - s < n → s ≤ 48 → mc_F0 cv (16 * t) l s fr → wY_offense_27 post (nI t) (nI i) (nI T) (nI C) (nI V) (nI L) sl st n (nI s) op ar ln ini ce ac pc ph he rT rP bf af ym cl sn fr cm yo := by
  have ⟨ht, hl, h16, _⟩ := H
  intro n
  induction n with
  | zero => intro s fr z; omega
  | succ n ih =>
    intro s fr hn hs hF
    rw [wY_offense_27]
    by_cases e : 48 ≤ s
    all_goals simp (disch := omega) only [nI_clamp, mc_m16, mc_m48, mc_m3, mc_vin, nI_add, nI_1, true_and, forall_eq, mc_le48, mc_d3, mc_r3, mc_e2]
    · have : s = 48 := by omega
      subst this
      obtain ⟨F, f1, f2⟩ := mc_F0_FA h16 hDD hF (fun z => by
        rw [hF 0 (by omega) (by omega), if_neg (by omega)])
      exact br_t e ⟨49, mc_y_88 H (fun p hp => hm p (by omega)) hDD hi K 49 0 fr F (by omega) (by omega) f1 f2⟩
    · have nxt : ∀ x, (x = if s % 3 = 2 ∧ (cv (16 * t + s / 3) = 1 ∨ cv (16 * t + s / 3) = 3) then 1 else 1000) → wY_offense_27 post (nI t) (nI i) (nI T) (nI C) (nI V) (nI L) sl st n (nI (s + 1)) op ar ln ini ce ac pc ph he rT rP bf af ym cl sn (upd fr s x) cm yo := by
        intro x hx
        refine ih (s + 1) _ (by omega) (by omega) ?_
        intro j hj hj'
        by_cases ej : j = s
        · subst ej; rw [pk_us]; exact hx
        · rw [pk_un ej]; exact hF j (by omega) hj'
      rw [hm (s / 3) (by omega)]
      refine br_f e ⟨mc_n30, mc_n30, ?_⟩
      by_cases c2 : s % 3 = 2
      · refine br_t c2 ?_
        by_cases c1 : cv (16 * t + s / 3) = 1
        · exact br_t c1 (nxt 1 (by rw [if_pos ⟨c2, Or.inl c1⟩]))
        · refine br_f c1 ?_
          by_cases c3 : cv (16 * t + s / 3) = 3
          · exact br_t c3 (nxt 1 (by rw [if_pos ⟨c2, Or.inr c3⟩]))
          · exact br_f c3 (nxt 1000 (by rw [if_neg (fun z => z.2.elim c1 c3)]))
      · exact br_f c2 (nxt 1000 (by rw [if_neg (fun z => c2 z.1)]))
theorem mc_y_off {post : Int32 → SY → Prop} {i : Nat} (H : mc_TH C V L ln op ar t l) (hs : ¬ sl = 0) (hT : T ≤ 3) (ht : t < T) (hm : ∀ p, p < 16 → cl (16 * t + p) = cv (16 * t + p)) (hDD : mc_DD op ar cv (16 * t) l dd) (hi : i < 2 ^ 31)
    (K : ∀ fr, post (mc_yo op ar cv t l i dd) (nI T, nI C, nI V, nI L, sl, st, op, ar, ln, ini, ce, ac, pc, ph, he, rT, rP, bf, af, ym, cl, sn, fr, cm, yo)) : wpY_offense post (nI T, nI C, nI V, nI L, sl, st, op, ar, ln, ini, ce, ac, pc, ph, he, rT, rP, bf, af, ym, cl, sn, fr, cm, yo) (nI t) (nI i) := by
  unfold wpY_offense
  exact br_f hs (br_f (nI_pos (by omega)) (br_f (nI_ge ht (by omega)) (br_t (mc_le0 hi) ⟨49, mc_y_27 H hm hDD hi K 49 0 fr (by omega) (by omega) (fun s hs => absurd hs (by omega))⟩)))
end
end
section
/-! the reference's seal -/
def mc_YI (L : Nat) (op ar : Nat → Int32) (lf : Nat → Nat) (t k : Nat) (ym : Nat → Int32) : Prop :=
  ∀ x, x < 48 → ∀ lk, lk < L → ((x / 16 < t ∨ (x / 16 = t ∧ lk < k)) → ym (3 * x + lk) = mc_yv (mc_mx op ar lf lk x)) ∧ (¬ (x / 16 < t ∨ (x / 16 = t ∧ lk < k)) → ym (3 * x + lk) = -1)
section
variable {T C V L : Nat} {sl st : Int32} {op ar ln ini ce ac pc ph he rT rP bf af ym cl sn fr cm yo : Nat → Int32}
variable {lf : Nat → Nat} {dd : Nat → Nat → Nat → Nat} {vd : Int32}
theorem mc_y_s103 {post : Int32 → SY → Prop} (P : mc_PG T C V L ln op ar lf) (hs : ¬ sl = 0) (hcl : ∀ x, x < 48 → cl x = mc_cv op ar lf L x) (hD : mc_DS T L op ar lf dd) (hV : mc_VD T dd vd)
    (K : ∀ fr, post vd (nI T, nI C, nI V, nI L, sl, st, op, ar, ln, ini, ce, ac, pc, ph, he, rT, rP, bf, af, ym, cl, sn, fr, cm, yo)) : ∀ n t fr, T - t < n → t ≤ T → (∀ t', t' < t → dd t' 0 0 = 99) → wY_seal_103 post n (nI t) (nI T) (nI C) (nI V) (nI L) sl st op ar ln ini ce ac pc ph he rT rP bf af ym cl sn fr cm yo := by
  have hT := P.1.2
  intro n
  induction n with
  | zero => intro t fr z; omega
  | succ n ih =>
    intro t fr hn ht hI
    rw [wY_seal_103]
    by_cases e : T ≤ t
    all_goals simp (disch := omega) only [nI_leI, nI_1, forall_eq]
    · have : t = T := by omega
      subst this
      rcases hV with ⟨v1, v2⟩ | ⟨v1, t', v2, v3⟩
      · have := K fr
        rw [v1] at this
        exact br_t e this
      · exact absurd (hI t' v2) v3
    · have htT : t < T := by omega
      refine br_f e (mc_y_off (i := 0) (mc_PG_TH P htT) hs hT htT (fun p hp => hcl _ (by omega)) (hD t htT) (by omega) ?_)
      intro fr'
      by_cases z : dd t 0 0 = 99
      · have ey : mc_yo op ar (mc_cv op ar lf L) t (lf t) 0 (dd t) = -1 := if_neg (fun q => q.1 z)
        rw [ey]
        refine br_t mc_m1' (ih (t + 1) fr' (by omega) (by omega) fun t' ht' => ?_)
        by_cases et : t' = t
        · subst et; exact z
        · exact hI t' (by omega)
      · have ey : mc_yo op ar (mc_cv op ar lf L) t (lf t) 0 (dd t) = 0 := if_pos ⟨z, by omega⟩
        rw [ey]
        refine br_f (by decide) ?_
        rcases hV with ⟨v1, v2⟩ | ⟨v1, t', v2, v3⟩
        · exact absurd (v2 t htT) z
        · have := K fr'
          rw [v1] at this
          exact this
theorem mc_y_s78 {post : Int32 → SY → Prop} (P : mc_PG T C V L ln op ar lf) (hs : ¬ sl = 0) (hY : mc_YA L op ar lf ym) (hD : mc_DS T L op ar lf dd) (hV : mc_VD T dd vd)
    (K : ∀ cl fr, (∀ x, x < 48 → cl x = mc_cv op ar lf L x) → post vd (nI T, nI C, nI V, nI L, sl, st, op, ar, ln, ini, ce, ac, pc, ph, he, rT, rP, bf, af, ym, cl, sn, fr, cm, yo)) : ∀ n x cl, 48 - x < n → x ≤ 48 → (∀ y, y < x → cl y = mc_cv op ar lf L y) → wY_seal_78 post (nI T) (nI C) (nI V) (nI L) sl st n (nI x) op ar ln ini ce ac pc ph he rT rP bf af ym cl sn fr cm yo := by
  have hT := P.1.2
  intro n
  induction n with
  | zero => intro x cl z; omega
  | succ n ih =>
    intro x cl hn hx hI
    rw [wY_seal_78]
    by_cases e : 48 ≤ x
    all_goals simp (disch := omega) only [nI_clamp, mc_m16, mc_m48, mc_m3, mc_vin, nI_add, nI_1, true_and, forall_eq, mc_le48]
    · exact br_t e ⟨T + 1, mc_y_s103 P hs (fun y hy => hI y (by omega)) hD hV (fun fr => K cl fr (fun y hy => hI y (by omega))) (T + 1) 0 fr (by omega) (by omega) (fun t' ht' => absurd ht' (by omega))⟩
    · refine br_f e (mc_y_cls P hY hs (by omega) (ih (x + 1) _ (by omega) (by omega) fun y hy => ?_))
      by_cases ey : y = x
      · subst ey; rw [pk_us]
      · rw [pk_un ey]; exact hI y (by omega)
theorem mc_YI_s {t k : Nat} {ym' : Nat → Int32} (ht : t < 3) (hk : k < L) (hL : L ≤ 3) (h : mc_YI L op ar lf t k ym) (hf : mc_fy t k ym ym') (hv : ∀ p, p < 16 → ym' (3 * (16 * t + p) + k) = mc_yv (mc_mm op ar (16 * t) (lf t) k p)) : mc_YI L op ar lf t (k + 1) ym' := by
  intro x hx lk hlk
  by_cases e : x / 16 = t ∧ lk = k
  · obtain ⟨e1, e2⟩ := e
    subst e2
    refine ⟨fun _ => ?_, fun z => absurd (Or.inr ⟨e1, by omega⟩) z⟩
    have := hv (x % 16) (by omega)
    rw [show 16 * t + x % 16 = x by omega] at this
    rw [this]
    unfold mc_mx
    rw [e1]
  · have fe : ym' (3 * x + lk) = ym (3 * x + lk) := hf _ (fun p hp z => e ⟨by omega, by omega⟩)
    rw [fe]
    refine ⟨fun z => (h x hx lk hlk).1 ?_, fun z => (h x hx lk hlk).2 ?_⟩
    · rcases z with z | z
      · exact Or.inl z
      · exact Or.inr ⟨z.1, by omega⟩
    · intro w
      apply z
      rcases w with w | w
      · exact Or.inl w
      · exact Or.inr ⟨w.1, by omega⟩
theorem mc_y_s50 {post : Int32 → SY → Prop} {J : Int32 → Int32 → Int32 → Int32 → Int32 → Int32 → Int32 → (Nat → Int32) → (Nat → Int32) → (Nat → Int32) → (Nat → Int32) → (Nat → Int32) → (Nat → Int32) → (Nat → Int32) → (Nat → Int32) → (Nat → Int32) → (Nat → Int32) → (Nat → Int32) → (Nat → Int32) → (Nat → Int32) → (Nat → Int32) → (Nat → Int32) → (Nat → Int32) → (Nat → Int32) → (Nat → Int32) → (Nat → Int32) → Prop} {t : Nat} (P : mc_PG T C V L ln op ar lf) (ht : t < T)
    (K : ∀ ym sn, mc_YI L op ar lf (t + 1) 0 ym → J (nI (t + 1)) (nI T) (nI C) (nI V) (nI L) sl st op ar ln ini ce ac pc ph he rT rP bf af ym cl sn fr cm yo) : ∀ n k ym sn, L - k < n → k ≤ L → mc_YI L op ar lf t k ym → wY_seal_50 post J (nI t) n (nI k) (nI T) (nI C) (nI V) (nI L) sl st op ar ln ini ce ac pc ph he rT rP bf af ym cl sn fr cm yo := by
  have hT := P.1.2
  have hL := P.2.2.2.1.2
  intro n
  induction n with
  | zero => intro k ym sn z; omega
  | succ n ih =>
    intro k ym sn hn hk hI
    rw [wY_seal_50]
    by_cases e : L ≤ k
    all_goals simp (disch := omega) only [nI_leI, nI_1, forall_eq]
    · refine br_t e (K ym sn fun x hx lk hlk => ⟨fun z => (hI x hx lk hlk).1 ?_, fun z => (hI x hx lk hlk).2 ?_⟩)
      · omega
      · omega
    · refine br_f e (mc_y_holds (mc_PG_TH P ht) (by omega) ?_ ?_)
      · intro p hp
        exact (hI (16 * t + p) (by omega) k (by omega)).2 (by omega)
      · intro ym' sn' hf hv
        exact ih (k + 1) ym' sn' (by omega) (by omega) (mc_YI_s (by omega) (by omega) hL hI hf hv)
theorem mc_y_s40 {post : Int32 → SY → Prop} (P : mc_PG T C V L ln op ar lf) (hs : ¬ sl = 0) (hD : mc_DS T L op ar lf dd) (hV : mc_VD T dd vd)
    (K : ∀ ym sn cl fr, mc_YA L op ar lf ym → (∀ x, x < 48 → cl x = mc_cv op ar lf L x) → post vd (nI T, nI C, nI V, nI L, sl, st, op, ar, ln, ini, ce, ac, pc, ph, he, rT, rP, bf, af, ym, cl, sn, fr, cm, yo)) : ∀ n t ym sn, T - t < n → t ≤ T → mc_YI L op ar lf t 0 ym → wY_seal_40 post n (nI t) (nI T) (nI C) (nI V) (nI L) sl st op ar ln ini ce ac pc ph he rT rP bf af ym cl sn fr cm yo := by
  have hT := P.1.2
  have hL := P.2.2.2.1.2
  intro n
  induction n with
  | zero => intro k ym sn z; omega
  | succ n ih =>
    intro t ym sn hn ht hI
    rw [wY_seal_40]
    by_cases e : T ≤ t
    all_goals simp (disch := omega) only [nI_leI]
    · have hY : mc_YA L op ar lf ym := by
        intro x hx lk hlk
        by_cases z : x / 16 < t
        · exact (hI x hx lk hlk).1 (Or.inl z)
        · rw [(hI x hx lk hlk).2 (by omega)]
          have : mc_mx op ar lf lk x = 4 := by
            unfold mc_mx
            rw [P.2.2.2.2.2.1 (x / 16) (by omega) (by omega)]
            exact mc_mm_out (by omega)
          rw [this]; rfl
      exact br_t e ⟨49, mc_y_s78 P hs hY hD hV (fun cl fr h => K ym sn cl fr hY h) 49 0 cl (by omega) (by omega) (fun y hy => absurd hy (by omega))⟩
    · exact br_f e ⟨L + 1, mc_y_s50 P (by omega) (fun ym sn h => ih (t + 1) ym sn (by omega) (by omega) h) (L + 1) 0 ym sn (by omega) (by omega) hI⟩
theorem mc_y_s18 {post : Int32 → SY → Prop} (P : mc_PG T C V L ln op ar lf) (hs : ¬ sl = 0) (hD : mc_DS T L op ar lf dd) (hV : mc_VD T dd vd)
    (K : ∀ ym sn cl fr, mc_YA L op ar lf ym → (∀ x, x < 48 → cl x = mc_cv op ar lf L x) → post vd (nI T, nI C, nI V, nI L, sl, st, op, ar, ln, ini, ce, ac, pc, ph, he, rT, rP, bf, af, ym, cl, sn, fr, cm, yo)) : ∀ n i ym, 144 - i < n → i ≤ 144 → (∀ j, j < i → ym j = -1) → wY_seal_18 post (nI T) (nI C) (nI V) (nI L) sl st n (nI i) op ar ln ini ce ac pc ph he rT rP bf af ym cl sn fr cm yo := by
  have hL := P.2.2.2.1.2
  intro n
  induction n with
  | zero => intro k ym z; omega
  | succ n ih =>
    intro i ym hn hi hI
    rw [wY_seal_18]
    by_cases e : 144 ≤ i
    all_goals simp (disch := omega) only [nI_clamp, mc_m16, mc_m48, mc_m3, mc_vin, nI_add, nI_1, true_and, forall_eq, mc_le144]
    · exact br_t e ⟨T + 1, mc_y_s40 P hs hD hV K (T + 1) 0 ym sn (by omega) (by omega) (fun x hx lk hlk => ⟨fun z => absurd z (by omega), fun _ => hI _ (by omega)⟩)⟩
    · refine br_f e (ih (i + 1) _ (by omega) (by omega) fun j hj => ?_)
      by_cases ej : j = i
      · subst ej; rw [pk_us]
      · rw [pk_un ej]; exact hI j (by omega)
theorem mc_y_seal {post : Int32 → SY → Prop} (P : mc_PG T C V L ln op ar lf) (hs : sl = 0) (hD : mc_DS T L op ar lf dd) (hV : mc_VD T dd vd)
    (K : ∀ ym sn cl fr, mc_YA L op ar lf ym → (∀ x, x < 48 → cl x = mc_cv op ar lf L x) → post vd (nI T, nI C, nI V, nI L, 1, 0, op, ar, ln, ini, mc_cp 4 ini ce, mc_z 3 ac, mc_z 3 pc, mc_z 3 ph, mc_z 9 he, rT, rP, bf, af, ym, cl, sn, fr, cm, yo)) : wpY_seal post (nI T, nI C, nI V, nI L, sl, st, op, ar, ln, ini, ce, ac, pc, ph, he, rT, rP, bf, af, ym, cl, sn, fr, cm, yo) := by
  unfold wpY_seal
  refine br_t hs (mc_y_reset ?_)
  exact ⟨145, mc_y_s18 P mc_n10 hD hV K 145 0 ym (by omega) (by omega) (fun j hj => absurd hj (by omega))⟩
end
end
section
theorem mc_q_1_2 : ((1 : Int32) = 2) = False := eq_false (by decide)
theorem mc_q_1_3 : ((1 : Int32) = 3) = False := eq_false (by decide)
theorem mc_q_1_4 : ((1 : Int32) = 4) = False := eq_false (by decide)
theorem mc_q_1_5 : ((1 : Int32) = 5) = False := eq_false (by decide)
theorem mc_q_1_6 : ((1 : Int32) = 6) = False := eq_false (by decide)
theorem mc_q_1_7 : ((1 : Int32) = 7) = False := eq_false (by decide)
theorem mc_q_1_8 : ((1 : Int32) = 8) = False := eq_false (by decide)
theorem mc_q_1_9 : ((1 : Int32) = 9) = False := eq_false (by decide)
theorem mc_q_1_10 : ((1 : Int32) = 10) = False := eq_false (by decide)
theorem mc_g_1 : ((3 : Int32) < 1) = False := eq_false (by decide)
theorem mc_q_2_1 : ((2 : Int32) = 1) = False := eq_false (by decide)
theorem mc_q_2_3 : ((2 : Int32) = 3) = False := eq_false (by decide)
theorem mc_q_2_4 : ((2 : Int32) = 4) = False := eq_false (by decide)
theorem mc_q_2_5 : ((2 : Int32) = 5) = False := eq_false (by decide)
theorem mc_q_2_6 : ((2 : Int32) = 6) = False := eq_false (by decide)
theorem mc_q_2_7 : ((2 : Int32) = 7) = False := eq_false (by decide)
theorem mc_q_2_8 : ((2 : Int32) = 8) = False := eq_false (by decide)
theorem mc_q_2_9 : ((2 : Int32) = 9) = False := eq_false (by decide)
theorem mc_q_2_10 : ((2 : Int32) = 10) = False := eq_false (by decide)
theorem mc_g_2 : ((3 : Int32) < 2) = False := eq_false (by decide)
theorem mc_q_3_1 : ((3 : Int32) = 1) = False := eq_false (by decide)
theorem mc_q_3_2 : ((3 : Int32) = 2) = False := eq_false (by decide)
theorem mc_q_3_4 : ((3 : Int32) = 4) = False := eq_false (by decide)
theorem mc_q_3_5 : ((3 : Int32) = 5) = False := eq_false (by decide)
theorem mc_q_3_6 : ((3 : Int32) = 6) = False := eq_false (by decide)
theorem mc_q_3_7 : ((3 : Int32) = 7) = False := eq_false (by decide)
theorem mc_q_3_8 : ((3 : Int32) = 8) = False := eq_false (by decide)
theorem mc_q_3_9 : ((3 : Int32) = 9) = False := eq_false (by decide)
theorem mc_q_3_10 : ((3 : Int32) = 10) = False := eq_false (by decide)
theorem mc_g_3 : ((3 : Int32) < 3) = False := eq_false (by decide)
theorem mc_q_4_1 : ((4 : Int32) = 1) = False := eq_false (by decide)
theorem mc_q_4_2 : ((4 : Int32) = 2) = False := eq_false (by decide)
theorem mc_q_4_3 : ((4 : Int32) = 3) = False := eq_false (by decide)
theorem mc_q_4_5 : ((4 : Int32) = 5) = False := eq_false (by decide)
theorem mc_q_4_6 : ((4 : Int32) = 6) = False := eq_false (by decide)
theorem mc_q_4_7 : ((4 : Int32) = 7) = False := eq_false (by decide)
theorem mc_q_4_8 : ((4 : Int32) = 8) = False := eq_false (by decide)
theorem mc_q_4_9 : ((4 : Int32) = 9) = False := eq_false (by decide)
theorem mc_q_4_10 : ((4 : Int32) = 10) = False := eq_false (by decide)
theorem mc_g_4 : ((3 : Int32) < 4) = True := eq_true (by decide)
theorem mc_q_5_1 : ((5 : Int32) = 1) = False := eq_false (by decide)
theorem mc_q_5_2 : ((5 : Int32) = 2) = False := eq_false (by decide)
theorem mc_q_5_3 : ((5 : Int32) = 3) = False := eq_false (by decide)
theorem mc_q_5_4 : ((5 : Int32) = 4) = False := eq_false (by decide)
theorem mc_q_5_6 : ((5 : Int32) = 6) = False := eq_false (by decide)
theorem mc_q_5_7 : ((5 : Int32) = 7) = False := eq_false (by decide)
theorem mc_q_5_8 : ((5 : Int32) = 8) = False := eq_false (by decide)
theorem mc_q_5_9 : ((5 : Int32) = 9) = False := eq_false (by decide)
theorem mc_q_5_10 : ((5 : Int32) = 10) = False := eq_false (by decide)
theorem mc_g_5 : ((3 : Int32) < 5) = True := eq_true (by decide)
theorem mc_q_6_1 : ((6 : Int32) = 1) = False := eq_false (by decide)
theorem mc_q_6_2 : ((6 : Int32) = 2) = False := eq_false (by decide)
theorem mc_q_6_3 : ((6 : Int32) = 3) = False := eq_false (by decide)
theorem mc_q_6_4 : ((6 : Int32) = 4) = False := eq_false (by decide)
theorem mc_q_6_5 : ((6 : Int32) = 5) = False := eq_false (by decide)
theorem mc_q_6_7 : ((6 : Int32) = 7) = False := eq_false (by decide)
theorem mc_q_6_8 : ((6 : Int32) = 8) = False := eq_false (by decide)
theorem mc_q_6_9 : ((6 : Int32) = 9) = False := eq_false (by decide)
theorem mc_q_6_10 : ((6 : Int32) = 10) = False := eq_false (by decide)
theorem mc_g_6 : ((3 : Int32) < 6) = True := eq_true (by decide)
theorem mc_q_7_1 : ((7 : Int32) = 1) = False := eq_false (by decide)
theorem mc_q_7_2 : ((7 : Int32) = 2) = False := eq_false (by decide)
theorem mc_q_7_3 : ((7 : Int32) = 3) = False := eq_false (by decide)
theorem mc_q_7_4 : ((7 : Int32) = 4) = False := eq_false (by decide)
theorem mc_q_7_5 : ((7 : Int32) = 5) = False := eq_false (by decide)
theorem mc_q_7_6 : ((7 : Int32) = 6) = False := eq_false (by decide)
theorem mc_q_7_8 : ((7 : Int32) = 8) = False := eq_false (by decide)
theorem mc_q_7_9 : ((7 : Int32) = 9) = False := eq_false (by decide)
theorem mc_q_7_10 : ((7 : Int32) = 10) = False := eq_false (by decide)
theorem mc_g_7 : ((3 : Int32) < 7) = True := eq_true (by decide)
theorem mc_q_8_1 : ((8 : Int32) = 1) = False := eq_false (by decide)
theorem mc_q_8_2 : ((8 : Int32) = 2) = False := eq_false (by decide)
theorem mc_q_8_3 : ((8 : Int32) = 3) = False := eq_false (by decide)
theorem mc_q_8_4 : ((8 : Int32) = 4) = False := eq_false (by decide)
theorem mc_q_8_5 : ((8 : Int32) = 5) = False := eq_false (by decide)
theorem mc_q_8_6 : ((8 : Int32) = 6) = False := eq_false (by decide)
theorem mc_q_8_7 : ((8 : Int32) = 7) = False := eq_false (by decide)
theorem mc_q_8_9 : ((8 : Int32) = 9) = False := eq_false (by decide)
theorem mc_q_8_10 : ((8 : Int32) = 10) = False := eq_false (by decide)
theorem mc_g_8 : ((3 : Int32) < 8) = True := eq_true (by decide)
theorem mc_q_9_1 : ((9 : Int32) = 1) = False := eq_false (by decide)
theorem mc_q_9_2 : ((9 : Int32) = 2) = False := eq_false (by decide)
theorem mc_q_9_3 : ((9 : Int32) = 3) = False := eq_false (by decide)
theorem mc_q_9_4 : ((9 : Int32) = 4) = False := eq_false (by decide)
theorem mc_q_9_5 : ((9 : Int32) = 5) = False := eq_false (by decide)
theorem mc_q_9_6 : ((9 : Int32) = 6) = False := eq_false (by decide)
theorem mc_q_9_7 : ((9 : Int32) = 7) = False := eq_false (by decide)
theorem mc_q_9_8 : ((9 : Int32) = 8) = False := eq_false (by decide)
theorem mc_q_9_10 : ((9 : Int32) = 10) = False := eq_false (by decide)
theorem mc_g_9 : ((3 : Int32) < 9) = True := eq_true (by decide)
theorem mc_q_10_1 : ((10 : Int32) = 1) = False := eq_false (by decide)
theorem mc_q_10_2 : ((10 : Int32) = 2) = False := eq_false (by decide)
theorem mc_q_10_3 : ((10 : Int32) = 3) = False := eq_false (by decide)
theorem mc_q_10_4 : ((10 : Int32) = 4) = False := eq_false (by decide)
theorem mc_q_10_5 : ((10 : Int32) = 5) = False := eq_false (by decide)
theorem mc_q_10_6 : ((10 : Int32) = 6) = False := eq_false (by decide)
theorem mc_q_10_7 : ((10 : Int32) = 7) = False := eq_false (by decide)
theorem mc_q_10_8 : ((10 : Int32) = 8) = False := eq_false (by decide)
theorem mc_q_10_9 : ((10 : Int32) = 9) = False := eq_false (by decide)
theorem mc_g_10 : ((3 : Int32) < 10) = True := eq_true (by decide)
def mc_ce (o a : Int32) (t : Nat) (ce ac : Nat → Int32) : Nat → Int32 := if o = 2 ∨ o = 3 then upd ce a.toNatClampNeg (ac t) else ce
def mc_ac (o a : Int32) (t : Nat) (ce ac : Nat → Int32) : Nat → Int32 := if o = 1 ∨ o = 3 then upd ac t (ce a.toNatClampNeg) else if o = 4 then upd ac t (ac t + a) else ac
def mc_pn (o a : Int32) (t pp : Nat) (ac pc : Nat → Int32) : Nat → Int32 := upd pc t (if o = 5 ∨ (o = 6 ∧ ac t = 0) then a else nI (pp + 1))
def mc_hn (o a : Int32) (t : Nat) (he : Nat → Int32) : Nat → Int32 := if o = 7 then upd he (3 * t + a.toNatClampNeg) (he (3 * t + a.toNatClampNeg) + 1) else if o = 8 then upd he (3 * t + a.toNatClampNeg) (he (3 * t + a.toNatClampNeg) - 1) else he
section
variable {T C V L : Nat} {fu ff sl vd st : Int32} {ln op ar ini xm kd mv ds oP oL ce ac pc ph he rT rP su uc ou od sc : Nat → Int32}
variable {t pp : Nat} {a : Int32}
theorem mc_x_pf1 {post : SX → Prop} (ha : vp_in a 4) (ht : t < 3) (hpc : pc t = nI pp) (K : post (nI T, nI C, nI V, nI L, fu, ff, sl, vd, st, ln, op, ar, ini, xm, kd, mv, ds, oP, oL, mc_ce 1 a t ce ac, mc_ac 1 a t ce ac, mc_pn 1 a t pp ac pc, ph, mc_hn 1 a t he, rT, rP, su, uc, ou, od, sc)) : wpX_perform post (nI T, nI C, nI V, nI L, fu, ff, sl, vd, st, ln, op, ar, ini, xm, kd, mv, ds, oP, oL, ce, ac, pc, ph, he, rT, rP, su, uc, ou, od, sc) (nI t) 1 a := by
  unfold mc_ce mc_ac mc_pn mc_hn at K
  simp (disch := omega) only [mc_q_1_2, mc_q_1_3, mc_q_1_4, mc_q_1_5, mc_q_1_6, mc_q_1_7, mc_q_1_8, mc_q_1_9, mc_q_1_10, mc_g_1, not_true, not_false_iff, false_implies, true_implies, true_and, and_true, forall_eq, or_self, or_false, false_or, or_true, true_or, and_self, false_and, if_true, if_false, ite_true, ite_false, eq_self, mc_n10, nI_clamp, mc_vin, mc_m3, nI_add, hpc, nI_1, ha] at K
  simp (disch := omega) only [wpX_perform, wX_perform_20, wX_perform_24, wX_perform_25, wX_perform_49, wX_perform_62, wX_perform_77, wX_perform_97, wpX_accessCell, wX_accessCell_25, mc_q_1_2, mc_q_1_3, mc_q_1_4, mc_q_1_5, mc_q_1_6, mc_q_1_7, mc_q_1_8, mc_q_1_9, mc_q_1_10, mc_g_1, not_true, not_false_iff, false_implies, true_implies, true_and, and_true, forall_eq, or_self, or_false, false_or, or_true, true_or, and_self, false_and, if_true, if_false, ite_true, ite_false, eq_self, mc_n10, nI_clamp, mc_vin, mc_m3, nI_add, hpc, nI_1, ha]
  exact K
theorem mc_x_pf2 {post : SX → Prop} (ha : vp_in a 4) (ht : t < 3) (hpc : pc t = nI pp) (K : post (nI T, nI C, nI V, nI L, fu, ff, sl, vd, st, ln, op, ar, ini, xm, kd, mv, ds, oP, oL, mc_ce 2 a t ce ac, mc_ac 2 a t ce ac, mc_pn 2 a t pp ac pc, ph, mc_hn 2 a t he, rT, rP, su, uc, ou, od, sc)) : wpX_perform post (nI T, nI C, nI V, nI L, fu, ff, sl, vd, st, ln, op, ar, ini, xm, kd, mv, ds, oP, oL, ce, ac, pc, ph, he, rT, rP, su, uc, ou, od, sc) (nI t) 2 a := by
  unfold mc_ce mc_ac mc_pn mc_hn at K
  simp (disch := omega) only [mc_q_2_1, mc_q_2_3, mc_q_2_4, mc_q_2_5, mc_q_2_6, mc_q_2_7, mc_q_2_8, mc_q_2_9, mc_q_2_10, mc_g_2, not_true, not_false_iff, false_implies, true_implies, true_and, and_true, forall_eq, or_self, or_false, false_or, or_true, true_or, and_self, false_and, if_true, if_false, ite_true, ite_false, eq_self, mc_n10, nI_clamp, mc_vin, mc_m3, nI_add, hpc, nI_1, ha] at K
  simp (disch := omega) only [wpX_perform, wX_perform_20, wX_perform_24, wX_perform_25, wX_perform_49, wX_perform_62, wX_perform_77, wX_perform_97, wpX_accessCell, wX_accessCell_25, mc_q_2_1, mc_q_2_3, mc_q_2_4, mc_q_2_5, mc_q_2_6, mc_q_2_7, mc_q_2_8, mc_q_2_9, mc_q_2_10, mc_g_2, not_true, not_false_iff, false_implies, true_implies, true_and, and_true, forall_eq, or_self, or_false, false_or, or_true, true_or, and_self, false_and, if_true, if_false, ite_true, ite_false, eq_self, mc_n10, nI_clamp, mc_vin, mc_m3, nI_add, hpc, nI_1, ha]
  exact K
theorem mc_x_pf3 {post : SX → Prop} (ha : vp_in a 4) (ht : t < 3) (hpc : pc t = nI pp) (K : post (nI T, nI C, nI V, nI L, fu, ff, sl, vd, st, ln, op, ar, ini, xm, kd, mv, ds, oP, oL, mc_ce 3 a t ce ac, mc_ac 3 a t ce ac, mc_pn 3 a t pp ac pc, ph, mc_hn 3 a t he, rT, rP, su, uc, ou, od, sc)) : wpX_perform post (nI T, nI C, nI V, nI L, fu, ff, sl, vd, st, ln, op, ar, ini, xm, kd, mv, ds, oP, oL, ce, ac, pc, ph, he, rT, rP, su, uc, ou, od, sc) (nI t) 3 a := by
  unfold mc_ce mc_ac mc_pn mc_hn at K
  simp (disch := omega) only [mc_q_3_1, mc_q_3_2, mc_q_3_4, mc_q_3_5, mc_q_3_6, mc_q_3_7, mc_q_3_8, mc_q_3_9, mc_q_3_10, mc_g_3, not_true, not_false_iff, false_implies, true_implies, true_and, and_true, forall_eq, or_self, or_false, false_or, or_true, true_or, and_self, false_and, if_true, if_false, ite_true, ite_false, eq_self, mc_n10, nI_clamp, mc_vin, mc_m3, nI_add, hpc, nI_1, ha] at K
  simp (disch := omega) only [wpX_perform, wX_perform_20, wX_perform_24, wX_perform_25, wX_perform_49, wX_perform_62, wX_perform_77, wX_perform_97, wpX_accessCell, wX_accessCell_25, mc_q_3_1, mc_q_3_2, mc_q_3_4, mc_q_3_5, mc_q_3_6, mc_q_3_7, mc_q_3_8, mc_q_3_9, mc_q_3_10, mc_g_3, not_true, not_false_iff, false_implies, true_implies, true_and, and_true, forall_eq, or_self, or_false, false_or, or_true, true_or, and_self, false_and, if_true, if_false, ite_true, ite_false, eq_self, mc_n10, nI_clamp, mc_vin, mc_m3, nI_add, hpc, nI_1, ha]
  exact K
theorem mc_x_pf4 {post : SX → Prop} (ht : t < 3) (hpc : pc t = nI pp) (K : post (nI T, nI C, nI V, nI L, fu, ff, sl, vd, st, ln, op, ar, ini, xm, kd, mv, ds, oP, oL, mc_ce 4 a t ce ac, mc_ac 4 a t ce ac, mc_pn 4 a t pp ac pc, ph, mc_hn 4 a t he, rT, rP, su, uc, ou, od, sc)) : wpX_perform post (nI T, nI C, nI V, nI L, fu, ff, sl, vd, st, ln, op, ar, ini, xm, kd, mv, ds, oP, oL, ce, ac, pc, ph, he, rT, rP, su, uc, ou, od, sc) (nI t) 4 a := by
  unfold mc_ce mc_ac mc_pn mc_hn at K
  simp (disch := omega) only [mc_q_4_1, mc_q_4_2, mc_q_4_3, mc_q_4_5, mc_q_4_6, mc_q_4_7, mc_q_4_8, mc_q_4_9, mc_q_4_10, mc_g_4, not_true, not_false_iff, false_implies, true_implies, true_and, and_true, forall_eq, or_self, or_false, false_or, or_true, true_or, and_self, false_and, if_true, if_false, ite_true, ite_false, eq_self, mc_n10, nI_clamp, mc_vin, mc_m3, nI_add, hpc, nI_1] at K
  simp (disch := omega) only [wpX_perform, wX_perform_20, wX_perform_24, wX_perform_25, wX_perform_49, wX_perform_62, wX_perform_77, wX_perform_97, wpX_accessCell, wX_accessCell_25, mc_q_4_1, mc_q_4_2, mc_q_4_3, mc_q_4_5, mc_q_4_6, mc_q_4_7, mc_q_4_8, mc_q_4_9, mc_q_4_10, mc_g_4, not_true, not_false_iff, false_implies, true_implies, true_and, and_true, forall_eq, or_self, or_false, false_or, or_true, true_or, and_self, false_and, if_true, if_false, ite_true, ite_false, eq_self, mc_n10, nI_clamp, mc_vin, mc_m3, nI_add, hpc, nI_1]
  exact K
theorem mc_x_pf5 {post : SX → Prop} (ht : t < 3) (hpc : pc t = nI pp) (K : post (nI T, nI C, nI V, nI L, fu, ff, sl, vd, st, ln, op, ar, ini, xm, kd, mv, ds, oP, oL, mc_ce 5 a t ce ac, mc_ac 5 a t ce ac, mc_pn 5 a t pp ac pc, ph, mc_hn 5 a t he, rT, rP, su, uc, ou, od, sc)) : wpX_perform post (nI T, nI C, nI V, nI L, fu, ff, sl, vd, st, ln, op, ar, ini, xm, kd, mv, ds, oP, oL, ce, ac, pc, ph, he, rT, rP, su, uc, ou, od, sc) (nI t) 5 a := by
  unfold mc_ce mc_ac mc_pn mc_hn at K
  simp (disch := omega) only [mc_q_5_1, mc_q_5_2, mc_q_5_3, mc_q_5_4, mc_q_5_6, mc_q_5_7, mc_q_5_8, mc_q_5_9, mc_q_5_10, mc_g_5, not_true, not_false_iff, false_implies, true_implies, true_and, and_true, forall_eq, or_self, or_false, false_or, or_true, true_or, and_self, false_and, if_true, if_false, ite_true, ite_false, eq_self, mc_n10, nI_clamp, mc_vin, mc_m3, nI_add, hpc, nI_1] at K
  simp (disch := omega) only [wpX_perform, wX_perform_20, wX_perform_24, wX_perform_25, wX_perform_49, wX_perform_62, wX_perform_77, wX_perform_97, wpX_accessCell, wX_accessCell_25, mc_q_5_1, mc_q_5_2, mc_q_5_3, mc_q_5_4, mc_q_5_6, mc_q_5_7, mc_q_5_8, mc_q_5_9, mc_q_5_10, mc_g_5, not_true, not_false_iff, false_implies, true_implies, true_and, and_true, forall_eq, or_self, or_false, false_or, or_true, true_or, and_self, false_and, if_true, if_false, ite_true, ite_false, eq_self, mc_n10, nI_clamp, mc_vin, mc_m3, nI_add, hpc, nI_1]
  exact K
theorem mc_x_pf6 {post : SX → Prop} (ht : t < 3) (hpc : pc t = nI pp) (K : post (nI T, nI C, nI V, nI L, fu, ff, sl, vd, st, ln, op, ar, ini, xm, kd, mv, ds, oP, oL, mc_ce 6 a t ce ac, mc_ac 6 a t ce ac, mc_pn 6 a t pp ac pc, ph, mc_hn 6 a t he, rT, rP, su, uc, ou, od, sc)) : wpX_perform post (nI T, nI C, nI V, nI L, fu, ff, sl, vd, st, ln, op, ar, ini, xm, kd, mv, ds, oP, oL, ce, ac, pc, ph, he, rT, rP, su, uc, ou, od, sc) (nI t) 6 a := by
  unfold mc_ce mc_ac mc_pn mc_hn at K
  by_cases h0 : ac t = 0
  · simp (disch := omega) only [mc_q_6_1, mc_q_6_2, mc_q_6_3, mc_q_6_4, mc_q_6_5, mc_q_6_7, mc_q_6_8, mc_q_6_9, mc_q_6_10, mc_g_6, not_true, not_false_iff, false_implies, true_implies, true_and, and_true, forall_eq, or_self, or_false, false_or, or_true, true_or, and_self, false_and, if_true, if_false, ite_true, ite_false, eq_self, mc_n10, nI_clamp, mc_vin, mc_m3, nI_add, hpc, nI_1, h0] at K
    simp (disch := omega) only [wpX_perform, wX_perform_20, wX_perform_24, wX_perform_25, wX_perform_49, wX_perform_62, wX_perform_77, wX_perform_97, wpX_accessCell, wX_accessCell_25, mc_q_6_1, mc_q_6_2, mc_q_6_3, mc_q_6_4, mc_q_6_5, mc_q_6_7, mc_q_6_8, mc_q_6_9, mc_q_6_10, mc_g_6, not_true, not_false_iff, false_implies, true_implies, true_and, and_true, forall_eq, or_self, or_false, false_or, or_true, true_or, and_self, false_and, if_true, if_false, ite_true, ite_false, eq_self, mc_n10, nI_clamp, mc_vin, mc_m3, nI_add, hpc, nI_1, h0]
    exact K
  · simp (disch := omega) only [mc_q_6_1, mc_q_6_2, mc_q_6_3, mc_q_6_4, mc_q_6_5, mc_q_6_7, mc_q_6_8, mc_q_6_9, mc_q_6_10, mc_g_6, not_true, not_false_iff, false_implies, true_implies, true_and, and_true, forall_eq, or_self, or_false, false_or, or_true, true_or, and_self, false_and, if_true, if_false, ite_true, ite_false, eq_self, mc_n10, nI_clamp, mc_vin, mc_m3, nI_add, hpc, nI_1, h0] at K
    simp (disch := omega) only [wpX_perform, wX_perform_20, wX_perform_24, wX_perform_25, wX_perform_49, wX_perform_62, wX_perform_77, wX_perform_97, wpX_accessCell, wX_accessCell_25, mc_q_6_1, mc_q_6_2, mc_q_6_3, mc_q_6_4, mc_q_6_5, mc_q_6_7, mc_q_6_8, mc_q_6_9, mc_q_6_10, mc_g_6, not_true, not_false_iff, false_implies, true_implies, true_and, and_true, forall_eq, or_self, or_false, false_or, or_true, true_or, and_self, false_and, if_true, if_false, ite_true, ite_false, eq_self, mc_n10, nI_clamp, mc_vin, mc_m3, nI_add, hpc, nI_1, h0]
    exact K
theorem mc_x_pf7 {post : SX → Prop} (lk : Nat) (hlk : lk < 3) (hA : a = nI lk) (ht : t < 3) (hpc : pc t = nI pp) (K : post (nI T, nI C, nI V, nI L, fu, ff, sl, vd, st, ln, op, ar, ini, xm, kd, mv, ds, oP, oL, mc_ce 7 a t ce ac, mc_ac 7 a t ce ac, mc_pn 7 a t pp ac pc, ph, mc_hn 7 a t he, rT, rP, su, uc, ou, od, sc)) : wpX_perform post (nI T, nI C, nI V, nI L, fu, ff, sl, vd, st, ln, op, ar, ini, xm, kd, mv, ds, oP, oL, ce, ac, pc, ph, he, rT, rP, su, uc, ou, od, sc) (nI t) 7 a := by
  subst hA
  unfold mc_ce mc_ac mc_pn mc_hn at K
  simp (disch := omega) only [mc_q_7_1, mc_q_7_2, mc_q_7_3, mc_q_7_4, mc_q_7_5, mc_q_7_6, mc_q_7_8, mc_q_7_9, mc_q_7_10, mc_g_7, not_true, not_false_iff, false_implies, true_implies, true_and, and_true, forall_eq, or_self, or_false, false_or, or_true, true_or, and_self, false_and, if_true, if_false, ite_true, ite_false, eq_self, mc_n10, nI_clamp, mc_vin, mc_m3, nI_add, hpc, nI_1] at K
  simp (disch := omega) only [wpX_perform, wX_perform_20, wX_perform_24, wX_perform_25, wX_perform_49, wX_perform_62, wX_perform_77, wX_perform_97, wpX_accessCell, wX_accessCell_25, mc_q_7_1, mc_q_7_2, mc_q_7_3, mc_q_7_4, mc_q_7_5, mc_q_7_6, mc_q_7_8, mc_q_7_9, mc_q_7_10, mc_g_7, not_true, not_false_iff, false_implies, true_implies, true_and, and_true, forall_eq, or_self, or_false, false_or, or_true, true_or, and_self, false_and, if_true, if_false, ite_true, ite_false, eq_self, mc_n10, nI_clamp, mc_vin, mc_m3, nI_add, hpc, nI_1]
  exact K
theorem mc_x_pf8 {post : SX → Prop} (lk : Nat) (hlk : lk < 3) (hA : a = nI lk) (ht : t < 3) (hpc : pc t = nI pp) (K : post (nI T, nI C, nI V, nI L, fu, ff, sl, vd, st, ln, op, ar, ini, xm, kd, mv, ds, oP, oL, mc_ce 8 a t ce ac, mc_ac 8 a t ce ac, mc_pn 8 a t pp ac pc, ph, mc_hn 8 a t he, rT, rP, su, uc, ou, od, sc)) : wpX_perform post (nI T, nI C, nI V, nI L, fu, ff, sl, vd, st, ln, op, ar, ini, xm, kd, mv, ds, oP, oL, ce, ac, pc, ph, he, rT, rP, su, uc, ou, od, sc) (nI t) 8 a := by
  subst hA
  unfold mc_ce mc_ac mc_pn mc_hn at K
  simp (disch := omega) only [mc_q_8_1, mc_q_8_2, mc_q_8_3, mc_q_8_4, mc_q_8_5, mc_q_8_6, mc_q_8_7, mc_q_8_9, mc_q_8_10, mc_g_8, not_true, not_false_iff, false_implies, true_implies, true_and, and_true, forall_eq, or_self, or_false, false_or, or_true, true_or, and_self, false_and, if_true, if_false, ite_true, ite_false, eq_self, mc_n10, nI_clamp, mc_vin, mc_m3, nI_add, hpc, nI_1] at K
  simp (disch := omega) only [wpX_perform, wX_perform_20, wX_perform_24, wX_perform_25, wX_perform_49, wX_perform_62, wX_perform_77, wX_perform_97, wpX_accessCell, wX_accessCell_25, mc_q_8_1, mc_q_8_2, mc_q_8_3, mc_q_8_4, mc_q_8_5, mc_q_8_6, mc_q_8_7, mc_q_8_9, mc_q_8_10, mc_g_8, not_true, not_false_iff, false_implies, true_implies, true_and, and_true, forall_eq, or_self, or_false, false_or, or_true, true_or, and_self, false_and, if_true, if_false, ite_true, ite_false, eq_self, mc_n10, nI_clamp, mc_vin, mc_m3, nI_add, hpc, nI_1]
  exact K
theorem mc_x_pf9 {post : SX → Prop} (ht : t < 3) (hpc : pc t = nI pp) (K : post (nI T, nI C, nI V, nI L, fu, ff, sl, vd, st, ln, op, ar, ini, xm, kd, mv, ds, oP, oL, mc_ce 9 a t ce ac, mc_ac 9 a t ce ac, mc_pn 9 a t pp ac pc, ph, mc_hn 9 a t he, rT, rP, su, uc, ou, od, sc)) : wpX_perform post (nI T, nI C, nI V, nI L, fu, ff, sl, vd, st, ln, op, ar, ini, xm, kd, mv, ds, oP, oL, ce, ac, pc, ph, he, rT, rP, su, uc, ou, od, sc) (nI t) 9 a := by
  unfold mc_ce mc_ac mc_pn mc_hn at K
  simp (disch := omega) only [mc_q_9_1, mc_q_9_2, mc_q_9_3, mc_q_9_4, mc_q_9_5, mc_q_9_6, mc_q_9_7, mc_q_9_8, mc_q_9_10, mc_g_9, not_true, not_false_iff, false_implies, true_implies, true_and, and_true, forall_eq, or_self, or_false, false_or, or_true, true_or, and_self, false_and, if_true, if_false, ite_true, ite_false, eq_self, mc_n10, nI_clamp, mc_vin, mc_m3, nI_add, hpc, nI_1] at K
  simp (disch := omega) only [wpX_perform, wX_perform_20, wX_perform_24, wX_perform_25, wX_perform_49, wX_perform_62, wX_perform_77, wX_perform_97, wpX_accessCell, wX_accessCell_25, mc_q_9_1, mc_q_9_2, mc_q_9_3, mc_q_9_4, mc_q_9_5, mc_q_9_6, mc_q_9_7, mc_q_9_8, mc_q_9_10, mc_g_9, not_true, not_false_iff, false_implies, true_implies, true_and, and_true, forall_eq, or_self, or_false, false_or, or_true, true_or, and_self, false_and, if_true, if_false, ite_true, ite_false, eq_self, mc_n10, nI_clamp, mc_vin, mc_m3, nI_add, hpc, nI_1]
  exact K
theorem mc_x_pf10 {post : SX → Prop} (ht : t < 3) (hpc : pc t = nI pp) (K : post (nI T, nI C, nI V, nI L, fu, ff, sl, vd, st, ln, op, ar, ini, xm, kd, mv, ds, oP, oL, mc_ce 10 a t ce ac, mc_ac 10 a t ce ac, mc_pn 10 a t pp ac pc, ph, mc_hn 10 a t he, rT, rP, su, uc, ou, od, sc)) : wpX_perform post (nI T, nI C, nI V, nI L, fu, ff, sl, vd, st, ln, op, ar, ini, xm, kd, mv, ds, oP, oL, ce, ac, pc, ph, he, rT, rP, su, uc, ou, od, sc) (nI t) 10 a := by
  unfold mc_ce mc_ac mc_pn mc_hn at K
  simp (disch := omega) only [mc_q_10_1, mc_q_10_2, mc_q_10_3, mc_q_10_4, mc_q_10_5, mc_q_10_6, mc_q_10_7, mc_q_10_8, mc_q_10_9, mc_g_10, not_true, not_false_iff, false_implies, true_implies, true_and, and_true, forall_eq, or_self, or_false, false_or, or_true, true_or, and_self, false_and, if_true, if_false, ite_true, ite_false, eq_self, mc_n10, nI_clamp, mc_vin, mc_m3, nI_add, hpc, nI_1] at K
  simp (disch := omega) only [wpX_perform, wX_perform_20, wX_perform_24, wX_perform_25, wX_perform_49, wX_perform_62, wX_perform_77, wX_perform_97, wpX_accessCell, wX_accessCell_25, mc_q_10_1, mc_q_10_2, mc_q_10_3, mc_q_10_4, mc_q_10_5, mc_q_10_6, mc_q_10_7, mc_q_10_8, mc_q_10_9, mc_g_10, not_true, not_false_iff, false_implies, true_implies, true_and, and_true, forall_eq, or_self, or_false, false_or, or_true, true_or, and_self, false_and, if_true, if_false, ite_true, ite_false, eq_self, mc_n10, nI_clamp, mc_vin, mc_m3, nI_add, hpc, nI_1]
  exact K
end
section
variable {T C V L : Nat} {sl st : Int32} {op ar ln ini ce ac pc ph he rT rP bf af ym cl sn fr cm yo : Nat → Int32}
variable {t pp : Nat} {a x3 : Int32}
theorem mc_y_pf1 {post : Int32 → SY → Prop} (ha : vp_in a 4) (ht : t < 3) (K : wY_step_297 post (nI t) (nI pp) x3 (nI T) (nI C) (nI V) (nI L) sl st op ar ln ini (mc_ce 1 a t ce ac) (mc_ac 1 a t ce ac) (mc_pn 1 a t pp ac pc) ph (mc_hn 1 a t he) rT rP bf af ym cl sn fr cm yo) : wY_step_158 post (nI t) (nI pp) x3 1 a (ac t) (nI T) (nI C) (nI V) (nI L) sl st op ar ln ini ce ac pc ph he rT rP bf af ym cl sn fr cm yo := by
  unfold mc_ce mc_ac mc_pn mc_hn at K
  simp (disch := omega) only [mc_q_1_2, mc_q_1_3, mc_q_1_4, mc_q_1_5, mc_q_1_6, mc_q_1_7, mc_q_1_8, mc_q_1_9, mc_q_1_10, mc_g_1, not_true, not_false_iff, false_implies, true_implies, true_and, and_true, forall_eq, or_self, or_false, false_or, or_true, true_or, and_self, false_and, if_true, if_false, ite_true, ite_false, eq_self, mc_n10, nI_clamp, mc_vin, mc_m3, nI_add, nI_1, ha] at K
  simp (disch := omega) only [wY_step_158, wY_step_181, wY_step_186, wY_step_189, wY_step_202, wY_step_215, wY_step_227, wY_step_236, wY_step_253, wY_step_275, mc_q_1_2, mc_q_1_3, mc_q_1_4, mc_q_1_5, mc_q_1_6, mc_q_1_7, mc_q_1_8, mc_q_1_9, mc_q_1_10, mc_g_1, not_true, not_false_iff, false_implies, true_implies, true_and, and_true, forall_eq, or_self, or_false, false_or, or_true, true_or, and_self, false_and, if_true, if_false, ite_true, ite_false, eq_self, mc_n10, nI_clamp, mc_vin, mc_m3, nI_add, nI_1, ha]
  exact K
theorem mc_y_pf2 {post : Int32 → SY → Prop} (ha : vp_in a 4) (ht : t < 3) (K : wY_step_297 post (nI t) (nI pp) x3 (nI T) (nI C) (nI V) (nI L) sl st op ar ln ini (mc_ce 2 a t ce ac) (mc_ac 2 a t ce ac) (mc_pn 2 a t pp ac pc) ph (mc_hn 2 a t he) rT rP bf af ym cl sn fr cm yo) : wY_step_158 post (nI t) (nI pp) x3 2 a (ac t) (nI T) (nI C) (nI V) (nI L) sl st op ar ln ini ce ac pc ph he rT rP bf af ym cl sn fr cm yo := by
  unfold mc_ce mc_ac mc_pn mc_hn at K
  simp (disch := omega) only [mc_q_2_1, mc_q_2_3, mc_q_2_4, mc_q_2_5, mc_q_2_6, mc_q_2_7, mc_q_2_8, mc_q_2_9, mc_q_2_10, mc_g_2, not_true, not_false_iff, false_implies, true_implies, true_and, and_true, forall_eq, or_self, or_false, false_or, or_true, true_or, and_self, false_and, if_true, if_false, ite_true, ite_false, eq_self, mc_n10, nI_clamp, mc_vin, mc_m3, nI_add, nI_1, ha] at K
  simp (disch := omega) only [wY_step_158, wY_step_181, wY_step_186, wY_step_189, wY_step_202, wY_step_215, wY_step_227, wY_step_236, wY_step_253, wY_step_275, mc_q_2_1, mc_q_2_3, mc_q_2_4, mc_q_2_5, mc_q_2_6, mc_q_2_7, mc_q_2_8, mc_q_2_9, mc_q_2_10, mc_g_2, not_true, not_false_iff, false_implies, true_implies, true_and, and_true, forall_eq, or_self, or_false, false_or, or_true, true_or, and_self, false_and, if_true, if_false, ite_true, ite_false, eq_self, mc_n10, nI_clamp, mc_vin, mc_m3, nI_add, nI_1, ha]
  exact K
theorem mc_y_pf3 {post : Int32 → SY → Prop} (ha : vp_in a 4) (ht : t < 3) (K : wY_step_297 post (nI t) (nI pp) x3 (nI T) (nI C) (nI V) (nI L) sl st op ar ln ini (mc_ce 3 a t ce ac) (mc_ac 3 a t ce ac) (mc_pn 3 a t pp ac pc) ph (mc_hn 3 a t he) rT rP bf af ym cl sn fr cm yo) : wY_step_158 post (nI t) (nI pp) x3 3 a (ac t) (nI T) (nI C) (nI V) (nI L) sl st op ar ln ini ce ac pc ph he rT rP bf af ym cl sn fr cm yo := by
  unfold mc_ce mc_ac mc_pn mc_hn at K
  simp (disch := omega) only [mc_q_3_1, mc_q_3_2, mc_q_3_4, mc_q_3_5, mc_q_3_6, mc_q_3_7, mc_q_3_8, mc_q_3_9, mc_q_3_10, mc_g_3, not_true, not_false_iff, false_implies, true_implies, true_and, and_true, forall_eq, or_self, or_false, false_or, or_true, true_or, and_self, false_and, if_true, if_false, ite_true, ite_false, eq_self, mc_n10, nI_clamp, mc_vin, mc_m3, nI_add, nI_1, ha] at K
  simp (disch := omega) only [wY_step_158, wY_step_181, wY_step_186, wY_step_189, wY_step_202, wY_step_215, wY_step_227, wY_step_236, wY_step_253, wY_step_275, mc_q_3_1, mc_q_3_2, mc_q_3_4, mc_q_3_5, mc_q_3_6, mc_q_3_7, mc_q_3_8, mc_q_3_9, mc_q_3_10, mc_g_3, not_true, not_false_iff, false_implies, true_implies, true_and, and_true, forall_eq, or_self, or_false, false_or, or_true, true_or, and_self, false_and, if_true, if_false, ite_true, ite_false, eq_self, mc_n10, nI_clamp, mc_vin, mc_m3, nI_add, nI_1, ha]
  exact K
theorem mc_y_pf4 {post : Int32 → SY → Prop} (ht : t < 3) (K : wY_step_297 post (nI t) (nI pp) x3 (nI T) (nI C) (nI V) (nI L) sl st op ar ln ini (mc_ce 4 a t ce ac) (mc_ac 4 a t ce ac) (mc_pn 4 a t pp ac pc) ph (mc_hn 4 a t he) rT rP bf af ym cl sn fr cm yo) : wY_step_158 post (nI t) (nI pp) x3 4 a (ac t) (nI T) (nI C) (nI V) (nI L) sl st op ar ln ini ce ac pc ph he rT rP bf af ym cl sn fr cm yo := by
  unfold mc_ce mc_ac mc_pn mc_hn at K
  simp (disch := omega) only [mc_q_4_1, mc_q_4_2, mc_q_4_3, mc_q_4_5, mc_q_4_6, mc_q_4_7, mc_q_4_8, mc_q_4_9, mc_q_4_10, mc_g_4, not_true, not_false_iff, false_implies, true_implies, true_and, and_true, forall_eq, or_self, or_false, false_or, or_true, true_or, and_self, false_and, if_true, if_false, ite_true, ite_false, eq_self, mc_n10, nI_clamp, mc_vin, mc_m3, nI_add, nI_1] at K
  simp (disch := omega) only [wY_step_158, wY_step_181, wY_step_186, wY_step_189, wY_step_202, wY_step_215, wY_step_227, wY_step_236, wY_step_253, wY_step_275, mc_q_4_1, mc_q_4_2, mc_q_4_3, mc_q_4_5, mc_q_4_6, mc_q_4_7, mc_q_4_8, mc_q_4_9, mc_q_4_10, mc_g_4, not_true, not_false_iff, false_implies, true_implies, true_and, and_true, forall_eq, or_self, or_false, false_or, or_true, true_or, and_self, false_and, if_true, if_false, ite_true, ite_false, eq_self, mc_n10, nI_clamp, mc_vin, mc_m3, nI_add, nI_1]
  exact K
theorem mc_y_pf5 {post : Int32 → SY → Prop} (ht : t < 3) (K : wY_step_297 post (nI t) (nI pp) x3 (nI T) (nI C) (nI V) (nI L) sl st op ar ln ini (mc_ce 5 a t ce ac) (mc_ac 5 a t ce ac) (mc_pn 5 a t pp ac pc) ph (mc_hn 5 a t he) rT rP bf af ym cl sn fr cm yo) : wY_step_158 post (nI t) (nI pp) x3 5 a (ac t) (nI T) (nI C) (nI V) (nI L) sl st op ar ln ini ce ac pc ph he rT rP bf af ym cl sn fr cm yo := by
  unfold mc_ce mc_ac mc_pn mc_hn at K
  simp (disch := omega) only [mc_q_5_1, mc_q_5_2, mc_q_5_3, mc_q_5_4, mc_q_5_6, mc_q_5_7, mc_q_5_8, mc_q_5_9, mc_q_5_10, mc_g_5, not_true, not_false_iff, false_implies, true_implies, true_and, and_true, forall_eq, or_self, or_false, false_or, or_true, true_or, and_self, false_and, if_true, if_false, ite_true, ite_false, eq_self, mc_n10, nI_clamp, mc_vin, mc_m3, nI_add, nI_1] at K
  simp (disch := omega) only [wY_step_158, wY_step_181, wY_step_186, wY_step_189, wY_step_202, wY_step_215, wY_step_227, wY_step_236, wY_step_253, wY_step_275, mc_q_5_1, mc_q_5_2, mc_q_5_3, mc_q_5_4, mc_q_5_6, mc_q_5_7, mc_q_5_8, mc_q_5_9, mc_q_5_10, mc_g_5, not_true, not_false_iff, false_implies, true_implies, true_and, and_true, forall_eq, or_self, or_false, false_or, or_true, true_or, and_self, false_and, if_true, if_false, ite_true, ite_false, eq_self, mc_n10, nI_clamp, mc_vin, mc_m3, nI_add, nI_1]
  exact K
theorem mc_y_pf6 {post : Int32 → SY → Prop} (ht : t < 3) (K : wY_step_297 post (nI t) (nI pp) x3 (nI T) (nI C) (nI V) (nI L) sl st op ar ln ini (mc_ce 6 a t ce ac) (mc_ac 6 a t ce ac) (mc_pn 6 a t pp ac pc) ph (mc_hn 6 a t he) rT rP bf af ym cl sn fr cm yo) : wY_step_158 post (nI t) (nI pp) x3 6 a (ac t) (nI T) (nI C) (nI V) (nI L) sl st op ar ln ini ce ac pc ph he rT rP bf af ym cl sn fr cm yo := by
  unfold mc_ce mc_ac mc_pn mc_hn at K
  by_cases h0 : ac t = 0
  · simp (disch := omega) only [mc_q_6_1, mc_q_6_2, mc_q_6_3, mc_q_6_4, mc_q_6_5, mc_q_6_7, mc_q_6_8, mc_q_6_9, mc_q_6_10, mc_g_6, not_true, not_false_iff, false_implies, true_implies, true_and, and_true, forall_eq, or_self, or_false, false_or, or_true, true_or, and_self, false_and, if_true, if_false, ite_true, ite_false, eq_self, mc_n10, nI_clamp, mc_vin, mc_m3, nI_add, nI_1, h0] at K
    simp (disch := omega) only [wY_step_158, wY_step_181, wY_step_186, wY_step_189, wY_step_202, wY_step_215, wY_step_227, wY_step_236, wY_step_253, wY_step_275, mc_q_6_1, mc_q_6_2, mc_q_6_3, mc_q_6_4, mc_q_6_5, mc_q_6_7, mc_q_6_8, mc_q_6_9, mc_q_6_10, mc_g_6, not_true, not_false_iff, false_implies, true_implies, true_and, and_true, forall_eq, or_self, or_false, false_or, or_true, true_or, and_self, false_and, if_true, if_false, ite_true, ite_false, eq_self, mc_n10, nI_clamp, mc_vin, mc_m3, nI_add, nI_1, h0]
    exact K
  · simp (disch := omega) only [mc_q_6_1, mc_q_6_2, mc_q_6_3, mc_q_6_4, mc_q_6_5, mc_q_6_7, mc_q_6_8, mc_q_6_9, mc_q_6_10, mc_g_6, not_true, not_false_iff, false_implies, true_implies, true_and, and_true, forall_eq, or_self, or_false, false_or, or_true, true_or, and_self, false_and, if_true, if_false, ite_true, ite_false, eq_self, mc_n10, nI_clamp, mc_vin, mc_m3, nI_add, nI_1, h0] at K
    simp (disch := omega) only [wY_step_158, wY_step_181, wY_step_186, wY_step_189, wY_step_202, wY_step_215, wY_step_227, wY_step_236, wY_step_253, wY_step_275, mc_q_6_1, mc_q_6_2, mc_q_6_3, mc_q_6_4, mc_q_6_5, mc_q_6_7, mc_q_6_8, mc_q_6_9, mc_q_6_10, mc_g_6, not_true, not_false_iff, false_implies, true_implies, true_and, and_true, forall_eq, or_self, or_false, false_or, or_true, true_or, and_self, false_and, if_true, if_false, ite_true, ite_false, eq_self, mc_n10, nI_clamp, mc_vin, mc_m3, nI_add, nI_1, h0]
    exact K
theorem mc_y_pf7 {post : Int32 → SY → Prop} (lk : Nat) (hlk : lk < 3) (hA : a = nI lk) (ht : t < 3) (K : wY_step_297 post (nI t) (nI pp) x3 (nI T) (nI C) (nI V) (nI L) sl st op ar ln ini (mc_ce 7 a t ce ac) (mc_ac 7 a t ce ac) (mc_pn 7 a t pp ac pc) ph (mc_hn 7 a t he) rT rP bf af ym cl sn fr cm yo) : wY_step_158 post (nI t) (nI pp) x3 7 a (ac t) (nI T) (nI C) (nI V) (nI L) sl st op ar ln ini ce ac pc ph he rT rP bf af ym cl sn fr cm yo := by
  subst hA
  unfold mc_ce mc_ac mc_pn mc_hn at K
  simp (disch := omega) only [mc_q_7_1, mc_q_7_2, mc_q_7_3, mc_q_7_4, mc_q_7_5, mc_q_7_6, mc_q_7_8, mc_q_7_9, mc_q_7_10, mc_g_7, not_true, not_false_iff, false_implies, true_implies, true_and, and_true, forall_eq, or_self, or_false, false_or, or_true, true_or, and_self, false_and, if_true, if_false, ite_true, ite_false, eq_self, mc_n10, nI_clamp, mc_vin, mc_m3, nI_add, nI_1] at K
  simp (disch := omega) only [wY_step_158, wY_step_181, wY_step_186, wY_step_189, wY_step_202, wY_step_215, wY_step_227, wY_step_236, wY_step_253, wY_step_275, mc_q_7_1, mc_q_7_2, mc_q_7_3, mc_q_7_4, mc_q_7_5, mc_q_7_6, mc_q_7_8, mc_q_7_9, mc_q_7_10, mc_g_7, not_true, not_false_iff, false_implies, true_implies, true_and, and_true, forall_eq, or_self, or_false, false_or, or_true, true_or, and_self, false_and, if_true, if_false, ite_true, ite_false, eq_self, mc_n10, nI_clamp, mc_vin, mc_m3, nI_add, nI_1]
  exact K
theorem mc_y_pf8 {post : Int32 → SY → Prop} (lk : Nat) (hlk : lk < 3) (hA : a = nI lk) (ht : t < 3) (K : wY_step_297 post (nI t) (nI pp) x3 (nI T) (nI C) (nI V) (nI L) sl st op ar ln ini (mc_ce 8 a t ce ac) (mc_ac 8 a t ce ac) (mc_pn 8 a t pp ac pc) ph (mc_hn 8 a t he) rT rP bf af ym cl sn fr cm yo) : wY_step_158 post (nI t) (nI pp) x3 8 a (ac t) (nI T) (nI C) (nI V) (nI L) sl st op ar ln ini ce ac pc ph he rT rP bf af ym cl sn fr cm yo := by
  subst hA
  unfold mc_ce mc_ac mc_pn mc_hn at K
  simp (disch := omega) only [mc_q_8_1, mc_q_8_2, mc_q_8_3, mc_q_8_4, mc_q_8_5, mc_q_8_6, mc_q_8_7, mc_q_8_9, mc_q_8_10, mc_g_8, not_true, not_false_iff, false_implies, true_implies, true_and, and_true, forall_eq, or_self, or_false, false_or, or_true, true_or, and_self, false_and, if_true, if_false, ite_true, ite_false, eq_self, mc_n10, nI_clamp, mc_vin, mc_m3, nI_add, nI_1] at K
  simp (disch := omega) only [wY_step_158, wY_step_181, wY_step_186, wY_step_189, wY_step_202, wY_step_215, wY_step_227, wY_step_236, wY_step_253, wY_step_275, mc_q_8_1, mc_q_8_2, mc_q_8_3, mc_q_8_4, mc_q_8_5, mc_q_8_6, mc_q_8_7, mc_q_8_9, mc_q_8_10, mc_g_8, not_true, not_false_iff, false_implies, true_implies, true_and, and_true, forall_eq, or_self, or_false, false_or, or_true, true_or, and_self, false_and, if_true, if_false, ite_true, ite_false, eq_self, mc_n10, nI_clamp, mc_vin, mc_m3, nI_add, nI_1]
  exact K
theorem mc_y_pf9 {post : Int32 → SY → Prop} (ht : t < 3) (K : wY_step_297 post (nI t) (nI pp) x3 (nI T) (nI C) (nI V) (nI L) sl st op ar ln ini (mc_ce 9 a t ce ac) (mc_ac 9 a t ce ac) (mc_pn 9 a t pp ac pc) ph (mc_hn 9 a t he) rT rP bf af ym cl sn fr cm yo) : wY_step_158 post (nI t) (nI pp) x3 9 a (ac t) (nI T) (nI C) (nI V) (nI L) sl st op ar ln ini ce ac pc ph he rT rP bf af ym cl sn fr cm yo := by
  unfold mc_ce mc_ac mc_pn mc_hn at K
  simp (disch := omega) only [mc_q_9_1, mc_q_9_2, mc_q_9_3, mc_q_9_4, mc_q_9_5, mc_q_9_6, mc_q_9_7, mc_q_9_8, mc_q_9_10, mc_g_9, not_true, not_false_iff, false_implies, true_implies, true_and, and_true, forall_eq, or_self, or_false, false_or, or_true, true_or, and_self, false_and, if_true, if_false, ite_true, ite_false, eq_self, mc_n10, nI_clamp, mc_vin, mc_m3, nI_add, nI_1] at K
  simp (disch := omega) only [wY_step_158, wY_step_181, wY_step_186, wY_step_189, wY_step_202, wY_step_215, wY_step_227, wY_step_236, wY_step_253, wY_step_275, mc_q_9_1, mc_q_9_2, mc_q_9_3, mc_q_9_4, mc_q_9_5, mc_q_9_6, mc_q_9_7, mc_q_9_8, mc_q_9_10, mc_g_9, not_true, not_false_iff, false_implies, true_implies, true_and, and_true, forall_eq, or_self, or_false, false_or, or_true, true_or, and_self, false_and, if_true, if_false, ite_true, ite_false, eq_self, mc_n10, nI_clamp, mc_vin, mc_m3, nI_add, nI_1]
  exact K
theorem mc_y_pf10 {post : Int32 → SY → Prop} (ht : t < 3) (K : wY_step_297 post (nI t) (nI pp) x3 (nI T) (nI C) (nI V) (nI L) sl st op ar ln ini (mc_ce 10 a t ce ac) (mc_ac 10 a t ce ac) (mc_pn 10 a t pp ac pc) ph (mc_hn 10 a t he) rT rP bf af ym cl sn fr cm yo) : wY_step_158 post (nI t) (nI pp) x3 10 a (ac t) (nI T) (nI C) (nI V) (nI L) sl st op ar ln ini ce ac pc ph he rT rP bf af ym cl sn fr cm yo := by
  unfold mc_ce mc_ac mc_pn mc_hn at K
  simp (disch := omega) only [mc_q_10_1, mc_q_10_2, mc_q_10_3, mc_q_10_4, mc_q_10_5, mc_q_10_6, mc_q_10_7, mc_q_10_8, mc_q_10_9, mc_g_10, not_true, not_false_iff, false_implies, true_implies, true_and, and_true, forall_eq, or_self, or_false, false_or, or_true, true_or, and_self, false_and, if_true, if_false, ite_true, ite_false, eq_self, mc_n10, nI_clamp, mc_vin, mc_m3, nI_add, nI_1] at K
  simp (disch := omega) only [wY_step_158, wY_step_181, wY_step_186, wY_step_189, wY_step_202, wY_step_215, wY_step_227, wY_step_236, wY_step_253, wY_step_275, mc_q_10_1, mc_q_10_2, mc_q_10_3, mc_q_10_4, mc_q_10_5, mc_q_10_6, mc_q_10_7, mc_q_10_8, mc_q_10_9, mc_g_10, not_true, not_false_iff, false_implies, true_implies, true_and, and_true, forall_eq, or_self, or_false, false_or, or_true, true_or, and_self, false_and, if_true, if_false, ite_true, ite_false, eq_self, mc_n10, nI_clamp, mc_vin, mc_m3, nI_add, nI_1]
  exact K
end
end
section
/-! one step of the machine, both sides -/
def mc_HE (T L : Nat) (he : Nat → Int32) : Prop := ∀ u lk, u < T → lk < L → ∃ v, v ≤ 3 ∧ he (3 * u + lk) = nI v
noncomputable def mc_rf (T t : Nat) (o : Int32) (lk : Nat) (he : Nat → Int32) : Nat :=
  mc_if (o = 7) (mc_if (∃ u, u < T ∧ u ≠ t ∧ ¬ he (3 * u + lk) = 0) 5 (mc_if (he (3 * t + lk) = 3) 6 0)) (mc_if (o = 8 ∧ he (3 * t + lk) = 0) 6 0)
def mc_su (n t : Nat) (su ou ph : Nat → Int32) : Nat → Int32 := if ph t = 0 then upd su n (nI n) else upd su n (ou t)
def mc_ou (n t : Nat) (ou ph : Nat → Int32) : Nat → Int32 := if ph t = 0 then upd ou t (nI n) else ou
def mc_uc (n t a : Nat) (uc ou ph : Nat → Int32) : Nat → Int32 := if ph t = 0 then upd uc n (if a = 0 then nI n else -1) else if ph t = 1 ∧ ¬ a = 1 then upd uc (ou t).toNatClampNeg (nI n) else uc
theorem mc_rf_le (T t : Nat) (o : Int32) (lk : Nat) (he : Nat → Int32) : mc_rf T t o lk he ≤ 6 := by
  have key : ∀ (P : Prop) (a b : Nat), a ≤ 6 → b ≤ 6 → mc_if P a b ≤ 6 := fun P a b ha hb => by
    by_cases h : P
    · rw [mc_if_t h]; exact ha
    · rw [mc_if_f h]; exact hb
  unfold mc_rf
  exact key _ _ _ (key _ _ _ (by omega) (key _ _ _ (by omega) (by omega))) (key _ _ _ (by omega) (by omega))
section
variable {T C V L : Nat} {fu ff sl vd st : Int32} {ln op ar ini xm kd mv ds oP oL ce ac pc ph he rT rP su uc ou od sc : Nat → Int32}
variable {t pp n : Nat} {lf : Nat → Nat} {o a : Int32} {cl : Nat → Int32}
theorem mc_x_he {post : Int32 → Prop} {lk : Nat} (hT : T ≤ 3) (hL : L ≤ 3) (ht : t < T) (hlk : lk < L) (hH : mc_HE T L he) (h1 : (∃ u, u < T ∧ u ≠ t ∧ ¬ he (3 * u + lk) = 0) → post 1) (h0 : ¬ (∃ u, u < T ∧ u ≠ t ∧ ¬ he (3 * u + lk) = 0) → post 0) :
    ∀ n u, T - u < n → u ≤ T → (∀ u', u' < u → u' ≠ t → he (3 * u' + lk) = 0) → wX_heldElsewhere_2 post (nI t) (nI lk) (nI T) (nI C) (nI V) (nI L) fu ff sl vd st ln op ar ini xm kd mv ds oP oL ce ac pc ph he rT rP su uc ou od sc n (nI u) := by
  intro n
  induction n with
  | zero => intro u z; omega
  | succ n ih =>
    intro u hn hu hI
    rw [wX_heldElsewhere_2]
    by_cases e : T ≤ u
    all_goals simp (disch := omega) only [nI_clamp, mc_m16, mc_m48, mc_m3, mc_vin, nI_add, nI_1, true_and, forall_eq, nI_leI, nI_eq]
    · refine br_t e (h0 ?_)
      rintro ⟨u', a1, a2, a3⟩
      exact a3 (hI u' (by omega) a2)
    · refine br_f e ?_
      by_cases et : u = t
      · refine br_t et (ih (u + 1) (by omega) (by omega) fun u' a1 a2 => hI u' (by omega) a2)
      · obtain ⟨v, hv, ev⟩ := hH u lk (by omega) hlk
        refine br_f et ?_
        by_cases v0 : v = 0
        · have ez : he (3 * u + lk) = 0 := by rw [ev, v0]; rfl
          rw [ez]
          refine br_t (by decide) (ih (u + 1) (by omega) (by omega) fun u' a1 a2 => ?_)
          by_cases eu : u' = u
          · subst eu; exact ez
          · exact hI u' (by omega) a2
        · rw [ev]
          refine br_f (nI_nle (by omega) (by omega)) (h1 ⟨u, by omega, et, ?_⟩)
          rw [ev]; exact nI_ne0 (by omega) (by omega)
theorem mc_x_lr {post : Int32 → Prop} (hT : T ≤ 3) (hL : L ≤ 3) (ht : t < T) (hI : mc_IN V C L o a) (hH : mc_HE T L he) (h : post (nI (mc_rf T t o a.toNatClampNeg he))) : wpX_lockRefusal post (nI T, nI C, nI V, nI L, fu, ff, sl, vd, st, ln, op, ar, ini, xm, kd, mv, ds, oP, oL, ce, ac, pc, ph, he, rT, rP, su, uc, ou, od, sc) (nI t) o a := by
  obtain ⟨-, -, -, iL⟩ := hI
  unfold mc_rf at h
  unfold wpX_lockRefusal
  by_cases h7 : o = 7
  · obtain ⟨k, hk, e⟩ := iL (Or.inl h7)
    subst e
    rw [nI_clamp (by omega), mc_if_t h7] at h
    obtain ⟨v, hv, ev⟩ := hH t k ht hk
    refine br_t h7 ?_
    unfold wpX_heldElsewhere
    refine ⟨T + 1, mc_x_he hT hL ht hk hH ?_ ?_ (T + 1) 0 (by omega) (by omega) (fun u' hu' => absurd hu' (by omega))⟩
    · intro z
      rw [mc_if_t z] at h
      exact br_f mc_n10 h
    · intro z
      rw [mc_if_f z, ev] at h
      refine br_t rfl ?_
      simp (disch := omega) only [nI_clamp, mc_m16, mc_m48, mc_m3, mc_vin, nI_add, nI_1, true_and, forall_eq, ev, mc_glt3]
      by_cases v3 : v = 3
      · subst v3
        rw [mc_if_t (show nI 3 = 3 from rfl)] at h
        exact br_f (by omega) h
      · rw [mc_if_f (fun q => v3 ((mc_e3 (by omega)).mp q))] at h
        exact br_t (by omega) h
  · rw [mc_if_f h7] at h
    refine br_f h7 ?_
    by_cases h8 : o = 8
    · obtain ⟨k, hk, e⟩ := iL (Or.inr h8)
      subst e
      rw [nI_clamp (by omega)] at h
      refine br_t h8 ?_
      simp (disch := omega) only [nI_clamp, mc_m16, mc_m48, mc_m3, mc_vin, nI_add, nI_1, true_and, forall_eq]
      by_cases z : he (3 * t + k) = 0
      · rw [mc_if_t ⟨h8, z⟩] at h; exact br_t z h
      · rw [mc_if_f (fun q => z q.2)] at h; exact br_f z h
    · rw [mc_if_f (fun q => h8 q.1)] at h
      exact br_f h8 h
theorem mc_x_note {post : SX → Prop} {a' : Nat} (ht : t < 3) (hn : n < 64) (ha : a' < 3) (hO : ph t = 0 ∨ vp_in (ou t) 64)
    (K : post (nI T, nI C, nI V, nI L, fu, ff, sl, vd, nI (n + 1), ln, op, ar, ini, xm, kd, mv, ds, oP, oL, ce, ac, pc, ph, he, upd rT n (nI t), upd rP n (nI pp), mc_su n t su ou ph, mc_uc n t a' uc ou ph, mc_ou n t ou ph, od, sc)) : wpX_noteStep post (nI T, nI C, nI V, nI L, fu, ff, sl, vd, nI n, ln, op, ar, ini, xm, kd, mv, ds, oP, oL, ce, ac, pc, ph, he, rT, rP, su, uc, ou, od, sc) (nI t) (nI pp) (nI a') := by
  unfold mc_su mc_uc mc_ou at K
  unfold wpX_noteStep
  simp (disch := omega) only [nI_clamp, mc_m16, mc_m48, mc_m3, mc_vin, nI_add, nI_1, true_and, forall_eq, mc_e0, mc_e1]
  by_cases h0 : ph t = 0
  · rw [if_pos h0, if_pos h0, if_pos h0] at K
    refine br_t h0 ?_
    by_cases a0 : a' = 0
    · rw [if_pos a0] at K
      refine br_t a0 ?_
      unfold wX_noteStep_68
      simp (disch := omega) only [nI_clamp, mc_m16, mc_m48, mc_m3, mc_vin, nI_add, nI_1, true_and, forall_eq]
      exact K
    · rw [if_neg a0] at K
      refine br_f a0 ?_
      unfold wX_noteStep_68
      simp (disch := omega) only [nI_clamp, mc_m16, mc_m48, mc_m3, mc_vin, nI_add, nI_1, true_and, forall_eq]
      exact K
  · rw [if_neg h0, if_neg h0, if_neg h0] at K
    refine br_f h0 ?_
    have hv : vp_in (ou t) 64 := hO.resolve_left h0
    by_cases h1 : ph t = 1
    · refine br_t h1 ?_
      by_cases a1 : a' = 1
      · rw [if_neg (fun q => q.2 a1)] at K
        exact br_t a1 K
      · rw [if_pos ⟨h1, a1⟩] at K
        exact br_f a1 ⟨hv, K⟩
    · rw [if_neg (fun q => h1 q.1)] at K
      exact br_f h1 K
theorem mc_x_pf {post : SX → Prop} (hV : V ≤ 4) (hL : L ≤ 3) (ht : t < 3) (hI : mc_IN V C L o a) (hpc : pc t = nI pp) (K : post (nI T, nI C, nI V, nI L, fu, ff, sl, vd, st, ln, op, ar, ini, xm, kd, mv, ds, oP, oL, mc_ce o a t ce ac, mc_ac o a t ce ac, mc_pn o a t pp ac pc, ph, mc_hn o a t he, rT, rP, su, uc, ou, od, sc)) : wpX_perform post (nI T, nI C, nI V, nI L, fu, ff, sl, vd, st, ln, op, ar, ini, xm, kd, mv, ds, oP, oL, ce, ac, pc, ph, he, rT, rP, su, uc, ou, od, sc) (nI t) o a := by
  obtain ⟨⟨k, k1, k2, e⟩, iA, -, iL⟩ := hI
  have hk : k = 1 ∨ k = 2 ∨ k = 3 ∨ k = 4 ∨ k = 5 ∨ k = 6 ∨ k = 7 ∨ k = 8 ∨ k = 9 ∨ k = 10 := by omega
  have hA : ¬ 3 < o → vp_in a 4 := fun z => by
    obtain ⟨j, hj, ej⟩ := iA z
    rw [ej]; exact vp_in_nI (by omega) (by omega)
  subst e
  rcases hk with e | e | e | e | e | e | e | e | e | e <;> subst e
  · exact mc_x_pf1 (hA (by decide)) ht hpc K
  · exact mc_x_pf2 (hA (by decide)) ht hpc K
  · exact mc_x_pf3 (hA (by decide)) ht hpc K
  · exact mc_x_pf4 ht hpc K
  · exact mc_x_pf5 ht hpc K
  · exact mc_x_pf6 ht hpc K
  · obtain ⟨j, hj, ej⟩ := iL (Or.inl rfl)
    exact mc_x_pf7 j (by omega) ej ht hpc K
  · obtain ⟨j, hj, ej⟩ := iL (Or.inr rfl)
    exact mc_x_pf8 j (by omega) ej ht hpc K
  · exact mc_x_pf9 ht hpc K
  · exact mc_x_pf10 ht hpc K
theorem mc_x_step {post : Int32 → SX → Prop} {hh : Nat} (P : mc_PG T C V L ln op ar lf) (ht : t < T) (hH : mc_HE T L he) (hO : ph t = 0 ∨ vp_in (ou t) 64) (hpc : pc t = nI pp) (hpp : pp ≤ 16) (hph : ph t = nI hh) (hhh : hh < 3)
    (hmv : pp < lf t → mv (16 * t + pp) = cl (16 * t + pp)) (hn : n ≤ 64)
    (k3 : 64 ≤ n → post 3 (nI T, nI C, nI V, nI L, fu, ff, sl, vd, nI n, ln, op, ar, ini, xm, kd, mv, ds, oP, oL, ce, ac, pc, ph, he, rT, rP, su, uc, ou, od, sc)) (k4 : n < 64 → lf t ≤ pp → post 4 (nI T, nI C, nI V, nI L, fu, ff, sl, vd, nI n, ln, op, ar, ini, xm, kd, mv, ds, oP, oL, ce, ac, pc, ph, he, rT, rP, su, uc, ou, od, sc))
    (k5 : n < 64 → pp < lf t → mc_rf T t (op (16 * t + pp)) (ar (16 * t + pp)).toNatClampNeg he ≠ 0 → post (nI (mc_rf T t (op (16 * t + pp)) (ar (16 * t + pp)).toNatClampNeg he)) (nI T, nI C, nI V, nI L, fu, ff, sl, vd, nI n, ln, op, ar, ini, xm, kd, mv, ds, oP, oL, ce, ac, pc, ph, he, rT, rP, su, uc, ou, od, sc))
    (k0 : n < 64 → pp < lf t → mc_rf T t (op (16 * t + pp)) (ar (16 * t + pp)).toNatClampNeg he = 0 →
      post 0 (nI T, nI C, nI V, nI L, fu, ff, sl, vd, nI (n + 1), ln, op, ar, ini, xm, kd, mv, ds, oP, oL, mc_ce (op (16 * t + pp)) (ar (16 * t + pp)) t ce ac, mc_ac (op (16 * t + pp)) (ar (16 * t + pp)) t ce ac, mc_pn (op (16 * t + pp)) (ar (16 * t + pp)) t pp ac pc, upd ph t (nI (mc_pa op cl (16 * t) pp hh)), mc_hn (op (16 * t + pp)) (ar (16 * t + pp)) t he, upd rT n (nI t), upd rP n (nI pp), mc_su n t su ou ph, mc_uc n t (mc_pa op cl (16 * t) pp hh) uc ou ph, mc_ou n t ou ph, od, sc)) :
    wpX_step post (nI T, nI C, nI V, nI L, fu, ff, sl, vd, nI n, ln, op, ar, ini, xm, kd, mv, ds, oP, oL, ce, ac, pc, ph, he, rT, rP, su, uc, ou, od, sc) (nI t) := by
  have ⟨ht3, hl, h16, hC, hV, hL, hI⟩ := mc_PG_TH P ht
  have hT := P.1.2
  have hrf := mc_rf_le T t (op (16 * t + pp)) (ar (16 * t + pp)).toNatClampNeg he
  unfold wpX_step
  by_cases e64 : n < 64
  · by_cases ep : pp < lf t
    · simp (disch := omega) only [nI_clamp, mc_m16, mc_m48, mc_m3, mc_vin, nI_add, nI_1, true_and, forall_eq, hpc, hl, mc_lt64, nI_ltI]
      refine br_t e64 (br_t ep (mc_x_lr hT hL ht (hI pp ep) hH ?_))
      by_cases r0 : mc_rf T t (op (16 * t + pp)) (ar (16 * t + pp)).toNatClampNeg he = 0
      · rw [r0]
        refine br_t rfl ?_
        rw [hph]
        refine mc_x_pa ht3 (by omega) hhh (hmv ep) (mc_x_note ht3 e64 (mc_pa_3 hhh) hO ?_)
        exact mc_x_pf hV hL ht3 (hI pp ep) hpc (k0 e64 ep r0)
      · exact br_f (nI_ne0 (by omega) (by omega)) (k5 e64 ep r0)
    · simp (disch := omega) only [nI_clamp, mc_m16, mc_m48, mc_m3, mc_vin, nI_add, nI_1, true_and, forall_eq, hpc, hl, mc_lt64, nI_ltI]
      exact br_t e64 (br_f ep (k4 e64 (by omega)))
  · simp (disch := omega) only [nI_clamp, mc_m16, mc_m48, mc_m3, mc_vin, nI_add, nI_1, true_and, forall_eq, hpc, hl, mc_lt64, nI_ltI]
    exact br_f e64 (k3 (by omega))
end
section
variable {T C V L : Nat} {sl st : Int32} {op ar ln ini ce ac pc ph he rT rP bf af ym cl sn fr cm yo : Nat → Int32}
variable {t pp n : Nat} {lf : Nat → Nat} {o a : Int32} {cv : Nat → Int32}
theorem mc_y_pf {post : Int32 → SY → Prop} {x3 : Int32} (hV : V ≤ 4) (hL : L ≤ 3) (ht : t < 3) (hI : mc_IN V C L o a) (K : wY_step_297 post (nI t) (nI pp) x3 (nI T) (nI C) (nI V) (nI L) sl st op ar ln ini (mc_ce o a t ce ac) (mc_ac o a t ce ac) (mc_pn o a t pp ac pc) ph (mc_hn o a t he) rT rP bf af ym cl sn fr cm yo) : wY_step_158 post (nI t) (nI pp) x3 o a (ac t) (nI T) (nI C) (nI V) (nI L) sl st op ar ln ini ce ac pc ph he rT rP bf af ym cl sn fr cm yo := by
  obtain ⟨⟨k, k1, k2, e⟩, iA, -, iL⟩ := hI
  have hk : k = 1 ∨ k = 2 ∨ k = 3 ∨ k = 4 ∨ k = 5 ∨ k = 6 ∨ k = 7 ∨ k = 8 ∨ k = 9 ∨ k = 10 := by omega
  have hA : ¬ 3 < o → vp_in a 4 := fun z => by
    obtain ⟨j, hj, ej⟩ := iA z
    rw [ej]; exact vp_in_nI (by omega) (by omega)
  subst e
  rcases hk with e | e | e | e | e | e | e | e | e | e <;> subst e
  · exact mc_y_pf1 (hA (by decide)) ht K
  · exact mc_y_pf2 (hA (by decide)) ht K
  · exact mc_y_pf3 (hA (by decide)) ht K
  · exact mc_y_pf4 ht K
  · exact mc_y_pf5 ht K
  · exact mc_y_pf6 ht K
  · obtain ⟨j, hj, ej⟩ := iL (Or.inl rfl)
    exact mc_y_pf7 j (by omega) ej ht K
  · obtain ⟨j, hj, ej⟩ := iL (Or.inr rfl)
    exact mc_y_pf8 j (by omega) ej ht K
  · exact mc_y_pf9 ht K
  · exact mc_y_pf10 ht K
theorem mc_y_64 {post : Int32 → SY → Prop} {x2 x3 x6 : Int32} (hT : T ≤ 3) (hL : L ≤ 3) (ht : t < T) (hI : mc_IN V C L o a) (hH : mc_HE T L he)
    (k5 : mc_rf T t o a.toNatClampNeg he ≠ 0 → post (nI (mc_rf T t o a.toNatClampNeg he)) (nI T, nI C, nI V, nI L, sl, st, op, ar, ln, ini, ce, ac, pc, ph, he, rT, rP, bf, af, ym, cl, sn, fr, cm, yo)) (k0 : mc_rf T t o a.toNatClampNeg he = 0 → wY_step_158 post (nI t) x2 x3 o a x6 (nI T) (nI C) (nI V) (nI L) sl st op ar ln ini ce ac pc ph he rT rP bf af ym cl sn fr cm yo) :
    ∀ n u, T - u < n → u ≤ T → (o = 7 → ∀ u', u' < u → u' ≠ t → he (3 * u' + a.toNatClampNeg) = 0) → wY_step_64 post (nI t) x2 x3 o a x6 (nI T) (nI C) (nI V) (nI L) sl st op ar ln ini ce ac pc ph he rT rP bf af ym cl sn fr cm yo n (nI u) := by
  obtain ⟨-, -, -, iL⟩ := hI
  intro n
  induction n with
  | zero => intro u z; omega
  | succ n ih =>
    intro u hn hu hJ
    rw [wY_step_64]
    by_cases e : T ≤ u
    all_goals simp (disch := omega) only [nI_clamp, mc_m16, mc_m48, mc_m3, mc_vin, nI_add, nI_1, true_and, forall_eq, nI_leI, nI_eq]
    · refine br_t e ?_
      by_cases h7 : o = 7
      · obtain ⟨k, hk, ek⟩ := iL (Or.inl h7)
        subst ek
        obtain ⟨v, hv, ev⟩ := hH t k ht hk
        have hno : ¬ ∃ u, u < T ∧ u ≠ t ∧ ¬ he (3 * u + k) = 0 := by
          rintro ⟨u', a1, a2, a3⟩
          have := hJ h7 u' (by omega) a2
          rw [nI_clamp (by omega)] at this
          exact a3 this
        unfold mc_rf at k5 k0
        rw [nI_clamp (by omega), mc_if_t h7, mc_if_f hno] at k5 k0
        refine br_t h7 ?_
        simp (disch := omega) only [nI_clamp, mc_m16, mc_m48, mc_m3, mc_vin, nI_add, nI_1, true_and, forall_eq]
        by_cases z : he (3 * t + k) = 3
        · rw [mc_if_t z] at k5
          exact br_t z (k5 (by decide))
        · rw [mc_if_f z] at k0
          refine br_f z ?_
          unfold wY_step_134
          exact br_f (by rw [h7]; decide) (k0 rfl)
      · refine br_f h7 ?_
        unfold mc_rf at k5 k0
        rw [mc_if_f h7] at k5 k0
        unfold wY_step_134
        by_cases h8 : o = 8
        · obtain ⟨k, hk, ek⟩ := iL (Or.inr h8)
          subst ek
          rw [nI_clamp (by omega)] at k5 k0
          refine br_t h8 ?_
          simp (disch := omega) only [nI_clamp, mc_m16, mc_m48, mc_m3, mc_vin, nI_add, nI_1, true_and, forall_eq]
          by_cases z : he (3 * t + k) = 0
          · rw [mc_if_t ⟨h8, z⟩] at k5
            exact br_t z (k5 (by decide))
          · rw [mc_if_f (fun q => z q.2)] at k0
            exact br_f z (k0 rfl)
        · rw [mc_if_f (fun q => h8 q.1)] at k0
          exact br_f h8 (k0 rfl)
    · refine br_f e ?_
      by_cases h7 : o = 7
      · obtain ⟨k, hk, ek⟩ := iL (Or.inl h7)
        subst ek
        refine br_t h7 ?_
        by_cases et : u = t
        · exact br_t et (ih (u + 1) (by omega) (by omega) fun q u' a1 a2 => hJ q u' (by omega) a2)
        · obtain ⟨v, hv, ev⟩ := hH u k (by omega) hk
          refine br_f et ?_
          simp (disch := omega) only [nI_clamp, mc_m16, mc_m48, mc_m3, mc_vin, nI_add, nI_1, true_and, forall_eq]
          by_cases v0 : v = 0
          · have ez : he (3 * u + k) = 0 := by rw [ev, v0]; rfl
            rw [ez]
            refine br_t (by decide) (ih (u + 1) (by omega) (by omega) fun q u' a1 a2 => ?_)
            by_cases eu : u' = u
            · subst eu; rw [nI_clamp (by omega)]; exact ez
            · exact hJ q u' (by omega) a2
          · have hyes : ∃ u, u < T ∧ u ≠ t ∧ ¬ he (3 * u + k) = 0 := ⟨u, by omega, et, by rw [ev]; exact nI_ne0 (by omega) (by omega)⟩
            unfold mc_rf at k5
            rw [nI_clamp (by omega), mc_if_t h7, mc_if_t hyes] at k5
            rw [ev]
            exact br_f (nI_nle (by omega) (by omega)) (k5 (by decide))
      · exact br_f h7 (ih (u + 1) (by omega) (by omega) fun q => absurd q h7)
theorem mc_y_297 {post : Int32 → SY → Prop} {hh : Nat} (ht : t < 3) (hp : pp < 16) (hn : n < 64) (hph : ph t = nI hh) (hhh : hh < 3) (hm : cl (16 * t + pp) = cv (16 * t + pp))
    (K : post 0 (nI T, nI C, nI V, nI L, sl, nI (n + 1), op, ar, ln, ini, ce, ac, pc, upd ph t (nI (mc_pa op cv (16 * t) pp hh)), he, upd rT n (nI t), upd rP n (nI pp), upd bf n (nI hh), upd af n (nI (mc_pa op cv (16 * t) pp hh)), ym, cl, sn, fr, cm, yo)) :
    wY_step_297 post (nI t) (nI pp) (nI (16 * t + pp)) (nI T) (nI C) (nI V) (nI L) sl (nI n) op ar ln ini ce ac pc ph he rT rP bf af ym cl sn fr cm yo := by
  unfold wY_step_297
  simp (disch := omega) only [nI_clamp, mc_m16, mc_m48, mc_m3, mc_vin, nI_add, nI_1, true_and, forall_eq, hph, pk_us]
  exact mc_y_pa ht hp hhh hm K
theorem mc_y_step {post : Int32 → SY → Prop} {hh : Nat} (P : mc_PG T C V L ln op ar lf) (ht : t < T) (hH : mc_HE T L he) (hpc : pc t = nI pp) (hpp : pp ≤ 16) (hph : ph t = nI hh) (hhh : hh < 3)
    (hcl : pp < lf t → cl (16 * t + pp) = cv (16 * t + pp)) (hn : n ≤ 64)
    (k3 : 64 ≤ n → post 3 (nI T, nI C, nI V, nI L, sl, nI n, op, ar, ln, ini, ce, ac, pc, ph, he, rT, rP, bf, af, ym, cl, sn, fr, cm, yo)) (k4 : n < 64 → lf t ≤ pp → post 4 (nI T, nI C, nI V, nI L, sl, nI n, op, ar, ln, ini, ce, ac, pc, ph, he, rT, rP, bf, af, ym, cl, sn, fr, cm, yo))
    (k5 : n < 64 → pp < lf t → mc_rf T t (op (16 * t + pp)) (ar (16 * t + pp)).toNatClampNeg he ≠ 0 → post (nI (mc_rf T t (op (16 * t + pp)) (ar (16 * t + pp)).toNatClampNeg he)) (nI T, nI C, nI V, nI L, sl, nI n, op, ar, ln, ini, ce, ac, pc, ph, he, rT, rP, bf, af, ym, cl, sn, fr, cm, yo))
    (k0 : n < 64 → pp < lf t → mc_rf T t (op (16 * t + pp)) (ar (16 * t + pp)).toNatClampNeg he = 0 →
      post 0 (nI T, nI C, nI V, nI L, sl, nI (n + 1), op, ar, ln, ini, mc_ce (op (16 * t + pp)) (ar (16 * t + pp)) t ce ac, mc_ac (op (16 * t + pp)) (ar (16 * t + pp)) t ce ac, mc_pn (op (16 * t + pp)) (ar (16 * t + pp)) t pp ac pc, upd ph t (nI (mc_pa op cv (16 * t) pp hh)), mc_hn (op (16 * t + pp)) (ar (16 * t + pp)) t he, upd rT n (nI t), upd rP n (nI pp), upd bf n (nI hh), upd af n (nI (mc_pa op cv (16 * t) pp hh)), ym, cl, sn, fr, cm, yo)) :
    wpY_step post (nI T, nI C, nI V, nI L, sl, nI n, op, ar, ln, ini, ce, ac, pc, ph, he, rT, rP, bf, af, ym, cl, sn, fr, cm, yo) (nI t) := by
  have ⟨ht3, hl, h16, hC, hV, hL, hI⟩ := mc_PG_TH P ht
  have hT := P.1.2
  have hrf := mc_rf_le T t (op (16 * t + pp)) (ar (16 * t + pp)).toNatClampNeg he
  unfold wpY_step
  by_cases e64 : n < 64
  · by_cases ep : pp < lf t
    · simp (disch := omega) only [nI_clamp, mc_m16, mc_m48, mc_m3, mc_vin, nI_add, nI_1, true_and, forall_eq, hpc, hl, mc_lt64, nI_ltI]
      refine br_t e64 (br_t ep ⟨T + 1, mc_y_64 hT hL ht (hI pp ep) hH (k5 e64 ep) ?_ (T + 1) 0 (by omega) (by omega) (fun _ u' hu' => absurd hu' (by omega))⟩)
      intro r0
      exact mc_y_pf hV hL ht3 (hI pp ep) (mc_y_297 ht3 (by omega) e64 hph hhh (hcl ep) (k0 e64 ep r0))
    · simp (disch := omega) only [nI_clamp, mc_m16, mc_m48, mc_m3, mc_vin, nI_add, nI_1, true_and, forall_eq, hpc, hl, mc_lt64, nI_ltI]
      exact br_t e64 (br_f ep (k4 e64 (by omega)))
  · simp (disch := omega) only [nI_clamp, mc_m16, mc_m48, mc_m3, mc_vin, nI_add, nI_1, true_and, forall_eq, hpc, hl, mc_lt64, nI_ltI]
    exact br_f e64 (k3 (by omega))
end
end
section
/-! the relation, and that a step keeps it -/
def mc_MC (T L : Nat) (pc ph he : Nat → Int32) : Prop :=
  (∀ t, t < T → ∃ pp, pp ≤ 16 ∧ pc t = nI pp) ∧ (∀ t, t < T → ∃ hh, hh < 3 ∧ ph t = nI hh) ∧ (∀ t, T ≤ t → t < 3 → ph t = 0) ∧ mc_HE T L he
def mc_AN (T V L : Nat) (lf : Nat → Nat) (vd : Int32) (op ar xm kd mv oP oL ym cl : Nat → Int32) : Prop :=
  ∃ dd, mc_DS T L op ar lf dd ∧ mc_XA T L op ar lf xm ∧ mc_YA L op ar lf ym ∧ (∀ c, c < V → kd c = nI (mc_kv op ar lf L c)) ∧ mc_AL T L op ar lf T dd mv oL oP ∧ (∀ x, x < 48 → cl x = mc_cv op ar lf L x) ∧ mc_VD T dd vd
def mc_R (T C V L n : Nat) (lf : Nat → Nat) (sl vd : Int32) (ln op ar xm kd mv oP oL pc ph he rT su uc ou bf af ym cl : Nat → Int32) : Prop :=
  mc_PG T C V L ln op ar lf ∧ (sl = 0 ∨ sl = 1) ∧ mc_RN T n rT bf af su uc ou ph ∧ mc_MC T L pc ph he ∧ (¬ sl = 0 → mc_AN T V L lf vd op ar xm kd mv oP oL ym cl)
section
variable {T C V L n : Nat} {lf : Nat → Nat} {fu ff sl vd : Int32} {ln op ar ini xm kd mv ds oP oL ce ac pc ph he rT rP su uc ou od sc bf af ym cl sn fr cm yo : Nat → Int32}
variable {t pp hh b : Nat} {o a : Int32} {cv : Nat → Int32}
theorem mc_pa_0 : mc_pa op cv b pp 0 = 0 ∨ mc_pa op cv b pp 0 = 1 := by
  unfold mc_pa
  rw [if_pos rfl]
  split
  · exact Or.inr rfl
  · exact Or.inl rfl
theorem mc_pa_2 : mc_pa op cv b pp 2 ≠ 1 := by
  unfold mc_pa
  rw [if_neg (by omega)]
  split
  · decide
  · split <;> decide
theorem mc_RN_step (R : mc_RN T n rT bf af su uc ou ph) (hn : n < 64) (ht : t < T) (hT : T ≤ 3) (hph : ph t = nI hh) (hhh : hh < 3) :
    mc_RN T (n + 1) (upd rT n (nI t)) (upd bf n (nI hh)) (upd af n (nI (mc_pa op cv b pp hh))) (mc_su n t su ou ph) (mc_uc n t (mc_pa op cv b pp hh) uc ou ph) (mc_ou n t ou ph) (upd ph t (nI (mc_pa op cv b pp hh))) := by
  have h3 : mc_pa op cv b pp hh < 3 := mc_pa_3 hhh
  rw [← hph]
  unfold mc_su mc_uc mc_ou
  by_cases h0 : ph t = 0
  · have e0 : hh = 0 := (mc_e0 (by omega)).mp (hph.symm.trans h0)
    rw [if_pos h0, if_pos h0, if_pos h0]
    refine mc_RN_a R hn ht hT h0 ?_ ⟨fun z => ?_, fun z => ?_⟩
    · subst e0
      rcases mc_pa_0 (op := op) (cv := cv) (b := b) (pp := pp) with z | z
      · rw [z]; exact Or.inl rfl
      · rw [z]; exact Or.inr rfl
    · rw [if_pos ((mc_e0 (by omega)).mp z)]
    · rw [if_neg (fun q => z ((mc_e0 (by omega)).mpr q))]
  · rw [if_neg h0, if_neg h0, if_neg h0]
    by_cases h1 : ph t = 1
    · by_cases a1 : mc_pa op cv b pp hh = 1
      · rw [if_neg (fun q => q.2 a1)]
        exact mc_RN_b R hn ht hT h0 (fun z => absurd h1 z) (Or.inr ((mc_e1 (by omega)).mpr a1))
      · rw [if_pos ⟨h1, a1⟩]
        exact mc_RN_c R hn ht hT h1 (fun z => a1 ((mc_e1 (by omega)).mp z))
    · rw [if_neg (fun q => h1 q.1)]
      refine mc_RN_b R hn ht hT h0 (fun _ z => ?_) (Or.inl h1)
      have e2 : hh = 2 := by
        have n0 : hh ≠ 0 := fun q => h0 (by rw [hph, q]; rfl)
        have n1 : hh ≠ 1 := fun q => h1 (by rw [hph, q]; rfl)
        omega
      subst e2
      exact mc_pa_2 ((mc_e1 (by omega)).mp z)
theorem mc_HE_step (hT : T ≤ 3) (hL : L ≤ 3) (ht : t < T) (hI : mc_IN V C L o a) (hH : mc_HE T L he) (r0 : mc_rf T t o a.toNatClampNeg he = 0) : mc_HE T L (mc_hn o a t he) := by
  obtain ⟨-, -, -, iL⟩ := hI
  unfold mc_rf at r0
  unfold mc_hn
  by_cases h7 : o = 7
  · obtain ⟨k, hk, e⟩ := iL (Or.inl h7)
    subst e
    obtain ⟨v, hv, ev⟩ := hH t k ht hk
    rw [nI_clamp (by omega), mc_if_t h7] at r0
    rw [if_pos h7, nI_clamp (by omega)]
    have hno : ¬ ∃ u, u < T ∧ u ≠ t ∧ ¬ he (3 * u + k) = 0 := fun z => by rw [mc_if_t z] at r0; omega
    rw [mc_if_f hno] at r0
    have h3 : ¬ he (3 * t + k) = 3 := fun z => by rw [mc_if_t z] at r0; omega
    have v3 : v ≠ 3 := fun z => h3 (by rw [ev, z]; rfl)
    intro u lk hu hlk
    by_cases eu : u = t ∧ lk = k
    · obtain ⟨rfl, rfl⟩ := eu
      exact ⟨v + 1, by omega, by rw [pk_us, ev, nI_1]⟩
    · obtain ⟨w, hw, ew⟩ := hH u lk hu hlk
      exact ⟨w, hw, by rw [pk_un (by omega)]; exact ew⟩
  · rw [mc_if_f h7] at r0
    rw [if_neg h7]
    by_cases h8 : o = 8
    · obtain ⟨k, hk, e⟩ := iL (Or.inr h8)
      subst e
      obtain ⟨v, hv, ev⟩ := hH t k ht hk
      rw [nI_clamp (by omega)] at r0
      rw [if_pos h8, nI_clamp (by omega)]
      have hz : ¬ he (3 * t + k) = 0 := fun z => by rw [mc_if_t ⟨h8, z⟩] at r0; omega
      have v0 : v ≠ 0 := fun z => hz (by rw [ev, z]; rfl)
      intro u lk hu hlk
      by_cases eu : u = t ∧ lk = k
      · obtain ⟨rfl, rfl⟩ := eu
        exact ⟨v - 1, by omega, by rw [pk_us, ev]; exact pk_sub (b := 1) (by omega)⟩
      · obtain ⟨w, hw, ew⟩ := hH u lk hu hlk
        exact ⟨w, hw, by rw [pk_un (by omega)]; exact ew⟩
    · rw [if_neg h8]; exact hH
theorem mc_MC_step (P : mc_PG T C V L ln op ar lf) (M : mc_MC T L pc ph he) (ht : t < T) (hp : pp < lf t) (hhh : hh < 3) (r0 : mc_rf T t (op (16 * t + pp)) (ar (16 * t + pp)).toNatClampNeg he = 0) :
    mc_MC T L (mc_pn (op (16 * t + pp)) (ar (16 * t + pp)) t pp ac pc) (upd ph t (nI (mc_pa op cv (16 * t) pp hh))) (mc_hn (op (16 * t + pp)) (ar (16 * t + pp)) t he) := by
  have ⟨ht3, hl, h16, hC, hV, hL, hI⟩ := mc_PG_TH P ht
  have hT := P.1.2
  obtain ⟨m1, m2, m3, m4⟩ := M
  refine ⟨fun t' ht' => ?_, fun t' ht' => ?_, fun t' h1 h2 => ?_, mc_HE_step hT hL ht (hI pp hp) m4 r0⟩
  · unfold mc_pn
    by_cases et : t' = t
    · subst et
      rw [pk_us]
      split
      · next z =>
        obtain ⟨k, hk, e⟩ := (hI pp hp).2.2.1 (z.elim Or.inl (fun q => Or.inr q.1))
        exact ⟨k, by omega, e⟩
      · exact ⟨pp + 1, by omega, rfl⟩
    · rw [pk_un et]; exact m1 t' ht'
  · by_cases et : t' = t
    · subst et; rw [pk_us]; exact ⟨_, mc_pa_3 hhh, rfl⟩
    · rw [pk_un et]; exact m2 t' ht'
  · rw [pk_un (by omega)]; exact m3 t' h1 h2
theorem mc_O_in (R : mc_RN T n rT bf af su uc ou ph) (ht : t < T) : ph t = 0 ∨ vp_in (ou t) 64 := by
  have hn := R.1
  rcases R.2.2 t ht with z | ⟨u, hu, e, _⟩
  · exact Or.inl z
  · exact Or.inr (by rw [e]; exact vp_in_nI (by omega) (by omega))
/-- both machines take one step alike -/
theorem mc_stepR (R : mc_R T C V L n lf sl vd ln op ar xm kd mv oP oL pc ph he rT su uc ou bf af ym cl) (hs : ¬ sl = 0) (ht : t < T) :
    (∃ r, ¬ r = 0 ∧ (∀ (od sc : Nat → Int32) (post : Int32 → SX → Prop), post r (nI T, nI C, nI V, nI L, fu, ff, sl, vd, nI n, ln, op, ar, ini, xm, kd, mv, ds, oP, oL, ce, ac, pc, ph, he, rT, rP, su, uc, ou, od, sc) → wpX_step post (nI T, nI C, nI V, nI L, fu, ff, sl, vd, nI n, ln, op, ar, ini, xm, kd, mv, ds, oP, oL, ce, ac, pc, ph, he, rT, rP, su, uc, ou, od, sc) (nI t)) ∧ (∀ (sn fr cm yo : Nat → Int32) (post : Int32 → SY → Prop), post r (nI T, nI C, nI V, nI L, sl, nI n, op, ar, ln, ini, ce, ac, pc, ph, he, rT, rP, bf, af, ym, cl, sn, fr, cm, yo) → wpY_step post (nI T, nI C, nI V, nI L, sl, nI n, op, ar, ln, ini, ce, ac, pc, ph, he, rT, rP, bf, af, ym, cl, sn, fr, cm, yo) (nI t))) ∨
    (∃ ce' ac' pc' ph' he' rT' rP' su' uc' ou' bf' af', mc_R T C V L (n + 1) lf sl vd ln op ar xm kd mv oP oL pc' ph' he' rT' su' uc' ou' bf' af' ym cl ∧
      (∀ (od sc : Nat → Int32) (post : Int32 → SX → Prop), post 0 (nI T, nI C, nI V, nI L, fu, ff, sl, vd, nI (n + 1), ln, op, ar, ini, xm, kd, mv, ds, oP, oL, ce', ac', pc', ph', he', rT', rP', su', uc', ou', od, sc) → wpX_step post (nI T, nI C, nI V, nI L, fu, ff, sl, vd, nI n, ln, op, ar, ini, xm, kd, mv, ds, oP, oL, ce, ac, pc, ph, he, rT, rP, su, uc, ou, od, sc) (nI t)) ∧
      (∀ (sn fr cm yo : Nat → Int32) (post : Int32 → SY → Prop), post 0 (nI T, nI C, nI V, nI L, sl, nI (n + 1), op, ar, ln, ini, ce', ac', pc', ph', he', rT', rP', bf', af', ym, cl, sn, fr, cm, yo) → wpY_step post (nI T, nI C, nI V, nI L, sl, nI n, op, ar, ln, ini, ce, ac, pc, ph, he, rT, rP, bf, af, ym, cl, sn, fr, cm, yo) (nI t))) := by
  obtain ⟨P, hsl, hR, hM, hA⟩ := R
  have hT := P.1.2
  obtain ⟨dd, a1, a2, a3, a4, a5, a6, a7⟩ := hA hs
  obtain ⟨pp, hpp, hpc⟩ := hM.1 t ht
  obtain ⟨hh, hhh, hph⟩ := hM.2.1 t ht
  have hO := mc_O_in hR ht
  have hn := hR.1
  have h16 := (mc_PG_TH P ht).2.2.1
  have hmv : pp < lf t → mv (16 * t + pp) = mc_cv op ar lf L (16 * t + pp) := (a5 t ht).1 pp
  have hcl : pp < lf t → cl (16 * t + pp) = mc_cv op ar lf L (16 * t + pp) := fun z => a6 _ (by omega)
  by_cases e64 : n < 64
  · by_cases ep : pp < lf t
    · by_cases r0 : mc_rf T t (op (16 * t + pp)) (ar (16 * t + pp)).toNatClampNeg he = 0
      · refine Or.inr ⟨mc_ce (op (16 * t + pp)) (ar (16 * t + pp)) t ce ac, mc_ac (op (16 * t + pp)) (ar (16 * t + pp)) t ce ac, mc_pn (op (16 * t + pp)) (ar (16 * t + pp)) t pp ac pc, upd ph t (nI (mc_pa op (mc_cv op ar lf L) (16 * t) pp hh)), mc_hn (op (16 * t + pp)) (ar (16 * t + pp)) t he, upd rT n (nI t), upd rP n (nI pp), mc_su n t su ou ph, mc_uc n t (mc_pa op (mc_cv op ar lf L) (16 * t) pp hh) uc ou ph, mc_ou n t ou ph, upd bf n (nI hh), upd af n (nI (mc_pa op (mc_cv op ar lf L) (16 * t) pp hh)), ⟨P, hsl, mc_RN_step (op := op) (cv := mc_cv op ar lf L) (b := 16 * t) (pp := pp) hR e64 ht hT hph hhh, mc_MC_step (ac := ac) P hM ht ep hhh r0, hA⟩, fun od sc post K => ?_, fun sn fr cm yo post K => ?_⟩
        · exact mc_x_step P ht hM.2.2.2 hO hpc hpp hph hhh hmv hn (fun z => absurd z (by omega)) (fun _ z => absurd z (by omega)) (fun _ _ z => absurd r0 z) (fun _ _ _ => K)
        · exact mc_y_step P ht hM.2.2.2 hpc hpp hph hhh hcl hn (fun z => absurd z (by omega)) (fun _ z => absurd z (by omega)) (fun _ _ z => absurd r0 z) (fun _ _ _ => K)
      · refine Or.inl ⟨_, ?_, fun od sc post K => mc_x_step P ht hM.2.2.2 hO hpc hpp hph hhh hmv hn (fun z => absurd z (by omega)) (fun _ z => absurd z (by omega)) (fun _ _ _ => K) (fun _ _ z => absurd z r0), fun sn fr cm yo post K => mc_y_step P ht hM.2.2.2 hpc hpp hph hhh hcl hn (fun z => absurd z (by omega)) (fun _ z => absurd z (by omega)) (fun _ _ _ => K) (fun _ _ z => absurd z r0)⟩
        have := mc_rf_le T t (op (16 * t + pp)) (ar (16 * t + pp)).toNatClampNeg he
        exact nI_ne0 (by omega) (by omega)
    · exact Or.inl ⟨4, by decide, fun od sc post K => mc_x_step P ht hM.2.2.2 hO hpc hpp hph hhh hmv hn (fun z => absurd z (by omega)) (fun _ _ => K) (fun _ z => absurd z ep) (fun _ z => absurd z ep), fun sn fr cm yo post K => mc_y_step P ht hM.2.2.2 hpc hpp hph hhh hcl hn (fun z => absurd z (by omega)) (fun _ _ => K) (fun _ z => absurd z ep) (fun _ z => absurd z ep)⟩
  · exact Or.inl ⟨3, by decide, fun od sc post K => mc_x_step P ht hM.2.2.2 hO hpc hpp hph hhh hmv hn (fun _ => K) (fun z => absurd z e64) (fun z => absurd z e64) (fun z => absurd z e64), fun sn fr cm yo post K => mc_y_step P ht hM.2.2.2 hpc hpp hph hhh hcl hn (fun _ => K) (fun z => absurd z e64) (fun z => absurd z e64) (fun z => absurd z e64)⟩
end
end
section
/-! commits and the serial order, both sides -/
def mc_CF (n : Nat) (su uc : Nat → Int32) (cf : Nat → Nat) : Prop := ∀ i, i < n → (∃ u, u < 64 ∧ su i = nI u) ∧ uc (su i).toNatClampNeg = nI (cf i) ∧ cf i < n
section
variable {T C V L : Nat} {sl st : Int32} {op ar ln ini ce ac pc ph he rT rP bf af ym cl sn fr cm yo : Nat → Int32}
variable {n i u : Nat} {su uc ou : Nat → Int32}
theorem mc_y_72 {post : Int32 → Prop} {th : Int32} (hn : n ≤ 64) (hi : i < n) (ht : rT i = th) (hA : ∀ k, u ≤ k → k < n → mc_iC rT bf af th k → (∀ j, u ≤ j → j < k → ¬ mc_iC rT bf af th j) → post (nI k))
    (hB : (∀ j, u ≤ j → j < n → ¬ mc_iC rT bf af th j) → post (-1)) :
    ∀ m k, n - k < m → u ≤ k → k ≤ n → (∀ j, u ≤ j → j < k → ¬ mc_iC rT bf af th j) → wY_commitOf_72 post (nI i) (nI T) (nI C) (nI V) (nI L) sl (nI n) op ar ln ini ce ac pc ph he rT rP bf af ym cl sn fr cm yo m (nI k) := by
  intro m
  induction m with
  | zero => intro k z; omega
  | succ m ih =>
    intro k hm hu hk hI
    rw [wY_commitOf_72]
    by_cases e : n ≤ k
    all_goals simp (disch := omega) only [nI_clamp, mc_m16, mc_m48, mc_m3, mc_vin, nI_add, nI_1, true_and, forall_eq, nI_leI, ht]
    · exact br_t e (hB fun j j1 j2 => hI j j1 (by omega))
    · have nxt : ¬ mc_iC rT bf af th k → wY_commitOf_72 post (nI i) (nI T) (nI C) (nI V) (nI L) sl (nI n) op ar ln ini ce ac pc ph he rT rP bf af ym cl sn fr cm yo m (nI (k + 1)) := by
        intro z
        refine ih (k + 1) (by omega) (by omega) (by omega) fun j j1 j2 => ?_
        by_cases ej : j = k
        · subst ej; exact z
        · exact hI j j1 (by omega)
      refine br_f e (br_c (fun z1 => br_c (fun z2 => br_c (fun z3 => ?_) (fun z3 => ?_)) (fun z2 => ?_)) (fun z1 => ?_))
      · exact nxt (fun q => q.2.2 z3)
      · exact hA k hu (by omega) ⟨z1, z2, z3⟩ hI
      · exact nxt (fun q => z2 q.2.1)
      · exact nxt (fun q => z1 q.1)
theorem mc_y_36 {post : Int32 → Prop} {th : Int32} (hn : n ≤ 64) (hi : i < n) (ht : rT i = th) (hu : u ≤ i) (h1 : rT u = th) (h2 : bf u = 0) (h3 : ∀ k, u < k → k ≤ i → rT k = th → ¬ bf k = 0)
    (K : ∃ m, wY_commitOf_72 post (nI i) (nI T) (nI C) (nI V) (nI L) sl (nI n) op ar ln ini ce ac pc ph he rT rP bf af ym cl sn fr cm yo m (nI u)) : ∀ m k, k < m → u ≤ k → k ≤ i → wY_commitOf_36 post (nI i) (nI T) (nI C) (nI V) (nI L) sl (nI n) op ar ln ini ce ac pc ph he rT rP bf af ym cl sn fr cm yo m (nI k) := by
  intro m
  induction m with
  | zero => intro k z; omega
  | succ m ih =>
    intro k hm hk1 hk2
    rw [wY_commitOf_36]
    simp (disch := omega) only [nI_clamp, mc_m16, mc_m48, mc_m3, mc_vin, nI_add, nI_1, true_and, forall_eq, mc_ge0, ht]
    by_cases e : k = 0
    · have : u = k := by omega
      subst this
      exact br_t e K
    · have em : nI k + (-1) = nI (k - 1) := by
        have := pk_m1 (k - 1)
        rw [show k - 1 + 1 = k by omega] at this
        exact this
      rw [em]
      refine br_f e ?_
      by_cases eu : k = u
      · subst eu
        exact br_t h1 (br_t h2 K)
      · have w := ih (k - 1) (by omega) (by omega) (by omega)
        refine br_c (fun z1 => br_f (h3 k (by omega) hk2 z1) w) (fun _ => w)
theorem mc_y_com {post : Int32 → Prop} (R : mc_RN T n rT bf af su uc ou ph) (hi : i < n) (K : post (uc (su i).toNatClampNeg)) : wpY_commitOf post (nI T, nI C, nI V, nI L, sl, nI n, op, ar, ln, ini, ce, ac, pc, ph, he, rT, rP, bf, af, ym, cl, sn, fr, cm, yo) (nI i) := by
  obtain ⟨hn, R2, -⟩ := R
  obtain ⟨t, u, ht, e1, hu, e2, e3, e4, e5, e6⟩ := R2 i hi
  rw [e2, nI_clamp (by omega)] at K
  have K36 : ¬ (bf i = 0 ∧ af i = 0) → ∃ m, wY_commitOf_36 post (nI i) (nI T) (nI C) (nI V) (nI L) sl (nI n) op ar ln ini ce ac pc ph he rT rP bf af ym cl sn fr cm yo m (nI i) := by
    intro hz
    refine ⟨i + 1, mc_y_36 hn hi e1 hu e3 e4 e5 ⟨n + 1, mc_y_72 (u := u) hn hi e1 ?_ ?_ (n + 1) u (by omega) (Nat.le_refl _) (by omega) (fun j j1 j2 => absurd j2 (by omega))⟩ (i + 1) i (by omega) hu (Nat.le_refl _)⟩
    · intro k k1 k2 k3 k4
      rcases e6 with ⟨z1, z2, z3, z4⟩ | ⟨z1, k', z2, z3, z4, z5, z6⟩ | ⟨z1, z2, z3, z4, z5⟩
      · exact absurd ⟨z1, z2⟩ hz
      · have : k = k' := by
          rcases Nat.lt_trichotomy k k' with q | q | q
          · exact absurd k3 (z6 k k1 q)
          · exact q
          · exact absurd z5 (k4 k' z2 q)
        subst this
        rw [z4] at K; exact K
      · exact absurd k3 (z5 k k1 k2)
    · intro hno
      rcases e6 with ⟨z1, z2, z3, z4⟩ | ⟨z1, k', z2, z3, z4, z5, z6⟩ | ⟨z1, z2, z3, z4, z5⟩
      · exact absurd ⟨z1, z2⟩ hz
      · exact absurd z5 (hno k' z2 z3)
      · rw [z2] at K; exact K
  unfold wpY_commitOf
  simp (disch := omega) only [nI_clamp, mc_m16, mc_m48, mc_m3, mc_vin, nI_add, nI_1, true_and, forall_eq, nI_ltI]
  refine br_f (nI_pos (by omega)) (br_t hi ?_)
  by_cases b0 : bf i = 0
  · refine br_t b0 ?_
    by_cases a0 : af i = 0
    · refine br_t a0 ?_
      rcases e6 with ⟨z1, z2, z3, z4⟩ | ⟨z1, _⟩ | ⟨z1, _⟩
      · rw [z4] at K; exact K
      · exact absurd ⟨b0, a0⟩ z1
      · exact absurd ⟨b0, a0⟩ z1
    · exact br_f a0 (K36 (fun q => a0 q.2))
  · exact br_f b0 (K36 (fun q => b0 q.1))
theorem mc_CF_ex (R : mc_RN T n rT bf af su uc ou ph) (h0 : ∀ t, t < T → ph t = 0) : mc_CF n su uc (fun i => (uc (su i).toNatClampNeg).toNatClampNeg) := by
  obtain ⟨hn, R2, -⟩ := R
  intro i hi
  obtain ⟨t, u, ht, e1, hu, e2, e3, e4, e5, e6⟩ := R2 i hi
  have eu : (su i).toNatClampNeg = u := by rw [e2]; exact nI_clamp (by omega)
  refine ⟨⟨u, by omega, e2⟩, ?_⟩
  dsimp only
  rw [eu]
  have key : ∀ k, k < n → uc u = nI k → uc u = nI (uc u).toNatClampNeg ∧ (uc u).toNatClampNeg < n := by
    intro k hk e
    have : (uc u).toNatClampNeg = k := by rw [e]; exact nI_clamp (by omega)
    rw [this]; exact ⟨e, hk⟩
  rcases e6 with ⟨z1, z2, z3, z4⟩ | ⟨z1, k', z2, z3, z4, z5, z6⟩ | ⟨z1, z2, z3, z4, z5⟩
  · exact key i hi z4
  · exact key k' z3 z4
  · rw [h0 t ht] at z3; exact absurd z3 (by decide)
theorem mc_y_63 {post : Int32 → SY → Prop} {J : Int32 → Prop} {cf : Nat → Nat} {j : Nat} (hn : n ≤ 64) (hj : j < n) (hi : i < n) (hc : ∀ k, k < n → cm k = nI (cf k)) (hcf : ∀ k, k < n → cf k < n)
    (h1 : mc_rk cf n j = i → post (nI j) (nI T, nI C, nI V, nI L, sl, nI n, op, ar, ln, ini, ce, ac, pc, ph, he, rT, rP, bf, af, ym, cl, sn, fr, cm, yo)) (h0 : mc_rk cf n j ≠ i → J (nI (j + 1))) :
    ∀ m k, n - k < m → k ≤ n → wY_serial_63 post J (nI i) (nI j) (nI T) (nI C) (nI V) (nI L) sl (nI n) op ar ln ini ce ac pc ph he rT rP bf af ym cl sn fr cm yo m (nI (mc_cn (fun k => cf k < cf j ∨ (cf k = cf j ∧ k < j)) k)) (nI k) := by
  intro m
  induction m with
  | zero => intro k z; omega
  | succ m ih =>
    intro k hm hk
    have hle := mc_cn_le (fun k => cf k < cf j ∨ (cf k = cf j ∧ k < j)) k
    have hrk := mc_rk_lt (cf := cf) hj
    rw [wY_serial_63]
    by_cases e : n ≤ k
    · have : k = n := by omega
      subst this
      simp (disch := omega) only [nI_clamp, mc_m16, mc_m48, mc_m3, mc_vin, nI_add, nI_1, true_and, forall_eq, nI_leI, nI_eq]
      exact br_t e (br_c h1 h0)
    · have ek := hc k (by omega)
      have ej := hc j hj
      have bk := hcf k (by omega)
      have bj := hcf j hj
      have w := ih (k + 1) (by omega) (by omega)
      simp only [mc_cn] at w
      simp (disch := omega) only [nI_clamp, mc_m16, mc_m48, mc_m3, mc_vin, nI_add, nI_1, true_and, forall_eq, nI_leI, ek, ej, nI_ltI, nI_eq]
      refine br_f e ?_
      by_cases c1 : cf k < cf j
      · rw [mc_b01_t (Or.inl c1)] at w
        exact br_t c1 w
      · refine br_f c1 ?_
        by_cases c2 : cf k = cf j
        · refine br_t c2 ?_
          by_cases c3 : j ≤ k
          · rw [mc_b01_f (fun q => by rcases q with q | q <;> omega)] at w
            exact br_t c3 w
          · rw [mc_b01_t (Or.inr ⟨c2, by omega⟩)] at w
            exact br_f c3 w
        · rw [mc_b01_f (fun q => by rcases q with q | q <;> omega)] at w
          exact br_f c2 w
theorem mc_y_50 {post : Int32 → SY → Prop} {cf : Nat → Nat} {j0 : Nat} (hn : n ≤ 64) (hi : i < n) (hj0 : j0 < n) (hr : mc_rk cf n j0 = i) (hc : ∀ k, k < n → cm k = nI (cf k)) (hcf : ∀ k, k < n → cf k < n)
    (K : post (nI j0) (nI T, nI C, nI V, nI L, sl, nI n, op, ar, ln, ini, ce, ac, pc, ph, he, rT, rP, bf, af, ym, cl, sn, fr, cm, yo)) : ∀ m j, n - j < m → j ≤ j0 → wY_serial_50 post (nI i) (nI T) (nI C) (nI V) (nI L) sl (nI n) op ar ln ini ce ac pc ph he rT rP bf af ym cl sn fr cm yo m (nI j) := by
  intro m
  induction m with
  | zero => intro j z; omega
  | succ m ih =>
    intro j hm hj
    rw [wY_serial_50]
    simp (disch := omega) only [nI_leI]
    refine br_f (by omega) ⟨n + 1, mc_y_63 hn (by omega) hi hc hcf ?_ ?_ (n + 1) 0 (by omega) (by omega)⟩
    · intro z
      have : j = j0 := mc_rk_inj (by omega) hj0 (z.trans hr.symm)
      subst this
      exact K
    · intro z
      refine ih (j + 1) (by omega) ?_
      have : j ≠ j0 := fun q => z (by rw [q]; exact hr)
      omega
theorem mc_y_23 {post : Int32 → SY → Prop} {cf : Nat → Nat} {j0 : Nat} (R : mc_RN T n rT bf af su uc ou ph) (hC : mc_CF n su uc cf) (hi : i < n) (hj0 : j0 < n) (hr : mc_rk cf n j0 = i)
    (K : ∀ cm, post (nI j0) (nI T, nI C, nI V, nI L, sl, nI n, op, ar, ln, ini, ce, ac, pc, ph, he, rT, rP, bf, af, ym, cl, sn, fr, cm, yo)) : ∀ m k cm, n - k < m → k ≤ n → (∀ q, q < k → cm q = nI (cf q)) → wY_serial_23 post (nI i) (nI T) (nI C) (nI V) (nI L) sl (nI n) m (nI k) op ar ln ini ce ac pc ph he rT rP bf af ym cl sn fr cm yo := by
  have hn := R.1
  intro m
  induction m with
  | zero => intro k cm z; omega
  | succ m ih =>
    intro k cm hm hk hI
    rw [wY_serial_23]
    by_cases e : n ≤ k
    all_goals simp (disch := omega) only [nI_clamp, mc_m16, mc_m48, mc_m3, mc_vin, nI_add, nI_1, true_and, forall_eq, nI_leI]
    · have : k = n := by omega
      subst this
      exact br_t e ⟨k + 1, mc_y_50 hn hi hj0 hr hI (fun q hq => (hC q hq).2.2) (K cm) (k + 1) 0 (by omega) (by omega)⟩
    · refine br_f e (mc_y_com R (by omega) (ih (k + 1) _ (by omega) (by omega) fun q hq => ?_))
      by_cases eq : q = k
      · subst eq; rw [pk_us]; exact (hC q (by omega)).2.1
      · rw [pk_un eq]; exact hI q (by omega)
theorem mc_y_quiet {post : Int32 → Prop} (hT : T ≤ 3) (hs : ¬ sl = 0) (h3 : ∀ t, T ≤ t → t < 3 → ph t = 0) (h1 : (∀ t, t < T → ph t = 0) → post 1) (h0 : ¬ (∀ t, t < T → ph t = 0) → post 0) : wpY_quiet post (nI T, nI C, nI V, nI L, sl, st, op, ar, ln, ini, ce, ac, pc, ph, he, rT, rP, bf, af, ym, cl, sn, fr, cm, yo) := by
  unfold wpY_quiet
  refine br_f hs ?_
  have key : ∀ t, t < 3 → ¬ ph t = 0 → ¬ (∀ t, t < T → ph t = 0) := by
    intro t ht hz H
    by_cases q : t < T
    · exact hz (H t q)
    · exact hz (h3 t (by omega) ht)
  by_cases p0 : ph 0 = 0
  · refine br_t p0 ?_
    by_cases p1 : ph 1 = 0
    · refine br_t p1 ?_
      by_cases p2 : ph 2 = 0
      · refine br_t p2 (h1 fun t ht => ?_)
        have : t = 0 ∨ t = 1 ∨ t = 2 := by omega
        rcases this with rfl | rfl | rfl
        · exact p0
        · exact p1
        · exact p2
      · exact br_f p2 (h0 (key 2 (by omega) p2))
    · exact br_f p1 (h0 (key 1 (by omega) p1))
  · exact br_f p0 (h0 (key 0 (by omega) p0))
theorem mc_y_serial {post : Int32 → SY → Prop} {cf : Nat → Nat} {j0 : Nat} (hT : T ≤ 3) (hs : ¬ sl = 0) (h3 : ∀ t, T ≤ t → t < 3 → ph t = 0) (hq : ∀ t, t < T → ph t = 0) (R : mc_RN T n rT bf af su uc ou ph) (hC : mc_CF n su uc cf) (hi : i < n) (hj0 : j0 < n) (hr : mc_rk cf n j0 = i)
    (K : ∀ cm, post (nI j0) (nI T, nI C, nI V, nI L, sl, nI n, op, ar, ln, ini, ce, ac, pc, ph, he, rT, rP, bf, af, ym, cl, sn, fr, cm, yo)) : wpY_serial post (nI T, nI C, nI V, nI L, sl, nI n, op, ar, ln, ini, ce, ac, pc, ph, he, rT, rP, bf, af, ym, cl, sn, fr, cm, yo) (nI i) := by
  have hn := R.1
  unfold wpY_serial
  refine mc_y_quiet hT hs h3 (fun _ => br_f mc_n10 ?_) (fun z => absurd hq z)
  exact br_f (nI_pos (by omega)) (br_t (nI_lt hi (by omega)) ⟨n + 1, mc_y_23 R hC hi hj0 hr K (n + 1) 0 cm (by omega) (by omega) (fun q hq => absurd hq (by omega))⟩)
end
def mc_OD (n : Nat) (cf : Nat → Nat) (pl : Nat) (od : Nat → Int32) : Prop := ∀ q, q < pl → ∃ j, j < n ∧ mc_rk cf n j = q ∧ od q = nI j
section
variable {T C V L : Nat} {fu ff sl vd st : Int32} {ln op ar ini xm kd mv ds oP oL ce ac pc ph he rT rP su uc ou od sc : Nat → Int32}
variable {n i : Nat} {cf : Nat → Nat}
theorem mc_x_ao {post : Int32 → Prop} (hT : T ≤ 3) (h1 : (∀ t, t < T → ph t = 0) → post 1) (h0 : ¬ (∀ t, t < T → ph t = 0) → post 0) : ∀ m t, T - t < m → t ≤ T → (∀ t', t' < t → ph t' = 0) → wX_allOutside_2 post (nI T) (nI C) (nI V) (nI L) fu ff sl vd st ln op ar ini xm kd mv ds oP oL ce ac pc ph he rT rP su uc ou od sc m (nI t) := by
  intro m
  induction m with
  | zero => intro t z; omega
  | succ m ih =>
    intro t hm ht hI
    rw [wX_allOutside_2]
    by_cases e : T ≤ t
    all_goals simp (disch := omega) only [nI_clamp, mc_m16, mc_m48, mc_m3, mc_vin, nI_add, nI_1, true_and, forall_eq, nI_leI]
    · have : t = T := by omega
      subst this
      exact br_t e (h1 hI)
    · refine br_f e (br_c (fun z => ih (t + 1) (by omega) (by omega) fun t' ht' => ?_) (fun z => h0 fun H => z (H t (by omega))))
      by_cases et : t' = t
      · subst et; exact z
      · exact hI t' (by omega)
theorem mc_x_out {post : Int32 → Prop} (hT : T ≤ 3) (h1 : (∀ t, t < T → ph t = 0) → post 1) (h0 : ¬ (∀ t, t < T → ph t = 0) → post 0) : wpX_allOutside post (nI T, nI C, nI V, nI L, fu, ff, sl, vd, st, ln, op, ar, ini, xm, kd, mv, ds, oP, oL, ce, ac, pc, ph, he, rT, rP, su, uc, ou, od, sc) := by
  unfold wpX_allOutside
  exact ⟨T + 1, mc_x_ao hT h1 h0 (T + 1) 0 (by omega) (by omega) (fun t' ht' => absurd ht' (by omega))⟩
theorem mc_x_f14 {post : SX → Prop} {J : Int32 → Int32 → (Nat → Int32) → (Nat → Int32) → (Nat → Int32) → (Nat → Int32) → (Nat → Int32) → (Nat → Int32) → (Nat → Int32) → (Nat → Int32) → (Nat → Int32) → (Nat → Int32) → (Nat → Int32) → (Nat → Int32) → (Nat → Int32) → (Nat → Int32) → (Nat → Int32) → (Nat → Int32) → (Nat → Int32) → (Nat → Int32) → (Nat → Int32) → (Nat → Int32) → (Nat → Int32) → (Nat → Int32) → Prop} {c : Nat} (hn : n ≤ 64) (hC : mc_CF n su uc cf) (hc : c < n)
    (K : ∀ od, mc_OD n cf (mc_cn (fun k => cf k < c + 1) n) od → J (nI (mc_cn (fun k => cf k < c + 1) n)) (nI (c + 1)) ln op ar ini xm kd mv ds oP oL ce ac pc ph he rT rP su uc ou od sc) :
    ∀ m j od, n - j < m → j ≤ n → mc_OD n cf (mc_cn (fun k => cf k < c) n + mc_cn (fun k => cf k = c) j) od →
      wX_fillOrder_14 post J (nI c) (nI T) (nI C) (nI V) (nI L) fu ff sl vd (nI n) m (nI (mc_cn (fun k => cf k < c) n + mc_cn (fun k => cf k = c) j)) (nI j) ln op ar ini xm kd mv ds oP oL ce ac pc ph he rT rP su uc ou od sc := by
  intro m
  induction m with
  | zero => intro j od z; omega
  | succ m ih =>
    intro j od hm hj hI
    have b1 := mc_cn_le (fun k => cf k < c) n
    have b2 := mc_cn_le (fun k => cf k = c) j
    rw [wX_fillOrder_14]
    by_cases e : n ≤ j
    · have : j = n := by omega
      subst this
      simp (disch := omega) only [nI_clamp, mc_m16, mc_m48, mc_m3, mc_vin, nI_add, nI_1, true_and, forall_eq, nI_leI]
      rw [mc_cn_s] at hI ⊢
      exact br_t e (K od hI)
    · obtain ⟨⟨u, hu, eu⟩, e1, e2⟩ := hC j (by omega)
      rw [eu, nI_clamp (by omega)] at e1
      have w := fun od h => ih (j + 1) od (by omega) (by omega) h
      simp only [mc_cn] at w
      by_cases z : cf j = c
      · have er : mc_rk cf n j = mc_cn (fun k => cf k < c) n + mc_cn (fun k => cf k = c) j := by
          rw [mc_rk_e (by omega), z]
        have hrk := mc_rk_lt (cf := cf) (show j < n by omega)
        rw [mc_b01_t z] at w
        simp (disch := omega) only [nI_clamp, mc_m16, mc_m48, mc_m3, mc_vin, nI_add, nI_1, true_and, forall_eq, nI_leI, eu, e1, nI_eq]
        refine br_f e (br_t z ?_)
        refine w _ ?_
        intro q hq
        by_cases eq : q = mc_cn (fun k => cf k < c) n + mc_cn (fun k => cf k = c) j
        · subst eq
          exact ⟨j, by omega, er, pk_us⟩
        · rw [pk_un eq]; exact hI q (by omega)
      · rw [mc_b01_f z] at w
        simp (disch := omega) only [nI_clamp, mc_m16, mc_m48, mc_m3, mc_vin, nI_add, nI_1, true_and, forall_eq, nI_leI, eu, e1, nI_eq]
        exact br_f e (br_f z (w od hI))
theorem mc_x_f4 {post : SX → Prop} (hn : n ≤ 64) (hC : mc_CF n su uc cf) (K : ∀ od, mc_OD n cf n od → post (nI T, nI C, nI V, nI L, fu, ff, sl, vd, nI n, ln, op, ar, ini, xm, kd, mv, ds, oP, oL, ce, ac, pc, ph, he, rT, rP, su, uc, ou, od, sc)) :
    ∀ m c od, n - c < m → c ≤ n → mc_OD n cf (mc_cn (fun k => cf k < c) n) od → wX_fillOrder_4 post (nI T) (nI C) (nI V) (nI L) fu ff sl vd (nI n) m (nI (mc_cn (fun k => cf k < c) n)) (nI c) ln op ar ini xm kd mv ds oP oL ce ac pc ph he rT rP su uc ou od sc := by
  intro m
  induction m with
  | zero => intro c od z; omega
  | succ m ih =>
    intro c od hm hc hI
    rw [wX_fillOrder_4]
    simp (disch := omega) only [nI_leI]
    by_cases e : n ≤ c
    · have : c = n := by omega
      subst this
      rw [mc_cn_all c (fun k hk => (hC k hk).2.2)] at hI
      exact br_t e (K od hI)
    · exact br_f e ⟨n + 1, mc_x_f14 (post := post) (c := c) hn hC (by omega) (fun od h => ih (c + 1) od (by omega) (by omega) h) (n + 1) 0 od (by omega) (by omega) hI⟩
theorem mc_x_fill {post : SX → Prop} (hn : n ≤ 64) (hC : mc_CF n su uc cf) (K : ∀ od, mc_OD n cf n od → post (nI T, nI C, nI V, nI L, fu, ff, sl, vd, nI n, ln, op, ar, ini, xm, kd, mv, ds, oP, oL, ce, ac, pc, ph, he, rT, rP, su, uc, ou, od, sc)) : wpX_fillOrder post (nI T, nI C, nI V, nI L, fu, ff, sl, vd, nI n, ln, op, ar, ini, xm, kd, mv, ds, oP, oL, ce, ac, pc, ph, he, rT, rP, su, uc, ou, od, sc) := by
  unfold wpX_fillOrder
  have e : mc_cn (fun k => cf k < 0) n = 0 := mc_cn_no n (fun k _ z => by omega)
  have := mc_x_f4 hn hC K (n + 1) 0 od (by omega) (by omega) (by rw [e]; exact fun q hq => absurd hq (by omega))
  rw [e] at this
  exact ⟨n + 1, this⟩
end
end
section
/-! the relation of the two states, and the two loops over steps -/
/-- whatever holds of all related tuples holds of the two states -/
def i_Rel (k : Nat) (u : SX) (v : SY) : Prop :=
  ∀ P : SX → SY → Prop, (∀ (T C V L n : Nat) (lf : Nat → Nat) (fu ff sl vd : Int32) (ln op ar ini xm kd mv ds oP oL ce ac pc ph he rT rP su uc ou od sc bf af ym cl sn fr cm yo : Nat → Int32),
    mc_R T C V L n lf sl vd ln op ar xm kd mv oP oL pc ph he rT su uc ou bf af ym cl → P (nI T, nI C, nI V, nI L, fu, ff, sl, vd, nI n, ln, op, ar, ini, xm, kd, mv, ds, oP, oL, ce, ac, pc, ph, he, rT, rP, su, uc, ou, od, sc) (nI T, nI C, nI V, nI L, sl, nI n, op, ar, ln, ini, ce, ac, pc, ph, he, rT, rP, bf, af, ym, cl, sn, fr, cm, yo)) → P u v
theorem i_up {k : Nat} {u : SX} {v : SY} (h : i_Rel k u v) : i_Rel (k + 5) u v := h
theorem mc_in {k : Nat} {T C V L n : Nat} {lf : Nat → Nat} {fu ff sl vd : Int32} {ln op ar ini xm kd mv ds oP oL ce ac pc ph he rT rP su uc ou od sc bf af ym cl sn fr cm yo : Nat → Int32} (R : mc_R T C V L n lf sl vd ln op ar xm kd mv oP oL pc ph he rT su uc ou bf af ym cl) : i_Rel k (nI T, nI C, nI V, nI L, fu, ff, sl, vd, nI n, ln, op, ar, ini, xm, kd, mv, ds, oP, oL, ce, ac, pc, ph, he, rT, rP, su, uc, ou, od, sc) (nI T, nI C, nI V, nI L, sl, nI n, op, ar, ln, ini, ce, ac, pc, ph, he, rT, rP, bf, af, ym, cl, sn, fr, cm, yo) :=
  fun P h => h T C V L n lf fu ff sl vd ln op ar ini xm kd mv ds oP oL ce ac pc ph he rT rP su uc ou od sc bf af ym cl sn fr cm yo R
section
variable {T C V L : Nat} {lf : Nat → Nat} {fu ff sl vd : Int32} {ln op ar ini xm kd mv ds oP oL od sc ym cl sn fr cm yo : Nat → Int32}
variable {t w N : Nat} {τ : Nat → Nat}
theorem mc_runL (hs : ¬ sl = 0) (ht : t < T) (hw : w ≤ 64) : ∀ d i n ce ac pc ph he rT rP su uc ou bf af, w - i = d → i ≤ w → mc_R T C V L n lf sl vd ln op ar xm kd mv oP oL pc ph he rT su uc ou bf af ym cl →
    ∃ r u' v', (∀ k, i_Rel k u' v') ∧ (∀ post : Int32 → SX → Prop, post r u' → ∃ m, wX_run_34 post (nI t) (nI w) m 0 (nI i) (nI T) (nI C) (nI V) (nI L) fu ff sl vd (nI n) ln op ar ini xm kd mv ds oP oL ce ac pc ph he rT rP su uc ou od sc) ∧
      (∀ post : Int32 → SY → Prop, post r v' → ∃ m, wY_run_35 post (nI t) (nI w) m (nI i) (nI T) (nI C) (nI V) (nI L) sl (nI n) op ar ln ini ce ac pc ph he rT rP bf af ym cl sn fr cm yo) := by
  intro d
  induction d with
  | zero =>
    intro i n ce ac pc ph he rT rP su uc ou bf af hd hi R
    have h : nI w ≤ nI i := nI_le (by omega) (by omega)
    exact ⟨0, (nI T, nI C, nI V, nI L, fu, ff, sl, vd, nI n, ln, op, ar, ini, xm, kd, mv, ds, oP, oL, ce, ac, pc, ph, he, rT, rP, su, uc, ou, od, sc), (nI T, nI C, nI V, nI L, sl, nI n, op, ar, ln, ini, ce, ac, pc, ph, he, rT, rP, bf, af, ym, cl, sn, fr, cm, yo), fun k => mc_in R, fun post K => ⟨0 + 1, by rw [wX_run_34]; exact br_t h K⟩, fun post K => ⟨0 + 1, by rw [wY_run_35]; exact br_t h K⟩⟩
  | succ d ih =>
    intro i n ce ac pc ph he rT rP su uc ou bf af hd hi R
    have h : ¬ nI w ≤ nI i := nI_ge (by omega) (by omega)
    rcases mc_stepR (fu := fu) (ff := ff) (ini := ini) (ds := ds) (ce := ce) (ac := ac) (rP := rP) R hs ht with ⟨r, hr, hX, hY⟩ | ⟨ce', ac', pc', ph', he', rT', rP', su', uc', ou', bf', af', R', hX, hY⟩
    · refine ⟨r, (nI T, nI C, nI V, nI L, fu, ff, sl, vd, nI n, ln, op, ar, ini, xm, kd, mv, ds, oP, oL, ce, ac, pc, ph, he, rT, rP, su, uc, ou, od, sc), (nI T, nI C, nI V, nI L, sl, nI n, op, ar, ln, ini, ce, ac, pc, ph, he, rT, rP, bf, af, ym, cl, sn, fr, cm, yo), fun k => mc_in R, fun post K => ⟨0 + 1 + 1, ?_⟩, fun post K => ⟨0 + 1, ?_⟩⟩
      · rw [wX_run_34]
        refine br_f h (br_t rfl (hX od sc _ ?_))
        intro x ex
        rw [wX_run_34]
        exact br_c (fun _ => K) (fun _ => br_f hr K)
      · rw [wY_run_35]
        exact br_f h (hY sn fr cm yo _ (br_f hr K))
    · obtain ⟨r, u', v', hrel, iX, iY⟩ := ih (i + 1) (n + 1) ce' ac' pc' ph' he' rT' rP' su' uc' ou' bf' af' (by omega) (by omega) R'
      refine ⟨r, u', v', hrel, fun post K => ?_, fun post K => ?_⟩
      · obtain ⟨m, hm⟩ := iX post K
        refine ⟨m + 1, ?_⟩
        rw [wX_run_34]
        exact br_f h (br_t rfl (hX od sc _ (nm_r (nI_1 i) hm)))
      · obtain ⟨m, hm⟩ := iY post K
        refine ⟨m + 1, ?_⟩
        rw [wY_run_35]
        exact br_f h (hY sn fr cm yo _ (br_t rfl (nm_r (nI_1 i) hm)))
theorem mc_serL (hs : ¬ sl = 0) (hN : N ≤ 64) (hτ : ∀ q, q < N → τ q < T) : ∀ d i ce ac pc ph he rT rP su uc ou bf af, N - i = d → i ≤ N → mc_R T C V L i lf sl vd ln op ar xm kd mv oP oL pc ph he rT su uc ou bf af ym cl →
    ∃ r n' ce' ac' pc' ph' he' rT' rP' su' uc' ou' bf' af', mc_R T C V L n' lf sl vd ln op ar xm kd mv oP oL pc' ph' he' rT' su' uc' ou' bf' af' ym cl ∧
      (∀ (od sc : Nat → Int32), (∀ q, q < N → sc q = nI (τ q)) → ∀ post : Int32 → SX → Prop, post r (nI T, nI C, nI V, nI L, fu, ff, sl, vd, nI n', ln, op, ar, ini, xm, kd, mv, ds, oP, oL, ce', ac', pc', ph', he', rT', rP', su', uc', ou', od, sc) → ∃ m, wX_serialize_63 post (nI N) m 0 (nI i) (nI T) (nI C) (nI V) (nI L) fu ff sl vd (nI i) ln op ar ini xm kd mv ds oP oL ce ac pc ph he rT rP su uc ou od sc) ∧
      (∀ (sn fr cm yo : Nat → Int32), (∀ q, q < N → yo q = nI (τ q)) → ∀ post : Int32 → SY → Prop, post r (nI T, nI C, nI V, nI L, sl, nI n', op, ar, ln, ini, ce', ac', pc', ph', he', rT', rP', bf', af', ym, cl, sn, fr, cm, yo) → ∃ m, wY_serialize_59 post (nI N) m (nI i) (nI T) (nI C) (nI V) (nI L) sl (nI i) op ar ln ini ce ac pc ph he rT rP bf af ym cl sn fr cm yo) := by
  intro d
  induction d with
  | zero =>
    intro i ce ac pc ph he rT rP su uc ou bf af hd hi R
    have : i = N := by omega
    subst this
    have h : nI i ≤ nI i := nI_le (by omega) (by omega)
    exact ⟨nI i, i, ce, ac, pc, ph, he, rT, rP, su, uc, ou, bf, af, R, fun od sc _ post K => ⟨0 + 1, by rw [wX_serialize_63]; exact br_t h K⟩, fun sn fr cm yo _ post K => ⟨0 + 1, by rw [wY_serialize_59]; exact br_t h K⟩⟩
  | succ d ih =>
    intro i ce ac pc ph he rT rP su uc ou bf af hd hi R
    have h : ¬ nI N ≤ nI i := nI_ge (by omega) (by omega)
    have hv : vp_in (nI i) 64 := vp_in_nI (by omega) (by omega)
    have hc : (nI i).toNatClampNeg = i := nI_clamp (by omega)
    rcases mc_stepR (fu := fu) (ff := ff) (ini := ini) (ds := ds) (ce := ce) (ac := ac) (rP := rP) R hs (hτ i (by omega)) with ⟨r, hr, hX, hY⟩ | ⟨ce', ac', pc', ph', he', rT', rP', su', uc', ou', bf', af', R', hX, hY⟩
    · refine ⟨nI i, i, ce, ac, pc, ph, he, rT, rP, su, uc, ou, bf, af, R, fun od sc hsc post K => ⟨0 + 1 + 1, ?_⟩, fun sn fr cm yo hyo post K => ⟨0 + 1, ?_⟩⟩
      · rw [wX_serialize_63]
        refine br_f h (br_t rfl ⟨hv, ?_⟩)
        rw [hc, hsc i (by omega)]
        refine hX od sc _ ?_
        intro x ex
        rw [wX_serialize_63]
        exact br_c (fun _ => K) (fun _ => br_f hr K)
      · rw [wY_serialize_59]
        refine br_f h ⟨hv, ?_⟩
        rw [hc, hyo i (by omega)]
        exact hY sn fr cm yo _ (br_f hr K)
    · obtain ⟨r, n', ce2, ac2, pc2, ph2, he2, rT2, rP2, su2, uc2, ou2, bf2, af2, R2, iX, iY⟩ := ih (i + 1) ce' ac' pc' ph' he' rT' rP' su' uc' ou' bf' af' (by omega) (by omega) R'
      refine ⟨r, n', ce2, ac2, pc2, ph2, he2, rT2, rP2, su2, uc2, ou2, bf2, af2, R2, fun od sc hsc post K => ?_, fun sn fr cm yo hyo post K => ?_⟩
      · obtain ⟨m, hm⟩ := iX od sc hsc post K
        refine ⟨m + 1, ?_⟩
        rw [wX_serialize_63]
        refine br_f h (br_t rfl ⟨hv, ?_⟩)
        rw [hc, hsc i (by omega)]
        exact hX od sc _ (nm_r (nI_1 i) hm)
      · obtain ⟨m, hm⟩ := iY sn fr cm yo hyo post K
        refine ⟨m + 1, ?_⟩
        rw [wY_serialize_59]
        refine br_f h ⟨hv, ?_⟩
        rw [hc, hyo i (by omega)]
        exact hY sn fr cm yo _ (br_t rfl (nm_r (nI_1 i) hm))
end
end
section
/-! constructor, put, code, init -/
def mc_OK (V C L : Nat) (o a : Int32) : Prop :=
  ¬ o < 1 ∧ o ≤ 10 ∧ (¬ 3 < o → ¬ a < 0 ∧ ¬ nI V ≤ a) ∧ (o = 5 ∨ o = 6 → ¬ a < 0 ∧ ¬ nI C < a) ∧ (o = 7 ∨ o = 8 → ¬ a < 0 ∧ ¬ nI L ≤ a)
def mc_a9 (o a : Int32) : Int32 := if o < 9 then a else 0
def mc_PUT (T C V L : Nat) (lf : Nat → Nat) (v1 v2 o a : Int32) : Prop := ∃ t p, t < T ∧ v1 = nI t ∧ v2 = nI p ∧ p ≤ lf t ∧ p < C ∧ mc_OK V C L o a
theorem mc_57 {o : Int32} (z : o = 5 ∨ o = 6) (q : o = 7 ∨ o = 8) : False := by
  rcases z with rfl | rfl <;> rcases q with q | q <;> exact absurd q (by decide)
theorem mc_357 {o : Int32} (z : ¬ 3 < o) (q : o = 5 ∨ o = 6 ∨ o = 7 ∨ o = 8) : False := by
  rcases q with rfl | rfl | rfl | rfl <;> exact z (by decide)
theorem mc_OK_IN {V C L : Nat} {o a : Int32} (hV : V ≤ 4) (hC : C ≤ 16) (hL : L ≤ 3) (h : mc_OK V C L o a) : mc_IN V C L o (mc_a9 o a) := by
  obtain ⟨h1, h2, h3, h4, h5⟩ := h
  have h0 : ¬ o < 0 := by
    intro z
    rw [Int32.lt_iff_toInt_lt] at h1 z
    have e1 : (1 : Int32).toInt = 1 := by decide
    have e0 : (0 : Int32).toInt = 0 := by decide
    omega
  obtain ⟨k, hk, e⟩ := nI_of2 (M := 10) (n := 10) (by decide) h0 h2
  subst e
  have hk1 : 1 ≤ k := by
    apply Classical.byContradiction
    intro z
    exact h1 (nI_lt (b := 1) (by omega) (by omega))
  have a9 : k < 9 → mc_a9 (nI k) a = a := fun z => if_pos (nI_lt (b := 9) z (by omega))
  refine ⟨⟨k, hk1, hk, rfl⟩, fun z => ?_, fun z => ?_, fun z => ?_⟩
  · have k3 : k ≤ 3 := by
      apply Classical.byContradiction
      intro q
      exact z (nI_lt (a := 3) (by omega) (by omega))
    rw [a9 (by omega)]
    obtain ⟨q1, q2⟩ := h3 z
    obtain ⟨j, hj, ej⟩ := nI_of q1
    subst ej
    refine ⟨j, ?_, rfl⟩
    apply Classical.byContradiction
    intro w
    exact q2 (nI_le (by omega) hj)
  · have k9 : k < 9 := by rcases z with z | z <;> rw [show k = _ from (nI_eq (by omega) (by decide)).mp z] <;> decide
    rw [a9 k9]
    obtain ⟨q1, q2⟩ := h4 z
    obtain ⟨j, hj, ej⟩ := nI_of q1
    subst ej
    refine ⟨j, ?_, rfl⟩
    apply Classical.byContradiction
    intro w
    exact q2 (nI_lt (by omega) hj)
  · have k9 : k < 9 := by rcases z with z | z <;> rw [show k = _ from (nI_eq (by omega) (by decide)).mp z] <;> decide
    rw [a9 k9]
    obtain ⟨q1, q2⟩ := h5 z
    obtain ⟨j, hj, ej⟩ := nI_of q1
    subst ej
    refine ⟨j, ?_, rfl⟩
    apply Classical.byContradiction
    intro w
    exact q2 (nI_le (by omega) hj)
section
variable {T C V L : Nat} {fu ff sl vd st : Int32} {ln op ar ini xm kd mv ds oP oL ce ac pc ph he rT rP su uc ou od sc : Nat → Int32}
variable {lf : Nat → Nat} {o a v1 v2 : Int32}
theorem mc_x_ins {post : Int32 → Prop} (h1 : mc_OK V C L o a → post 1) (h0 : ¬ mc_OK V C L o a → post 0) : wpX_isInstruction post (nI T, nI C, nI V, nI L, fu, ff, sl, vd, st, ln, op, ar, ini, xm, kd, mv, ds, oP, oL, ce, ac, pc, ph, he, rT, rP, su, uc, ou, od, sc) o a := by
  unfold wpX_isInstruction
  by_cases c1 : o < 1
  · exact br_t c1 (h0 (fun q => q.1 c1))
  refine br_f c1 ?_
  by_cases c2 : o ≤ 10
  · refine br_t c2 ?_
    by_cases c3 : 3 < o
    · refine br_t c3 ?_
      have w47 : (o = 5 ∨ o = 6) → wX_isInstruction_47 post a (nI T) (nI C) (nI V) (nI L) fu ff sl vd st ln op ar ini xm kd mv ds oP oL ce ac pc ph he rT rP su uc ou od sc := by
        intro z
        unfold wX_isInstruction_47
        refine br_c (fun a0 => h0 (fun q => (q.2.2.2.1 z).1 a0)) (fun a0 => br_c (fun aC => h0 (fun q => (q.2.2.2.1 z).2 aC)) (fun aC => h1 ⟨c1, c2, fun q => absurd c3 q, fun _ => ⟨a0, aC⟩, fun q => (mc_57 z q).elim⟩))
      have w77 : (o = 7 ∨ o = 8) → wX_isInstruction_77 post a (nI T) (nI C) (nI V) (nI L) fu ff sl vd st ln op ar ini xm kd mv ds oP oL ce ac pc ph he rT rP su uc ou od sc := by
        intro z
        unfold wX_isInstruction_77
        refine br_c (fun a0 => h0 (fun q => (q.2.2.2.2 z).1 a0)) (fun a0 => br_c (fun aC => h0 (fun q => (q.2.2.2.2 z).2 aC)) (fun aC => h1 ⟨c1, c2, fun q => absurd c3 q, fun q => (mc_57 q z).elim, fun _ => ⟨a0, aC⟩⟩))
      refine br_c (fun z => w47 (Or.inl z)) (fun n5 => br_c (fun z => w47 (Or.inr z)) (fun n6 => br_c (fun z => w77 (Or.inl z)) (fun n7 => br_c (fun z => w77 (Or.inr z)) (fun n8 => ?_))))
      exact h1 ⟨c1, c2, fun q => absurd c3 q, fun q => (q.elim n5 n6).elim, fun q => (q.elim n7 n8).elim⟩
    · refine br_f c3 (br_c (fun a0 => h0 (fun q => (q.2.2.1 c3).1 a0)) (fun a0 => br_c (fun aC => h0 (fun q => (q.2.2.1 c3).2 aC)) (fun aC => h1 ⟨c1, c2, fun _ => ⟨a0, aC⟩, fun q => (mc_357 c3 (q.elim Or.inl (fun z => Or.inr (Or.inl z)))).elim, fun q => (mc_357 c3 (Or.inr (Or.inr q))).elim⟩)))
  · exact br_f c2 (h0 (fun q => c2 q.2.1))
theorem mc_x_thr {post : Int32 → Prop} {v : Int32} (h1 : ¬ v < 0 → ¬ nI T ≤ v → post 1) (h0 : v < 0 ∨ nI T ≤ v → post 0) : wpX_isThread post (nI T, nI C, nI V, nI L, fu, ff, sl, vd, st, ln, op, ar, ini, xm, kd, mv, ds, oP, oL, ce, ac, pc, ph, he, rT, rP, su, uc, ou, od, sc) v := by
  unfold wpX_isThread
  exact br_c (fun z => h0 (Or.inl z)) (fun z => br_c (fun q => h0 (Or.inr q)) (fun q => h1 z q))
theorem mc_thr {v : Int32} (hT : T ≤ 3) (h1 : ¬ v < 0) (h2 : ¬ nI T ≤ v) : ∃ t, t < T ∧ v = nI t := by
  obtain ⟨t, ht, e⟩ := nI_of h1
  subst e
  refine ⟨t, ?_, rfl⟩
  apply Classical.byContradiction
  intro z
  exact h2 (nI_le (by omega) ht)
theorem mc_thr_n {v : Int32} (hT : T ≤ 3) (h : v < 0 ∨ nI T ≤ v) {t : Nat} (ht : t < T) (e : v = nI t) : False := by
  subst e
  rcases h with z | z
  · exact nI_pos (by omega) z
  · exact nI_ge ht (by omega) z
theorem mc_x_put {post : Int32 → SX → Prop} (P : mc_PG T C V L ln op ar lf) (hs : sl = 0) (hbad : ¬ mc_PUT T C V L lf v1 v2 o a → post 1 (nI T, nI C, nI V, nI L, fu, ff, sl, vd, st, ln, op, ar, ini, xm, kd, mv, ds, oP, oL, ce, ac, pc, ph, he, rT, rP, su, uc, ou, od, sc))
    (hok : ∀ t p, t < T → v1 = nI t → v2 = nI p → p ≤ lf t → p < C → mc_OK V C L o a →
      (p = lf t → post 0 (nI T, nI C, nI V, nI L, fu, ff, sl, vd, st, upd ln t (nI (lf t + 1)), upd op (16 * t + p) o, upd ar (16 * t + p) (mc_a9 o a), ini, xm, kd, mv, ds, oP, oL, ce, ac, pc, ph, he, rT, rP, su, uc, ou, od, sc)) ∧ (p ≠ lf t → post 0 (nI T, nI C, nI V, nI L, fu, ff, sl, vd, st, ln, upd op (16 * t + p) o, upd ar (16 * t + p) (mc_a9 o a), ini, xm, kd, mv, ds, oP, oL, ce, ac, pc, ph, he, rT, rP, su, uc, ou, od, sc))) : wpX_put post (nI T, nI C, nI V, nI L, fu, ff, sl, vd, st, ln, op, ar, ini, xm, kd, mv, ds, oP, oL, ce, ac, pc, ph, he, rT, rP, su, uc, ou, od, sc) v1 v2 o a := by
  have hT := P.1.2
  have hC := P.2.1.2
  unfold wpX_put
  refine br_t hs (mc_x_thr (fun n1 n2 => br_f mc_n10 ?_) (fun z => br_t rfl (hbad fun ⟨t, p, ht, e, _⟩ => mc_thr_n hT z ht e)))
  obtain ⟨t, ht, e⟩ := mc_thr hT n1 n2
  subst e
  obtain ⟨hl, hlC⟩ := P.2.2.2.2.1 t (by omega)
  by_cases c1 : v2 < 0
  · refine br_t c1 (hbad ?_)
    rintro ⟨t', p, _, _, e, _⟩
    rw [e] at c1
    exact nI_pos (n := p) (by omega) c1
  · obtain ⟨p, hp, e⟩ := nI_of c1
    subst e
    have tt : ∀ t', nI t = nI t' → t' < T → t' = t := fun t' e' h' => ((nI_eq (by omega) (by omega)).mp e').symm
    have pp : ∀ p', nI p = nI p' → p' < C → p' = p := fun p' e' h' => ((nI_eq (by omega) (by omega)).mp e').symm
    refine br_f c1 ?_
    simp (disch := omega) only [nI_clamp, mc_vin, true_and, hl, nI_ltI]
    by_cases c2 : lf t < p
    · refine br_t c2 (hbad ?_)
      rintro ⟨t', p', a1, a2, a3, a4, a5, a6⟩
      have := tt t' a2 a1
      have := pp p' a3 a5
      subst_vars
      omega
    · refine br_f c2 ?_
      by_cases c3 : p < C
      · refine br_t c3 (mc_x_ins (fun hO => br_f mc_n10 ?_) (fun hO => br_t rfl (hbad fun ⟨_, _, _, _, _, _, _, h⟩ => hO h)))
        obtain ⟨k1, k0⟩ := hok t p ht rfl rfl (by omega) c3 hO
        simp (disch := omega) only [nI_clamp, mc_m16, mc_m48, mc_m3, mc_vin, nI_add, nI_1, true_and, forall_eq]
        have w : ∀ x, x = mc_a9 o a → wX_put_89 post (nI t) (nI p) x (nI (16 * t + p)) (nI T) (nI C) (nI V) (nI L) fu ff sl vd st ln (upd op (16 * t + p) o) ar ini xm kd mv ds oP oL ce ac pc ph he rT rP su uc ou od sc := by
          intro x hx
          subst hx
          unfold wX_put_89
          simp (disch := omega) only [nI_clamp, mc_m16, mc_m48, mc_m3, mc_vin, nI_add, nI_1, true_and, forall_eq, hl, nI_eq]
          exact br_c k1 k0
        exact br_c (fun z => w a (if_pos z).symm) (fun z => w 0 (if_neg z).symm)
      · refine br_f c3 (hbad ?_)
        rintro ⟨t', p', a1, a2, a3, a4, a5, a6⟩
        have := pp p' a3 a5
        subst_vars
        omega
end
section
variable {T C V L : Nat} {sl st : Int32} {op ar ln ini ce ac pc ph he rT rP bf af ym cl sn fr cm yo : Nat → Int32}
variable {lf : Nat → Nat} {o a v1 v2 : Int32}
theorem mc_y_ins {post : Int32 → SY → Prop} {x1 x2 : Int32} (c1 : ¬ o < 1) (c2 : o ≤ 10) (c3 : ¬ 3 < o → ¬ a < 0 ∧ ¬ nI V ≤ a) (h1 : mc_OK V C L o a → wY_put_136 post x1 x2 o a (nI T) (nI C) (nI V) (nI L) sl st op ar ln ini ce ac pc ph he rT rP bf af ym cl sn fr cm yo) (h0 : ¬ mc_OK V C L o a → post 1 (nI T, nI C, nI V, nI L, sl, st, op, ar, ln, ini, ce, ac, pc, ph, he, rT, rP, bf, af, ym, cl, sn, fr, cm, yo)) : wY_put_81 post x1 x2 o a (nI T) (nI C) (nI V) (nI L) sl st op ar ln ini ce ac pc ph he rT rP bf af ym cl sn fr cm yo := by
  have w108 : (o = 5 ∨ o = 6 → ¬ a < 0 ∧ ¬ nI C < a) → wY_put_108 post x1 x2 o a (nI T) (nI C) (nI V) (nI L) sl st op ar ln ini ce ac pc ph he rT rP bf af ym cl sn fr cm yo := by
    intro hc
    have w120 : (o = 7 ∨ o = 8) → wY_put_120 post x1 x2 o a (nI T) (nI C) (nI V) (nI L) sl st op ar ln ini ce ac pc ph he rT rP bf af ym cl sn fr cm yo := by
      intro z
      unfold wY_put_120
      refine br_c (fun a0 => h0 (fun q => (q.2.2.2.2 z).1 a0)) (fun a0 => br_c (fun aL => h1 ⟨c1, c2, c3, hc, fun _ => ⟨a0, Int32.not_le.mpr aL⟩⟩) (fun aL => h0 (fun q => (q.2.2.2.2 z).2 (Int32.not_lt.mp aL))))
    unfold wY_put_108
    exact br_c (fun z => w120 (Or.inl z)) (fun n7 => br_c (fun z => w120 (Or.inr z)) (fun n8 => h1 ⟨c1, c2, c3, hc, fun q => (q.elim n7 n8).elim⟩))
  have w92 : (o = 5 ∨ o = 6) → wY_put_92 post x1 x2 o a (nI T) (nI C) (nI V) (nI L) sl st op ar ln ini ce ac pc ph he rT rP bf af ym cl sn fr cm yo := by
    intro z
    unfold wY_put_92
    exact br_c (fun a0 => h0 (fun q => (q.2.2.2.1 z).1 a0)) (fun a0 => br_c (fun aC => w108 (fun _ => ⟨a0, Int32.not_lt.mpr aC⟩)) (fun aC => h0 (fun q => (q.2.2.2.1 z).2 (Int32.not_le.mp aC))))
  unfold wY_put_81
  exact br_c (fun z => w92 (Or.inl z)) (fun n5 => br_c (fun z => w92 (Or.inr z)) (fun n6 => w108 (fun q => (q.elim n5 n6).elim)))
theorem mc_y_put {post : Int32 → SY → Prop} (P : mc_PG T C V L ln op ar lf) (hs : sl = 0) (hbad : ¬ mc_PUT T C V L lf v1 v2 o a → post 1 (nI T, nI C, nI V, nI L, sl, st, op, ar, ln, ini, ce, ac, pc, ph, he, rT, rP, bf, af, ym, cl, sn, fr, cm, yo))
    (hok : ∀ t p, t < T → v1 = nI t → v2 = nI p → p ≤ lf t → p < C → mc_OK V C L o a →
      (p = lf t → post 0 (nI T, nI C, nI V, nI L, sl, st, upd op (16 * t + p) o, upd ar (16 * t + p) (mc_a9 o a), upd ln t (nI (lf t + 1)), ini, ce, ac, pc, ph, he, rT, rP, bf, af, ym, cl, sn, fr, cm, yo)) ∧ (p ≠ lf t → post 0 (nI T, nI C, nI V, nI L, sl, st, upd op (16 * t + p) o, upd ar (16 * t + p) (mc_a9 o a), ln, ini, ce, ac, pc, ph, he, rT, rP, bf, af, ym, cl, sn, fr, cm, yo))) : wpY_put post (nI T, nI C, nI V, nI L, sl, st, op, ar, ln, ini, ce, ac, pc, ph, he, rT, rP, bf, af, ym, cl, sn, fr, cm, yo) v1 v2 o a := by
  have hT := P.1.2
  have hC := P.2.1.2
  unfold wpY_put
  refine br_t hs ?_
  by_cases n1 : v1 < 0
  · exact br_t n1 (hbad fun ⟨t, p, ht, e, _⟩ => mc_thr_n hT (Or.inl n1) ht e)
  refine br_f n1 ?_
  by_cases n2 : nI T ≤ v1
  · exact br_f (Int32.not_lt.mpr n2) (hbad fun ⟨t, p, ht, e, _⟩ => mc_thr_n hT (Or.inr n2) ht e)
  refine br_t (Int32.not_le.mp n2) ?_
  obtain ⟨t, ht, e⟩ := mc_thr hT n1 n2
  subst e
  obtain ⟨hl, hlC⟩ := P.2.2.2.2.1 t (by omega)
  by_cases c1 : v2 < 0
  · refine br_t c1 (hbad ?_)
    rintro ⟨t', p, _, _, e, _⟩
    rw [e] at c1
    exact nI_pos (n := p) (by omega) c1
  · obtain ⟨p, hp, e⟩ := nI_of c1
    subst e
    have tt : ∀ t', nI t = nI t' → t' < T → t' = t := fun t' e' h' => ((nI_eq (by omega) (by omega)).mp e').symm
    have pp : ∀ p', nI p = nI p' → p' < C → p' = p := fun p' e' h' => ((nI_eq (by omega) (by omega)).mp e').symm
    refine br_f c1 ?_
    simp (disch := omega) only [nI_clamp, mc_vin, true_and, hl, nI_ltI]
    by_cases c2 : lf t < p
    · refine br_t c2 (hbad ?_)
      rintro ⟨t', p', a1, a2, a3, a4, a5, a6⟩
      have := tt t' a2 a1
      have := pp p' a3 a5
      subst_vars
      omega
    · refine br_f c2 ?_
      by_cases c3 : p < C
      · refine br_t c3 ?_
        by_cases o1 : o < 1
        · exact br_t o1 (hbad fun ⟨_, _, _, _, _, _, _, h⟩ => h.1 o1)
        refine br_f o1 ?_
        by_cases o2 : o ≤ 10
        · have w : mc_OK V C L o a → wY_put_136 post (nI t) (nI p) o a (nI T) (nI C) (nI V) (nI L) sl st op ar ln ini ce ac pc ph he rT rP bf af ym cl sn fr cm yo := by
            intro hO
            obtain ⟨k1, k0⟩ := hok t p ht rfl rfl (by omega) c3 hO
            unfold wY_put_136
            simp (disch := omega) only [nI_clamp, mc_m16, mc_m48, mc_m3, mc_vin, nI_add, nI_1, true_and, forall_eq]
            have w : ∀ x, x = mc_a9 o a → wY_put_170 post (nI t) (nI p) x (nI (16 * t + p)) (nI T) (nI C) (nI V) (nI L) sl st (upd op (16 * t + p) o) ar ln ini ce ac pc ph he rT rP bf af ym cl sn fr cm yo := by
              intro x hx
              subst hx
              unfold wY_put_170
              simp (disch := omega) only [nI_clamp, mc_m16, mc_m48, mc_m3, mc_vin, nI_add, nI_1, true_and, forall_eq, hl, nI_eq]
              exact br_c k1 k0
            exact br_c (fun z => w a (if_pos z).symm) (fun z => w 0 (if_neg z).symm)
          have wb : ¬ mc_OK V C L o a → post 1 (nI T, nI C, nI V, nI L, sl, st, op, ar, ln, ini, ce, ac, pc, ph, he, rT, rP, bf, af, ym, cl, sn, fr, cm, yo) := fun hO => hbad fun ⟨_, _, _, _, _, _, _, h⟩ => hO h
          refine br_t o2 (br_c (fun o3 => mc_y_ins o1 o2 (fun q => absurd o3 q) w wb) (fun o3 => br_c (fun a0 => wb fun q => (q.2.2.1 o3).1 a0) (fun a0 => br_c (fun aV => mc_y_ins o1 o2 (fun _ => ⟨a0, Int32.not_le.mpr aV⟩) w wb) (fun aV => wb fun q => (q.2.2.1 o3).2 (Int32.not_lt.mp aV)))))
        · exact br_f o2 (hbad fun ⟨_, _, _, _, _, _, _, h⟩ => o2 h.2.1)
      · refine br_f c3 (hbad ?_)
        rintro ⟨t', p', a1, a2, a3, a4, a5, a6⟩
        have := pp p' a3 a5
        subst_vars
        omega
theorem mc_PG_p1 {t p : Nat} (P : mc_PG T C V L ln op ar lf) (ht : t < T) (hp : p = lf t) (hC : p < C) (hI : mc_IN V C L o a) :
    mc_PG T C V L (upd ln t (nI (lf t + 1))) (upd op (16 * t + p) o) (upd ar (16 * t + p) a) (mc_up lf t (lf t + 1)) := by
  obtain ⟨⟨a1, a2⟩, ⟨b1, b2⟩, c, d, e, f, g⟩ := P
  refine ⟨⟨a1, a2⟩, ⟨b1, b2⟩, c, d, fun t' h' => ?_, fun t' h1 h2 => ?_, fun t' p' h1 h2 => ?_⟩
  · by_cases et : t' = t
    · subst et; rw [pk_us, mc_up_s]; exact ⟨rfl, by omega⟩
    · rw [pk_un et, mc_up_n et]; exact e t' h'
  · rw [mc_up_n (by omega)]; exact f t' h1 h2
  · by_cases et : t' = t
    · subst et
      rw [mc_up_s] at h2
      by_cases ep : p' = p
      · subst ep; rw [pk_us, pk_us]; exact hI
      · rw [pk_un (by omega), pk_un (by omega)]; exact g t' p' h1 (by omega)
    · rw [mc_up_n et] at h2
      have := (e t' (by omega)).2
      have := (e t (by omega)).2
      rw [pk_un (by omega), pk_un (by omega)]; exact g t' p' h1 h2
theorem mc_PG_p0 {t p : Nat} (P : mc_PG T C V L ln op ar lf) (ht : t < T) (hp : p < lf t) (hI : mc_IN V C L o a) :
    mc_PG T C V L ln (upd op (16 * t + p) o) (upd ar (16 * t + p) a) lf := by
  obtain ⟨⟨a1, a2⟩, ⟨b1, b2⟩, c, d, e, f, g⟩ := P
  refine ⟨⟨a1, a2⟩, ⟨b1, b2⟩, c, d, e, f, fun t' p' h1 h2 => ?_⟩
  have := (e t' (by omega)).2
  have := (e t (by omega)).2
  by_cases et : t' = t ∧ p' = p
  · obtain ⟨rfl, rfl⟩ := et
    rw [pk_us, pk_us]; exact hI
  · rw [pk_un (by omega), pk_un (by omega)]; exact g t' p' h1 h2
end
theorem i_vc_put {k : Nat} {u : SX} {v : SY} (I : i_Rel k u v) (hk : k + 5 ≤ 2564) (v1 : Int32) (v2 : Int32) (v3 : Int32) (v4 : Int32) : wpX_put (fun r u' => wpY_put (fun r' v' => r' = r ∧ i_Rel (k + 5) u' v') v v1 v2 v3 v4) u v1 v2 v3 v4 := by
  refine I (fun u v => wpX_put (fun r u' => wpY_put (fun r' v' => r' = r ∧ i_Rel (k + 5) u' v') v v1 v2 v3 v4) u v1 v2 v3 v4) ?_
  intro T C V L n lf fu ff sl vd ln op ar ini xm kd mv ds oP oL ce ac pc ph he rT rP su uc ou od sc bf af ym cl sn fr cm yo R
  have ⟨P, hsl, hR, hM, hA⟩ := R
  by_cases hs : sl = 0
  · refine mc_x_put P hs (fun nP => mc_y_put P hs (fun _ => ⟨rfl, mc_in R⟩) (fun t p h1 h2 h3 h4 h5 h6 => absurd ⟨t, p, h1, h2, h3, h4, h5, h6⟩ nP)) ?_
    intro t p h1 h2 h3 h4 h5 h6
    have hT := P.1.2
    have hC := P.2.1.2
    have hI := mc_OK_IN P.2.2.1.2 P.2.1.2 P.2.2.2.1.2 h6
    refine ⟨fun e => ?_, fun e => ?_⟩
    · refine mc_y_put P hs (fun z => absurd ⟨t, p, h1, h2, h3, h4, h5, h6⟩ z) (fun t' p' g1 g2 g3 g4 g5 g6 => ?_)
      have e1 : t' = t := (nI_eq (by omega) (by omega)).mp (g2.symm.trans h2)
      have e2 : p' = p := (nI_eq (by omega) (by omega)).mp (g3.symm.trans h3)
      subst e1 e2
      exact ⟨fun _ => ⟨rfl, mc_in ⟨mc_PG_p1 P h1 e h5 hI, hsl, hR, hM, fun z => absurd hs z⟩⟩, fun z => absurd e z⟩
    · refine mc_y_put P hs (fun z => absurd ⟨t, p, h1, h2, h3, h4, h5, h6⟩ z) (fun t' p' g1 g2 g3 g4 g5 g6 => ?_)
      have e1 : t' = t := (nI_eq (by omega) (by omega)).mp (g2.symm.trans h2)
      have e2 : p' = p := (nI_eq (by omega) (by omega)).mp (g3.symm.trans h3)
      subst e1 e2
      exact ⟨fun z => absurd z e, fun _ => ⟨rfl, mc_in ⟨mc_PG_p0 P h1 (by omega) hI, hsl, hR, hM, fun z => absurd hs z⟩⟩⟩
  · unfold wpX_put
    refine br_f hs ?_
    unfold wpY_put
    exact br_f hs ⟨rfl, mc_in R⟩
end
section
/-! the constructor and the methods that read -/
def mc_CL (v : Int32) (lo hi j : Nat) : Prop := lo ≤ j ∧ j ≤ hi ∧ (nI lo ≤ v → v ≤ nI hi → v = nI j) ∧ (nI lo ≤ v → ¬ v ≤ nI hi → hi = j) ∧ (¬ nI lo ≤ v → lo = j)
theorem mc_CL_ex (v : Int32) {lo hi : Nat} (h : lo ≤ hi) (hh : hi < 2 ^ 31) : ∃ j, mc_CL v lo hi j := by
  by_cases c1 : nI lo ≤ v
  · by_cases c2 : v ≤ nI hi
    · have n0 : ¬ v < 0 := by
        intro z
        rw [Int32.le_iff_toInt_le, nI_toInt (by omega)] at c1
        rw [Int32.lt_iff_toInt_lt] at z
        have e0 : (0 : Int32).toInt = 0 := by decide
        omega
      obtain ⟨j, hj, e⟩ := nI_of n0
      subst e
      rw [nI_leI (by omega) hj] at c1
      rw [nI_leI hj hh] at c2
      exact ⟨j, c1, c2, fun _ _ => rfl, fun _ z => absurd (nI_le c2 hh) z, fun z => absurd (nI_le c1 hj) z⟩
    · exact ⟨hi, h, Nat.le_refl _, fun _ z => absurd z c2, fun _ _ => rfl, fun z => absurd c1 z⟩
  · exact ⟨lo, Nat.le_refl _, h, fun z => absurd z c1, fun z => absurd z c1, fun _ => rfl⟩
def mc_POS (T : Nat) (lf : Nat → Nat) (v1 v2 : Int32) : Prop := ∃ t p, t < T ∧ p < lf t ∧ v1 = nI t ∧ v2 = nI p
section
variable {T C V L : Nat} {fu ff sl vd st : Int32} {ln op ar ini xm kd mv ds oP oL ce ac pc ph he rT rP su uc ou od sc : Nat → Int32}
variable {lf : Nat → Nat} {f1 f2 f3 f4 v v1 v2 : Int32} {lo hi j : Nat}
theorem mc_x_clamp {post : Int32 → Prop} (h : mc_CL v lo hi j) (K : post (nI j)) : wpX_clamp post (f1, f2, f3, f4, fu, ff, sl, vd, st, ln, op, ar, ini, xm, kd, mv, ds, oP, oL, ce, ac, pc, ph, he, rT, rP, su, uc, ou, od, sc) v (nI lo) (nI hi) := by
  obtain ⟨-, -, h1, h2, h3⟩ := h
  unfold wpX_clamp
  refine br_c (fun a => br_c (fun b => ?_) (fun b => ?_)) (fun a => ?_)
  · rw [h1 a b]; exact K
  · rw [h2 a b]; exact K
  · rw [h3 a]; exact K
theorem mc_x_pos {post : Int32 → Prop} (P : mc_PG T C V L ln op ar lf) (h1 : mc_POS T lf v1 v2 → post 1) (h0 : ¬ mc_POS T lf v1 v2 → post 0) : wpX_isPosition post (nI T, nI C, nI V, nI L, fu, ff, sl, vd, st, ln, op, ar, ini, xm, kd, mv, ds, oP, oL, ce, ac, pc, ph, he, rT, rP, su, uc, ou, od, sc) v1 v2 := by
  have hT := P.1.2
  have hC := P.2.1.2
  unfold wpX_isPosition
  refine mc_x_thr (fun n1 n2 => br_f mc_n10 ?_) (fun z => br_t rfl (h0 fun ⟨t, p, ht, _, e, _⟩ => mc_thr_n hT z ht e))
  obtain ⟨t, ht, e⟩ := mc_thr hT n1 n2
  subst e
  obtain ⟨hl, hlC⟩ := P.2.2.2.2.1 t (by omega)
  by_cases c1 : v2 < 0
  · refine br_t c1 (h0 ?_)
    rintro ⟨t', p, a1, a2, a3, a4⟩
    have := (P.2.2.2.2.1 t' (by omega)).2
    rw [a4] at c1
    exact nI_pos (n := p) (by omega) c1
  · obtain ⟨p, hp, e⟩ := nI_of c1
    subst e
    refine br_f c1 ?_
    simp (disch := omega) only [nI_clamp, mc_vin, true_and, hl, nI_leI]
    by_cases c2 : lf t ≤ p
    · refine br_t c2 (h0 ?_)
      rintro ⟨t', p', a1, a2, a3, a4⟩
      have e1 : t' = t := ((nI_eq (by omega) (by omega)).mp a3).symm
      subst e1
      have e2 : p' = p := ((nI_eq hp (by omega)).mp a4).symm
      omega
    · exact br_f c2 (h1 ⟨t, p, ht, by omega, rfl, rfl⟩)
end
section
variable {T C V L : Nat} {sl st : Int32} {op ar ln ini ce ac pc ph he rT rP bf af ym cl sn fr cm yo : Nat → Int32}
variable {lf : Nat → Nat} {f1 f2 f3 f4 v v1 v2 : Int32} {lo hi j : Nat}
theorem mc_y_clamp {post : Int32 → Prop} (h : mc_CL v lo hi j) (K : post (nI j)) : wpY_clamp post (f1, f2, f3, f4, sl, st, op, ar, ln, ini, ce, ac, pc, ph, he, rT, rP, bf, af, ym, cl, sn, fr, cm, yo) v (nI lo) (nI hi) := by
  obtain ⟨-, -, h1, h2, h3⟩ := h
  unfold wpY_clamp
  refine br_c (fun a => br_c (fun b => ?_) (fun b => ?_)) (fun a => ?_)
  · rw [h1 a b]; exact K
  · rw [h2 a b]; exact K
  · rw [h3 a]; exact K
theorem mc_y_inc {post : Int32 → Prop} (P : mc_PG T C V L ln op ar lf) (h1 : mc_POS T lf v1 v2 → post 1) (h0 : ¬ mc_POS T lf v1 v2 → post 0) : wpY_inCode post (nI T, nI C, nI V, nI L, sl, st, op, ar, ln, ini, ce, ac, pc, ph, he, rT, rP, bf, af, ym, cl, sn, fr, cm, yo) v1 v2 := by
  have hT := P.1.2
  have hC := P.2.1.2
  unfold wpY_inCode
  by_cases n1 : v1 < 0
  · exact br_t n1 (h0 fun ⟨t, p, ht, _, e, _⟩ => mc_thr_n hT (Or.inl n1) ht e)
  refine br_f n1 ?_
  by_cases n2 : nI T ≤ v1
  · exact br_t n2 (h0 fun ⟨t, p, ht, _, e, _⟩ => mc_thr_n hT (Or.inr n2) ht e)
  refine br_f n2 ?_
  obtain ⟨t, ht, e⟩ := mc_thr hT n1 n2
  subst e
  obtain ⟨hl, hlC⟩ := P.2.2.2.2.1 t (by omega)
  by_cases c1 : v2 < 0
  · refine br_t c1 (h0 ?_)
    rintro ⟨t', p, a1, a2, a3, a4⟩
    have := (P.2.2.2.2.1 t' (by omega)).2
    rw [a4] at c1
    exact nI_pos (n := p) (by omega) c1
  · obtain ⟨p, hp, e⟩ := nI_of c1
    subst e
    refine br_f c1 ?_
    simp (disch := omega) only [nI_clamp, mc_vin, true_and, hl, nI_leI]
    by_cases c2 : lf t ≤ p
    · refine br_t c2 (h0 ?_)
      rintro ⟨t', p', a1, a2, a3, a4⟩
      have e1 : t' = t := ((nI_eq (by omega) (by omega)).mp a3).symm
      subst e1
      have e2 : p' = p := ((nI_eq hp (by omega)).mp a4).symm
      omega
    · exact br_f c2 (h1 ⟨t, p, ht, by omega, rfl, rfl⟩)
end
theorem mc_MC_0 {T L : Nat} {pc ph he : Nat → Int32} (hT : T ≤ 3) (hL : L ≤ 3) : mc_MC T L (mc_z 3 pc) (mc_z 3 ph) (mc_z 9 he) :=
  ⟨fun t ht => ⟨0, by omega, mc_z_lt (by omega)⟩, fun t ht => ⟨0, by omega, mc_z_lt (by omega)⟩, fun t _ ht => mc_z_lt ht, fun u lk hu hlk => ⟨0, by omega, mc_z_lt (by omega)⟩⟩
theorem i_vc0 (k0 : Int32) (k1 : Int32) (k2 : Int32) (k3 : Int32) : wpX_init (fun u => wpY_init (fun v => i_Rel 4 u v) k0 k1 k2 k3) k0 k1 k2 k3 := by
  obtain ⟨T, hT⟩ := mc_CL_ex k0 (lo := 1) (hi := 3) (by omega) (by omega)
  obtain ⟨C, hC⟩ := mc_CL_ex k1 (lo := 8) (hi := 16) (by omega) (by omega)
  obtain ⟨V, hV⟩ := mc_CL_ex k2 (lo := 1) (hi := 4) (by omega) (by omega)
  obtain ⟨L, hL⟩ := mc_CL_ex k3 (lo := 1) (hi := 3) (by omega) (by omega)
  have R : mc_R T C V L 0 (fun _ => 0) 0 8 (fun _ => 0) (fun _ => 0) (fun _ => 0) (fun _ => 0) (fun _ => 0) (fun _ => 0) (fun _ => 0) (fun _ => 0) (fun _ => 0) (fun _ => 0) (fun _ => 0) (fun _ => 0) (fun _ => 0) (fun _ => 0) (fun _ => 0) (fun _ => 0) (fun _ => 0) (fun _ => 0) (fun _ => 0) :=
    ⟨⟨⟨hT.1, hT.2.1⟩, ⟨hC.1, hC.2.1⟩, ⟨hV.1, hV.2.1⟩, ⟨hL.1, hL.2.1⟩, fun _ _ => ⟨rfl, Nat.zero_le _⟩, fun _ _ _ => rfl, fun _ p _ hp => absurd hp (Nat.not_lt_zero p)⟩, Or.inl rfl, mc_RN_0 (fun _ _ => rfl),
      ⟨fun _ _ => ⟨0, by omega, rfl⟩, fun _ _ => ⟨0, by omega, rfl⟩, fun _ _ _ => rfl, fun _ _ _ _ => ⟨0, by omega, rfl⟩⟩, fun z => absurd rfl z⟩
  unfold wpX_init
  refine mc_x_clamp hT (mc_x_clamp hC (mc_x_clamp hV (mc_x_clamp hL ?_)))
  unfold wpY_init
  refine mc_y_clamp hT (mc_y_clamp hC (mc_y_clamp hV (mc_y_clamp hL ?_)))
  exact mc_in R
theorem i_vc_code {k : Nat} {u : SX} {v : SY} (I : i_Rel k u v) (hk : k + 5 ≤ 2564) (v1 : Int32) (v2 : Int32) (v3 : Int32) : wpX_code (fun r => wpY_code (fun r' => r' = r ∧ i_Rel (k + 5) u v) v v1 v2 v3) u v1 v2 v3 := by
  refine I (fun u v => wpX_code (fun r => wpY_code (fun r' => r' = r ∧ i_Rel (k + 5) u v) v v1 v2 v3) u v1 v2 v3) ?_
  intro T C V L n lf fu ff sl vd ln op ar ini xm kd mv ds oP oL ce ac pc ph he rT rP su uc ou od sc bf af ym cl sn fr cm yo R
  have ⟨P, hsl, hR, hM, hA⟩ := R
  have hT := P.1.2
  have hC := P.2.1.2
  unfold wpX_code
  refine mc_x_pos P (fun hp => br_f mc_n10 ?_) (fun hp => br_t rfl ?_)
  · obtain ⟨t, p, ht, hp', e1, e2⟩ := id hp
    have := (P.2.2.2.2.1 t (by omega)).2
    have hv : vp_in (16 * v1 + v2) 48 := by
      rw [e1, e2, mc_m16, nI_add]; exact vp_in_nI (by omega) (by omega)
    refine br_c (fun z => ⟨hv, ?_⟩) (fun z => ⟨hv, ?_⟩)
    · unfold wpY_code
      exact mc_y_inc P (fun _ => br_f mc_n10 (br_t z ⟨hv, rfl, mc_in R⟩)) (fun q => absurd hp q)
    · unfold wpY_code
      exact mc_y_inc P (fun _ => br_f mc_n10 (br_f z ⟨hv, rfl, mc_in R⟩)) (fun q => absurd hp q)
  · unfold wpY_code
    exact mc_y_inc P (fun q => absurd q hp) (fun _ => br_t rfl ⟨rfl, mc_in R⟩)
theorem i_vc_init_ {k : Nat} {u : SX} {v : SY} (I : i_Rel k u v) (hk : k + 5 ≤ 2564) (v1 : Int32) (v2 : Int32) : wpX_init_ (fun r u' => wpY_init_ (fun r' v' => r' = r ∧ i_Rel (k + 5) u' v') v v1 v2) u v1 v2 := by
  refine I (fun u v => wpX_init_ (fun r u' => wpY_init_ (fun r' v' => r' = r ∧ i_Rel (k + 5) u' v') v v1 v2) u v1 v2) ?_
  intro T C V L n lf fu ff sl vd ln op ar ini xm kd mv ds oP oL ce ac pc ph he rT rP su uc ou od sc bf af ym cl sn fr cm yo R
  have ⟨P, hsl, hR, hM, hA⟩ := R
  have hV := P.2.2.1.2
  unfold wpX_init_
  by_cases hs : sl = 0
  · refine br_t hs ?_
    by_cases n1 : v1 < 0
    · refine br_t n1 ?_
      unfold wpY_init_
      exact br_t hs (br_t n1 ⟨rfl, mc_in R⟩)
    · refine br_f n1 ?_
      by_cases n2 : v1 < nI V
      · obtain ⟨c, hc, e⟩ := nI_of n1
        subst e
        rw [nI_ltI hc (by omega)] at n2
        have hv : vp_in (nI c) 4 := vp_in_nI (by omega) (by omega)
        have n2' : nI c < nI V := nI_lt n2 (by omega)
        refine br_t n2' ⟨hv, nm_e ⟨hv, nm_e ?_⟩⟩
        unfold wpY_init_
        exact br_t hs (br_f n1 (br_t n2' ⟨hv, nm_e ⟨hv, nm_e ⟨rfl, mc_in R⟩⟩⟩))
      · refine br_f n2 ?_
        unfold wpY_init_
        exact br_t hs (br_f n1 (br_f n2 ⟨rfl, mc_in R⟩))
  · refine br_f hs ?_
    unfold wpY_init_
    exact br_f hs ⟨rfl, mc_in R⟩
theorem i_vc_open {k : Nat} {u : SX} {v : SY} (I : i_Rel k u v) (hk : k + 5 ≤ 2564) : wpX_open (fun r u' => wpY_open (fun r' v' => r' = r ∧ i_Rel (k + 5) u' v') v) u := by
  refine I (fun u v => wpX_open (fun r u' => wpY_open (fun r' v' => r' = r ∧ i_Rel (k + 5) u' v') v) u) ?_
  intro T C V L n lf fu ff sl vd ln op ar ini xm kd mv ds oP oL ce ac pc ph he rT rP su uc ou od sc bf af ym cl sn fr cm yo R
  have ⟨P, hsl, hR, hM, hA⟩ := R
  have hT := P.1.2
  unfold wpX_open
  by_cases hs : sl = 0
  · refine br_t hs ?_
    unfold wpY_open
    exact br_t hs ⟨rfl, mc_in R⟩
  · refine br_f hs (mc_x_reset ?_)
    unfold wpY_open
    refine br_f hs (mc_y_reset ⟨rfl, ?_⟩)
    exact mc_in (n := 0) ⟨P, Or.inl rfl, mc_RN_0 (fun t ht => mc_z_lt (by omega)), mc_MC_0 hT P.2.2.2.1.2, fun z => absurd rfl z⟩
theorem i_vc_ran {k : Nat} {u : SX} {v : SY} (I : i_Rel k u v) (hk : k + 5 ≤ 2564) (v1 : Int32) : wpX_ran (fun r => wpY_ran (fun r' => r' = r ∧ i_Rel (k + 5) u v) v v1) u v1 := by
  refine I (fun u v => wpX_ran (fun r => wpY_ran (fun r' => r' = r ∧ i_Rel (k + 5) u v) v v1) u v1) ?_
  intro T C V L n lf fu ff sl vd ln op ar ini xm kd mv ds oP oL ce ac pc ph he rT rP su uc ou od sc bf af ym cl sn fr cm yo R
  have ⟨P, hsl, hR, hM, hA⟩ := R
  have hn := hR.1
  unfold wpX_ran
  by_cases n1 : v1 < 0
  · refine br_t n1 ?_
    unfold wpY_ran
    exact br_t n1 ⟨rfl, mc_in R⟩
  · refine br_f n1 ?_
    by_cases n2 : v1 < nI n
    · obtain ⟨c, hc, e⟩ := nI_of n1
      subst e
      have n2' := n2
      rw [nI_ltI hc (by omega)] at n2'
      have hv : vp_in (nI c) 64 := vp_in_nI (by omega) (by omega)
      refine br_t n2 ⟨hv, hv, ?_⟩
      unfold wpY_ran
      exact br_f n1 (br_t n2 ⟨hv, hv, rfl, mc_in R⟩)
    · refine br_f n2 ?_
      unfold wpY_ran
      exact br_f n1 (br_f n2 ⟨rfl, mc_in R⟩)
theorem i_vc_cell {k : Nat} {u : SX} {v : SY} (I : i_Rel k u v) (hk : k + 5 ≤ 2564) (v1 : Int32) : wpX_cell (fun r => wpY_cell (fun r' => r' = r ∧ i_Rel (k + 5) u v) v v1) u v1 := by
  refine I (fun u v => wpX_cell (fun r => wpY_cell (fun r' => r' = r ∧ i_Rel (k + 5) u v) v v1) u v1) ?_
  intro T C V L n lf fu ff sl vd ln op ar ini xm kd mv ds oP oL ce ac pc ph he rT rP su uc ou od sc bf af ym cl sn fr cm yo R
  have ⟨P, hsl, hR, hM, hA⟩ := R
  have hV := P.2.2.1.2
  unfold wpX_cell
  by_cases n1 : v1 < 0
  · refine br_t n1 ?_
    unfold wpY_cell
    exact br_t n1 ⟨rfl, mc_in R⟩
  · refine br_f n1 ?_
    by_cases n2 : v1 < nI V
    · obtain ⟨c, hc, e⟩ := nI_of n1
      subst e
      have n2' := n2
      rw [nI_ltI hc (by omega)] at n2'
      have hv : vp_in (nI c) 4 := vp_in_nI (by omega) (by omega)
      refine br_t n2 ⟨hv, ?_⟩
      unfold wpY_cell
      exact br_f n1 (br_t n2 ⟨hv, rfl, mc_in R⟩)
    · refine br_f n2 ?_
      unfold wpY_cell
      exact br_f n1 (br_f n2 ⟨rfl, mc_in R⟩)
theorem i_vc_commitOf {k : Nat} {u : SX} {v : SY} (I : i_Rel k u v) (hk : k + 5 ≤ 2564) (v1 : Int32) : wpX_commitOf (fun r => wpY_commitOf (fun r' => r' = r ∧ i_Rel (k + 5) u v) v v1) u v1 := by
  refine I (fun u v => wpX_commitOf (fun r => wpY_commitOf (fun r' => r' = r ∧ i_Rel (k + 5) u v) v v1) u v1) ?_
  intro T C V L n lf fu ff sl vd ln op ar ini xm kd mv ds oP oL ce ac pc ph he rT rP su uc ou od sc bf af ym cl sn fr cm yo R
  have ⟨P, hsl, hR, hM, hA⟩ := R
  have hn := hR.1
  unfold wpX_commitOf
  by_cases n1 : v1 < 0
  · refine br_t n1 ?_
    unfold wpY_commitOf
    exact br_t n1 ⟨rfl, mc_in R⟩
  · refine br_f n1 ?_
    by_cases n2 : v1 < nI n
    · obtain ⟨c, hc, e⟩ := nI_of n1
      subst e
      have n2' := n2
      rw [nI_ltI hc (by omega)] at n2'
      have hv : vp_in (nI c) 64 := vp_in_nI (by omega) (by omega)
      obtain ⟨t, u, ht, e1, hu, e2, -⟩ := hR.2.1 c n2'
      have hsu : vp_in (su (nI c).toNatClampNeg) 64 := by rw [nI_clamp (by omega), e2]; exact vp_in_nI (by omega) (by omega)
      refine br_t n2 ⟨hv, hsu, mc_y_com hR n2' ⟨?_, mc_in R⟩⟩
      rw [nI_clamp (by omega)]
    · refine br_f n2 ?_
      unfold wpY_commitOf
      exact br_f n1 (br_f n2 ⟨rfl, mc_in R⟩)
theorem i_vc_local {k : Nat} {u : SX} {v : SY} (I : i_Rel k u v) (hk : k + 5 ≤ 2564) (v1 : Int32) (v2 : Int32) : wpX_local (fun r => wpY_local (fun r' => r' = r ∧ i_Rel (k + 5) u v) v v1 v2) u v1 v2 := by
  refine I (fun u v => wpX_local (fun r => wpY_local (fun r' => r' = r ∧ i_Rel (k + 5) u v) v v1 v2) u v1 v2) ?_
  intro T C V L n lf fu ff sl vd ln op ar ini xm kd mv ds oP oL ce ac pc ph he rT rP su uc ou od sc bf af ym cl sn fr cm yo R
  have ⟨P, hsl, hR, hM, hA⟩ := R
  have hT := P.1.2
  have hL := P.2.2.2.1.2
  unfold wpX_local
  refine mc_x_thr (fun n1 n2 => br_f mc_n10 ?_) (fun z => br_t rfl ?_)
  · obtain ⟨t, ht, e⟩ := mc_thr hT n1 n2
    subst e
    have hv : vp_in (nI t) 3 := vp_in_nI (by omega) (by omega)
    have nT : nI t < nI T := nI_lt ht (by omega)
    refine br_c (fun c0 => ⟨hv, ?_⟩) (fun c0 => br_c (fun c1 => ⟨hv, ?_⟩) (fun c1 => br_c (fun c2 => ⟨hv, ?_⟩) (fun c2 => br_c (fun c3 => ?_) (fun c3 => br_c (fun c4 => ?_) (fun c4 => ?_)))))
    · unfold wpY_local
      exact br_f n1 (br_t nT (br_t c0 ⟨hv, rfl, mc_in R⟩))
    · unfold wpY_local
      exact br_f n1 (br_t nT (br_f c0 (br_t c1 ⟨hv, rfl, mc_in R⟩)))
    · unfold wpY_local
      exact br_f n1 (br_t nT (br_f c0 (br_f c1 (br_t c2 ⟨hv, rfl, mc_in R⟩))))
    · unfold wpY_local
      exact br_f n1 (br_t nT (br_f c0 (br_f c1 (br_f c2 (br_t c3 ⟨rfl, mc_in R⟩)))))
    · unfold wpY_local
      exact br_f n1 (br_t nT (br_f c0 (br_f c1 (br_f c2 (br_f c3 (br_t c4 ⟨rfl, mc_in R⟩))))))
    · have hv9 : vp_in (3 * nI t + v2 - 3) 9 := by
        have n0 : ¬ v2 < 0 := by
          intro z
          apply c3
          rw [Int32.lt_iff_toInt_lt] at z ⊢
          have e0 : (0 : Int32).toInt = 0 := by decide
          have e3 : (3 : Int32).toInt = 3 := by decide
          omega
        obtain ⟨j, hj, e⟩ := nI_of n0
        subst e
        have j3 : 3 ≤ j := Classical.byContradiction fun z => c3 (nI_lt (b := 3) (by omega) (by omega))
        have j4 : j < 3 + L := by
          apply Classical.byContradiction
          intro z
          apply c4
          rw [mc_a3]
          exact nI_le (by omega) hj
        rw [mc_m3, nI_add, show nI (3 * t + j) - 3 = nI (3 * t + j - 3) from pk_sub (b := 3) (by omega)]
        exact vp_in_nI (by omega) (by omega)
      refine ⟨hv9, ?_⟩
      unfold wpY_local
      exact br_f n1 (br_t nT (br_f c0 (br_f c1 (br_f c2 (br_f c3 (br_f c4 ⟨hv9, rfl, mc_in R⟩))))))
  · unfold wpY_local
    rcases z with z | z
    · exact br_t z ⟨rfl, mc_in R⟩
    · by_cases n1 : v1 < 0
      · exact br_t n1 ⟨rfl, mc_in R⟩
      · exact br_f n1 (br_f (Int32.not_lt.mpr z) ⟨rfl, mc_in R⟩)
end
section
/-! mustHold, mover, cellKind, offense, seal -/
theorem i_vc_mustHold {k : Nat} {u : SX} {v : SY} (I : i_Rel k u v) (hk : k + 5 ≤ 2564) (v1 : Int32) (v2 : Int32) (v3 : Int32) : wpX_mustHold (fun r => wpY_mustHold (fun r' => r' = r ∧ i_Rel (k + 5) u v) v v1 v2 v3) u v1 v2 v3 := by
  refine I (fun u v => wpX_mustHold (fun r => wpY_mustHold (fun r' => r' = r ∧ i_Rel (k + 5) u v) v v1 v2 v3) u v1 v2 v3) ?_
  intro T C V L n lf fu ff sl vd ln op ar ini xm kd mv ds oP oL ce ac pc ph he rT rP su uc ou od sc bf af ym cl sn fr cm yo R
  have ⟨P, hsl, hR, hM, hA⟩ := R
  have hT := P.1.2
  have hC := P.2.1.2
  have hL := P.2.2.2.1
  unfold wpX_mustHold wpX_isAnalysed
  by_cases hs : sl = 0
  · refine br_t hs (br_t rfl ?_)
    unfold wpY_mustHold
    exact br_t hs ⟨rfl, mc_in R⟩
  · obtain ⟨dd, a1, a2, a3, a4, a5, a6, a7⟩ := hA hs
    refine br_f hs (mc_x_pos P (fun hp => br_f mc_n10 ?_) (fun hp => br_t rfl (br_t rfl ?_)))
    · obtain ⟨t, p, ht, hp', e1, e2⟩ := id hp
      have hl16 := (mc_PG_TH P ht).2.2.1
      subst e1 e2
      refine mc_x_rea (by omega) (by omega) (a2 t ht 0 (by omega)) (fun z => br_t rfl (br_t rfl ?_)) (fun z => br_f mc_n10 (br_f mc_n10 ?_))
      · unfold wpY_mustHold
        refine br_f hs (br_c (fun _ => ⟨rfl, mc_in R⟩) (fun c1 => br_c (fun _ => ⟨rfl, mc_in R⟩) (fun c2 => mc_y_inc P (fun _ => br_f mc_n10 ?_) (fun q => absurd hp q))))
        obtain ⟨lk, hlk, e⟩ := mc_thr (T := L) hL.2 c1 c2
        subst e
        have em := a3 (16 * t + p) (by omega) lk hlk
        rw [mc_mx_e (by omega), mc_mm_4 lk z] at em
        simp (disch := omega) only [nI_clamp, mc_m16, mc_m48, mc_m3, mc_vin, nI_add, nI_1, true_and, forall_eq, em]
        exact ⟨rfl, mc_in R⟩
      · refine br_c (fun c1 => ?_) (fun c1 => br_c (fun c2 => ?_) (fun c2 => ?_))
        · unfold wpY_mustHold
          exact br_f hs (br_t c1 ⟨rfl, mc_in R⟩)
        · obtain ⟨lk, hlk, e⟩ := mc_thr (T := L) hL.2 c1 (Int32.not_le.mpr c2)
          subst e
          have em := a3 (16 * t + p) (by omega) lk hlk
          have ex := a2 t ht lk hlk p (by omega)
          have hne : mc_mm op ar (16 * t) (lf t) lk p ≠ 4 := fun q => z (mc_mm_4 0 q)
          rw [mc_mx_e (by omega), mc_yv_n hne] at em
          unfold wpX_mustAt
          simp (disch := omega) only [nI_clamp, mc_m16, mc_m48, mc_m3, mc_vin, nI_add, nI_1, true_and, forall_eq, ex]
          unfold wpY_mustHold
          refine br_f hs (br_f c1 (br_f (Int32.not_le.mpr c2) (mc_y_inc P (fun _ => br_f mc_n10 ?_) (fun q => absurd hp q))))
          simp (disch := omega) only [nI_clamp, mc_m16, mc_m48, mc_m3, mc_vin, nI_add, nI_1, true_and, forall_eq, em]
          exact mc_in R
        · unfold wpY_mustHold
          exact br_f hs (br_f c1 (br_t (Int32.not_lt.mp c2) ⟨rfl, mc_in R⟩))
    · unfold wpY_mustHold
      exact br_f hs (br_c (fun _ => ⟨rfl, mc_in R⟩) (fun c1 => br_c (fun _ => ⟨rfl, mc_in R⟩) (fun c2 => mc_y_inc P (fun q => absurd q hp) (fun _ => br_t rfl ⟨rfl, mc_in R⟩))))
theorem i_vc_mover {k : Nat} {u : SX} {v : SY} (I : i_Rel k u v) (hk : k + 5 ≤ 2564) (v1 : Int32) (v2 : Int32) : wpX_mover (fun r => wpY_mover (fun r' => r' = r ∧ i_Rel (k + 5) u v) v v1 v2) u v1 v2 := by
  refine I (fun u v => wpX_mover (fun r => wpY_mover (fun r' => r' = r ∧ i_Rel (k + 5) u v) v v1 v2) u v1 v2) ?_
  intro T C V L n lf fu ff sl vd ln op ar ini xm kd mv ds oP oL ce ac pc ph he rT rP su uc ou od sc bf af ym cl sn fr cm yo R
  have ⟨P, hsl, hR, hM, hA⟩ := R
  have hT := P.1.2
  have hC := P.2.1.2
  have hL := P.2.2.2.1
  unfold wpX_mover wpX_isAnalysed
  by_cases hs : sl = 0
  · refine br_t hs (br_t rfl ?_)
    unfold wpY_mover
    exact br_t hs ⟨rfl, mc_in R⟩
  · obtain ⟨dd, a1, a2, a3, a4, a5, a6, a7⟩ := hA hs
    refine br_f hs (mc_x_pos P (fun hp => br_f mc_n10 ?_) (fun hp => br_t rfl (br_t rfl ?_)))
    · obtain ⟨t, p, ht, hp', e1, e2⟩ := id hp
      have hl16 := (mc_PG_TH P ht).2.2.1
      subst e1 e2
      have ec := a6 (16 * t + p) (by omega)
      have ev := (a5 t ht).1 p hp'
      refine mc_x_rea (by omega) (by omega) (a2 t ht 0 (by omega)) (fun z => br_t rfl (br_t rfl ?_)) (fun z => br_f mc_n10 (br_f mc_n10 ?_))
      · unfold wpY_mover
        refine br_f hs (mc_y_inc P (fun _ => br_f mc_n10 ?_) (fun q => absurd hp q))
        have e1 : mc_cv op ar lf L (16 * t + p) = -1 := by
          unfold mc_cv
          rw [mc_mx_e (by omega), if_pos z]
        rw [e1] at ec
        simp (disch := omega) only [nI_clamp, mc_m16, mc_m48, mc_m3, mc_vin, nI_add, nI_1, true_and, forall_eq, ec]
        exact mc_in R
      · simp (disch := omega) only [nI_clamp, mc_m16, mc_m48, mc_m3, mc_vin, nI_add, nI_1, true_and, forall_eq, ev]
        unfold wpY_mover
        refine br_f hs (mc_y_inc P (fun _ => br_f mc_n10 ?_) (fun q => absurd hp q))
        simp (disch := omega) only [nI_clamp, mc_m16, mc_m48, mc_m3, mc_vin, nI_add, nI_1, true_and, forall_eq, ec]
        exact mc_in R
    · unfold wpY_mover
      exact br_f hs (mc_y_inc P (fun q => absurd q hp) (fun _ => br_t rfl ⟨rfl, mc_in R⟩))
theorem i_vc_cellKind {k : Nat} {u : SX} {v : SY} (I : i_Rel k u v) (hk : k + 5 ≤ 2564) (v1 : Int32) : wpX_cellKind (fun r => wpY_cellKind (fun r' => r' = r ∧ i_Rel (k + 5) u v) v v1) u v1 := by
  refine I (fun u v => wpX_cellKind (fun r => wpY_cellKind (fun r' => r' = r ∧ i_Rel (k + 5) u v) v v1) u v1) ?_
  intro T C V L n lf fu ff sl vd ln op ar ini xm kd mv ds oP oL ce ac pc ph he rT rP su uc ou od sc bf af ym cl sn fr cm yo R
  have ⟨P, hsl, hR, hM, hA⟩ := R
  have hV := P.2.2.1.2
  unfold wpX_cellKind
  by_cases hs : sl = 0
  · refine br_t hs ?_
    unfold wpY_cellKind
    exact br_t hs ⟨rfl, mc_in R⟩
  · obtain ⟨dd, a1, a2, a3, a4, a5, a6, a7⟩ := hA hs
    refine br_f hs ?_
    by_cases n1 : v1 < 0
    · refine br_t n1 ?_
      unfold wpY_cellKind
      exact br_f hs (br_t n1 ⟨rfl, mc_in R⟩)
    · refine br_f n1 ?_
      by_cases n2 : v1 < nI V
      · obtain ⟨c, hc, e⟩ := nI_of n1
        subst e
        have n2' := n2
        rw [nI_ltI hc (by omega)] at n2'
        refine br_t n2 ⟨vp_in_nI (by omega) (by omega), mc_y_ck P a3 hs n2' ⟨?_, mc_in R⟩⟩
        rw [nI_clamp (by omega), a4 c n2']
      · refine br_f n2 ?_
        unfold wpY_cellKind
        exact br_f hs (br_f n1 (br_f n2 ⟨rfl, mc_in R⟩))
theorem i_vc_offense {k : Nat} {u : SX} {v : SY} (I : i_Rel k u v) (hk : k + 5 ≤ 2564) (v1 : Int32) (v2 : Int32) : wpX_offense (fun r => wpY_offense (fun r' v' => r' = r ∧ i_Rel (k + 5) u v') v v1 v2) u v1 v2 := by
  refine I (fun u v => wpX_offense (fun r => wpY_offense (fun r' v' => r' = r ∧ i_Rel (k + 5) u v') v v1 v2) u v1 v2) ?_
  intro T C V L n lf fu ff sl vd ln op ar ini xm kd mv ds oP oL ce ac pc ph he rT rP su uc ou od sc bf af ym cl sn fr cm yo R
  have ⟨P, hsl, hR, hM, hA⟩ := R
  have hT := P.1.2
  unfold wpX_offense
  by_cases hs : sl = 0
  · refine br_t hs ?_
    unfold wpY_offense
    exact br_t hs ⟨rfl, mc_in R⟩
  · obtain ⟨dd, a1, a2, a3, a4, a5, a6, a7⟩ := hA hs
    refine br_f hs (mc_x_thr (fun n1 n2 => br_f mc_n10 ?_) (fun z => br_t rfl ?_))
    · obtain ⟨t, ht, e⟩ := mc_thr hT n1 n2
      subst e
      have hv : vp_in (nI t) 3 := vp_in_nI (by omega) (by omega)
      by_cases c1 : v2 < 0
      · refine br_t c1 ?_
        unfold wpY_offense
        exact br_f hs (br_f n1 (br_f n2 (br_f (Int32.not_le.mpr c1) ⟨rfl, mc_in R⟩)))
      · obtain ⟨i, hi, e⟩ := nI_of c1
        subst e
        have Y : ∀ r, r = mc_yo op ar (mc_cv op ar lf L) t (lf t) i (dd t) → wpY_offense (fun r' v' => r' = r ∧ i_Rel (k + 5) (nI T, nI C, nI V, nI L, fu, ff, sl, vd, nI n, ln, op, ar, ini, xm, kd, mv, ds, oP, oL, ce, ac, pc, ph, he, rT, rP, su, uc, ou, od, sc) v') (nI T, nI C, nI V, nI L, sl, nI n, op, ar, ln, ini, ce, ac, pc, ph, he, rT, rP, bf, af, ym, cl, sn, fr, cm, yo) (nI t) (nI i) := by
          intro r hr
          exact mc_y_off (mc_PG_TH P ht) hs hT ht (fun p hp => a6 _ (by omega)) (a1 t ht) hi (fun fr => ⟨hr.symm, mc_in R⟩)
        refine br_f c1 ?_
        rcases (a5 t ht).2 with ⟨z1, z2⟩ | ⟨z1, z2, z3⟩
        · have n0 : ¬ nI i < (0 : Int32) := c1
          simp (disch := omega) only [nI_clamp, mc_m16, mc_m48, mc_m3, mc_vin, nI_add, nI_1, true_and, forall_eq, z2]
          exact br_f n0 (Y _ (if_neg (fun q => q.1 z1)).symm)
        · simp (disch := omega) only [nI_clamp, mc_m16, mc_m48, mc_m3, mc_vin, nI_add, nI_1, true_and, forall_eq, z2, nI_ltI]
          by_cases c2 : i < dd t 0 0 + 1
          · have e3 := z3 i (by omega)
            simp (disch := omega) only [nI_clamp, mc_m16, mc_m48, mc_m3, mc_vin, nI_add, nI_1, true_and, forall_eq, e3]
            exact br_t c2 (Y _ (if_pos ⟨by omega, by omega⟩).symm)
          · exact br_f c2 (Y _ (if_neg (fun q => by have := q.2; omega)).symm)
    · unfold wpY_offense
      refine br_f hs ?_
      rcases z with z | z
      · exact br_t z ⟨rfl, mc_in R⟩
      · by_cases n1 : v1 < 0
        · exact br_t n1 ⟨rfl, mc_in R⟩
        · exact br_f n1 (br_t z ⟨rfl, mc_in R⟩)
theorem i_vc_seal {k : Nat} {u : SX} {v : SY} (I : i_Rel k u v) (hk : k + 5 ≤ 2564) : wpX_seal (fun r u' => wpY_seal (fun r' v' => r' = r ∧ i_Rel (k + 5) u' v') v) u := by
  refine I (fun u v => wpX_seal (fun r u' => wpY_seal (fun r' v' => r' = r ∧ i_Rel (k + 5) u' v') v) u) ?_
  intro T C V L n lf fu ff sl vd ln op ar ini xm kd mv ds oP oL ce ac pc ph he rT rP su uc ou od sc bf af ym cl sn fr cm yo R
  have ⟨P, hsl, hR, hM, hA⟩ := R
  have hT := P.1.2
  unfold wpX_seal
  by_cases hs : sl = 0
  · obtain ⟨dd, hD⟩ := mc_DS_ex P
    refine br_t hs (mc_x_an P hD ?_)
    intro xm' kd' mv' ds' oL' oP' vd' x1 x2 x3 x4
    refine mc_x_reset ?_
    refine mc_y_seal P hs hD x4 ?_
    intro ym' sn' cl' fr' y1 y2
    refine ⟨rfl, ?_⟩
    exact mc_in (n := 0) ⟨P, Or.inr rfl, mc_RN_0 (fun t ht => mc_z_lt (by omega)), mc_MC_0 hT P.2.2.2.1.2, fun _ => ⟨dd, hD, x1, y1, x2, x3, y2, x4⟩⟩
  · obtain ⟨dd, a1, a2, a3, a4, a5, a6, a7⟩ := hA hs
    refine br_f hs ?_
    unfold wpY_seal
    exact br_f hs ⟨T + 1, mc_y_s103 P hs a6 a1 a7 (fun fr => ⟨rfl, mc_in R⟩) (T + 1) 0 fr (by omega) (by omega) (fun t' ht' => absurd ht' (by omega))⟩
end
section
/-! run, serial, serialize -/
theorem i_vc_run {k : Nat} {u : SX} {v : SY} (I : i_Rel k u v) (hk : k + 5 ≤ 2564) (v1 : Int32) (v2 : Int32) : wpX_run (fun r u' => wpY_run (fun r' v' => r' = r ∧ i_Rel (k + 5) u' v') v v1 v2) u v1 v2 := by
  refine I (fun u v => wpX_run (fun r u' => wpY_run (fun r' v' => r' = r ∧ i_Rel (k + 5) u' v') v v1 v2) u v1 v2) ?_
  intro T C V L n lf fu ff sl vd ln op ar ini xm kd mv ds oP oL ce ac pc ph he rT rP su uc ou od sc bf af ym cl sn fr cm yo R
  have ⟨P, hsl, hR, hM, hA⟩ := R
  have hT := P.1.2
  unfold wpX_run
  by_cases hs : sl = 0
  · refine br_t hs ?_
    unfold wpY_run
    exact br_t hs ⟨rfl, mc_in R⟩
  · refine br_f hs (mc_x_thr (fun n1 n2 => br_f mc_n10 ?_) (fun z => br_t rfl ?_))
    · obtain ⟨t, ht, e⟩ := mc_thr hT n1 n2
      subst e
      obtain ⟨w, hw⟩ := mc_CL_ex v2 (lo := 1) (hi := 64) (by omega) (by omega)
      obtain ⟨r, u', v', hrel, hX, hY⟩ := mc_runL (w := w) (fu := fu) (ff := ff) (ini := ini) (ds := ds) (od := od) (sc := sc) (sn := sn) (fr := fr) (cm := cm) (yo := yo) hs ht hw.2.1 (w - 0) 0 n ce ac pc ph he rT rP su uc ou bf af rfl (by omega) R
      refine mc_x_clamp hw (hX _ ?_)
      unfold wpY_run
      refine br_f hs (br_f n1 (br_t (nI_lt ht (by omega)) (mc_y_clamp hw (hY _ ⟨rfl, hrel _⟩))))
    · unfold wpY_run
      refine br_f hs ?_
      rcases z with z | z
      · exact br_t z ⟨rfl, mc_in R⟩
      · by_cases n1 : v1 < 0
        · exact br_t n1 ⟨rfl, mc_in R⟩
        · exact br_f n1 (br_f (Int32.not_lt.mpr z) ⟨rfl, mc_in R⟩)
theorem i_vc_serial {k : Nat} {u : SX} {v : SY} (I : i_Rel k u v) (hk : k + 5 ≤ 2564) (v1 : Int32) : wpX_serial (fun r u' => wpY_serial (fun r' v' => r' = r ∧ i_Rel (k + 5) u' v') v v1) u v1 := by
  refine I (fun u v => wpX_serial (fun r u' => wpY_serial (fun r' v' => r' = r ∧ i_Rel (k + 5) u' v') v v1) u v1) ?_
  intro T C V L n lf fu ff sl vd ln op ar ini xm kd mv ds oP oL ce ac pc ph he rT rP su uc ou od sc bf af ym cl sn fr cm yo R
  have ⟨P, hsl, hR, hM, hA⟩ := R
  have hT := P.1.2
  have hn := hR.1
  unfold wpX_serial
  by_cases hs : sl = 0
  · refine br_t hs ?_
    unfold wpY_serial wpY_quiet
    exact br_t hs (br_t rfl ⟨rfl, mc_in R⟩)
  · refine br_f hs (mc_x_out hT (fun hq => br_f mc_n10 ?_) (fun hq => br_t rfl ?_))
    · by_cases n1 : v1 < 0
      · refine br_t n1 ?_
        unfold wpY_serial
        exact mc_y_quiet hT hs hM.2.2.1 (fun _ => br_f mc_n10 (br_t n1 ⟨rfl, mc_in R⟩)) (fun z => absurd hq z)
      · refine br_f n1 ?_
        by_cases n2 : v1 < nI n
        · obtain ⟨i, hi, e⟩ := nI_of n1
          subst e
          have n2' := n2
          rw [nI_ltI hi (by omega)] at n2'
          have hC := mc_CF_ex hR hq
          refine br_t n2 (mc_x_fill hn hC ?_)
          intro od' hOD
          obtain ⟨j, hj, hr, ej⟩ := hOD i n2'
          refine ⟨vp_in_nI (by omega) (by omega), mc_y_serial hT hs hM.2.2.1 hq hR hC n2' hj hr (fun cm' => ⟨?_, mc_in R⟩)⟩
          rw [nI_clamp (by omega), ej]
        · refine br_f n2 ?_
          unfold wpY_serial
          exact mc_y_quiet hT hs hM.2.2.1 (fun _ => br_f mc_n10 (br_f n1 (br_f n2 ⟨rfl, mc_in R⟩))) (fun z => absurd hq z)
    · unfold wpY_serial
      exact mc_y_quiet hT hs hM.2.2.1 (fun z => absurd z hq) (fun _ => br_t rfl ⟨rfl, mc_in R⟩)
section
variable {T C V L : Nat} {fu ff sl vd st : Int32} {ln op ar ini xm kd mv ds oP oL ce ac pc ph he rT rP su uc ou od sc : Nat → Int32}
variable {n : Nat} {τ : Nat → Nat}
theorem mc_x_s27 {post : Int32 → SX → Prop} (hn : n ≤ 64) (hod : ∀ q, q < n → ∃ j, j < n ∧ od q = nI j ∧ rT j = nI (τ q))
    (K : ∀ sc, (∀ q, q < n → sc q = nI (τ q)) → ∃ m, wX_serialize_63 post (nI n) m 0 (nI 0) (nI T) (nI C) (nI V) (nI L) fu ff sl vd 0 ln op ar ini xm kd mv ds oP oL (mc_cp 4 ini ce) (mc_z 3 ac) (mc_z 3 pc) (mc_z 3 ph) (mc_z 9 he) rT rP su uc ou od sc) :
    ∀ m i sc, n - i < m → i ≤ n → (∀ q, q < i → sc q = nI (τ q)) → wX_serialize_27 post (nI n) (nI T) (nI C) (nI V) (nI L) fu ff sl vd (nI n) m (nI i) ln op ar ini xm kd mv ds oP oL ce ac pc ph he rT rP su uc ou od sc := by
  intro m
  induction m with
  | zero => intro i sc z; omega
  | succ m ih =>
    intro i sc hm hi hI
    rw [wX_serialize_27]
    by_cases e : n ≤ i
    · have : i = n := by omega
      subst this
      exact br_t (nI_le (Nat.le_refl _) (by omega)) (mc_x_reset (K sc hI))
    · obtain ⟨j, hj, e1, e2⟩ := hod i (by omega)
      simp (disch := omega) only [nI_clamp, mc_m16, mc_m48, mc_m3, mc_vin, nI_add, nI_1, true_and, forall_eq, nI_leI, e1, e2]
      refine br_f e (ih (i + 1) _ (by omega) (by omega) fun q hq => ?_)
      by_cases eq : q = i
      · subst eq; rw [pk_us]
      · rw [pk_un eq]; exact hI q (by omega)
end
section
variable {T C V L : Nat} {sl st : Int32} {op ar ln ini ce ac pc ph he rT rP bf af ym cl sn fr cm yo : Nat → Int32}
variable {n : Nat} {τ cf : Nat → Nat} {su uc ou : Nat → Int32}
theorem mc_y_s16 {post : Int32 → SY → Prop} (hT : T ≤ 3) (hs : ¬ sl = 0) (h3 : ∀ t, T ≤ t → t < 3 → ph t = 0) (hq : ∀ t, t < T → ph t = 0) (R : mc_RN T n rT bf af su uc ou ph) (hC : mc_CF n su uc cf)
    (hj : ∀ q, q < n → ∃ j, j < n ∧ mc_rk cf n j = q ∧ rT j = nI (τ q))
    (K : ∀ cm yo, (∀ q, q < n → yo q = nI (τ q)) → ∃ m, wY_serialize_59 post (nI n) m (nI 0) (nI T) (nI C) (nI V) (nI L) sl 0 op ar ln ini (mc_cp 4 ini ce) (mc_z 3 ac) (mc_z 3 pc) (mc_z 3 ph) (mc_z 9 he) rT rP bf af ym cl sn fr cm yo) :
    ∀ m i cm yo, n - i < m → i ≤ n → (∀ q, q < i → yo q = nI (τ q)) → wY_serialize_16 post (nI n) m (nI i) (nI T) (nI C) (nI V) (nI L) sl (nI n) op ar ln ini ce ac pc ph he rT rP bf af ym cl sn fr cm yo := by
  have hn := R.1
  intro m
  induction m with
  | zero => intro i cm yo z; omega
  | succ m ih =>
    intro i cm yo hm hi hI
    rw [wY_serialize_16]
    by_cases e : n ≤ i
    · have : i = n := by omega
      subst this
      exact br_t (nI_le (Nat.le_refl _) (by omega)) (mc_y_reset (K cm yo hI))
    · obtain ⟨j, hj1, hj2, hj3⟩ := hj i (by omega)
      refine br_f (nI_ge (by omega) (by omega)) (mc_y_serial hT hs h3 hq R hC (by omega) hj1 hj2 ?_)
      intro cm'
      simp (disch := omega) only [nI_clamp, mc_m16, mc_m48, mc_m3, mc_vin, nI_add, nI_1, true_and, forall_eq, hj3]
      refine br_t (mc_le0 (by omega)) (ih (i + 1) cm' _ (by omega) (by omega) fun q hq' => ?_)
      by_cases eq : q = i
      · subst eq; rw [pk_us]
      · rw [pk_un eq]; exact hI q (by omega)
end
theorem i_vc_serialize {k : Nat} {u : SX} {v : SY} (I : i_Rel k u v) (hk : k + 5 ≤ 2564) : wpX_serialize (fun r u' => wpY_serialize (fun r' v' => r' = r ∧ i_Rel (k + 5) u' v') v) u := by
  refine I (fun u v => wpX_serialize (fun r u' => wpY_serialize (fun r' v' => r' = r ∧ i_Rel (k + 5) u' v') v) u) ?_
  intro T C V L n lf fu ff sl vd ln op ar ini xm kd mv ds oP oL ce ac pc ph he rT rP su uc ou od sc bf af ym cl sn fr cm yo R
  have ⟨P, hsl, hR, hM, hA⟩ := R
  have hT := P.1.2
  have hn := hR.1
  unfold wpX_serialize
  by_cases hs : sl = 0
  · refine br_t hs ?_
    unfold wpY_serialize wpY_quiet
    exact br_t hs (br_t rfl ⟨rfl, mc_in R⟩)
  · refine br_f hs (mc_x_out hT (fun hq => br_f mc_n10 ?_) (fun hq => br_t rfl ?_))
    · have hC := mc_CF_ex hR hq
      refine mc_x_fill hn hC ?_
      intro od' hOD
      obtain ⟨τ, hτ⟩ : ∃ τ : Nat → Nat, ∀ q, q < n → τ q < T ∧ ∃ j, j < n ∧ mc_rk (fun i => (uc (su i).toNatClampNeg).toNatClampNeg) n j = q ∧ od' q = nI j ∧ rT j = nI (τ q) := by
        refine ⟨fun q => (rT (od' q).toNatClampNeg).toNatClampNeg, fun q hq' => ?_⟩
        obtain ⟨j, hj, hr, ej⟩ := hOD q hq'
        obtain ⟨t, u, ht, e1, -⟩ := hR.2.1 j hj
        have et : (rT (od' q).toNatClampNeg).toNatClampNeg = t := by
          rw [ej, nI_clamp (by omega), e1, nI_clamp (by omega)]
        dsimp only
        rw [et]
        exact ⟨ht, j, hj, hr, ej, e1⟩
      have R0 : mc_R T C V L 0 lf sl vd ln op ar xm kd mv oP oL (mc_z 3 pc) (mc_z 3 ph) (mc_z 9 he) rT su uc ou bf af ym cl := ⟨P, hsl, mc_RN_0 (fun t ht => mc_z_lt (by omega)), mc_MC_0 hT P.2.2.2.1.2, hA⟩
      obtain ⟨r, n', ce', ac', pc', ph', he', rT', rP', su', uc', ou', bf', af', R', iX, iY⟩ := mc_serL (fu := fu) (ff := ff) (ini := ini) (ds := ds) hs hn (fun q hq' => (hτ q hq').1) (n - 0) 0 (mc_cp 4 ini ce) (mc_z 3 ac) (mc_z 3 pc) (mc_z 3 ph) (mc_z 9 he) rT rP su uc ou bf af rfl (by omega) R0
      refine ⟨n + 1, mc_x_s27 hn (fun q hq' => ?_) (fun sc' hsc => iX od' sc' hsc _ ?_) (n + 1) 0 sc (by omega) (by omega) (fun q hq' => absurd hq' (by omega))⟩
      · obtain ⟨_, j, h1, h2, h3, h4⟩ := hτ q hq'
        exact ⟨j, h1, h3, h4⟩
      · unfold wpY_serialize
        refine mc_y_quiet hT hs hM.2.2.1 (fun _ => br_f mc_n10 ⟨n + 1, ?_⟩) (fun z => absurd hq z)
        refine mc_y_s16 hT hs hM.2.2.1 hq hR hC (fun q hq' => ?_) (fun cm' yo' hyo => iY sn fr cm' yo' hyo _ ⟨rfl, mc_in R'⟩) (n + 1) 0 cm yo (by omega) (by omega) (fun q hq' => absurd hq' (by omega))
        obtain ⟨_, j, h1, h2, h3, h4⟩ := hτ q hq'
        exact ⟨j, h1, h2, h4⟩
    · unfold wpY_serialize
      exact mc_y_quiet hT hs hM.2.2.1 (fun z => absurd z hq) (fun _ => br_t rfl ⟨rfl, mc_in R⟩)
end
