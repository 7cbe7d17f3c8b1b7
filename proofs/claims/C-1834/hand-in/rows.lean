section
/-! from kit/rows: pk_us .. pk_cl, pk_least -/
theorem pk_us {f : Nat → Int32} {k : Nat} {x : Int32} : upd f k x k = x := if_pos rfl
theorem pk_un {f : Nat → Int32} {k j : Nat} {x : Int32} (h : j ≠ k) : upd f k x j = f j := if_neg h
theorem pk_sub {a b : Nat} (h : b ≤ a) : nI a - nI b = nI (a - b) := by
  obtain ⟨c, rfl⟩ : ∃ c, a = c + b := ⟨a - b, by omega⟩
  rw [← nI_add, Int32.add_sub_cancel, Nat.add_sub_cancel]
theorem pk_m1 (n : Nat) : nI (n + 1) + (-1) = nI n := by
  rw [← nI_1, Int32.add_assoc, show (1 : Int32) + (-1) = 0 from rfl, Int32.add_zero]
theorem pk_le {x y : Int32} {A B : Prop} (a b : Nat) (f : a ≤ b → A) (g : b < a → B) (hx : x = nI a := by rfl) (hy : y = nI b := by rfl) (ha : a < 2 ^ 31 := by omega) (hb : b < 2 ^ 31 := by omega) : (x ≤ y → A) ∧ (¬ x ≤ y → B) := by
  subst hx hy
  rw [nI_leI ha hb]
  exact ⟨f, fun z => g (by omega)⟩
theorem pk_lt {x y : Int32} {A B : Prop} (a b : Nat) (f : a < b → A) (g : b ≤ a → B) (hx : x = nI a := by rfl) (hy : y = nI b := by rfl) (ha : a < 2 ^ 31 := by omega) (hb : b < 2 ^ 31 := by omega) : (x < y → A) ∧ (¬ x < y → B) := by
  subst hx hy
  rw [nI_ltI ha hb]
  exact ⟨f, fun z => g (by omega)⟩
theorem pk_eq {x y : Int32} {A B : Prop} (a b : Nat) (f : a = b → A) (g : a ≠ b → B) (hx : x = nI a := by rfl) (hy : y = nI b := by rfl) (ha : a < 2 ^ 31 := by omega) (hb : b < 2 ^ 31 := by omega) : (x = y → A) ∧ (¬ x = y → B) := by
  subst hx hy
  rw [nI_eq ha hb]
  exact ⟨f, g⟩
theorem pk_in {x : Int32} (n N : Nat) (h : n < N) (hx : x = nI n := by rfl) (hN : N < 2 ^ 31 := by omega) : vp_in x N := by
  subst hx
  exact vp_in_nI h hN
theorem pk_cl {x : Int32} (n : Nat) (hx : x = nI n := by rfl) (h : n < 2 ^ 31 := by omega) : x.toNatClampNeg = n := by
  subst hx
  exact nI_clamp h
theorem pk_least (P : Nat → Prop) (h : ∃ k, P k) : ∃ k, P k ∧ ∀ j, j < k → ¬ P j := by
  obtain ⟨k, hk⟩ := h
  induction k using Nat.strongRecOn with
  | ind k ih =>
    by_cases e : ∃ j, j < k ∧ P j
    · obtain ⟨j, hj, pj⟩ := e
      exact ih j hj pj
    · exact ⟨k, hk, fun j hj pj => e ⟨j, hj, pj⟩⟩
/-! small numbers -/
theorem dt_16t {j : Nat} (h : 16 ≤ j) (hj : j < 2 ^ 31) : (16 : Int32) ≤ nI j := nI_le (a := 16) h hj
theorem dt_16f {j : Nat} (h : j < 16) : ¬ (16 : Int32) ≤ nI j := nI_ge (b := 16) h (by decide)
theorem dt_15t {j : Nat} (h : 15 ≤ j) (hj : j < 2 ^ 31) : (15 : Int32) ≤ nI j := nI_le (a := 15) h hj
theorem dt_15f {j : Nat} (h : j < 15) : ¬ (15 : Int32) ≤ nI j := nI_ge (b := 15) h (by decide)
theorem dt_15l {j : Nat} (h : j < 16) : ¬ (15 : Int32) < nI j := nI_nlt (b := j) (a := 15) (by omega) (by decide)
theorem dt_m1 : (-1 : Int32) < 0 := by decide
theorem dt_m1' : ¬ (0 : Int32) ≤ -1 := by decide
theorem dt_nm1 {a : Nat} (h : a < 2 ^ 31) : ¬ nI a = -1 := fun e => nI_pos h (by rw [e]; exact dt_m1)
theorem dt_at (f : Nat → Int32) {j : Nat} (h : j < 2 ^ 31) : f (nI j).toNatClampNeg = f j := by rw [nI_clamp h]
theorem dt_in {j : Nat} (h : j < 16) : vp_in (nI j) 16 := vp_in_nI h (by decide)
theorem dt_pred {a : Nat} (h : 1 ≤ a) : nI a - 1 = nI (a - 1) := pk_sub (b := 1) h
theorem dt_10 : ¬ (1 : Int32) = 0 := by decide
theorem dt_b1 : vp_nar .boolean 1 = 1 := rfl
theorem dt_b0 : vp_nar .boolean 0 = 0 := rfl
/-- an argument as a slot -/
theorem dt_arg (v : Int32) : v < 0 ∨ (¬ v < 0 ∧ 15 < v) ∨ ∃ s : Nat, s < 16 ∧ v = nI s := by
  by_cases h : v < 0
  · exact Or.inl h
  · obtain ⟨j, hj, rfl⟩ := nI_of h
    by_cases h2 : j < 16
    · exact Or.inr (Or.inr ⟨j, h2, rfl⟩)
    · exact Or.inr (Or.inl ⟨h, nI_lt (a := 15) (by omega) hj⟩)
/-! counts -/
noncomputable def dt_b (P : Prop) : Nat := @ite Nat P (Classical.propDecidable P) 1 0
theorem dt_bt {P : Prop} (h : P) : dt_b P = 1 := by unfold dt_b; rw [if_pos h]
theorem dt_bf {P : Prop} (h : ¬ P) : dt_b P = 0 := by unfold dt_b; rw [if_neg h]
noncomputable def dt_cn (P : Nat → Prop) : Nat → Nat
  | 0 => 0
  | n + 1 => dt_cn P n + dt_b (P n)
theorem dt_cnt {P : Nat → Prop} {n : Nat} (h : P n) : dt_cn P (n + 1) = dt_cn P n + 1 := by
  show dt_cn P n + dt_b (P n) = _
  rw [dt_bt h]
theorem dt_cnf {P : Nat → Prop} {n : Nat} (h : ¬ P n) : dt_cn P (n + 1) = dt_cn P n := by
  show dt_cn P n + dt_b (P n) = _
  rw [dt_bf h, Nat.add_zero]
theorem dt_cn_s (P : Nat → Prop) (n : Nat) : dt_cn P n ≤ dt_cn P (n + 1) ∧ dt_cn P (n + 1) ≤ dt_cn P n + 1 := by
  by_cases p : P n
  · rw [dt_cnt p]; omega
  · rw [dt_cnf p]; omega
theorem dt_cn_le (P : Nat → Prop) : ∀ n, dt_cn P n ≤ n := by
  intro n
  induction n with
  | zero => exact Nat.le_refl 0
  | succ n ih => have := dt_cn_s P n; omega
theorem dt_cn_eq {P Q : Nat → Prop} : ∀ {n : Nat}, (∀ i, i < n → (P i ↔ Q i)) → dt_cn P n = dt_cn Q n := by
  intro n
  induction n with
  | zero => exact fun _ => rfl
  | succ n ih =>
    intro h
    have e := ih fun i hi => h i (by omega)
    have hn := h n (by omega)
    by_cases p : P n
    · rw [dt_cnt p, dt_cnt (hn.mp p), e]
    · rw [dt_cnf p, dt_cnf (fun q => p (hn.mpr q)), e]
theorem dt_cn_0 {P : Nat → Prop} : ∀ {n : Nat}, (∀ i, i < n → ¬ P i) → dt_cn P n = 0 := by
  intro n
  induction n with
  | zero => exact fun _ => rfl
  | succ n ih =>
    intro h
    rw [dt_cnf (h n (by omega)), ih fun i hi => h i (by omega)]
theorem dt_cn_all {P : Nat → Prop} : ∀ {n : Nat}, (∀ i, i < n → P i) → dt_cn P n = n := by
  intro n
  induction n with
  | zero => exact fun _ => rfl
  | succ n ih =>
    intro h
    rw [dt_cnt (h n (by omega)), ih fun i hi => h i (by omega)]
theorem dt_cn_pos {P : Nat → Prop} {i : Nat} (p : P i) : ∀ {n : Nat}, i < n → 0 < dt_cn P n := by
  intro n
  induction n with
  | zero => intro h; omega
  | succ n ih =>
    intro h
    have := dt_cn_s P n
    by_cases e : i = n
    · subst e
      rw [dt_cnt p]; omega
    · have := ih (by omega)
      omega
theorem dt_cn_ext {P : Nat → Prop} {e : Nat} : ∀ {n : Nat}, e ≤ n → (∀ j, e ≤ j → j < n → ¬ P j) → dt_cn P n = dt_cn P e := by
  intro n
  induction n with
  | zero => intro h _; rw [show e = 0 by omega]
  | succ n ih =>
    intro h k
    by_cases c : e = n + 1
    · rw [c]
    · rw [dt_cnf (k n (by omega) (by omega)), ih (by omega) fun j a b => k j a (by omega)]
theorem dt_cn_ins {P Q : Nat → Prop} {a : Nat} (hp : ¬ P a) (hq : Q a) : ∀ {n : Nat}, a < n → (∀ i, i < n → i ≠ a → (P i ↔ Q i)) → dt_cn Q n = dt_cn P n + 1 := by
  intro n
  induction n with
  | zero => intro h; omega
  | succ n ih =>
    intro ha h
    by_cases e : a = n
    · subst e
      rw [dt_cnt hq, dt_cnf hp, dt_cn_eq fun i hi => h i (by omega) (by omega)]
    · have r := ih (by omega) (fun i hi => h i (by omega))
      have hn := h n (by omega) (by omega)
      by_cases p : P n
      · rw [dt_cnt p, dt_cnt (hn.mp p), r]
      · rw [dt_cnf p, dt_cnf (fun q => p (hn.mpr q)), r]
theorem dt_cn_inl {P Q : Nat → Prop} {a : Nat} : ∀ {n : Nat}, (∀ i, i < n → i ≠ a → (P i ↔ Q i)) → dt_cn Q n ≤ dt_cn P n + 1 := by
  intro n
  induction n with
  | zero => intro _; exact Nat.zero_le _
  | succ n ih =>
    intro h
    by_cases e : a = n
    · have r := dt_cn_eq (P := P) (Q := Q) fun i (hi : i < n) => h i (by omega) (by omega)
      have := dt_cn_s P n
      have := dt_cn_s Q n
      omega
    · have r := ih (fun i hi => h i (by omega))
      have hn := h n (by omega) (by omega)
      by_cases p : P n
      · rw [dt_cnt p, dt_cnt (hn.mp p)]; omega
      · rw [dt_cnf p, dt_cnf (fun q => p (hn.mpr q))]; omega
theorem dt_cn_img {sl : Nat → Nat} {Q : Nat → Prop} {m : Nat} : ∀ {n : Nat}, (∀ i, i < n → sl i < m) → (∀ i j, i < n → j < n → sl i = sl j → i = j) → dt_cn (fun s => ∃ j, j < n ∧ sl j = s ∧ Q j) m = dt_cn Q n := by
  intro n
  induction n with
  | zero => intro _ _; exact dt_cn_0 fun s _ h => by obtain ⟨j, hj, _⟩ := h; exact absurd hj (Nat.not_lt_zero j)
  | succ n ih =>
    intro h16 hj
    have r := ih (fun i hi => h16 i (by omega)) (fun i j a b => hj i j (by omega) (by omega))
    by_cases q : Q n
    · rw [dt_cnt q, ← r]
      refine dt_cn_ins (a := sl n) ?_ ⟨n, by omega, rfl, q⟩ (h16 n (by omega)) ?_
      · rintro ⟨j, a, b, _⟩
        have := hj j n (by omega) (by omega) b
        omega
      · intro i hi ne
        constructor
        · rintro ⟨j, a, b, c⟩
          exact ⟨j, by omega, b, c⟩
        · rintro ⟨j, a, b, c⟩
          by_cases e : j = n
          · rw [e] at b; exact absurd b.symm ne
          · exact ⟨j, by omega, b, c⟩
    · rw [dt_cnf q, ← r]
      refine dt_cn_eq fun i hi => ⟨?_, ?_⟩
      · rintro ⟨j, a, b, c⟩
        by_cases e : j = n
        · rw [e] at c; exact absurd c q
        · exact ⟨j, by omega, b, c⟩
      · rintro ⟨j, a, b, c⟩
        exact ⟨j, by omega, b, c⟩
theorem dt_pig {g : Nat → Nat} {Q : Nat → Prop} {N : Nat} : ∀ m : Nat, dt_cn (fun p => ∃ s, s < m ∧ g s = p ∧ Q s) N ≤ dt_cn Q m := by
  intro m
  induction m with
  | zero =>
    rw [dt_cn_0 fun s _ h => by obtain ⟨j, hj, _⟩ := h; exact absurd hj (Nat.not_lt_zero j)]
    exact Nat.zero_le _
  | succ m ih =>
    by_cases q : Q m
    · rw [dt_cnt q]
      refine Nat.le_trans (dt_cn_inl (P := fun p => ∃ s, s < m ∧ g s = p ∧ Q s) (a := g m) ?_) (Nat.succ_le_succ ih)
      intro i hi ne
      constructor
      · rintro ⟨j, a, b, c⟩
        exact ⟨j, by omega, b, c⟩
      · rintro ⟨j, a, b, c⟩
        by_cases e : j = m
        · rw [e] at b; exact absurd b.symm ne
        · exact ⟨j, by omega, b, c⟩
    · rw [dt_cnf q]
      refine Nat.le_trans (Nat.le_of_eq (dt_cn_eq fun i hi => ⟨?_, ?_⟩)) ih
      · rintro ⟨j, a, b, c⟩
        by_cases e : j = m
        · rw [e] at c; exact absurd c q
        · exact ⟨j, by omega, b, c⟩
      · rintro ⟨j, a, b, c⟩
        exact ⟨j, by omega, b, c⟩
theorem dt_cn_int {i e : Nat} : ∀ n, n ≤ e → dt_cn (fun j => i < j ∧ j < e) n = n - (i + 1) := by
  intro n
  induction n with
  | zero => intro _; exact (Nat.zero_sub _).symm
  | succ n ih =>
    intro h
    have r := ih (by omega)
    by_cases c : i < n
    · rw [dt_cnt (P := fun j => i < j ∧ j < e) ⟨c, by omega⟩, r]; omega
    · rw [dt_cnf (P := fun j => i < j ∧ j < e) (fun z => c z.1), r]; omega
/-- a free slot leaves a piece without a key -/
theorem dt_freeP {pX : Nat → Int32} {to : Nat} (ht : to < 16) (h : pX to = -1) : ∃ q, (q < 16 ∧ dt_cn (fun s => pX s = nI q) 16 = 0) ∧ ∀ j, j < q → ¬ (j < 16 ∧ dt_cn (fun s => pX s = nI j) 16 = 0) := by
  refine pk_least _ ?_
  refine Classical.byContradiction fun no => ?_
  have A : dt_cn (fun p => ∃ s, s < 16 ∧ (pX s).toNatClampNeg = p ∧ s ≠ to) 16 = 16 := by
    refine dt_cn_all fun p hp => ?_
    refine Classical.byContradiction fun z => no ⟨p, hp, dt_cn_0 fun s hs e => z ⟨s, hs, ?_, ?_⟩⟩
    · rw [e]; exact nI_clamp (by omega)
    · intro st
      rw [st, h] at e
      exact dt_nm1 (by omega) e.symm
  have B := dt_pig (g := fun s => (pX s).toNatClampNeg) (Q := fun s => s ≠ to) (N := 16) 16
  have C := dt_cn_ins (P := fun s => s ≠ to) (Q := fun _ => True) (a := to) (fun z => z rfl) trivial (n := 16) ht (fun i _ ne => ⟨fun _ => trivial, fun _ => ne⟩)
  rw [dt_cn_all (P := fun _ => True) fun _ _ => trivial] at C
  rw [A] at B
  omega
end
section
/-! the row of keys: slots sl, depths dp; the parents pa of the other side -/
def dt_Ro (n : Nat) (sl : Nat → Nat) : Prop := (∀ i, i < n → sl i < 16) ∧ ∀ i j, i < n → j < n → sl i = sl j → i = j
def dt_Pa (n : Nat) (sl dp : Nat → Nat) (pa : Nat → Int32) : Prop :=
  ∀ i, i < n → (dp i = 0 ∧ pa (sl i) = -1) ∨ ∃ j, j < i ∧ pa (sl i) = nI (sl j) ∧ dp i = dp j + 1 ∧ ∀ k, j < k → k < i → dp i ≤ dp k
def dt_De (dp : Nat → Nat) (i j : Nat) : Prop := i < j ∧ ∀ k, i < k → k ≤ j → dp i < dp k
def dt_En (n : Nat) (dp : Nat → Nat) (i e : Nat) : Prop := i < e ∧ e ≤ n ∧ (∀ k, i < k → k < e → dp i < dp k) ∧ (e < n → dp e ≤ dp i)
/-- the slots of the part behind i, down to j -/
def dt_Pt (sl : Nat → Nat) (i j s : Nat) : Prop := ∃ k, (i < k ∧ k < j) ∧ sl k = s
def dt_In (n : Nat) (sl : Nat → Nat) (s : Nat) : Prop := ∃ j, j < n ∧ sl j = s
theorem dt_sl16 {n : Nat} {sl : Nat → Nat} (R : dt_Ro n sl) {i : Nat} (h : i < n) : sl i < 2 ^ 31 := Nat.lt_trans (R.1 i h) (by decide)
theorem dt_sleq {n : Nat} {sl : Nat → Nat} (R : dt_Ro n sl) {i j : Nat} (hi : i < n) (hj : j < n) : nI (sl i) = nI (sl j) ↔ i = j :=
  ⟨fun e => R.2 i j hi hj ((nI_eq (dt_sl16 R hi) (dt_sl16 R hj)).mp e), fun e => by rw [e]⟩
theorem dt_De_up {dp : Nat → Nat} {i j p : Nat} (hp : p < j) (hd : dp j = dp p + 1) (hb : ∀ k, p < k → k < j → dp j ≤ dp k) : dt_De dp i j ↔ i = p ∨ dt_De dp i p := by
  constructor
  · rintro ⟨a, b⟩
    have c := b j a (Nat.le_refl j)
    by_cases e : i = p
    · exact Or.inl e
    · by_cases l : p < i
      · have := hb i l a
        omega
      · exact Or.inr ⟨by omega, fun k x y => b k x (by omega)⟩
  · rintro (e | ⟨a, b⟩)
    · subst e
      refine ⟨hp, fun k x y => ?_⟩
      by_cases z : k = j
      · subst z; omega
      · have := hb k x (by omega)
        omega
    · have c := b p a (Nat.le_refl p)
      refine ⟨by omega, fun k x y => ?_⟩
      by_cases l : k ≤ p
      · exact b k x l
      · by_cases z : k = j
        · subst z; omega
        · have := hb k (by omega) (by omega)
          omega
theorem dt_De_0 {dp : Nat → Nat} {i j : Nat} (h : dp j = 0) : ¬ dt_De dp i j := by
  rintro ⟨a, b⟩
  have := b j a (Nat.le_refl j)
  omega
theorem dt_dp_le {n : Nat} {sl dp : Nat → Nat} {pa : Nat → Int32} (P : dt_Pa n sl dp pa) : ∀ i, i < n → dp i ≤ i := by
  intro i
  induction i using Nat.strongRecOn with
  | ind i ih =>
    intro hi
    rcases P i hi with ⟨d0, _⟩ | ⟨j, hj, _, hd, _⟩
    · omega
    · have := ih j hj (by omega)
      omega
theorem dt_En_ex {n : Nat} (dp : Nat → Nat) {i : Nat} (hi : i < n) : ∃ e, dt_En n dp i e := by
  obtain ⟨e, ⟨a, b⟩, c⟩ := pk_least (fun e => i < e ∧ (e = n ∨ dp e ≤ dp i)) ⟨n, hi, Or.inl rfl⟩
  have en : e ≤ n := by
    by_cases h : e ≤ n
    · exact h
    · exact absurd ⟨hi, Or.inl rfl⟩ (c n (by omega))
  refine ⟨e, a, en, fun k x y => ?_, fun l => ?_⟩
  · have q : ¬ (k = n ∨ dp k ≤ dp i) := fun z => c k y ⟨x, z⟩
    omega
  · rcases b with b | b
    · omega
    · exact b
theorem dt_En_De {n : Nat} {dp : Nat → Nat} {i e j : Nat} (E : dt_En n dp i e) (hj : j < n) : dt_De dp i j ↔ i < j ∧ j < e := by
  obtain ⟨h1, h2, h3, h4⟩ := E
  constructor
  · rintro ⟨a, b⟩
    refine ⟨a, ?_⟩
    by_cases l : j < e
    · exact l
    · have := b e h1 (by omega)
      have := h4 (by omega)
      omega
  · rintro ⟨a, b⟩
    exact ⟨a, fun k x y => h3 k x (by omega)⟩
/-- the children of place i -/
theorem dt_child {n : Nat} {sl dp : Nat → Nat} {pa : Nat → Int32} {i e j : Nat} (R : dt_Ro n sl) (P : dt_Pa n sl dp pa) (E : dt_En n dp i e) (hi : i < n) (hj : j < n) : pa (sl j) = nI (sl i) ↔ (i < j ∧ j < e) ∧ dp j = dp i + 1 := by
  rcases P j hj with ⟨d0, p0⟩ | ⟨j', hj', hp, hd, hb⟩
  · constructor
    · intro z
      exact absurd (z.symm.trans p0) (dt_nm1 (dt_sl16 R hi))
    · rintro ⟨_, z⟩
      omega
  · rw [hp, dt_sleq R (by omega) hi]
    have D := dt_En_De E hj
    rw [dt_De_up hj' hd hb] at D
    constructor
    · intro z
      exact ⟨D.mp (Or.inl z.symm), by rw [hd, z]⟩
    · rintro ⟨a, b⟩
      rcases D.mpr a with z | z
      · exact z.symm
      · have := z.2 j' z.1 (Nat.le_refl _)
        omega
/-- what stands behind the part has its parent outside of it -/
theorem dt_out {n : Nat} {dp : Nat → Nat} {i e o j : Nat} (E : dt_En n dp i e) (ho : e ≤ o) (hn : o < n) (hd : dp o = dp j + 1) (hb : ∀ k, j < k → k < o → dp o ≤ dp k) (hj : j < o) : (j < i ∧ dp o ≤ dp i) ∨ e ≤ j := by
  obtain ⟨h1, h2, h3, h4⟩ := E
  have h5 := h4 (by omega)
  by_cases a : e ≤ j
  · exact Or.inr a
  · have q : dp o ≤ dp e := by
      by_cases z : e = o
      · rw [z]; exact Nat.le_refl _
      · exact hb e (by omega) (by omega)
    have l : j < i := by
      by_cases y : j < i
      · exact y
      · by_cases x : i = j
        · subst x; omega
        · have := h3 j (by omega) (by omega)
          omega
    exact Or.inl ⟨l, by omega⟩
/-! a new key -/
theorem dt_ixp {n i : Nat} {j : Nat} (h : j < n + 1) : j ≤ i ∨ j = i + 1 ∨ ∃ o, i < o ∧ o < n ∧ j = o + 1 := by
  by_cases a : j ≤ i
  · exact Or.inl a
  · by_cases b : j = i + 1
    · exact Or.inr (Or.inl b)
    · exact Or.inr (Or.inr ⟨j - 1, by omega, by omega, by omega⟩)
theorem dt_putR {n i to : Nat} {sl sl' : Nat → Nat} (R : dt_Ro n sl) (hi : i < n) (ht : ∀ j, j < n → sl j ≠ to) (h16 : to < 16)
    (s1 : ∀ j, j ≤ i → sl' j = sl j) (s2 : sl' (i + 1) = to) (s3 : ∀ j, i < j → j < n → sl' (j + 1) = sl j) : dt_Ro (n + 1) sl' := by
  constructor
  · intro j hj
    rcases dt_ixp (i := i) hj with h | rfl | ⟨o, h, h', rfl⟩
    · rw [s1 j h]; exact R.1 j (by omega)
    · rw [s2]; exact h16
    · rw [s3 o h h']; exact R.1 o h'
  · intro a b ha hb e
    rcases dt_ixp (i := i) ha with h | rfl | ⟨o, h, h', rfl⟩
    · rcases dt_ixp (i := i) hb with g | rfl | ⟨p, g, g', rfl⟩
      · rw [s1 a h, s1 b g] at e
        exact R.2 a b (by omega) (by omega) e
      · rw [s1 a h, s2] at e
        exact absurd e (ht a (by omega))
      · rw [s1 a h, s3 p g g'] at e
        have := R.2 a p (by omega) g' e
        omega
    · rcases dt_ixp (i := i) hb with g | rfl | ⟨p, g, g', rfl⟩
      · rw [s1 b g, s2] at e
        exact absurd e.symm (ht b (by omega))
      · rfl
      · rw [s2, s3 p g g'] at e
        exact absurd e.symm (ht p g')
    · rcases dt_ixp (i := i) hb with g | rfl | ⟨p, g, g', rfl⟩
      · rw [s1 b g, s3 o h h'] at e
        have := R.2 o b h' (by omega) e
        omega
      · rw [s2, s3 o h h'] at e
        exact absurd e (ht o h')
      · rw [s3 o h h', s3 p g g'] at e
        have := R.2 o p h' g' e
        omega
theorem dt_putI {n i to : Nat} {sl sl' : Nat → Nat} (hi : i < n)
    (s1 : ∀ j, j ≤ i → sl' j = sl j) (s2 : sl' (i + 1) = to) (s3 : ∀ j, i < j → j < n → sl' (j + 1) = sl j) (s : Nat) : dt_In (n + 1) sl' s ↔ s = to ∨ dt_In n sl s := by
  constructor
  · rintro ⟨j, hj, e⟩
    rcases dt_ixp (i := i) hj with h | rfl | ⟨o, h, h', rfl⟩
    · exact Or.inr ⟨j, by omega, by rw [← s1 j h]; exact e⟩
    · exact Or.inl (by rw [← e, s2])
    · exact Or.inr ⟨o, h', by rw [← s3 o h h']; exact e⟩
  · rintro (e | ⟨j, hj, e⟩)
    · exact ⟨i + 1, by omega, by rw [s2, e]⟩
    · by_cases h : j ≤ i
      · exact ⟨j, by omega, by rw [s1 j h]; exact e⟩
      · exact ⟨j + 1, by omega, by rw [s3 j (by omega) hj]; exact e⟩
theorem dt_putP {n i to : Nat} {sl sl' dp dp' : Nat → Nat} {pa pa' : Nat → Int32} (P : dt_Pa n sl dp pa) (hi : i < n) (ht : ∀ j, j < n → sl j ≠ to)
    (s1 : ∀ j, j ≤ i → sl' j = sl j) (s2 : sl' (i + 1) = to) (s3 : ∀ j, i < j → j < n → sl' (j + 1) = sl j)
    (d1 : ∀ j, j ≤ i → dp' j = dp j) (d2 : dp' (i + 1) = dp i + 1) (d3 : ∀ j, i < j → j < n → dp' (j + 1) = dp j)
    (q1 : pa' to = nI (sl i)) (q2 : ∀ s, s ≠ to → pa' s = pa s) : dt_Pa (n + 1) sl' dp' pa' := by
  intro j hj
  rcases dt_ixp (i := i) hj with h | rfl | ⟨o, h, h', rfl⟩
  · have hjn : j < n := by omega
    rw [d1 j h, s1 j h, q2 _ (ht j hjn)]
    rcases P j hjn with c | ⟨j', hj', hp, hd, hb⟩
    · exact Or.inl c
    · refine Or.inr ⟨j', hj', ?_, ?_, fun k x y => ?_⟩
      · rw [s1 j' (by omega)]; exact hp
      · rw [d1 j' (by omega)]; exact hd
      · rw [d1 k (by omega)]; exact hb k x y
  · refine Or.inr ⟨i, by omega, ?_, ?_, fun k x y => by omega⟩
    · rw [s2, q1, s1 i (Nat.le_refl i)]
    · rw [d2, d1 i (Nat.le_refl i)]
  · rw [d3 o h h', s3 o h h', q2 _ (ht o h')]
    rcases P o h' with c | ⟨j', hj', hp, hd, hb⟩
    · exact Or.inl c
    · by_cases c : j' ≤ i
      · refine Or.inr ⟨j', by omega, ?_, ?_, fun k x y => ?_⟩
        · rw [s1 j' c]; exact hp
        · rw [d1 j' c]; exact hd
        · rcases dt_ixp (i := i) (show k < n + 1 by omega) with g | rfl | ⟨p, g, g', rfl⟩
          · rw [d1 k g]; exact hb k x (by omega)
          · rw [d2]
            by_cases z : j' = i
            · rw [hd, z]; exact Nat.le_refl _
            · have := hb i (by omega) h
              omega
          · rw [d3 p g g']; exact hb p (by omega) (by omega)
      · refine Or.inr ⟨j' + 1, by omega, ?_, ?_, fun k x y => ?_⟩
        · rw [s3 j' (by omega) (by omega)]; exact hp
        · rw [d3 j' (by omega) (by omega)]; exact hd
        · rcases dt_ixp (i := i) (show k < n + 1 by omega) with g | g | ⟨p, g, g', rfl⟩
          · omega
          · omega
          · rw [d3 p g g']; exact hb p (by omega) (by omega)
/-! a moved key -/
theorem dt_movR {n i to : Nat} {sl sl' : Nat → Nat} (R : dt_Ro n sl) (ht : ∀ j, j < n → sl j ≠ to) (h16 : to < 16)
    (s1 : ∀ j, j ≠ i → sl' j = sl j) (s2 : sl' i = to) : dt_Ro n sl' := by
  constructor
  · intro j hj
    by_cases c : j = i
    · rw [c, s2]; exact h16
    · rw [s1 j c]; exact R.1 j hj
  · intro a b ha hb e
    by_cases c : a = i
    · by_cases d : b = i
      · rw [c, d]
      · rw [c, s2, s1 b d] at e
        exact absurd e.symm (ht b hb)
    · by_cases d : b = i
      · rw [d, s2, s1 a c] at e
        exact absurd e (ht a ha)
      · rw [s1 a c, s1 b d] at e
        exact R.2 a b ha hb e
theorem dt_movI {n i to : Nat} {sl sl' : Nat → Nat} (R : dt_Ro n sl) (hi : i < n)
    (s1 : ∀ j, j ≠ i → sl' j = sl j) (s2 : sl' i = to) (s : Nat) : dt_In n sl' s ↔ s = to ∨ (s ≠ sl i ∧ dt_In n sl s) := by
  constructor
  · rintro ⟨j, hj, e⟩
    by_cases c : j = i
    · rw [c, s2] at e; exact Or.inl e.symm
    · rw [s1 j c] at e
      refine Or.inr ⟨fun z => c (R.2 j i hj hi (e.trans z)), j, hj, e⟩
  · rintro (e | ⟨ne, j, hj, e⟩)
    · exact ⟨i, hi, by rw [s2, e]⟩
    · have c : j ≠ i := fun z => ne (by rw [← e, z])
      exact ⟨j, hj, by rw [s1 j c]; exact e⟩
theorem dt_movP {n i to : Nat} {sl sl' dp : Nat → Nat} {pa pa' : Nat → Int32} (R : dt_Ro n sl) (P : dt_Pa n sl dp pa) (hi : i < n)
    (s1 : ∀ j, j ≠ i → sl' j = sl j) (s2 : sl' i = to) (q1 : pa' to = pa (sl i))
    (q2 : ∀ j, j < n → j ≠ i → pa (sl j) = nI (sl i) → pa' (sl j) = nI to) (q3 : ∀ j, j < n → j ≠ i → ¬ pa (sl j) = nI (sl i) → pa' (sl j) = pa (sl j)) : dt_Pa n sl' dp pa' := by
  intro j hj
  by_cases c : j = i
  · subst c
    rcases P j hj with ⟨d0, p0⟩ | ⟨j', hj', hp, hd, hb⟩
    · exact Or.inl ⟨d0, by rw [s2, q1, p0]⟩
    · exact Or.inr ⟨j', hj', by rw [s2, q1, hp, s1 j' (by omega)], hd, hb⟩
  · rw [s1 j c]
    rcases P j hj with ⟨d0, p0⟩ | ⟨j', hj', hp, hd, hb⟩
    · refine Or.inl ⟨d0, ?_⟩
      rw [q3 j hj c (fun z => dt_nm1 (dt_sl16 R hi) (z.symm.trans p0)), p0]
    · by_cases c' : j' = i
      · subst c'
        exact Or.inr ⟨j', hj', by rw [q2 j hj c hp, s2], hd, hb⟩
      · refine Or.inr ⟨j', hj', ?_, hd, hb⟩
        rw [q3 j hj c (fun z => c' ((dt_sleq R (by omega) hi).mp (hp.symm.trans z))), hp, s1 j' c']
/-! a deleted key -/
theorem dt_ixd {n i : Nat} {j : Nat} (h : j < n - 1) : j < i ∨ ∃ o, i < o ∧ o < n ∧ j = o - 1 := by
  by_cases a : j < i
  · exact Or.inl a
  · exact Or.inr ⟨j + 1, by omega, by omega, by omega⟩
theorem dt_delR {n i : Nat} {sl sl' : Nat → Nat} (R : dt_Ro n sl) (hi : i < n)
    (s1 : ∀ j, j < i → sl' j = sl j) (s2 : ∀ o, i < o → o < n → sl' (o - 1) = sl o) : dt_Ro (n - 1) sl' := by
  constructor
  · intro j hj
    rcases dt_ixd (i := i) hj with h | ⟨o, h, h', rfl⟩
    · rw [s1 j h]; exact R.1 j (by omega)
    · rw [s2 o h h']; exact R.1 o h'
  · intro a b ha hb e
    rcases dt_ixd (i := i) ha with h | ⟨o, h, h', rfl⟩
    · rcases dt_ixd (i := i) hb with g | ⟨p, g, g', rfl⟩
      · rw [s1 a h, s1 b g] at e
        exact R.2 a b (by omega) (by omega) e
      · rw [s1 a h, s2 p g g'] at e
        have := R.2 a p (by omega) g' e
        omega
    · rcases dt_ixd (i := i) hb with g | ⟨p, g, g', rfl⟩
      · rw [s1 b g, s2 o h h'] at e
        have := R.2 o b h' (by omega) e
        omega
      · rw [s2 o h h', s2 p g g'] at e
        have := R.2 o p h' g' e
        omega
theorem dt_delI {n i : Nat} {sl sl' : Nat → Nat} (R : dt_Ro n sl) (hi : i < n)
    (s1 : ∀ j, j < i → sl' j = sl j) (s2 : ∀ o, i < o → o < n → sl' (o - 1) = sl o) (s : Nat) : dt_In (n - 1) sl' s ↔ s ≠ sl i ∧ dt_In n sl s := by
  constructor
  · rintro ⟨j, hj, e⟩
    rcases dt_ixd (i := i) hj with h | ⟨o, h, h', rfl⟩
    · rw [s1 j h] at e
      refine ⟨fun z => ?_, j, by omega, e⟩
      have := R.2 j i (by omega) hi (e.trans z)
      omega
    · rw [s2 o h h'] at e
      refine ⟨fun z => ?_, o, h', e⟩
      have := R.2 o i h' hi (e.trans z)
      omega
  · rintro ⟨ne, j, hj, e⟩
    have c : j ≠ i := fun z => ne (by rw [← e, z])
    by_cases h : j < i
    · exact ⟨j, by omega, by rw [s1 j h]; exact e⟩
    · exact ⟨j - 1, by omega, by rw [s2 j (by omega) hj]; exact e⟩
theorem dt_delP {n i e : Nat} {sl sl' dp dp' : Nat → Nat} {pa pa' : Nat → Int32} (R : dt_Ro n sl) (P : dt_Pa n sl dp pa) (E : dt_En n dp i e) (hi : i < n)
    (s1 : ∀ j, j < i → sl' j = sl j) (s2 : ∀ o, i < o → o < n → sl' (o - 1) = sl o)
    (d1 : ∀ j, j < i → dp' j = dp j) (d2 : ∀ o, i < o → o < e → dp' (o - 1) = dp o - 1) (d3 : ∀ o, e ≤ o → o < n → dp' (o - 1) = dp o)
    (q2 : ∀ j, j < n → j ≠ i → pa (sl j) = nI (sl i) → pa' (sl j) = pa (sl i)) (q3 : ∀ j, j < n → j ≠ i → ¬ pa (sl j) = nI (sl i) → pa' (sl j) = pa (sl j)) : dt_Pa (n - 1) sl' dp' pa' := by
  have q4 : ∀ j j', j < n → j ≠ i → j' < n → j' ≠ i → pa (sl j) = nI (sl j') → pa' (sl j) = nI (sl j') := by
    intro j j' a b c d hp
    rw [q3 j a b (fun z => d ((dt_sleq R c hi).mp (hp.symm.trans z))), hp]
  have q5 : ∀ j, j < n → j ≠ i → pa (sl j) = -1 → pa' (sl j) = -1 := by
    intro j a b hp
    rw [q3 j a b (fun z => dt_nm1 (dt_sl16 R hi) (z.symm.trans hp)), hp]
  have E' := E
  obtain ⟨h1, h2, h3, h4⟩ := E'
  intro j hj
  rcases dt_ixd (i := i) hj with h | ⟨o, h, h', rfl⟩
  · rw [d1 j h, s1 j h]
    rcases P j (by omega) with ⟨d0, p0⟩ | ⟨j', hj', hp, hd, hb⟩
    · exact Or.inl ⟨d0, q5 j (by omega) (by omega) p0⟩
    · refine Or.inr ⟨j', hj', ?_, ?_, fun k x y => ?_⟩
      · rw [s1 j' (by omega)]; exact q4 j j' (by omega) (by omega) (by omega) (by omega) hp
      · rw [d1 j' (by omega)]; exact hd
      · rw [d1 k (by omega)]; exact hb k x y
  · rw [s2 o h h']
    by_cases c : o < e
    · have g := h3 o h c
      rw [d2 o h c]
      rcases P o h' with ⟨d0, p0⟩ | ⟨j', hj', hp, hd, hb⟩
      · omega
      · have D := (dt_En_De E h').mpr ⟨h, c⟩
        rw [dt_De_up hj' hd hb] at D
        by_cases z : i = j'
        · subst z
          rcases P i hi with ⟨d0, p0⟩ | ⟨l, hl, lp, ld, lb⟩
          · exact Or.inl ⟨by omega, by rw [q2 o h' (by omega) hp, p0]⟩
          · refine Or.inr ⟨l, by omega, ?_, ?_, fun k x y => ?_⟩
            · rw [q2 o h' (by omega) hp, s1 l hl, lp]
            · rw [d1 l hl]; omega
            · rcases dt_ixd (i := i) (show k < n - 1 by omega) with f | ⟨p, f, f', rfl⟩
              · rw [d1 k f]
                have := lb k x f
                omega
              · rw [d2 p f (by omega)]
                have := hb p f (by omega)
                omega
        · have D' : dt_De dp i j' := D.resolve_left z
          have l := D'.1
          have := D'.2 j' l (Nat.le_refl _)
          refine Or.inr ⟨j' - 1, by omega, ?_, ?_, fun k x y => ?_⟩
          · rw [s2 j' l (by omega)]; exact q4 o j' h' (by omega) (by omega) (by omega) hp
          · rw [d2 j' l (by omega)]; omega
          · rcases dt_ixd (i := i) (show k < n - 1 by omega) with f | ⟨p, f, f', rfl⟩
            · omega
            · rw [d2 p f (by omega)]
              have := hb p (by omega) (by omega)
              omega
    · rw [d3 o (by omega) h']
      rcases P o h' with ⟨d0, p0⟩ | ⟨j', hj', hp, hd, hb⟩
      · exact Or.inl ⟨d0, q5 o h' (by omega) p0⟩
      · rcases dt_out E (by omega) h' hd hb hj' with ⟨l, m⟩ | l
        · refine Or.inr ⟨j', by omega, ?_, ?_, fun k x y => ?_⟩
          · rw [s1 j' l]; exact q4 o j' h' (by omega) (by omega) (by omega) hp
          · rw [d1 j' l]; exact hd
          · rcases dt_ixd (i := i) (show k < n - 1 by omega) with f | ⟨p, f, f', rfl⟩
            · rw [d1 k f]; exact hb k x (by omega)
            · by_cases t : p < e
              · rw [d2 p f t]
                have := h3 p f t
                omega
              · rw [d3 p (by omega) f']; exact hb p (by omega) (by omega)
        · refine Or.inr ⟨j' - 1, by omega, ?_, ?_, fun k x y => ?_⟩
          · rw [s2 j' (by omega) (by omega)]; exact q4 o j' h' (by omega) (by omega) (by omega) hp
          · rw [d3 j' l (by omega)]; exact hd
          · rcases dt_ixd (i := i) (show k < n - 1 by omega) with f | ⟨p, f, f', rfl⟩
            · omega
            · rw [d3 p (by omega) f']; exact hb p (by omega) (by omega)
/-! a revoked key -/
theorem dt_ixr {n i g : Nat} {j : Nat} (hn : i + 1 + g ≤ n) (h : j < n - g) : j ≤ i ∨ ∃ o, i + 1 + g ≤ o ∧ o < n ∧ j = o - g := by
  by_cases a : j ≤ i
  · exact Or.inl a
  · exact Or.inr ⟨j + g, by omega, by omega, by omega⟩
theorem dt_revR {n i g : Nat} {sl sl' : Nat → Nat} (R : dt_Ro n sl) (hn : i + 1 + g ≤ n)
    (s1 : ∀ j, j ≤ i → sl' j = sl j) (s2 : ∀ o, i + 1 + g ≤ o → o < n → sl' (o - g) = sl o) : dt_Ro (n - g) sl' := by
  constructor
  · intro j hj
    rcases dt_ixr hn hj with h | ⟨o, h, h', rfl⟩
    · rw [s1 j h]; exact R.1 j (by omega)
    · rw [s2 o h h']; exact R.1 o h'
  · intro a b ha hb e
    rcases dt_ixr hn ha with h | ⟨o, h, h', rfl⟩
    · rcases dt_ixr hn hb with f | ⟨p, f, f', rfl⟩
      · rw [s1 a h, s1 b f] at e
        exact R.2 a b (by omega) (by omega) e
      · rw [s1 a h, s2 p f f'] at e
        have := R.2 a p (by omega) f' e
        omega
    · rcases dt_ixr hn hb with f | ⟨p, f, f', rfl⟩
      · rw [s1 b f, s2 o h h'] at e
        have := R.2 o b h' (by omega) e
        omega
      · rw [s2 o h h', s2 p f f'] at e
        have := R.2 o p h' f' e
        omega
theorem dt_revI {n i g : Nat} {sl sl' : Nat → Nat} (R : dt_Ro n sl) (hn : i + 1 + g ≤ n)
    (s1 : ∀ j, j ≤ i → sl' j = sl j) (s2 : ∀ o, i + 1 + g ≤ o → o < n → sl' (o - g) = sl o) (s : Nat) : dt_In (n - g) sl' s ↔ dt_In n sl s ∧ ¬ dt_Pt sl i (i + 1 + g) s := by
  constructor
  · rintro ⟨j, hj, e⟩
    rcases dt_ixr hn hj with h | ⟨o, h, h', rfl⟩
    · rw [s1 j h] at e
      refine ⟨⟨j, by omega, e⟩, ?_⟩
      rintro ⟨k, ⟨x, y⟩, z⟩
      have := R.2 j k (by omega) (by omega) (e.trans z.symm)
      omega
    · rw [s2 o h h'] at e
      refine ⟨⟨o, h', e⟩, ?_⟩
      rintro ⟨k, ⟨x, y⟩, z⟩
      have := R.2 o k (by omega) (by omega) (e.trans z.symm)
      omega
  · rintro ⟨⟨j, hj, e⟩, no⟩
    by_cases h : j ≤ i
    · exact ⟨j, by omega, by rw [s1 j h]; exact e⟩
    · by_cases h2 : j < i + 1 + g
      · exact absurd ⟨j, ⟨by omega, h2⟩, e⟩ no
      · exact ⟨j - g, by omega, by rw [s2 j (by omega) hj]; exact e⟩
theorem dt_revP {n i g : Nat} {sl sl' dp dp' : Nat → Nat} {pa : Nat → Int32} (P : dt_Pa n sl dp pa) (E : dt_En n dp i (i + 1 + g))
    (s1 : ∀ j, j ≤ i → sl' j = sl j) (s2 : ∀ o, i + 1 + g ≤ o → o < n → sl' (o - g) = sl o)
    (d1 : ∀ j, j ≤ i → dp' j = dp j) (d2 : ∀ o, i + 1 + g ≤ o → o < n → dp' (o - g) = dp o) : dt_Pa (n - g) sl' dp' pa := by
  have hn := E.2.1
  intro j hj
  rcases dt_ixr hn hj with h | ⟨o, h, h', rfl⟩
  · rw [d1 j h, s1 j h]
    rcases P j (by omega) with c | ⟨j', hj', hp, hd, hb⟩
    · exact Or.inl c
    · refine Or.inr ⟨j', hj', ?_, ?_, fun k x y => ?_⟩
      · rw [s1 j' (by omega)]; exact hp
      · rw [d1 j' (by omega)]; exact hd
      · rw [d1 k (by omega)]; exact hb k x y
  · rw [d2 o h h', s2 o h h']
    rcases P o h' with c | ⟨j', hj', hp, hd, hb⟩
    · exact Or.inl c
    · rcases dt_out E h h' hd hb hj' with ⟨l, m⟩ | l
      · refine Or.inr ⟨j', by omega, ?_, ?_, fun k x y => ?_⟩
        · rw [s1 j' (by omega)]; exact hp
        · rw [d1 j' (by omega)]; exact hd
        · rcases dt_ixr hn (show k < n - g by omega) with f | ⟨p, f, f', rfl⟩
          · rw [d1 k f]; exact hb k x (by omega)
          · rw [d2 p f f']; exact hb p (by omega) (by omega)
      · refine Or.inr ⟨j' - g, by omega, ?_, ?_, fun k x y => ?_⟩
        · rw [s2 j' l (by omega)]; exact hp
        · rw [d2 j' l (by omega)]; exact hd
        · rcases dt_ixr hn (show k < n - g by omega) with f | ⟨p, f, f', rfl⟩
          · omega
          · rw [d2 p f f']; exact hb p (by omega) (by omega)
end
section
/-! the walks of the component, each against plain facts -/
def dt_Pc (H pX pY : Nat → Int32) : Prop := ∀ s, s < 16 → (H s = 0 ∧ pX s = -1) ∨ (H s = 1 ∧ ∃ p, p < 16 ∧ pX s = nI p ∧ pY s = nI p)
theorem dt_Pc_0 {H pX pY : Nat → Int32} (C : dt_Pc H pX pY) {s : Nat} (hs : s < 16) (h : H s = 0) : pX s = -1 := by
  rcases C s hs with ⟨_, e⟩ | ⟨e, _⟩
  · exact e
  · rw [h] at e; exact absurd e.symm dt_10
theorem dt_Pc_1 {H pX pY : Nat → Int32} (C : dt_Pc H pX pY) {s : Nat} (hs : s < 16) (h : H s = 1) : ∃ p, p < 16 ∧ pX s = nI p ∧ pY s = nI p := by
  rcases C s hs with ⟨e, _⟩ | ⟨_, e⟩
  · rw [h] at e; exact absurd e dt_10
  · exact e
/-- not a held slot; not a free slot -/
def dt_Nh (H : Nat → Int32) (v : Int32) : Prop := v < 0 ∨ (¬ v < 0 ∧ 15 < v) ∨ ∃ s, s < 16 ∧ v = nI s ∧ H s = 0
def dt_Nf (H : Nat → Int32) (v : Int32) : Prop := v < 0 ∨ (¬ v < 0 ∧ 15 < v) ∨ ∃ s, s < 16 ∧ v = nI s ∧ H s = 1
theorem dt_hcase {H pX pY : Nat → Int32} (C : dt_Pc H pX pY) (v : Int32) : dt_Nh H v ∨ ∃ s, s < 16 ∧ v = nI s ∧ H s = 1 := by
  rcases dt_arg v with h | h | ⟨s, hs, e⟩
  · exact Or.inl (Or.inl h)
  · exact Or.inl (Or.inr (Or.inl h))
  · rcases C s hs with ⟨z, _⟩ | ⟨z, _⟩
    · exact Or.inl (Or.inr (Or.inr ⟨s, hs, e, z⟩))
    · exact Or.inr ⟨s, hs, e, z⟩
theorem dt_fcase {H pX pY : Nat → Int32} (C : dt_Pc H pX pY) (v : Int32) : dt_Nf H v ∨ ∃ s, s < 16 ∧ v = nI s ∧ H s = 0 := by
  rcases dt_arg v with h | h | ⟨s, hs, e⟩
  · exact Or.inl (Or.inl h)
  · exact Or.inl (Or.inr (Or.inl h))
  · rcases C s hs with ⟨z, _⟩ | ⟨z, _⟩
    · exact Or.inr ⟨s, hs, e, z⟩
    · exact Or.inl (Or.inr (Or.inr ⟨s, hs, e, z⟩))
section
variable {fm fk : Int32} {st sz mk kt nu sA dA pX ri pY H : Nat → Int32}
theorem dx_h1 {post : Int32 → Prop} (C : dt_Pc H pX pY) {s : Nat} (hs : s < 16) (h1 : H s = 1) (h : post 1) : wpX_isHeld post (fm, fk, st, sz, mk, kt, nu, sA, dA, pX, ri) (nI s) := by
  obtain ⟨p, hp, e, _⟩ := dt_Pc_1 C hs h1
  exact br_f (nI_pos (by omega)) (br_f (dt_15l hs) ⟨dt_in hs, br_f (by rw [nI_clamp (by omega), e]; exact nI_pos (by omega)) h⟩)
theorem dx_h0 {post : Int32 → Prop} (C : dt_Pc H pX pY) {v : Int32} (b : dt_Nh H v) (h : post 0) : wpX_isHeld post (fm, fk, st, sz, mk, kt, nu, sA, dA, pX, ri) v := by
  rcases b with b | ⟨a, b⟩ | ⟨s, hs, rfl, h0⟩
  · exact br_t b h
  · exact br_f a (br_t b h)
  · exact br_f (nI_pos (by omega)) (br_f (dt_15l hs) ⟨dt_in hs, br_t (by rw [nI_clamp (by omega), dt_Pc_0 C hs h0]; exact dt_m1) h⟩)
theorem dx_f1 {post : Int32 → Prop} (C : dt_Pc H pX pY) {s : Nat} (hs : s < 16) (h0 : H s = 0) (h : post 1) : wpX_isFree post (fm, fk, st, sz, mk, kt, nu, sA, dA, pX, ri) (nI s) :=
  br_f (nI_pos (by omega)) (br_f (dt_15l hs) ⟨dt_in hs, br_f (by rw [nI_clamp (by omega), dt_Pc_0 C hs h0]; exact dt_m1') h⟩)
theorem dx_f0 {post : Int32 → Prop} (C : dt_Pc H pX pY) {v : Int32} (b : dt_Nf H v) (h : post 0) : wpX_isFree post (fm, fk, st, sz, mk, kt, nu, sA, dA, pX, ri) v := by
  rcases b with b | ⟨a, b⟩ | ⟨s, hs, rfl, h1⟩
  · exact br_t b h
  · exact br_f a (br_t b h)
  · obtain ⟨p, hp, e, _⟩ := dt_Pc_1 C hs h1
    exact br_f (nI_pos (by omega)) (br_f (dt_15l hs) ⟨dt_in hs, br_t (by rw [nI_clamp (by omega), e]; exact nI_pos' (by omega)) h⟩)
theorem dx_free5 {post : Int32 → Prop} {q : Nat} (hq : q < 16) (k0 : kt q = 0) (kl : ∀ p, p < q → ¬ kt p = 0) (h : post (nI q)) : ∀ j f : Nat, j ≤ 16 → (q < j ∨ f = q) → wX_freePiece_5 post fm fk st sz mk kt nu sA dA pX ri (j + 1) (nI f) (nI j + (-1)) := by
  intro j
  induction j with
  | zero =>
    intro f _ c
    have e : f = q := by omega
    subst e
    exact br_t (show nI 0 + (-1) < 0 by decide) h
  | succ j ih =>
    intro f hj c
    rw [pk_m1]
    have hj' : j < 2 ^ 31 := by omega
    refine br_f (nI_pos hj') ⟨dt_in (by omega), ?_⟩
    by_cases z : kt j = 0
    · have l : ¬ j < q := fun y => kl j y z
      exact br_t ((dt_at kt hj').trans z) (nm_e (ih j (by omega) (by omega)))
    · have ne : j ≠ q := fun y => z (by rw [y]; exact k0)
      exact br_f (fun y => z ((dt_at kt hj').symm.trans y)) (nm_e (ih f (by omega) (by omega)))
theorem dx_free {post : Int32 → Prop} {q : Nat} (hq : q < 16) (k0 : kt q = 0) (kl : ∀ p, p < q → ¬ kt p = 0) (h : post (nI q)) : wpX_freePiece post (fm, fk, st, sz, mk, kt, nu, sA, dA, pX, ri) := by
  have w := dx_free5 (fm := fm) (fk := fk) (st := st) (sz := sz) (mk := mk) (nu := nu) (sA := sA) (dA := dA) (pX := pX) (ri := ri) hq k0 kl h 16 0 (by omega) (Or.inl hq)
  rw [pk_m1 15] at w
  exact Exists.intro 17 w
theorem dx_place4 {post : Int32 → Prop} {sl : Nat → Nat} {i n : Nat} (R : dt_Ro n sl) (hn : n ≤ 16) (hi : i < n) (hs : ∀ j, j < n → sA j = nI (sl j)) (h : post (nI i)) : ∀ d j f : Nat, j + d = n → (i < j → f = i) → wX_placeOf_4 post (nI (sl i)) fm (nI n) st sz mk kt nu sA dA pX ri (d + 1) (nI f) (nI j) := by
  intro d
  induction d with
  | zero =>
    intro j f hj c
    rw [c (by omega)]
    exact br_t (nI_le (by omega) (by omega)) h
  | succ d ih =>
    intro j f hj c
    have hj' : j < 2 ^ 31 := by omega
    refine br_f (nI_ge (by omega) (by omega)) ⟨dt_in (by omega), ?_⟩
    by_cases z : j = i
    · exact br_t ((dt_at sA hj').trans (by rw [hs j (by omega), z])) (nm_r (nI_1 j) (ih (j + 1) j (by omega) (fun _ => z)))
    · exact br_f (fun y => z ((dt_sleq R (by omega) hi).mp ((hs j (by omega)).symm.trans ((dt_at sA hj').symm.trans y)))) (nm_r (nI_1 j) (ih (j + 1) f (by omega) (fun l => c (by omega))))
theorem dx_place {post : Int32 → Prop} {sl : Nat → Nat} {i n : Nat} (R : dt_Ro n sl) (hn : n ≤ 16) (hi : i < n) (hs : ∀ j, j < n → sA j = nI (sl j)) (h : post (nI i)) : wpX_placeOf post (fm, nI n, st, sz, mk, kt, nu, sA, dA, pX, ri) (nI (sl i)) :=
  Exists.intro (n + 1) (dx_place4 R hn hi hs h n 0 0 (by omega) (fun l => absurd l (by omega)))
theorem dx_end8 {post : Int32 → Prop} {dp : Nat → Nat} {i e n : Nat} (E : dt_En n dp i e) (hn : n ≤ 16) (hd : ∀ j, j < n → dA j = nI (dp j)) (hs : ∀ j, j < n → dp j ≤ j) (h : post (nI e)) : ∀ d j f : Nat, j + d = n → i < j → (j ≤ e → f = j) → (e < j → f = e) → wX_endOfPart_8 post (nI i) fm (nI n) st sz mk kt nu sA dA pX ri (d + 1) (nI f) (nI j) := by
  obtain ⟨h1, h2, h3, h4⟩ := E
  intro d
  induction d with
  | zero =>
    intro j f hj _ c1 c2
    have z : f = e := by
      by_cases l : e < j
      · exact c2 l
      · have := c1 (by omega)
        omega
    rw [z]
    exact br_t (nI_le (by omega) (by omega)) h
  | succ d ih =>
    intro j f hj hij c1 c2
    have hj' : j < 2 ^ 31 := by omega
    have hi' : i < 2 ^ 31 := by omega
    have b1 := hs j (by omega)
    have b2 := hs i (by omega)
    refine br_f (nI_ge (by omega) (by omega)) ?_
    by_cases l : e < j
    · rw [c2 l]
      exact br_f (fun y => absurd ((nI_eq (by omega) hj').mp y) (by omega)) (nm_r (nI_1 j) (ih (j + 1) e (by omega) (by omega) (fun _ => by omega) (fun _ => rfl)))
    · rw [c1 (by omega)]
      refine br_t rfl ⟨dt_in (by omega), dt_in (by omega), ?_⟩
      by_cases g : dp j ≤ dp i
      · have je : j = e := by
          by_cases q : j < e
          · have := h3 j hij q
            omega
          · omega
        exact br_t (by rw [nI_clamp hj', nI_clamp hi', hd j (by omega), hd i (by omega)]; exact nI_le g (by omega)) (nm_r (nI_1 j) (ih (j + 1) j (by omega) (by omega) (fun _ => by omega) (fun _ => je)))
      · have je : j < e := by
          by_cases q : j < e
          · exact q
          · have q' : j = e := by omega
            subst q'
            exact absurd (h4 (by omega)) g
        exact br_f (by rw [nI_clamp hj', nI_clamp hi', hd j (by omega), hd i (by omega)]; exact nI_ge (by omega) (by omega)) (nm_r (nI_1 j) (nm_r (nI_1 j) (ih (j + 1) (j + 1) (by omega) (by omega) (fun _ => rfl) (fun _ => by omega))))
theorem dx_end {post : Int32 → Prop} {dp : Nat → Nat} {i e n : Nat} (E : dt_En n dp i e) (hn : n ≤ 16) (hd : ∀ j, j < n → dA j = nI (dp j)) (hs : ∀ j, j < n → dp j ≤ j) (h : post (nI e)) : wpX_endOfPart post (fm, nI n, st, sz, mk, kt, nu, sA, dA, pX, ri) (nI i) := by
  intro x2 e2 x3 e3
  rw [e2, e3, nI_1]
  have q := E.1
  have q' := E.2.1
  exact ⟨n - (i + 1) + 1, dx_end8 E hn hd hs h (n - (i + 1)) (i + 1) (i + 1) (by omega) (by omega) (fun _ => rfl) (fun _ => by omega)⟩
theorem dx_put15 {post : SX → Prop} {i n to p : Nat} {w : Int32} (hn : n < 16) (hi : i < n) (hto : to < 16) (hp : p < 16)
    (K : ∀ A B : Nat → Int32, (∀ k, k ≤ i → A k = sA k) → A (i + 1) = nI to → (∀ k, i < k → k < n → A (k + 1) = sA k) → (∀ k, k ≤ i → B k = dA k) → B (i + 1) = dA i + 1 → (∀ k, i < k → k < n → B (k + 1) = dA k) → post (fm, nI (n + 1), st, sz, mk, upd kt p (kt p + 1), nu, A, B, upd pX to (nI p), upd ri to w)) :
    ∀ (d : Nat) (A B : Nat → Int32), i + 1 + d ≤ n → (∀ k, k ≤ i + 1 + d → A k = sA k) → (∀ k, i + 1 + d ≤ k → k < n → A (k + 1) = sA k) → (∀ k, k ≤ i + 1 + d → B k = dA k) → (∀ k, i + 1 + d ≤ k → k < n → B (k + 1) = dA k) → wX_putKey_15 post (nI to) (nI p) w (nI (i + 1)) fm (nI n) (d + 1) (nI (i + 1 + d)) st sz mk kt nu A B pX ri := by
  intro d
  induction d with
  | zero =>
    intro A B hd a1 a2 b1 b2
    refine br_t (nI_le (by omega) (by omega)) ⟨dt_in (by omega), nm_e ⟨?_, dt_in (by omega), nm_e (nm_r (nI_1 n) ⟨dt_in hto, nm_e ⟨dt_in hto, nm_e ⟨dt_in hp, dt_in hp, nm_e ?_⟩⟩⟩)⟩⟩
    · rw [nI_pred]; exact dt_in (by omega)
    · rw [nI_pred, nI_clamp (n := p) (by omega), nI_clamp (n := i + 1) (by omega), nI_clamp (n := i) (by omega), nI_clamp (n := to) (by omega)]
      refine K _ _ (fun k hk => ?_) pk_us (fun k h h' => ?_) (fun k hk => ?_) ?_ (fun k h h' => ?_)
      · rw [pk_un (by omega)]; exact a1 k (by omega)
      · rw [pk_un (by omega)]; exact a2 k (by omega) h'
      · rw [pk_un (by omega)]; exact b1 k (by omega)
      · rw [pk_us, b1 i (by omega)]
      · rw [pk_un (by omega)]; exact b2 k (by omega) h'
  | succ d ih =>
    intro A B hd a1 a2 b1 b2
    show wX_putKey_15 post (nI to) (nI p) w (nI (i + 1)) fm (nI n) (d + 1 + 1) (nI (i + 1 + d + 1)) st sz mk kt nu A B pX ri
    refine br_f (nI_ge (by omega) (by omega)) ⟨?_, dt_in (by omega), nm_e ⟨?_, dt_in (by omega), nm_e (nm_r (pk_m1 _) ?_)⟩⟩
    · rw [nI_pred]; exact dt_in (by omega)
    · rw [nI_pred]; exact dt_in (by omega)
    · rw [nI_pred, nI_clamp (n := i + 1 + d + 1) (by omega), nI_clamp (n := i + 1 + d) (by omega)]
      refine ih _ _ (by omega) (fun k hk => ?_) (fun k h h' => ?_) (fun k hk => ?_) (fun k h h' => ?_)
      · rw [pk_un (by omega)]; exact a1 k (by omega)
      · by_cases z : k = i + 1 + d
        · rw [z, pk_us]; exact a1 _ (by omega)
        · rw [pk_un (by omega)]; exact a2 k (by omega) h'
      · rw [pk_un (by omega)]; exact b1 k (by omega)
      · by_cases z : k = i + 1 + d
        · rw [z, pk_us]; exact b1 _ (by omega)
        · rw [pk_un (by omega)]; exact b2 k (by omega) h'
theorem dx_put {post : SX → Prop} {sl : Nat → Nat} {i n to p : Nat} {w : Int32} (R : dt_Ro n sl) (hs : ∀ j, j < n → sA j = nI (sl j)) (hn : n < 16) (hi : i < n) (hto : to < 16) (hp : p < 16)
    (K : ∀ A B : Nat → Int32, (∀ k, k ≤ i → A k = sA k) → A (i + 1) = nI to → (∀ k, i < k → k < n → A (k + 1) = sA k) → (∀ k, k ≤ i → B k = dA k) → B (i + 1) = dA i + 1 → (∀ k, i < k → k < n → B (k + 1) = dA k) → post (fm, nI (n + 1), st, sz, mk, upd kt p (kt p + 1), nu, A, B, upd pX to (nI p), upd ri to w)) :
    wpX_putKey post (fm, nI n, st, sz, mk, kt, nu, sA, dA, pX, ri) (nI (sl i)) (nI to) (nI p) w := by
  unfold wpX_putKey
  dsimp only
  refine dx_place R (by omega) hi hs (nm_r (nI_1 i) ?_)
  have w := dx_put15 (fm := fm) (st := st) (sz := sz) (mk := mk) (kt := kt) (nu := nu) (pX := pX) (ri := ri) hn hi hto hp K (n - (i + 1)) sA dA (by omega) (fun _ _ => rfl) (fun k h h' => absurd h' (by omega)) (fun _ _ => rfl) (fun k h h' => absurd h' (by omega))
  rw [show i + 1 + (n - (i + 1)) = n by omega] at w
  exact ⟨_, w⟩
theorem dx_forget {post : SX → Prop} {s p : Nat} (hs : s < 16) (hp : p < 16) (e : pX s = nI p) (h : post (fm, fk, st, sz, mk, upd kt p (kt p - 1), nu, sA, dA, upd pX s (-1), ri)) : wpX_forgetKey post (fm, fk, st, sz, mk, kt, nu, sA, dA, pX, ri) (nI s) := by
  unfold wpX_forgetKey
  dsimp only
  rw [nI_clamp (n := s) (by omega), e, nI_clamp (n := p) (by omega)]
  exact ⟨dt_in hs, dt_in hp, dt_in hp, nm_e ⟨dt_in hs, nm_e h⟩⟩
theorem dx_cut7 {post : SX → Prop} {n a g : Nat} (hn : n ≤ 16)
    (K : ∀ A B : Nat → Int32, (∀ k, k < a → A k = sA k) → (∀ o, a + g ≤ o → o < n → A (o - g) = sA o) → (∀ k, k < a → B k = dA k) → (∀ o, a + g ≤ o → o < n → B (o - g) = dA o) → post (fm, nI (n - g), st, sz, mk, kt, nu, A, B, pX, ri)) :
    ∀ (d j : Nat) (A B : Nat → Int32), j + d = n → a + g ≤ j → (∀ k, k < a → A k = sA k) → (∀ o, a + g ≤ o → o < j → A (o - g) = sA o) → (∀ o, j ≤ o → A o = sA o) → (∀ k, k < a → B k = dA k) → (∀ o, a + g ≤ o → o < j → B (o - g) = dA o) → (∀ o, j ≤ o → B o = dA o) → wX_cutRow_7 post (nI g) fm (nI n) (d + 1) (nI j) st sz mk kt nu A B pX ri := by
  intro d
  induction d with
  | zero =>
    intro j A B hj hl a1 a2 a3 b1 b2 b3
    exact br_t (nI_le (by omega) (by omega)) (nm_r (pk_sub (by omega)) (K A B a1 (fun o h h' => a2 o h (by omega)) b1 (fun o h h' => b2 o h (by omega))))
  | succ d ih =>
    intro j A B hj hl a1 a2 a3 b1 b2 b3
    refine br_f (nI_ge (by omega) (by omega)) ⟨dt_in (by omega), ?_, nm_e ⟨dt_in (by omega), ?_, nm_e (nm_r (nI_1 j) ?_)⟩⟩
    · rw [pk_sub (by omega)]; exact dt_in (by omega)
    · rw [pk_sub (by omega)]; exact dt_in (by omega)
    · rw [pk_sub (a := j) (b := g) (by omega), nI_clamp (n := j) (by omega), nI_clamp (n := j - g) (by omega)]
      refine ih (j + 1) _ _ (by omega) (by omega) (fun k hk => ?_) (fun o h h' => ?_) (fun o h => ?_) (fun k hk => ?_) (fun o h h' => ?_) (fun o h => ?_)
      · rw [pk_un (by omega)]; exact a1 k hk
      · by_cases z : o = j
        · rw [z, pk_us]; exact a3 j (Nat.le_refl j)
        · rw [pk_un (by omega)]; exact a2 o h (by omega)
      · rw [pk_un (by omega)]; exact a3 o (by omega)
      · rw [pk_un (by omega)]; exact b1 k hk
      · by_cases z : o = j
        · rw [z, pk_us]; exact b3 j (Nat.le_refl j)
        · rw [pk_un (by omega)]; exact b2 o h (by omega)
      · rw [pk_un (by omega)]; exact b3 o (by omega)
theorem dx_cut {post : SX → Prop} {n a g : Nat} (hn : n ≤ 16) (hl : a + g ≤ n)
    (K : ∀ A B : Nat → Int32, (∀ k, k < a → A k = sA k) → (∀ o, a + g ≤ o → o < n → A (o - g) = sA o) → (∀ k, k < a → B k = dA k) → (∀ o, a + g ≤ o → o < n → B (o - g) = dA o) → post (fm, nI (n - g), st, sz, mk, kt, nu, A, B, pX, ri)) :
    wpX_cutRow post (fm, nI n, st, sz, mk, kt, nu, sA, dA, pX, ri) (nI a) (nI (a + g)) := by
  intro x3 e3
  rw [pk_sub (by omega), Nat.add_sub_cancel_left] at e3
  rw [e3]
  exact ⟨n - (a + g) + 1, dx_cut7 hn K (n - (a + g)) (a + g) sA dA (by omega) (by omega) (fun _ _ => rfl) (fun o h h' => absurd h' (by omega)) (fun _ _ => rfl) (fun _ _ => rfl) (fun o h h' => absurd h' (by omega)) (fun _ _ => rfl)⟩
end
end
section
/-! marks, and the loops of delete and revoke -/
def dt_Li (nu st sz : Nat → Int32) (q p : Nat) : Prop := ¬ nu q ≤ nu p ∧ ¬ st q < st p ∧ ¬ st p + sz p < st q + sz q
def dt_Hx (kt nu st sz : Nat → Int32) (p q : Nat) : Prop := ¬ kt q ≤ 0 ∧ dt_Li nu st sz q p
def dt_Ho (kt nu st sz : Nat → Int32) (p : Nat) : Prop := ∃ q, q < 16 ∧ dt_Hx kt nu st sz p q
def dt_Rs (kt mk nu st sz : Nat → Int32) (p : Nat) : Prop := ¬ kt p ≤ 0 ∧ ¬ mk p ≤ 0 ∧ ¬ dt_Ho kt nu st sz p
/-- how many keys lead to a piece -/
def dt_Kt (pX kt : Nat → Int32) : Prop := ∀ p, p < 16 → kt p = nI (dt_cn (fun s => pX s = nI p) 16)
theorem dt_Kt_for {pX kt : Nat → Int32} {s p : Nat} (T : dt_Kt pX kt) (hs : s < 16) (hp : p < 16) (e : pX s = nI p) : dt_Kt (upd pX s (-1)) (upd kt p (kt p - 1)) := by
  intro q hq
  by_cases z : q = p
  · subst z
    have c := dt_cn_ins (P := fun i => upd pX s (-1) i = nI q) (Q := fun i => pX i = nI q) (a := s) (fun y => dt_nm1 (by omega) (y.symm.trans pk_us)) e (n := 16) hs (fun i _ ne => by rw [pk_un ne])
    rw [pk_us, T q hq, c, nI_pred]
  · rw [pk_un z, T q hq]
    refine congrArg nI (dt_cn_eq fun i _ => ?_)
    by_cases y : i = s
    · rw [y, pk_us, e]
      constructor
      · intro x
        exact absurd ((nI_eq (by omega) (by omega)).mp x).symm z
      · intro x
        exact absurd x.symm (dt_nm1 (by omega))
    · rw [pk_un y]
theorem dt_Kt_put {pX kt : Nat → Int32} {s p : Nat} (T : dt_Kt pX kt) (hs : s < 16) (hp : p < 16) (e : pX s = -1) : dt_Kt (upd pX s (nI p)) (upd kt p (kt p + 1)) := by
  intro q hq
  by_cases z : q = p
  · subst z
    have c := dt_cn_ins (P := fun i => pX i = nI q) (Q := fun i => upd pX s (nI q) i = nI q) (a := s) (fun y => dt_nm1 (by omega) (y.symm.trans e)) pk_us (n := 16) hs (fun i _ ne => by rw [pk_un ne])
    rw [pk_us, T q hq, c, nI_1]
  · rw [pk_un z, T q hq]
    refine congrArg nI (dt_cn_eq fun i _ => ?_)
    by_cases y : i = s
    · rw [y, pk_us, e]
      constructor
      · intro x
        exact absurd x.symm (dt_nm1 (by omega))
      · intro x
        exact absurd ((nI_eq (by omega) (by omega)).mp x).symm z
    · rw [pk_un y]
section
variable {fm fk : Int32} {st sz mk kt nu sA dA pX ri pY H : Nat → Int32}
theorem dx_ho2 {post : Int32 → Prop} {p : Nat} (hp : p < 16) (h1 : dt_Ho kt nu st sz p → post 1) (h0 : ¬ dt_Ho kt nu st sz p → post 0) : ∀ d j : Nat, j + d = 16 → (∀ q, q < j → ¬ dt_Hx kt nu st sz p q) → wX_holdsOthers_2 post (nI p) fm fk st sz mk kt nu sA dA pX ri (d + 1) (nI j) := by
  intro d
  induction d with
  | zero =>
    intro j hj c
    refine br_t (dt_16t (by omega) (by omega)) (h0 ?_)
    rintro ⟨q, a, b⟩
    exact c q (by omega) b
  | succ d ih =>
    intro j hj c
    have j16 : j < 16 := by omega
    have hj' : j < 2 ^ 31 := by omega
    have hp' : p < 2 ^ 31 := by omega
    have nx : ¬ dt_Hx kt nu st sz p j → wX_holdsOthers_2 post (nI p) fm fk st sz mk kt nu sA dA pX ri (d + 1) (nI j + 1) := by
      intro z
      rw [nI_1]
      refine ih (j + 1) (by omega) fun q hq => ?_
      by_cases y : q = j
      · rw [y]; exact z
      · exact c q (by omega)
    refine br_f (dt_16f j16) ⟨dt_in j16, ?_⟩
    by_cases k : kt j ≤ 0
    · exact br_t (by rw [nI_clamp hj']; exact k) (br_t rfl (nm_e (nx fun z => z.1 k)))
    · refine br_f (by rw [nI_clamp hj']; exact k) ⟨dt_in j16, dt_in hp, ?_⟩
      by_cases m : nu j ≤ nu p
      · exact br_t (by rw [nI_clamp hj', nI_clamp hp']; exact m) (br_t rfl (nm_e (nx fun z => z.2.1 m)))
      · refine br_f (by rw [nI_clamp hj', nI_clamp hp']; exact m) (br_f dt_10 ⟨dt_in j16, dt_in hp, ?_⟩)
        by_cases l : st j < st p
        · exact br_t (by rw [nI_clamp hj', nI_clamp hp']; exact l) (nm_e (nx fun z => z.2.2.1 l))
        · refine br_f (by rw [nI_clamp hj', nI_clamp hp']; exact l) ⟨dt_in j16, dt_in j16, dt_in hp, dt_in hp, ?_⟩
          by_cases o : st p + sz p < st j + sz j
          · exact br_t (by rw [nI_clamp hj', nI_clamp hp']; exact o) (nm_e (nx fun z => z.2.2.2 o))
          · exact br_f (by rw [nI_clamp hj', nI_clamp hp']; exact o) (h1 ⟨j, j16, k, m, l, o⟩)
theorem dx_ho {post : Int32 → Prop} {p : Nat} (hp : p < 16) (h1 : dt_Ho kt nu st sz p → post 1) (h0 : ¬ dt_Ho kt nu st sz p → post 0) : wpX_holdsOthers post (fm, fk, st, sz, mk, kt, nu, sA, dA, pX, ri) (nI p) :=
  Exists.intro 17 (dx_ho2 hp h1 h0 16 0 (by omega) (fun q h => absurd h (Nat.not_lt_zero q)))
theorem dx_rm2 {post : SX → Prop} (K : ∀ M : Nat → Int32, (∀ p, p < 16 → (dt_Rs kt mk nu st sz p → M p = 0) ∧ (¬ dt_Rs kt mk nu st sz p → M p = mk p)) → post (fm, fk, st, sz, M, kt, nu, sA, dA, pX, ri)) :
    ∀ (d j : Nat) (M : Nat → Int32), j + d = 16 → (∀ p, p < j → (dt_Rs kt mk nu st sz p → M p = 0) ∧ (¬ dt_Rs kt mk nu st sz p → M p = mk p)) → (∀ p, j ≤ p → M p = mk p) → wX_resetMarks_2 post fm fk (d + 1) (nI j) st sz M kt nu sA dA pX ri := by
  intro d
  induction d with
  | zero =>
    intro j M hj c1 _
    exact br_t (dt_16t (by omega) (by omega)) (K M fun p hp => c1 p (by omega))
  | succ d ih =>
    intro j M hj c1 c2
    have j16 : j < 16 := by omega
    have hj' : j < 2 ^ 31 := by omega
    have ej := c2 j (Nat.le_refl j)
    have nx0 : ¬ dt_Rs kt mk nu st sz j → wX_resetMarks_2 post fm fk (d + 1) (nI j + 1) st sz M kt nu sA dA pX ri := by
      intro z
      rw [nI_1]
      refine ih (j + 1) M (by omega) (fun q hq => ?_) (fun q hq => c2 q (by omega))
      by_cases y : q = j
      · rw [y]; exact ⟨fun x => absurd x z, fun _ => ej⟩
      · exact c1 q (by omega)
    have nx1 : dt_Rs kt mk nu st sz j → wX_resetMarks_2 post fm fk (d + 1) (nI j + 1) st sz (upd M j 0) kt nu sA dA pX ri := by
      intro z
      rw [nI_1]
      refine ih (j + 1) _ (by omega) (fun q hq => ?_) (fun q hq => ?_)
      · by_cases y : q = j
        · rw [y, pk_us]; exact ⟨fun _ => rfl, fun x => absurd z x⟩
        · rw [pk_un y]; exact c1 q (by omega)
      · rw [pk_un (by omega)]; exact c2 q (by omega)
    refine br_f (dt_16f j16) ⟨dt_in j16, ?_⟩
    by_cases k : kt j ≤ 0
    · exact br_t (by rw [nI_clamp hj']; exact k) (nm_e (nx0 fun z => z.1 k))
    · refine br_f (by rw [nI_clamp hj']; exact k) ⟨dt_in j16, ?_⟩
      by_cases m : mk j ≤ 0
      · exact br_t (by rw [nI_clamp hj', ej]; exact m) (nm_e (nx0 fun z => z.2.1 m))
      · refine br_f (by rw [nI_clamp hj', ej]; exact m) (dx_ho j16 (fun z => ?_) (fun z => ?_))
        · exact br_f dt_10 (nm_e (nx0 fun y => y.2.2 z))
        · refine br_t rfl ⟨dt_in j16, nm_e (nm_e ?_)⟩
          rw [nI_clamp hj']
          exact nx1 ⟨k, m, z⟩
theorem dx_rm {post : SX → Prop} (K : ∀ M : Nat → Int32, (∀ p, p < 16 → (dt_Rs kt mk nu st sz p → M p = 0) ∧ (¬ dt_Rs kt mk nu st sz p → M p = mk p)) → post (fm, fk, st, sz, M, kt, nu, sA, dA, pX, ri)) : wpX_resetMarks post (fm, fk, st, sz, mk, kt, nu, sA, dA, pX, ri) :=
  Exists.intro 17 (dx_rm2 K 16 0 mk (by omega) (fun q h => absurd h (Nat.not_lt_zero q)) (fun _ _ => rfl))
theorem dx_del38 {post : Int32 → SX → Prop} {dp : Nat → Nat} {i e n : Nat} {x1 : Int32} (E : dt_En n dp i e) (hn : n ≤ 16) (hd : ∀ j, j < n → dA j = nI (dp j)) (hs : ∀ j, j < n → dp j ≤ j)
    (K : ∀ B : Nat → Int32, (∀ k, k ≤ i → B k = dA k) → (∀ k, i < k → k < e → B k = nI (dp k - 1)) → (∀ k, e ≤ k → B k = dA k) → wX_delete_38 post x1 (nI i) (nI e) (nI (dp i)) fm fk 1 (nI (dt_cn (fun k => i < k ∧ dp k = dp i + 1) e)) (nI e) st sz mk kt nu sA B pX ri) :
    ∀ (d j : Nat) (B : Nat → Int32), j + d = e → i < j → (∀ k, k ≤ i → B k = dA k) → (∀ k, i < k → k < j → B k = nI (dp k - 1)) → (∀ k, j ≤ k → B k = dA k) → wX_delete_38 post x1 (nI i) (nI e) (nI (dp i)) fm fk (d + 1) (nI (dt_cn (fun k => i < k ∧ dp k = dp i + 1) j)) (nI j) st sz mk kt nu sA B pX ri := by
  obtain ⟨h1, h2, h3, h4⟩ := E
  intro d
  induction d with
  | zero =>
    intro j B hj hij b1 b2 b3
    have z : j = e := by omega
    subst z
    exact K B b1 b2 b3
  | succ d ih =>
    intro j B hj hij b1 b2 b3
    have hj' : j < 2 ^ 31 := by omega
    have j16 : j < 16 := by omega
    have ej : B j = nI (dp j) := (b3 j (Nat.le_refl j)).trans (hd j (by omega))
    have l := h3 j hij (by omega)
    have b := hs j (by omega)
    have nx : wX_delete_38 post x1 (nI i) (nI e) (nI (dp i)) fm fk (d + 1) (nI (dt_cn (fun k => i < k ∧ dp k = dp i + 1) (j + 1))) (nI (j + 1)) st sz mk kt nu sA (upd B (nI j).toNatClampNeg (B (nI j).toNatClampNeg - 1)) pX ri := by
      rw [nI_clamp hj']
      refine ih (j + 1) _ (by omega) (by omega) (fun k hk => ?_) (fun k x y => ?_) (fun k hk => ?_)
      · rw [pk_un (by omega)]; exact b1 k hk
      · by_cases z : k = j
        · rw [z, pk_us, ej, dt_pred (by omega)]
        · rw [pk_un z]; exact b2 k x (by omega)
      · rw [pk_un (by omega)]; exact b3 k (by omega)
    refine br_f (nI_ge (by omega) (by omega)) ⟨dt_in j16, ?_⟩
    by_cases z : dp j = dp i + 1
    · rw [dt_cnt (P := fun k => i < k ∧ dp k = dp i + 1) ⟨hij, z⟩] at nx
      exact br_t (by rw [nI_clamp hj', ej, z, nI_1]) (nm_r (nI_1 _) ⟨dt_in j16, dt_in j16, nm_e (nm_r (nI_1 j) nx)⟩)
    · rw [dt_cnf (P := fun k => i < k ∧ dp k = dp i + 1) (fun y => z y.2)] at nx
      exact br_f (by rw [nI_clamp hj', ej, nI_1, nI_eq (by omega) (by omega)]; exact z) (nm_r (Int32.add_zero _) ⟨dt_in j16, dt_in j16, nm_e (nm_r (nI_1 j) nx)⟩)
theorem dx_rev27 {post : Int32 → SX → Prop} {sl : Nat → Nat} {i e n : Nat} (R : dt_Ro n sl) (hn : n ≤ 16) (he : e ≤ n) (hs : ∀ j, j < n → sA j = nI (sl j)) (C : dt_Pc H pX pY) (hh : ∀ j, j < n → H (sl j) = 1)
    (K : ∀ PX KT : Nat → Int32, (∀ s, dt_Pt sl i e s → PX s = -1) → (∀ s, ¬ dt_Pt sl i e s → PX s = pX s) → dt_Kt PX KT → wX_revoke_27 post (nI i) (nI e) 1 (nI e) fm fk st sz mk KT nu sA dA PX ri) :
    ∀ (d j : Nat) (PX KT : Nat → Int32), j + d = e → i < j → (∀ s, dt_Pt sl i j s → PX s = -1) → (∀ s, ¬ dt_Pt sl i j s → PX s = pX s) → dt_Kt PX KT → wX_revoke_27 post (nI i) (nI e) (d + 1) (nI j) fm fk st sz mk KT nu sA dA PX ri := by
  intro d
  induction d with
  | zero =>
    intro j PX KT hj hij b1 b2 T
    have z : j = e := by omega
    subst z
    exact K PX KT b1 b2 T
  | succ d ih =>
    intro j PX KT hj hij b1 b2 T
    have hj' : j < 2 ^ 31 := by omega
    have j16 : j < 16 := by omega
    have jn : j < n := by omega
    have s16 := R.1 j jn
    obtain ⟨p, hp, ep, _⟩ := dt_Pc_1 C s16 (hh j jn)
    have no : ¬ dt_Pt sl i j (sl j) := by
      rintro ⟨k, ⟨x, y⟩, z⟩
      have := R.2 k j (by omega) jn z
      omega
    have ep' : PX (sl j) = nI p := (b2 _ no).trans ep
    refine br_f (nI_ge (by omega) (by omega)) ⟨dt_in j16, ?_⟩
    rw [nI_clamp hj', hs j jn]
    refine dx_forget s16 hp ep' (nm_r (nI_1 j) (ih (j + 1) _ _ (by omega) (by omega) (fun s h => ?_) (fun s h => ?_) (dt_Kt_for T s16 hp ep')))
    · by_cases z : s = sl j
      · rw [z, pk_us]
      · rw [pk_un z]
        obtain ⟨k, ⟨x, y⟩, w⟩ := h
        refine b1 s ⟨k, ⟨x, ?_⟩, w⟩
        have : k ≠ j := fun q => z (by rw [← w, q])
        omega
    · by_cases z : s = sl j
      · exact absurd ⟨j, ⟨hij, by omega⟩, z.symm⟩ h
      · rw [pk_un z]
        refine b2 s fun q => h ?_
        obtain ⟨k, ⟨x, y⟩, w⟩ := q
        exact ⟨k, ⟨x, by omega⟩, w⟩
end
end
section
/-! the walks of the reference -/
def dt_Hd (n : Nat) (sl : Nat → Nat) (H : Nat → Int32) : Prop := ∀ s, s < 16 → (H s = 0 ∧ ¬ dt_In n sl s) ∨ (H s = 1 ∧ dt_In n sl s)
def dt_Th (H pY : Nat → Int32) (v : Int32) : Prop := ∃ s, s < 16 ∧ ¬ H s = 0 ∧ pY s = v
def dt_Sy (H pY nu st sz : Nat → Int32) (p q : Nat) : Prop := dt_Li nu st sz q p ∧ dt_Th H pY (nI q)
def dt_So (H pY nu st sz : Nat → Int32) (p : Nat) : Prop := ∃ q, q < 16 ∧ dt_Sy H pY nu st sz p q
def dt_Hc (H pa : Nat → Int32) (x : Int32) (s : Nat) : Prop := ¬ H s = 0 ∧ pa s = x
def dt_Ds (n : Nat) (sl dp : Nat → Nat) (i s : Nat) : Prop := ∃ j, j < n ∧ sl j = s ∧ dt_De dp i j
section
variable {fm : Int32} {st sz mk nu ri pY H pa go : Nat → Int32}
theorem dy_m0 {post : Int32 → Prop} {s : Nat} (hs : s < 16) (h1 : H s = 1) (h : post 0) : wpY_missing post (fm, H, pY, ri, pa, st, sz, mk, nu, go) (nI s) :=
  br_f (nI_pos (by omega)) (br_f (dt_15l hs) ⟨dt_in hs, br_f (by rw [nI_clamp (by omega), h1]; exact dt_10) h⟩)
theorem dy_m1 {post : Int32 → Prop} {v : Int32} (b : dt_Nh H v) (h : post 1) : wpY_missing post (fm, H, pY, ri, pa, st, sz, mk, nu, go) v := by
  rcases b with b | ⟨a, b⟩ | ⟨s, hs, rfl, h0⟩
  · exact br_t b h
  · exact br_f a (br_t b h)
  · exact br_f (nI_pos (by omega)) (br_f (dt_15l hs) ⟨dt_in hs, br_t (by rw [nI_clamp (by omega), h0]) h⟩)
theorem dy_t0 {post : Int32 → Prop} {s : Nat} (hs : s < 16) (h0 : H s = 0) (h : post 0) : wpY_taken post (fm, H, pY, ri, pa, st, sz, mk, nu, go) (nI s) :=
  br_f (nI_pos (by omega)) (br_f (dt_15l hs) ⟨dt_in hs, br_t (by rw [nI_clamp (by omega), h0]) h⟩)
theorem dy_t1 {post : Int32 → Prop} {v : Int32} (b : dt_Nf H v) (h : post 1) : wpY_taken post (fm, H, pY, ri, pa, st, sz, mk, nu, go) v := by
  rcases b with b | ⟨a, b⟩ | ⟨s, hs, rfl, h1⟩
  · exact br_t b h
  · exact br_f a (br_t b h)
  · exact br_f (nI_pos (by omega)) (br_f (dt_15l hs) ⟨dt_in hs, br_f (by rw [nI_clamp (by omega), h1]; exact dt_10) h⟩)
theorem dy_th2 {post : Int32 → Prop} {v : Int32} (h1 : dt_Th H pY v → post 1) (h0 : ¬ dt_Th H pY v → post 0) : ∀ d j : Nat, j + d = 16 → (∀ s, s < j → ¬ dt_Hc H pY v s) → wY_there_2 post v fm H pY ri pa st sz mk nu go (d + 1) (nI j) := by
  intro d
  induction d with
  | zero =>
    intro j hj c
    refine br_t (dt_16t (by omega) (by omega)) (h0 ?_)
    rintro ⟨q, a, b⟩
    exact c q (by omega) b
  | succ d ih =>
    intro j hj c
    have j16 : j < 16 := by omega
    have hj' : j < 2 ^ 31 := by omega
    have nx : ¬ dt_Hc H pY v j → wY_there_2 post v fm H pY ri pa st sz mk nu go (d + 1) (nI j + 1) := by
      intro z
      rw [nI_1]
      refine ih (j + 1) (by omega) fun q hq => ?_
      by_cases y : q = j
      · rw [y]; exact z
      · exact c q (by omega)
    refine br_f (dt_16f j16) ⟨dt_in j16, ?_⟩
    by_cases k : H j = 0
    · exact br_t ((dt_at H hj').trans k) (nm_e (nx fun z => z.1 k))
    · refine br_f (fun y => k ((dt_at H hj').symm.trans y)) ⟨dt_in j16, ?_⟩
      by_cases m : pY j = v
      · exact br_t ((dt_at pY hj').trans m) (h1 ⟨j, j16, k, m⟩)
      · exact br_f (fun y => m ((dt_at pY hj').symm.trans y)) (nm_e (nx fun z => m z.2))
theorem dy_th {post : Int32 → Prop} {v : Int32} (h1 : dt_Th H pY v → post 1) (h0 : ¬ dt_Th H pY v → post 0) : wpY_there post (fm, H, pY, ri, pa, st, sz, mk, nu, go) v :=
  Exists.intro 17 (dy_th2 h1 h0 16 0 (by omega) (fun q h => absurd h (Nat.not_lt_zero q)))
theorem dy_li {post : Int32 → Prop} {q p : Nat} (hq : q < 16) (hp : p < 16) (h1 : dt_Li nu st sz q p → post 1) (h0 : ¬ dt_Li nu st sz q p → post 0) : wpY_lies post (fm, H, pY, ri, pa, st, sz, mk, nu, go) (nI q) (nI p) := by
  have hq' : q < 2 ^ 31 := by omega
  have hp' : p < 2 ^ 31 := by omega
  refine And.intro (dt_in hq) ⟨dt_in hp, ?_⟩
  by_cases m : nu q ≤ nu p
  · exact br_t (by rw [nI_clamp hq', nI_clamp hp']; exact m) (h0 fun z => z.1 m)
  · refine br_f (by rw [nI_clamp hq', nI_clamp hp']; exact m) ⟨dt_in hq, dt_in hp, ?_⟩
    by_cases l : st q < st p
    · exact br_t (by rw [nI_clamp hq', nI_clamp hp']; exact l) (h0 fun z => z.2.1 l)
    · refine br_f (by rw [nI_clamp hq', nI_clamp hp']; exact l) ⟨dt_in hq, dt_in hq, dt_in hp, dt_in hp, ?_⟩
      by_cases o : st p + sz p < st q + sz q
      · exact br_t (by rw [nI_clamp hq', nI_clamp hp']; exact o) (h0 fun z => z.2.2 o)
      · exact br_f (by rw [nI_clamp hq', nI_clamp hp']; exact o) (h1 ⟨m, l, o⟩)
theorem dy_se12 {post : SY → Prop} {J2 : Int32 → (Nat → Int32) → (Nat → Int32) → (Nat → Int32) → (Nat → Int32) → (Nat → Int32) → (Nat → Int32) → (Nat → Int32) → (Nat → Int32) → (Nat → Int32) → Prop} {p : Nat} (hp : p < 16)
    (h1 : dt_So H pY nu st sz p → J2 (nI (p + 1)) H pY ri pa st sz mk nu go) (h0 : ¬ dt_So H pY nu st sz p → J2 (nI (p + 1)) H pY ri pa st sz (upd mk p 0) nu go) :
    ∀ (d j : Nat) (a : Int32), j + d = 16 → ((a = 0 ∧ ∀ q, q < j → ¬ dt_Sy H pY nu st sz p q) ∨ (a = 1 ∧ dt_So H pY nu st sz p)) → wY_settle_12 post J2 (nI p) fm H pY ri pa st sz mk nu go (d + 1) a (nI j) := by
  intro d
  induction d with
  | zero =>
    intro j a hj c
    refine br_t (dt_16t (by omega) (by omega)) ?_
    rcases c with ⟨rfl, c⟩ | ⟨rfl, c⟩
    · refine br_t rfl ⟨dt_in hp, nm_e (nm_r (nI_1 p) ?_)⟩
      rw [nI_clamp (n := p) (by omega)]
      refine h0 ?_
      rintro ⟨q, x, y⟩
      exact c q (by omega) y
    · exact br_f dt_10 (nm_r (nI_1 p) (h1 c))
  | succ d ih =>
    intro j a hj c
    have j16 : j < 16 := by omega
    have nx : ¬ dt_Sy H pY nu st sz p j → wY_settle_12 post J2 (nI p) fm H pY ri pa st sz mk nu go (d + 1) a (nI (j + 1)) := by
      intro z
      refine ih (j + 1) a (by omega) ?_
      rcases c with ⟨e, c⟩ | c
      · refine Or.inl ⟨e, fun q hq => ?_⟩
        by_cases y : q = j
        · rw [y]; exact z
        · exact c q (by omega)
      · exact Or.inr c
    refine br_f (dt_16f j16) (dy_li j16 hp (fun l => ?_) (fun l => ?_))
    · refine br_f dt_10 (dy_th (fun t => ?_) (fun t => ?_))
      · exact br_f dt_10 (nm_r (nI_1 j) (ih (j + 1) 1 (by omega) (Or.inr ⟨rfl, j, j16, l, t⟩)))
      · exact br_t rfl (nm_r (nI_1 j) (nx fun z => t z.2))
    · exact br_t rfl (nm_r (nI_1 j) (nx fun z => l z.1))
theorem dy_se2 {post : SY → Prop} (K : ∀ M : Nat → Int32, (∀ p, p < 16 → (dt_So H pY nu st sz p → M p = mk p) ∧ (¬ dt_So H pY nu st sz p → M p = 0)) → post (fm, H, pY, ri, pa, st, sz, M, nu, go)) :
    ∀ (d j : Nat) (M : Nat → Int32), j + d = 16 → (∀ p, p < j → (dt_So H pY nu st sz p → M p = mk p) ∧ (¬ dt_So H pY nu st sz p → M p = 0)) → (∀ p, j ≤ p → M p = mk p) → wY_settle_2 post fm (d + 1) (nI j) H pY ri pa st sz M nu go := by
  intro d
  induction d with
  | zero =>
    intro j M hj c1 _
    exact br_t (dt_16t (by omega) (by omega)) (K M fun p hp => c1 p (by omega))
  | succ d ih =>
    intro j M hj c1 c2
    have j16 : j < 16 := by omega
    refine br_f (dt_16f j16) ⟨17, dy_se12 j16 (fun z => ?_) (fun z => ?_) 16 0 0 (by omega) (Or.inl ⟨rfl, fun q h => absurd h (Nat.not_lt_zero q)⟩)⟩
    · refine ih (j + 1) M (by omega) (fun q hq => ?_) (fun q hq => c2 q (by omega))
      by_cases y : q = j
      · rw [y]; exact ⟨fun _ => c2 j (Nat.le_refl j), fun x => absurd z x⟩
      · exact c1 q (by omega)
    · refine ih (j + 1) _ (by omega) (fun q hq => ?_) (fun q hq => ?_)
      · by_cases y : q = j
        · rw [y, pk_us]; exact ⟨fun x => absurd x z, fun _ => rfl⟩
        · rw [pk_un y]; exact c1 q (by omega)
      · rw [pk_un (by omega)]; exact c2 q (by omega)
theorem dy_se {post : SY → Prop} (K : ∀ M : Nat → Int32, (∀ p, p < 16 → (dt_So H pY nu st sz p → M p = mk p) ∧ (¬ dt_So H pY nu st sz p → M p = 0)) → post (fm, H, pY, ri, pa, st, sz, M, nu, go)) : wpY_settle post (fm, H, pY, ri, pa, st, sz, mk, nu, go) :=
  Exists.intro 17 (dy_se2 K 16 0 mk (by omega) (fun q h => absurd h (Nat.not_lt_zero q)) (fun _ _ => rfl))
theorem dy_hold {post : SY → Prop} {s : Nat} {x2 x3 x4 : Int32} (hs : s < 16) (h : post (fm, upd H s 1, upd pY s x2, upd ri s x3, upd pa s x4, st, sz, mk, nu, go)) : wpY_hold post (fm, H, pY, ri, pa, st, sz, mk, nu, go) (nI s) x2 x3 x4 := by
  unfold wpY_hold
  dsimp only
  rw [nI_clamp (n := s) (by omega), dt_b1]
  exact ⟨dt_in hs, nm_e ⟨dt_in hs, nm_e ⟨dt_in hs, nm_e ⟨dt_in hs, nm_e h⟩⟩⟩⟩
theorem dy_sp55 {post : Int32 → SY → Prop} {x1 x2 x3 x4 : Int32} {q : Nat} (hq : q < 16) (t0 : ¬ dt_Th H pY (nI q)) (t1 : ∀ j, j < q → dt_Th H pY (nI j)) (h : wY_split_77 post x1 x2 x3 x4 (nI q) fm H pY ri pa st sz mk nu go) : ∀ d j : Nat, j + d = q → wY_split_55 post x1 x2 x3 x4 fm H pY ri pa st sz mk nu go (d + 1) (nI j) := by
  intro d
  induction d with
  | zero =>
    intro j hj
    have e : j = q := by omega
    subst e
    by_cases c : 15 ≤ j
    · exact br_t (dt_15t c (by omega)) h
    · exact br_f (dt_15f (by omega)) (dy_th (fun t => absurd t t0) (fun _ => br_t rfl h))
  | succ d ih =>
    intro j hj
    exact br_f (dt_15f (by omega)) (dy_th (fun _ => br_f dt_10 (nm_r (nI_1 j) (ih (j + 1) (by omega)))) (fun t => absurd (t1 j (by omega)) t))
theorem dy_ha5 {post : Int32 → SY → Prop} {x1 x2 : Int32} (K : ∀ PA : Nat → Int32, (∀ s, s < 16 → (dt_Hc H pa x1 s → PA s = x2) ∧ (¬ dt_Hc H pa x1 s → PA s = pa s)) → post (nI (dt_cn (dt_Hc H pa x1) 16)) (fm, H, pY, ri, PA, st, sz, mk, nu, go)) :
    ∀ (d j : Nat) (PA : Nat → Int32), j + d = 16 → (∀ s, s < j → (dt_Hc H pa x1 s → PA s = x2) ∧ (¬ dt_Hc H pa x1 s → PA s = pa s)) → (∀ s, j ≤ s → PA s = pa s) → wY_hand_5 post x1 x2 fm (d + 1) (nI (dt_cn (dt_Hc H pa x1) j)) (nI j) H pY ri PA st sz mk nu go := by
  intro d
  induction d with
  | zero =>
    intro j PA hj c1 _
    have e : j = 16 := by omega
    subst e
    exact br_t (dt_16t (by omega) (by omega)) (K PA c1)
  | succ d ih =>
    intro j PA hj c1 c2
    have j16 : j < 16 := by omega
    have hj' : j < 2 ^ 31 := by omega
    have ej := c2 j (Nat.le_refl j)
    have nx : ¬ dt_Hc H pa x1 j → wY_hand_5 post x1 x2 fm (d + 1) (nI (dt_cn (dt_Hc H pa x1) j)) (nI (j + 1)) H pY ri PA st sz mk nu go := by
      intro z
      rw [← dt_cnf z]
      refine ih (j + 1) PA (by omega) (fun q hq => ?_) (fun q hq => c2 q (by omega))
      by_cases y : q = j
      · rw [y]; exact ⟨fun x => absurd x z, fun _ => ej⟩
      · exact c1 q (by omega)
    refine br_f (dt_16f j16) ⟨dt_in j16, ?_⟩
    by_cases k : H j = 0
    · exact br_t ((dt_at H hj').trans k) (nm_r (nI_1 j) (nx fun z => z.1 k))
    · refine br_f (fun y => k ((dt_at H hj').symm.trans y)) ⟨dt_in j16, ?_⟩
      by_cases m : pa j = x1
      · have z : dt_Hc H pa x1 j := ⟨k, m⟩
        refine br_t ((dt_at PA hj').trans (ej.trans m)) ⟨dt_in j16, nm_e (nm_r (nI_1 _) (nm_r (nI_1 j) ?_))⟩
        rw [nI_clamp hj', ← dt_cnt z]
        refine ih (j + 1) _ (by omega) (fun q hq => ?_) (fun q hq => ?_)
        · by_cases y : q = j
          · rw [y, pk_us]; exact ⟨fun _ => rfl, fun x => absurd z x⟩
          · rw [pk_un y]; exact c1 q (by omega)
        · rw [pk_un (by omega)]; exact c2 q (by omega)
      · exact br_f (fun y => m (ej.symm.trans ((dt_at PA hj').symm.trans y))) (nm_r (nI_1 j) (nx fun z => m z.2))
theorem dy_ha {post : Int32 → SY → Prop} {x1 x2 : Int32} (K : ∀ PA : Nat → Int32, (∀ s, s < 16 → (dt_Hc H pa x1 s → PA s = x2) ∧ (¬ dt_Hc H pa x1 s → PA s = pa s)) → post (nI (dt_cn (dt_Hc H pa x1) 16)) (fm, H, pY, ri, PA, st, sz, mk, nu, go)) : wpY_hand post (fm, H, pY, ri, pa, st, sz, mk, nu, go) x1 x2 :=
  Exists.intro 17 (dy_ha5 K 16 0 pa (by omega) (fun q h => absurd h (Nat.not_lt_zero q)) (fun _ _ => rfl))
theorem dy_be10 {post : Int32 → Prop} {sl dp : Nat → Nat} {i n : Nat} (R : dt_Ro n sl) (P : dt_Pa n sl dp pa) (hi : i < n) : ∀ m j t : Nat, j < m → j < n → t + j ≤ 15 → (dt_De dp i j → post 1) → (¬ dt_De dp i j → post 0) → wY_below_10 post (nI (sl i)) fm H pY ri pa st sz mk nu go m (pa (sl j)) (nI t) := by
  intro m
  induction m with
  | zero => intro j t h; omega
  | succ m ih =>
    intro j t hm hj ht h1 h0
    rcases P j hj with ⟨d0, p0⟩ | ⟨j', hj', hp, hd, hb⟩
    · rw [p0]
      exact br_f (dt_16f (by omega)) (br_t dt_m1 (h0 (dt_De_0 d0)))
    · rw [hp]
      have D := dt_De_up (i := i) hj' hd hb
      have jn : j' < n := by omega
      refine br_f (dt_16f (by omega)) (br_f (nI_pos (dt_sl16 R jn)) ?_)
      by_cases z : j' = i
      · exact br_t (by rw [z]) (h1 (D.mpr (Or.inl z.symm)))
      · exact br_f (fun y => z ((dt_sleq R jn hi).mp y)) ⟨dt_in (R.1 j' jn), nm_r (dt_at pa (dt_sl16 R jn)) (nm_r (nI_1 t) (ih j' (t + 1) (by omega) jn (by omega) (fun x => h1 (D.mpr (Or.inr x))) (fun x => h0 fun y => (D.mp y).elim (fun q => z q.symm) x)))⟩
theorem dy_be {post : Int32 → Prop} {sl dp : Nat → Nat} {i j n : Nat} (R : dt_Ro n sl) (P : dt_Pa n sl dp pa) (hn : n ≤ 16) (hi : i < n) (hj : j < n) (h1 : dt_De dp i j → post 1) (h0 : ¬ dt_De dp i j → post 0) : wpY_below post (fm, H, pY, ri, pa, st, sz, mk, nu, go) (nI (sl i)) (nI (sl j)) :=
  And.intro (dt_in (R.1 j hj)) (nm_r (dt_at pa (dt_sl16 R hj)) ⟨j + 1, dy_be10 R P hi (j + 1) j 0 (by omega) hj (by omega) h1 h0⟩)
theorem dy_bs {post : Int32 → Prop} {sl dp : Nat → Nat} {i s n : Nat} (R : dt_Ro n sl) (P : dt_Pa n sl dp pa) (D : dt_Hd n sl H) (hn : n ≤ 16) (hi : i < n) (hs : s < 16) (k : ¬ H s = 0) (h1 : dt_Ds n sl dp i s → post 1) (h0 : ¬ dt_Ds n sl dp i s → post 0) : wpY_below post (fm, H, pY, ri, pa, st, sz, mk, nu, go) (nI (sl i)) (nI s) := by
  rcases D s hs with ⟨e, _⟩ | ⟨_, j, hj, e⟩
  · exact absurd e k
  · subst e
    refine dy_be R P hn hi hj (fun z => h1 ⟨j, hj, rfl, z⟩) (fun z => h0 ?_)
    rintro ⟨j', a, b, c⟩
    rw [R.2 j' j a hj b] at c
    exact z c
theorem dt_Ds_H {n : Nat} {sl dp : Nat → Nat} {i s : Nat} (D : dt_Hd n sl H) (hs : s < 16) (z : dt_Ds n sl dp i s) : ¬ H s = 0 := by
  intro e
  obtain ⟨j, a, b, _⟩ := z
  rcases D s hs with ⟨_, q⟩ | ⟨q, _⟩
  · exact q ⟨j, a, b⟩
  · rw [e] at q; exact dt_10 q.symm
theorem dy_de14 {post : Int32 → Prop} {sl dp : Nat → Nat} {i n : Nat} (R : dt_Ro n sl) (P : dt_Pa n sl dp pa) (D : dt_Hd n sl H) (hn : n ≤ 16) (hi : i < n) (K : post (nI (dt_cn (dt_Ds n sl dp i) 16))) : ∀ d j : Nat, j + d = 16 → wY_descendants_14 post (nI (sl i)) fm H pY ri pa st sz mk nu go (d + 1) (nI (dt_cn (dt_Ds n sl dp i) j)) (nI j) := by
  intro d
  induction d with
  | zero =>
    intro j hj
    have e : j = 16 := by omega
    subst e
    exact br_t (dt_16t (by omega) (by omega)) K
  | succ d ih =>
    intro j hj
    have j16 : j < 16 := by omega
    have hj' : j < 2 ^ 31 := by omega
    have nx := ih (j + 1) (by omega)
    refine br_f (dt_16f j16) ⟨dt_in j16, ?_⟩
    by_cases k : H j = 0
    · rw [dt_cnf fun z => dt_Ds_H D j16 z k] at nx
      exact br_t ((dt_at H hj').trans k) (nm_r (nI_1 j) nx)
    · refine br_f (fun y => k ((dt_at H hj').symm.trans y)) (dy_bs R P D hn hi j16 k (fun z => ?_) (fun z => ?_))
      · rw [dt_cnt z] at nx
        exact br_f dt_10 (nm_r (nI_1 _) (nm_r (nI_1 j) nx))
      · rw [dt_cnf z] at nx
        exact br_t rfl (nm_r (nI_1 j) nx)
theorem dy_rv12 {post : Int32 → SY → Prop} {sl dp : Nat → Nat} {i n : Nat} (R : dt_Ro n sl) (P : dt_Pa n sl dp pa) (D : dt_Hd n sl H) (hn : n ≤ 16) (hi : i < n)
    (K : ∀ G : Nat → Int32, (∀ s, s < 16 → (dt_Ds n sl dp i s → G s = 1) ∧ (¬ dt_Ds n sl dp i s → G s = 0)) → ∃ m : Nat, wY_revoke_57 post fm m 0 0 H pY ri pa st sz mk nu G) :
    ∀ (d j : Nat) (G : Nat → Int32), j + d = 16 → (∀ s, s < j → (dt_Ds n sl dp i s → G s = 1) ∧ (¬ dt_Ds n sl dp i s → G s = 0)) → wY_revoke_12 post (nI (sl i)) fm (d + 1) (nI j) H pY ri pa st sz mk nu G := by
  intro d
  induction d with
  | zero =>
    intro j G hj c
    have e : j = 16 := by omega
    subst e
    exact br_t (dt_16t (by omega) (by omega)) (K G c)
  | succ d ih =>
    intro j G hj c
    have j16 : j < 16 := by omega
    have hj' : j < 2 ^ 31 := by omega
    have n0 : ¬ dt_Ds n sl dp i j → wY_revoke_12 post (nI (sl i)) fm (d + 1) (nI (j + 1)) H pY ri pa st sz mk nu (upd G (nI j).toNatClampNeg (vp_nar .boolean 0)) := by
      intro z
      rw [nI_clamp hj', dt_b0]
      refine ih (j + 1) _ (by omega) (fun q hq => ?_)
      by_cases y : q = j
      · rw [y, pk_us]; exact ⟨fun x => absurd x z, fun _ => rfl⟩
      · rw [pk_un y]; exact c q (by omega)
    have n1 : dt_Ds n sl dp i j → wY_revoke_12 post (nI (sl i)) fm (d + 1) (nI (j + 1)) H pY ri pa st sz mk nu (upd G (nI j).toNatClampNeg (vp_nar .boolean 1)) := by
      intro z
      rw [nI_clamp hj', dt_b1]
      refine ih (j + 1) _ (by omega) (fun q hq => ?_)
      by_cases y : q = j
      · rw [y, pk_us]; exact ⟨fun _ => rfl, fun x => absurd z x⟩
      · rw [pk_un y]; exact c q (by omega)
    refine br_f (dt_16f j16) ⟨dt_in j16, ?_⟩
    by_cases k : H j = 0
    · exact br_t ((dt_at H hj').trans k) ⟨dt_in j16, nm_e (nm_r (nI_1 j) (n0 fun z => dt_Ds_H D j16 z k))⟩
    · refine br_f (fun y => k ((dt_at H hj').symm.trans y)) (dy_bs R P D hn hi j16 k (fun z => ?_) (fun z => ?_))
      · exact br_f dt_10 ⟨dt_in j16, nm_e (nm_r (nI_1 j) (n1 z))⟩
      · exact br_t rfl ⟨dt_in j16, nm_e (nm_r (nI_1 j) (n0 z))⟩
theorem dy_rv57 {post : Int32 → SY → Prop} {Q : Nat → Prop} (hg : ∀ s, s < 16 → (Q s → go s = 1) ∧ (¬ Q s → go s = 0))
    (K : ∀ HH : Nat → Int32, (∀ s, s < 16 → (Q s → HH s = 0) ∧ (¬ Q s → HH s = H s)) → wY_revoke_57 post fm 1 (nI (dt_cn Q 16)) (nI 16) HH pY ri pa st sz mk nu go) :
    ∀ (d j : Nat) (HH : Nat → Int32), j + d = 16 → (∀ s, s < j → (Q s → HH s = 0) ∧ (¬ Q s → HH s = H s)) → (∀ s, j ≤ s → HH s = H s) → wY_revoke_57 post fm (d + 1) (nI (dt_cn Q j)) (nI j) HH pY ri pa st sz mk nu go := by
  intro d
  induction d with
  | zero =>
    intro j HH hj c1 _
    have e : j = 16 := by omega
    subst e
    exact K HH c1
  | succ d ih =>
    intro j HH hj c1 c2
    have j16 : j < 16 := by omega
    have hj' : j < 2 ^ 31 := by omega
    refine br_f (dt_16f j16) ⟨dt_in j16, ?_⟩
    by_cases z : Q j
    · refine br_f (by rw [nI_clamp hj', (hg j j16).1 z]; exact dt_10) ⟨dt_in j16, nm_e (nm_r (nI_1 _) (nm_r (nI_1 j) ?_))⟩
      rw [nI_clamp hj', dt_b0, ← dt_cnt z]
      refine ih (j + 1) _ (by omega) (fun q hq => ?_) (fun q hq => ?_)
      · by_cases y : q = j
        · rw [y, pk_us]; exact ⟨fun _ => rfl, fun x => absurd z x⟩
        · rw [pk_un y]; exact c1 q (by omega)
      · rw [pk_un (by omega)]; exact c2 q (by omega)
    · refine br_t (by rw [nI_clamp hj', (hg j j16).2 z]) (nm_r (nI_1 j) ?_)
      rw [← dt_cnf z]
      refine ih (j + 1) HH (by omega) (fun q hq => ?_) (fun q hq => c2 q (by omega))
      by_cases y : q = j
      · rw [y]; exact ⟨fun x => absurd x z, fun _ => c2 j (Nat.le_refl j)⟩
      · exact c1 q (by omega)
theorem dy_ke4 {post : Int32 → Prop} (K : post (nI (dt_cn (fun s => ¬ H s = 0) 16))) : ∀ d j : Nat, j + d = 16 → wY_keys_4 post fm H pY ri pa st sz mk nu go (d + 1) (nI (dt_cn (fun s => ¬ H s = 0) j)) (nI j) := by
  intro d
  induction d with
  | zero =>
    intro j hj
    have e : j = 16 := by omega
    subst e
    exact br_t (dt_16t (by omega) (by omega)) K
  | succ d ih =>
    intro j hj
    have j16 : j < 16 := by omega
    have hj' : j < 2 ^ 31 := by omega
    have nx := ih (j + 1) (by omega)
    refine br_f (dt_16f j16) ⟨dt_in j16, ?_⟩
    by_cases k : H j = 0
    · rw [dt_cnf (P := fun s => ¬ H s = 0) fun z => z k] at nx
      exact br_t ((dt_at H hj').trans k) (nm_r (nI_1 j) nx)
    · rw [dt_cnt (P := fun s => ¬ H s = 0) k] at nx
      exact br_f (fun y => k ((dt_at H hj').symm.trans y)) (nm_r (nI_1 _) (nm_r (nI_1 j) nx))
end
end
section
/-! the relation; the methods that only read -/
def dt_Mk (kt mX mY sz : Nat → Int32) : Prop := ∀ p, p < 16 → ¬ kt p = 0 → mY p = mX p ∧ 0 ≤ (mX p).toInt ∧ (mX p).toInt ≤ (sz p).toInt
def dt_I (n : Nat) (sl dp : Nat → Nat) (sA dA pX pY H pa kt mX mY sz : Nat → Int32) : Prop :=
  n ≤ 16 ∧ (∀ i, i < n → sA i = nI (sl i)) ∧ (∀ i, i < n → dA i = nI (dp i)) ∧ dt_Ro n sl ∧ dt_Pa n sl dp pa ∧ dt_Hd n sl H ∧ dt_Pc H pX pY ∧ dt_Kt pX kt ∧ dt_Mk kt mX mY sz
/-- the relation: same pieces, rights and counters; the row of keys (slots sl, depths dp) tells the parents; see dt_I -/
def i_Rel (k : Nat) (u : SX) (v : SY) : Prop :=
  ∃ (fm : Int32) (n : Nat) (st sz mX kt nu sA dA pX ri H pY pa mY go : Nat → Int32) (sl dp : Nat → Nat), u = (fm, nI n, st, sz, mX, kt, nu, sA, dA, pX, ri) ∧ v = (fm, H, pY, ri, pa, st, sz, mY, nu, go) ∧ dt_I n sl dp sA dA pX pY H pa kt mX mY sz
theorem dt_el {k : Nat} {P : SX → SY → Prop} (h : ∀ (fm : Int32) (n : Nat) (st sz mX kt nu sA dA pX ri H pY pa mY go : Nat → Int32) (sl dp : Nat → Nat), dt_I n sl dp sA dA pX pY H pa kt mX mY sz → P (fm, nI n, st, sz, mX, kt, nu, sA, dA, pX, ri) (fm, H, pY, ri, pa, st, sz, mY, nu, go)) {u : SX} {v : SY} (I : i_Rel k u v) : P u v := by
  obtain ⟨fm, n, st, sz, mX, kt, nu, sA, dA, pX, ri, H, pY, pa, mY, go, sl, dp, rfl, rfl, i⟩ := I
  exact h fm n st sz mX kt nu sA dA pX ri H pY pa mY go sl dp i
theorem dt_re {k : Nat} {fm : Int32} {n : Nat} {st sz mX kt nu sA dA pX ri H pY pa mY go : Nat → Int32} (sl dp : Nat → Nat) (i : dt_I n sl dp sA dA pX pY H pa kt mX mY sz) : i_Rel k (fm, nI n, st, sz, mX, kt, nu, sA, dA, pX, ri) (fm, H, pY, ri, pa, st, sz, mY, nu, go) :=
  ⟨fm, n, st, sz, mX, kt, nu, sA, dA, pX, ri, H, pY, pa, mY, go, sl, dp, rfl, rfl, i⟩
theorem i_up {k : Nat} {u : SX} {v : SY} (h : i_Rel k u v) : i_Rel (k + 4) u v := h
theorem dt_held {n : Nat} {sl : Nat → Nat} {H : Nat → Int32} (D : dt_Hd n sl H) {s : Nat} (hs : s < 16) (h : H s = 1) : dt_In n sl s := by
  rcases D s hs with ⟨e, _⟩ | ⟨_, e⟩
  · rw [h] at e; exact absurd e dt_10
  · exact e
theorem dt_nheld {n : Nat} {sl : Nat → Nat} {H : Nat → Int32} (D : dt_Hd n sl H) {s : Nat} (hs : s < 16) (h : H s = 0) : ¬ dt_In n sl s := by
  rcases D s hs with ⟨_, e⟩ | ⟨e, _⟩
  · exact e
  · rw [h] at e; exact absurd e.symm dt_10
theorem dt_in_held {n : Nat} {sl : Nat → Nat} {H : Nat → Int32} (D : dt_Hd n sl H) (R : dt_Ro n sl) {j : Nat} (hj : j < n) : H (sl j) = 1 := by
  rcases D (sl j) (R.1 j hj) with ⟨_, e⟩ | ⟨e, _⟩
  · exact absurd ⟨j, hj, rfl⟩ e
  · exact e
theorem dt_kt_iff {pX kt : Nat → Int32} (T : dt_Kt pX kt) {p : Nat} (hp : p < 16) : ¬ kt p = 0 ↔ ∃ s, s < 16 ∧ pX s = nI p := by
  have l := dt_cn_le (fun s => pX s = nI p) 16
  rw [T p hp]
  constructor
  · intro z
    refine Classical.byContradiction fun no => z ?_
    rw [dt_cn_0 fun s hs e => no ⟨s, hs, e⟩]
    exact nI_0
  · rintro ⟨s, hs, e⟩
    exact nI_ne0 (dt_cn_pos (P := fun s => pX s = nI p) e hs) (by omega)
theorem dt_kt_le {pX kt : Nat → Int32} (T : dt_Kt pX kt) {p : Nat} (hp : p < 16) : ¬ kt p ≤ 0 ↔ ¬ kt p = 0 := by
  have l := dt_cn_le (fun s => pX s = nI p) 16
  rw [T p hp]
  constructor
  · intro z e
    exact z (by rw [e]; exact Int32.le_refl 0)
  · intro z
    refine nI_nle ?_ (by omega)
    refine Nat.pos_of_ne_zero fun e => z ?_
    rw [e]; exact nI_0
theorem dt_cn_De {n : Nat} {sl dp : Nat → Nat} {i e : Nat} (R : dt_Ro n sl) (E : dt_En n dp i e) : dt_cn (dt_Ds n sl dp i) 16 = e - (i + 1) := by
  have a : dt_cn (dt_Ds n sl dp i) 16 = dt_cn (dt_De dp i) n := dt_cn_img R.1 R.2
  rw [a, dt_cn_eq (Q := fun j => i < j ∧ j < e) fun j hj => dt_En_De E hj, dt_cn_ext (e := e) E.2.1 fun j h _ z => absurd z.2 (by omega)]
  exact dt_cn_int e (Nat.le_refl e)
theorem dt_cn_H {n : Nat} {sl : Nat → Nat} {H : Nat → Int32} (R : dt_Ro n sl) (D : dt_Hd n sl H) : dt_cn (fun s => ¬ H s = 0) 16 = n := by
  have a : dt_cn (fun s => ∃ j, j < n ∧ sl j = s ∧ True) 16 = dt_cn (fun _ => True) n := dt_cn_img R.1 R.2
  rw [dt_cn_all fun _ _ => trivial] at a
  rw [← a]
  refine dt_cn_eq fun s hs => ?_
  constructor
  · intro z
    rcases D s hs with ⟨e, _⟩ | ⟨_, j, x, y⟩
    · exact absurd e z
    · exact ⟨j, x, y, trivial⟩
  · rintro ⟨j, x, y, _⟩ e
    exact dt_nheld D hs e ⟨j, x, y⟩
theorem i_vc_piece {k : Nat} {u : SX} {v : SY} (I : i_Rel k u v) (hk : k + 4 ≤ 2048) (v1 : Int32) : wpX_piece (fun r => wpY_piece (fun r' => r' = r ∧ i_Rel (k + 4) u v) v v1) u v1 := by
  refine dt_el (P := fun u v => wpX_piece (fun r => wpY_piece (fun r' => r' = r ∧ i_Rel (k + 4) u v) v v1) u v1) ?_ I
  intro fm n st sz mX kt nu sA dA pX ri H pY pa mY go sl dp i
  have J := dt_re (k := k + 4) (fm := fm) (st := st) (nu := nu) (ri := ri) (go := go) sl dp i
  obtain ⟨hn, hs, hd, R, P, D, C, T, M⟩ := i
  unfold wpX_piece wpY_piece
  dsimp only
  rcases dt_hcase C v1 with b | ⟨s, s16, rfl, h1⟩
  · exact dx_h0 C b (br_t rfl (dy_m1 b (br_f dt_10 ⟨rfl, J⟩)))
  · obtain ⟨p, hp, ep, eq⟩ := dt_Pc_1 C s16 h1
    refine dx_h1 C s16 h1 (br_f dt_10 ?_)
    rw [nI_clamp (n := s) (by omega), ep, eq, nI_clamp (n := p) (by omega)]
    exact ⟨dt_in s16, dt_in hp, dt_in s16, dt_in hp, dy_m0 s16 h1 (br_t rfl ⟨dt_in s16, dt_in hp, dt_in s16, dt_in hp, rfl, J⟩)⟩
theorem i_vc_rights {k : Nat} {u : SX} {v : SY} (I : i_Rel k u v) (hk : k + 4 ≤ 2048) (v1 : Int32) : wpX_rights (fun r => wpY_rights (fun r' => r' = r ∧ i_Rel (k + 4) u v) v v1) u v1 := by
  refine dt_el (P := fun u v => wpX_rights (fun r => wpY_rights (fun r' => r' = r ∧ i_Rel (k + 4) u v) v v1) u v1) ?_ I
  intro fm n st sz mX kt nu sA dA pX ri H pY pa mY go sl dp i
  have J := dt_re (k := k + 4) (fm := fm) (st := st) (nu := nu) (ri := ri) (go := go) sl dp i
  obtain ⟨hn, hs, hd, R, P, D, C, T, M⟩ := i
  unfold wpX_rights wpY_rights
  dsimp only
  rcases dt_hcase C v1 with b | ⟨s, s16, rfl, h1⟩
  · exact dx_h0 C b (br_t rfl (dy_m1 b (br_f dt_10 ⟨rfl, J⟩)))
  · exact dx_h1 C s16 h1 (br_f dt_10 ⟨dt_in s16, dy_m0 s16 h1 (br_t rfl ⟨dt_in s16, rfl, J⟩)⟩)
theorem i_vc_room {k : Nat} {u : SX} {v : SY} (I : i_Rel k u v) (hk : k + 4 ≤ 2048) (v1 : Int32) : wpX_room (fun r => wpY_room (fun r' => r' = r ∧ i_Rel (k + 4) u v) v v1) u v1 := by
  refine dt_el (P := fun u v => wpX_room (fun r => wpY_room (fun r' => r' = r ∧ i_Rel (k + 4) u v) v v1) u v1) ?_ I
  intro fm n st sz mX kt nu sA dA pX ri H pY pa mY go sl dp i
  have J := dt_re (k := k + 4) (fm := fm) (st := st) (nu := nu) (ri := ri) (go := go) sl dp i
  obtain ⟨hn, hs, hd, R, P, D, C, T, M⟩ := i
  unfold wpX_room wpY_room
  dsimp only
  rcases dt_hcase C v1 with b | ⟨s, s16, rfl, h1⟩
  · exact dx_h0 C b (br_t rfl (dy_m1 b (br_f dt_10 ⟨rfl, J⟩)))
  · obtain ⟨p, hp, ep, eq⟩ := dt_Pc_1 C s16 h1
    have em := (M p hp ((dt_kt_iff T hp).mpr ⟨s, s16, ep⟩)).1
    refine dx_h1 C s16 h1 (br_f dt_10 ?_)
    rw [nI_clamp (n := s) (by omega), ep, eq, nI_clamp (n := p) (by omega), em]
    exact ⟨dt_in s16, dt_in hp, dt_in s16, dt_in hp, dy_m0 s16 h1 (br_t rfl ⟨dt_in s16, dt_in hp, dt_in s16, dt_in hp, rfl, J⟩)⟩
theorem i_vc_keys {k : Nat} {u : SX} {v : SY} (I : i_Rel k u v) (hk : k + 4 ≤ 2048) : wpX_keys (fun r => wpY_keys (fun r' => r' = r ∧ i_Rel (k + 4) u v) v) u := by
  refine dt_el (P := fun u v => wpX_keys (fun r => wpY_keys (fun r' => r' = r ∧ i_Rel (k + 4) u v) v) u) ?_ I
  intro fm n st sz mX kt nu sA dA pX ri H pY pa mY go sl dp i
  have J := dt_re (k := k + 4) (fm := fm) (st := st) (nu := nu) (ri := ri) (go := go) sl dp i
  obtain ⟨hn, hs, hd, R, P, D, C, T, M⟩ := i
  unfold wpX_keys wpY_keys
  dsimp only
  exact ⟨17, dy_ke4 ⟨by rw [dt_cn_H R D], J⟩ 16 0 (by omega)⟩
theorem i_vc_descends {k : Nat} {u : SX} {v : SY} (I : i_Rel k u v) (hk : k + 4 ≤ 2048) (v1 : Int32) (v2 : Int32) : wpX_descends (fun r => wpY_descends (fun r' => r' = r ∧ i_Rel (k + 4) u v) v v1 v2) u v1 v2 := by
  refine dt_el (P := fun u v => wpX_descends (fun r => wpY_descends (fun r' => r' = r ∧ i_Rel (k + 4) u v) v v1 v2) u v1 v2) ?_ I
  intro fm n st sz mX kt nu sA dA pX ri H pY pa mY go sl dp i
  have J := dt_re (k := k + 4) (fm := fm) (st := st) (nu := nu) (ri := ri) (go := go) sl dp i
  obtain ⟨hn, hs, hd, R, P, D, C, T, M⟩ := i
  unfold wpX_descends wpY_descends
  dsimp only
  rcases dt_hcase C v1 with b | ⟨s, s16, rfl, h1⟩
  · exact dx_h0 C b (br_t rfl (dy_m1 b (br_f dt_10 ⟨rfl, J⟩)))
  · refine dx_h1 C s16 h1 (br_f dt_10 ?_)
    rcases dt_hcase C v2 with b | ⟨t, t16, rfl, h2⟩
    · exact dx_h0 C b (br_t rfl (dy_m0 s16 h1 (br_t rfl (dy_m1 b (br_f dt_10 ⟨rfl, J⟩)))))
    · refine dx_h1 C t16 h2 (br_f dt_10 ?_)
      obtain ⟨i, hi, rfl⟩ := dt_held D s16 h1
      obtain ⟨j, hj, rfl⟩ := dt_held D t16 h2
      obtain ⟨e, E⟩ := dt_En_ex dp hi
      have F := dt_En_De E hj
      have e16 := E.2.1
      refine dx_place R hn hi hs (dx_place R hn hj hs (pk_le j i (fun l => ?_) (fun l => ?_)))
      · exact dy_m0 s16 h1 (br_t rfl (dy_m0 t16 h2 (br_t rfl (dy_be R P hn hi hj (fun z => absurd (F.mp z).1 (by omega)) (fun _ => br_t rfl ⟨rfl, J⟩)))))
      · refine dx_end E hn hd (dt_dp_le P) (pk_le e j (fun l' => ?_) (fun l' => ?_))
        · exact dy_m0 s16 h1 (br_t rfl (dy_m0 t16 h2 (br_t rfl (dy_be R P hn hi hj (fun z => absurd (F.mp z).2 (by omega)) (fun _ => br_t rfl ⟨rfl, J⟩)))))
        · exact dy_m0 s16 h1 (br_t rfl (dy_m0 t16 h2 (br_t rfl (dy_be R P hn hi hj (fun _ => br_f dt_10 ⟨rfl, J⟩) (fun z => absurd (F.mpr ⟨l, l'⟩) z)))))
theorem i_vc_descendants {k : Nat} {u : SX} {v : SY} (I : i_Rel k u v) (hk : k + 4 ≤ 2048) (v1 : Int32) : wpX_descendants (fun r => wpY_descendants (fun r' => r' = r ∧ i_Rel (k + 4) u v) v v1) u v1 := by
  refine dt_el (P := fun u v => wpX_descendants (fun r => wpY_descendants (fun r' => r' = r ∧ i_Rel (k + 4) u v) v v1) u v1) ?_ I
  intro fm n st sz mX kt nu sA dA pX ri H pY pa mY go sl dp i
  have J := dt_re (k := k + 4) (fm := fm) (st := st) (nu := nu) (ri := ri) (go := go) sl dp i
  obtain ⟨hn, hs, hd, R, P, D, C, T, M⟩ := i
  unfold wpX_descendants wpY_descendants
  dsimp only
  rcases dt_hcase C v1 with b | ⟨s, s16, rfl, h1⟩
  · exact dx_h0 C b (br_t rfl (dy_m1 b (br_f dt_10 ⟨rfl, J⟩)))
  · obtain ⟨i, hi, rfl⟩ := dt_held D s16 h1
    obtain ⟨e, E⟩ := dt_En_ex dp hi
    have e16 := E.2.1
    have ie := E.1
    refine dx_h1 C s16 h1 (br_f dt_10 (dx_place R hn hi hs (dx_end E hn hd (dt_dp_le P) ?_)))
    refine dy_m0 s16 h1 (br_t rfl ⟨17, dy_de14 R P D hn hi ⟨?_, J⟩ 16 0 (by omega)⟩)
    rw [dt_cn_De R E, pk_sub (by omega), dt_pred (by omega)]
    exact congrArg nI (by omega)
end
section
/-! copy, split, move -/
theorem dt_self {n : Nat} {sl dp : Nat → Nat} {pa : Nat → Int32} {i : Nat} (R : dt_Ro n sl) (P : dt_Pa n sl dp pa) (hi : i < n) : ¬ pa (sl i) = nI (sl i) := by
  intro z
  rcases P i hi with ⟨_, p0⟩ | ⟨j, hj, hp, _, _⟩
  · exact dt_nm1 (dt_sl16 R hi) (z.symm.trans p0)
  · have := (dt_sleq R (by omega) hi).mp (hp.symm.trans z)
    omega
theorem dt_n15 {n : Nat} {sl : Nat → Nat} {H : Nat → Int32} {b : Nat} (R : dt_Ro n sl) (D : dt_Hd n sl H) (hb : b < 16) (h0 : H b = 0) : n < 16 := by
  have a := dt_cn_H R D
  have c := dt_cn_ins (P := fun s => ¬ H s = 0) (Q := fun s => ¬ H s = 0 ∨ s = b) (a := b) (fun z => z h0) (Or.inr rfl) (n := 16) hb (fun i _ ne => ⟨Or.inl, fun z => z.resolve_right ne⟩)
  have l := dt_cn_le (fun s => ¬ H s = 0 ∨ s = b) 16
  omega
def dt_insf (f : Nat → Nat) (i x : Nat) : Nat → Nat := fun j => if j ≤ i then f j else if j = i + 1 then x else f (j - 1)
theorem dt_ins1 {f : Nat → Nat} {i x j : Nat} (h : j ≤ i) : dt_insf f i x j = f j := if_pos h
theorem dt_ins2 {f : Nat → Nat} {i x : Nat} : dt_insf f i x (i + 1) = x := by
  unfold dt_insf
  rw [if_neg (by omega), if_pos rfl]
theorem dt_ins3 {f : Nat → Nat} {i x j : Nat} (h : i < j) : dt_insf f i x (j + 1) = f j := by
  unfold dt_insf
  rw [if_neg (by omega), if_neg (by omega), Nat.add_sub_cancel]
theorem dt_rowput {n : Nat} {sl dp : Nat → Nat} {sA dA H pa A B : Nat → Int32} {i b : Nat} (hs : ∀ i, i < n → sA i = nI (sl i)) (hd : ∀ i, i < n → dA i = nI (dp i)) (R : dt_Ro n sl) (P : dt_Pa n sl dp pa) (D : dt_Hd n sl H) (hi : i < n) (hb : b < 16) (h0 : H b = 0)
    (a1 : ∀ k, k ≤ i → A k = sA k) (a2 : A (i + 1) = nI b) (a3 : ∀ k, i < k → k < n → A (k + 1) = sA k) (b1 : ∀ k, k ≤ i → B k = dA k) (b2 : B (i + 1) = dA i + 1) (b3 : ∀ k, i < k → k < n → B (k + 1) = dA k) :
    ∃ sl' dp' : Nat → Nat, n + 1 ≤ 16 ∧ (∀ j, j < n + 1 → A j = nI (sl' j)) ∧ (∀ j, j < n + 1 → B j = nI (dp' j)) ∧ dt_Ro (n + 1) sl' ∧ dt_Pa (n + 1) sl' dp' (upd pa b (nI (sl i))) ∧ dt_Hd (n + 1) sl' (upd H b 1) := by
  have ht : ∀ j, j < n → sl j ≠ b := fun j hj e => dt_nheld D hb h0 ⟨j, hj, e⟩
  have s1 : ∀ j, j ≤ i → dt_insf sl i b j = sl j := fun j h => dt_ins1 h
  have s3 : ∀ j, i < j → j < n → dt_insf sl i b (j + 1) = sl j := fun j h _ => dt_ins3 h
  refine ⟨dt_insf sl i b, dt_insf dp i (dp i + 1), dt_n15 R D hb h0, ?_, ?_, dt_putR R hi ht hb s1 dt_ins2 s3, ?_, ?_⟩
  · intro j hj
    rcases dt_ixp (i := i) hj with h | rfl | ⟨o, h, h', rfl⟩
    · rw [a1 j h, dt_ins1 h]; exact hs j (by omega)
    · rw [a2, dt_ins2]
    · rw [a3 o h h', dt_ins3 h]; exact hs o h'
  · intro j hj
    rcases dt_ixp (i := i) hj with h | rfl | ⟨o, h, h', rfl⟩
    · rw [b1 j h, dt_ins1 h]; exact hd j (by omega)
    · rw [b2, dt_ins2, hd i hi, nI_1]
    · rw [b3 o h h', dt_ins3 h]; exact hd o h'
  · exact dt_putP P hi ht s1 dt_ins2 s3 (fun j h => dt_ins1 h) dt_ins2 (fun j h _ => dt_ins3 h) pk_us (fun s ne => pk_un ne)
  · intro s hs16
    have m := dt_putI (sl' := dt_insf sl i b) hi s1 dt_ins2 s3 s
    by_cases e : s = b
    · rw [e, pk_us]
      rw [e] at m
      exact Or.inr ⟨rfl, m.mpr (Or.inl rfl)⟩
    · rw [pk_un e]
      rcases D s hs16 with ⟨x, y⟩ | ⟨x, y⟩
      · exact Or.inl ⟨x, fun z => y ((m.mp z).resolve_left e)⟩
      · exact Or.inr ⟨x, m.mpr (Or.inr y)⟩
theorem dt_Pc_put {H pX pY : Nat → Int32} {b p : Nat} (C : dt_Pc H pX pY) (hp : p < 16) : dt_Pc (upd H b 1) (upd pX b (nI p)) (upd pY b (nI p)) := by
  intro s hs
  by_cases e : s = b
  · rw [e, pk_us, pk_us, pk_us]
    exact Or.inr ⟨rfl, p, hp, rfl, rfl⟩
  · rw [pk_un e, pk_un e, pk_un e]
    exact C s hs
theorem dt_Mk_put {kt mX mY sz : Nat → Int32} {p : Nat} (M : dt_Mk kt mX mY sz) (kp : ¬ kt p = 0) : dt_Mk (upd kt p (kt p + 1)) mX mY sz := by
  intro z hz k
  by_cases e : z = p
  · rw [e]; rw [e] at hz; exact M p hz kp
  · rw [pk_un e] at k; exact M z hz k
theorem i_vc_copy {k : Nat} {u : SX} {v : SY} (I : i_Rel k u v) (hk : k + 4 ≤ 2048) (v1 : Int32) (v2 : Int32) (v3 : Int32) : wpX_copy (fun r u' => wpY_copy (fun r' v' => r' = r ∧ i_Rel (k + 4) u' v') v v1 v2 v3) u v1 v2 v3 := by
  refine dt_el (P := fun u v => wpX_copy (fun r u' => wpY_copy (fun r' v' => r' = r ∧ i_Rel (k + 4) u' v') v v1 v2 v3) u v1 v2 v3) ?_ I
  intro fm n st sz mX kt nu sA dA pX ri H pY pa mY go sl dp i
  have J := dt_re (k := k + 4) (fm := fm) (st := st) (nu := nu) (ri := ri) (go := go) sl dp i
  obtain ⟨hn, hs, hd, R, P, D, C, T, M⟩ := i
  unfold wpX_copy wpY_copy
  dsimp only
  rcases dt_hcase C v1 with bd | ⟨a, a16, rfl, h1⟩
  · exact dx_h0 C bd (br_t rfl (dy_m1 bd (br_f dt_10 ⟨rfl, J⟩)))
  · refine dx_h1 C a16 h1 (br_f dt_10 ?_)
    rcases dt_fcase C v2 with bd | ⟨b, b16, rfl, h0⟩
    · exact dx_f0 C bd (br_t rfl (dy_m0 a16 h1 (br_t rfl (dy_t1 bd (br_f dt_10 ⟨rfl, J⟩)))))
    · refine dx_f1 C b16 h0 (br_f dt_10 ?_)
      obtain ⟨i, hi, rfl⟩ := dt_held D a16 h1
      obtain ⟨p, hp, ep, eq⟩ := dt_Pc_1 C a16 h1
      rw [nI_clamp (n := sl i) (by omega), ep, eq]
      refine ⟨dt_in a16, dt_in a16, dx_put R hs (dt_n15 R D b16 h0) hi b16 hp (fun A B a1 a2 a3 b1 b2 b3 => ?_)⟩
      refine ⟨dt_in b16, dy_m0 a16 h1 (br_t rfl (dy_t0 b16 h0 (br_t rfl ⟨dt_in a16, dt_in a16, dy_hold b16 ⟨dt_in b16, rfl, ?_⟩⟩)))⟩
      obtain ⟨sl', dp', e1, e2, e3, e4, e5, e6⟩ := dt_rowput hs hd R P D hi b16 h0 a1 a2 a3 b1 b2 b3
      have kp := (dt_kt_iff T hp).mpr ⟨sl i, a16, ep⟩
      exact dt_re sl' dp' ⟨e1, e2, e3, e4, e5, e6, dt_Pc_put C hp, dt_Kt_put T b16 hp (dt_Pc_0 C b16 h0), dt_Mk_put M kp⟩
section
variable {fm : Int32} {st sz mk kt nu sA dA pX ri pY H pa go : Nat → Int32}
theorem dy_split {post : Int32 → SY → Prop} {a b p q : Nat} {v3 : Int32} (a16 : a < 16) (h1 : H a = 1) (b16 : b < 16) (h0 : H b = 0) (hp : p < 16) (eq : pY a = nI p) (g : 1 ≤ v3) (r : v3 ≤ sz p - mk p) (hq : q < 16) (t0 : ¬ dt_Th H pY (nI q)) (t1 : ∀ j, j < q → dt_Th H pY (nI j))
    (K : post (st p + mk p) (fm + 1, upd H b 1, upd pY b (nI q), upd ri b (ri a), upd pa b (nI a), upd st q (st p + mk p), upd sz q v3, upd (upd mk q 0) p (upd mk q 0 p + v3), upd nu q fm, go)) : wpY_split post (fm, H, pY, ri, pa, st, sz, mk, nu, go) (nI a) (nI b) v3 := by
  unfold wpY_split
  dsimp only
  refine dy_m0 a16 h1 (br_t rfl (dy_t0 b16 h0 (br_t rfl ⟨dt_in a16, nm_r (e' := nI p) (by rw [nI_clamp (by omega), eq]) (br_f (Int32.not_lt.mpr g) ⟨dt_in hp, dt_in hp, br_t (by rw [nI_clamp (by omega)]; exact r) ⟨q + 1, dy_sp55 hq t0 t1 ?_ q 0 (by omega)⟩⟩)⟩)))
  unfold wY_split_77
  rw [nI_clamp (n := p) (by omega), nI_clamp (n := q) (by omega), nI_clamp (n := a) (by omega)]
  refine ⟨dt_in hp, dt_in hp, dt_in hq, nm_e ⟨dt_in hq, nm_e ⟨dt_in hq, nm_e ⟨dt_in hq, nm_e (nm_e ⟨dt_in hp, dt_in hp, nm_e ⟨dt_in a16, dy_hold b16 ⟨dt_in hq, ?_⟩⟩⟩)⟩⟩⟩⟩
  rw [pk_us (f := st)]
  exact K
theorem dx_split {post : Int32 → SX → Prop} {sl : Nat → Nat} {i n b p q : Nat} {v3 : Int32} (C : dt_Pc H pX pY) (R : dt_Ro n sl) (hs : ∀ j, j < n → sA j = nI (sl j)) (hn : n < 16) (hi : i < n) (h1 : H (sl i) = 1) (b16 : b < 16) (h0 : H b = 0) (hp : p < 16) (ep : pX (sl i) = nI p) (g : 1 ≤ v3) (r : v3 ≤ sz p - mk p) (hq : q < 16) (k0 : kt q = 0) (kl : ∀ p, p < q → ¬ kt p = 0)
    (K : ∀ A B : Nat → Int32, (∀ k, k ≤ i → A k = sA k) → A (i + 1) = nI b → (∀ k, i < k → k < n → A (k + 1) = sA k) → (∀ k, k ≤ i → B k = dA k) → B (i + 1) = dA i + 1 → (∀ k, i < k → k < n → B (k + 1) = dA k) → post (st p + mk p) (fm + 1, nI (n + 1), upd st q (st p + mk p), upd sz q v3, upd (upd mk q 0) p (upd mk q 0 p + v3), upd (upd kt q 0) q (upd kt q 0 q + 1), upd nu q fm, A, B, upd pX b (nI q), upd ri b (ri (sl i)))) :
    wpX_split post (fm, nI n, st, sz, mk, kt, nu, sA, dA, pX, ri) (nI (sl i)) (nI b) v3 := by
  have a16 := R.1 i hi
  unfold wpX_split
  dsimp only
  refine dx_h1 C a16 h1 (br_f dt_10 (dx_f1 C b16 h0 (br_f dt_10 (br_t g ⟨dt_in a16, nm_r (e' := nI p) (by rw [nI_clamp (by omega), ep]) ⟨dt_in hp, dt_in hp, br_t (by rw [nI_clamp (by omega)]; exact r) (dx_free hq k0 kl ?_)⟩⟩))))
  rw [nI_clamp (n := p) (by omega), nI_clamp (n := q) (by omega), nI_clamp (n := sl i) (by omega)]
  refine ⟨dt_in hp, dt_in hp, dt_in hq, nm_e ⟨dt_in hq, nm_e ⟨dt_in hq, nm_e ⟨dt_in hq, nm_e ⟨dt_in hq, nm_e (nm_e ⟨dt_in hp, dt_in hp, nm_e ⟨dt_in a16, dx_put R hs hn hi b16 hq (fun A B a1 a2 a3 b1 b2 b3 => ⟨dt_in hq, ?_⟩)⟩⟩)⟩⟩⟩⟩⟩
  dsimp only
  rw [pk_us (f := st)]
  exact K A B a1 a2 a3 b1 b2 b3
end
theorem dt_add {m s v : Int32} (h0 : 0 ≤ m.toInt) (h1 : m.toInt ≤ s.toInt) (g : 1 ≤ v) (r : v ≤ s - m) : 0 ≤ (m + v).toInt ∧ (m + v).toInt ≤ s.toInt := by
  have a := s.toInt_lt
  have b : (s - m).toInt = s.toInt - m.toInt := by
    rw [Int32.toInt_sub]
    exact Int.bmod_eq_of_le (by omega) (by omega)
  rw [Int32.le_iff_toInt_le] at g r
  have c : (1 : Int32).toInt = 1 := by decide
  rw [c] at g
  rw [b] at r
  have d : (m + v).toInt = m.toInt + v.toInt := by
    rw [Int32.toInt_add]
    exact Int.bmod_eq_of_le (by omega) (by omega)
  rw [d]
  omega
theorem dt_Mk_split {kt mX mY sz : Nat → Int32} {p q : Nat} {v : Int32} (M : dt_Mk kt mX mY sz) (hp : p < 16) (kp : ¬ kt p = 0) (k0 : kt q = 0) (g : 1 ≤ v) (r : v ≤ sz p - mX p) :
    dt_Mk (upd (upd kt q 0) q (upd kt q 0 q + 1)) (upd (upd mX q 0) p (upd mX q 0 p + v)) (upd (upd mY q 0) p (upd mY q 0 p + v)) (upd sz q v) := by
  have qp : p ≠ q := fun e => kp (by rw [e]; exact k0)
  intro z hz k
  by_cases e : z = p
  · subst e
    obtain ⟨x, y, w⟩ := M z hz kp
    rw [pk_us, pk_us, pk_un qp, pk_un qp, pk_un qp, x]
    exact ⟨rfl, dt_add y w g r⟩
  · rw [pk_un e, pk_un e]
    by_cases f : z = q
    · rw [f, pk_us, pk_us, pk_us]
      refine ⟨rfl, by decide, ?_⟩
      rw [Int32.le_iff_toInt_le] at g
      have c : (1 : Int32).toInt = 1 := by decide
      have c' : (0 : Int32).toInt = 0 := by decide
      omega
    · rw [pk_un f, pk_un f, pk_un f]
      rw [pk_un f, pk_un f] at k
      exact M z hz k
theorem i_vc_split {k : Nat} {u : SX} {v : SY} (I : i_Rel k u v) (hk : k + 4 ≤ 2048) (v1 : Int32) (v2 : Int32) (v3 : Int32) : wpX_split (fun r u' => wpY_split (fun r' v' => r' = r ∧ i_Rel (k + 4) u' v') v v1 v2 v3) u v1 v2 v3 := by
  refine dt_el (P := fun u v => wpX_split (fun r u' => wpY_split (fun r' v' => r' = r ∧ i_Rel (k + 4) u' v') v v1 v2 v3) u v1 v2 v3) ?_ I
  intro fm n st sz mX kt nu sA dA pX ri H pY pa mY go sl dp i
  have J := dt_re (k := k + 4) (fm := fm) (st := st) (nu := nu) (ri := ri) (go := go) sl dp i
  obtain ⟨hn, hs, hd, R, P, D, C, T, M⟩ := i
  rcases dt_hcase C v1 with bd | ⟨a, a16, rfl, h1⟩
  · unfold wpX_split wpY_split
    dsimp only
    exact dx_h0 C bd (br_t rfl (dy_m1 bd (br_f dt_10 ⟨rfl, J⟩)))
  · rcases dt_fcase C v2 with bd | ⟨b, b16, rfl, h0⟩
    · unfold wpX_split wpY_split
      dsimp only
      exact dx_h1 C a16 h1 (br_f dt_10 (dx_f0 C bd (br_t rfl (dy_m0 a16 h1 (br_t rfl (dy_t1 bd (br_f dt_10 ⟨rfl, J⟩)))))))
    · obtain ⟨p, hp, ep, eq⟩ := dt_Pc_1 C a16 h1
      have kp := (dt_kt_iff T hp).mpr ⟨a, a16, ep⟩
      have em := (M p hp kp).1
      by_cases g : 1 ≤ v3
      · by_cases r : v3 ≤ sz p - mX p
        · obtain ⟨i, hi, rfl⟩ := dt_held D a16 h1
          obtain ⟨q, ⟨hq, q0⟩, ql⟩ := dt_freeP b16 (dt_Pc_0 C b16 h0)
          have k0 : kt q = 0 := by rw [T q hq, q0]; exact nI_0
          have kl : ∀ j, j < q → ¬ kt j = 0 := by
            intro j hj e
            have j16 : j < 16 := by omega
            refine ql j hj ⟨j16, dt_cn_0 fun s s16 z => ?_⟩
            exact (dt_kt_iff T j16).mpr ⟨s, s16, z⟩ e
          have th : ∀ j, j < 16 → (dt_Th H pY (nI j) ↔ ¬ kt j = 0) := by
            intro j hj
            rw [dt_kt_iff T hj]
            constructor
            · rintro ⟨s, s16, x, y⟩
              rcases C s s16 with ⟨z, _⟩ | ⟨_, p', _, z, w⟩
              · exact absurd z x
              · exact ⟨s, s16, by rw [z, ← w, y]⟩
            · rintro ⟨s, s16, y⟩
              rcases C s s16 with ⟨_, z⟩ | ⟨x, p', _, z, w⟩
              · exact absurd (y.symm.trans z) (dt_nm1 (by omega))
              · exact ⟨s, s16, by rw [x]; exact dt_10, by rw [w, ← z, y]⟩
          refine dx_split C R hs (dt_n15 R D b16 h0) hi h1 b16 h0 hp ep g r hq k0 kl (fun A B a1 a2 a3 b1 b2 b3 => ?_)
          refine dy_split a16 h1 b16 h0 hp eq g (by rw [em]; exact r) hq (fun z => (th q hq).mp z k0) (fun j hj => (th j (by omega)).mpr (kl j hj)) ?_
          rw [em]
          refine ⟨rfl, ?_⟩
          obtain ⟨sl', dp', e1, e2, e3, e4, e5, e6⟩ := dt_rowput hs hd R P D hi b16 h0 a1 a2 a3 b1 b2 b3
          refine dt_re sl' dp' ⟨e1, e2, e3, e4, e5, e6, dt_Pc_put C hq, ?_, dt_Mk_split M hp kp k0 g r⟩
          have T' := dt_Kt_put T b16 hq (dt_Pc_0 C b16 h0)
          intro j hj
          rw [← T' j hj]
          by_cases z : j = q
          · rw [z, pk_us, pk_us, pk_us, k0]
          · rw [pk_un z, pk_un z, pk_un z]
        · unfold wpX_split wpY_split
          dsimp only
          refine dx_h1 C a16 h1 (br_f dt_10 (dx_f1 C b16 h0 (br_f dt_10 (br_t g ⟨dt_in a16, nm_r (e' := nI p) (by rw [nI_clamp (by omega), ep]) ⟨dt_in hp, dt_in hp, br_f (by rw [nI_clamp (by omega)]; exact r) ?_⟩⟩))))
          exact dy_m0 a16 h1 (br_t rfl (dy_t0 b16 h0 (br_t rfl ⟨dt_in a16, nm_r (e' := nI p) (by rw [nI_clamp (by omega), eq]) (br_f (Int32.not_lt.mpr g) ⟨dt_in hp, dt_in hp, br_f (by rw [nI_clamp (by omega), em]; exact r) ⟨rfl, J⟩⟩)⟩)))
      · unfold wpX_split wpY_split
        dsimp only
        exact dx_h1 C a16 h1 (br_f dt_10 (dx_f1 C b16 h0 (br_f dt_10 (br_f g (dy_m0 a16 h1 (br_t rfl (dy_t0 b16 h0 (br_t rfl ⟨dt_in a16, nm_e (br_t (Int32.not_le.mp g) ⟨rfl, J⟩)⟩))))))))
end
section
/-! move -/
def dt_setf (f : Nat → Nat) (i x : Nat) : Nat → Nat := fun j => if j = i then x else f j
theorem dt_set1 {f : Nat → Nat} {i x j : Nat} (h : j ≠ i) : dt_setf f i x j = f j := if_neg h
theorem dt_set2 {f : Nat → Nat} {i x : Nat} : dt_setf f i x i = x := if_pos rfl
theorem dt_Kt_mov {pX kt : Nat → Int32} {a b p : Nat} (T : dt_Kt pX kt) (a16 : a < 16) (b16 : b < 16) (hp : p < 16) (ab : a ≠ b) (ep : pX a = nI p) (eb : pX b = -1) : dt_Kt (upd (upd pX b (nI p)) a (-1)) kt := by
  have T1 := dt_Kt_put T b16 hp eb
  have T2 := dt_Kt_for T1 a16 hp (show upd pX b (nI p) a = nI p by rw [pk_un ab]; exact ep)
  intro j hj
  rw [← T2 j hj]
  by_cases z : j = p
  · rw [z, pk_us, pk_us, Int32.add_sub_cancel]
  · rw [pk_un z, pk_un z]
theorem dt_Pc_for {H pX pY : Nat → Int32} {a : Nat} (C : dt_Pc H pX pY) : dt_Pc (upd H a 0) (upd pX a (-1)) pY := by
  intro s hs
  by_cases e : s = a
  · rw [e, pk_us, pk_us]
    exact Or.inl ⟨rfl, rfl⟩
  · rw [pk_un e, pk_un e]
    exact C s hs
theorem dy_move {fm : Int32} {st sz mk nu ri pY H pa go : Nat → Int32} {post : Int32 → SY → Prop} {a b p : Nat} (a16 : a < 16) (h1 : H a = 1) (b16 : b < 16) (h0 : H b = 0) (eq : pY a = nI p)
    (K : ∀ PA : Nat → Int32, (∀ s, s < 16 → (dt_Hc (upd (upd H b 1) a 0) (upd pa b (pa a)) (nI a) s → PA s = nI b) ∧ (¬ dt_Hc (upd (upd H b 1) a 0) (upd pa b (pa a)) (nI a) s → PA s = upd pa b (pa a) s)) → post 0 (fm, upd (upd H b 1) a 0, upd pY b (nI p), upd ri b (ri a), PA, st, sz, mk, nu, go)) :
    wpY_move post (fm, H, pY, ri, pa, st, sz, mk, nu, go) (nI a) (nI b) := by
  unfold wpY_move
  dsimp only
  refine dy_m0 a16 h1 (br_t rfl (dy_t0 b16 h0 (br_t rfl ?_)))
  rw [nI_clamp (n := a) (by omega), eq, dt_b0]
  exact ⟨dt_in a16, dt_in a16, dt_in a16, dy_hold b16 ⟨dt_in a16, nm_e (dy_ha (fun PA f => K PA f))⟩⟩
theorem i_vc_move {k : Nat} {u : SX} {v : SY} (I : i_Rel k u v) (hk : k + 4 ≤ 2048) (v1 : Int32) (v2 : Int32) : wpX_move (fun r u' => wpY_move (fun r' v' => r' = r ∧ i_Rel (k + 4) u' v') v v1 v2) u v1 v2 := by
  refine dt_el (P := fun u v => wpX_move (fun r u' => wpY_move (fun r' v' => r' = r ∧ i_Rel (k + 4) u' v') v v1 v2) u v1 v2) ?_ I
  intro fm n st sz mX kt nu sA dA pX ri H pY pa mY go sl dp i
  have J := dt_re (k := k + 4) (fm := fm) (st := st) (nu := nu) (ri := ri) (go := go) sl dp i
  obtain ⟨hn, hs, hd, R, P, D, C, T, M⟩ := i
  rcases dt_hcase C v1 with bd | ⟨a, a16, rfl, h1⟩
  · unfold wpX_move wpY_move
    dsimp only
    exact dx_h0 C bd (br_t rfl (dy_m1 bd (br_f dt_10 ⟨rfl, J⟩)))
  · rcases dt_fcase C v2 with bd | ⟨b, b16, rfl, h0⟩
    · unfold wpX_move wpY_move
      dsimp only
      exact dx_h1 C a16 h1 (br_f dt_10 (dx_f0 C bd (br_t rfl (dy_m0 a16 h1 (br_t rfl (dy_t1 bd (br_f dt_10 ⟨rfl, J⟩)))))))
    · obtain ⟨p, hp, ep, eq⟩ := dt_Pc_1 C a16 h1
      obtain ⟨i, hi, rfl⟩ := dt_held D a16 h1
      have ht : ∀ j, j < n → sl j ≠ b := fun j hj e => dt_nheld D b16 h0 ⟨j, hj, e⟩
      have ab := ht i hi
      unfold wpX_move
      dsimp only
      refine dx_h1 C a16 h1 (br_f dt_10 (dx_f1 C b16 h0 (br_f dt_10 (dx_place R hn hi hs ?_))))
      rw [nI_clamp (n := i) (by omega), nI_clamp (n := sl i) (by omega), nI_clamp (n := b) (by omega), ep]
      refine ⟨dt_in (by omega), nm_e ⟨dt_in a16, dt_in b16, nm_e ⟨dt_in a16, dt_in b16, nm_e ⟨dt_in a16, nm_e ?_⟩⟩⟩⟩
      refine dy_move a16 h1 b16 h0 eq (fun PA f => ⟨rfl, ?_⟩)
      have s1 : ∀ j, j ≠ i → dt_setf sl i b j = sl j := fun j h => dt_set1 h
      have hc : ∀ j, j < n → j ≠ i → (dt_Hc (upd (upd H b 1) (sl i) 0) (upd pa b (pa (sl i))) (nI (sl i)) (sl j) ↔ pa (sl j) = nI (sl i)) := by
        intro j hj ne
        have ne' : sl j ≠ sl i := fun e => ne (R.2 j i hj hi e)
        unfold dt_Hc
        rw [pk_un ne', pk_un (ht j hj), pk_un (ht j hj), dt_in_held D R hj]
        exact ⟨fun z => z.2, fun z => ⟨dt_10, z⟩⟩
      refine dt_re (dt_setf sl i b) dp ⟨hn, ?_, hd, dt_movR R ht b16 s1 dt_set2, dt_movP R P hi s1 dt_set2 ?_ ?_ ?_, ?_, dt_Pc_for (dt_Pc_put C hp), dt_Kt_mov T a16 b16 hp ab ep (dt_Pc_0 C b16 h0), M⟩
      · intro j hj
        by_cases z : j = i
        · rw [z, pk_us, dt_set2]
        · rw [pk_un z, dt_set1 z]; exact hs j hj
      · rw [(f b b16).2 (fun z => dt_self R P hi (by have y := z.2; rw [pk_us] at y; exact y)), pk_us]
      · intro j hj ne z
        exact (f (sl j) (R.1 j hj)).1 ((hc j hj ne).mpr z)
      · intro j hj ne z
        rw [(f (sl j) (R.1 j hj)).2 (fun y => z ((hc j hj ne).mp y)), pk_un (ht j hj)]
      · intro s s16
        have m := dt_movI (sl' := dt_setf sl i b) R hi s1 dt_set2 s
        by_cases e : s = sl i
        · rw [e, pk_us]
          rw [e] at m
          exact Or.inl ⟨rfl, fun z => (m.mp z).elim ab (fun y => y.1 rfl)⟩
        · rw [pk_un e]
          by_cases e2 : s = b
          · rw [e2, pk_us]
            rw [e2] at m
            exact Or.inr ⟨rfl, m.mpr (Or.inl rfl)⟩
          · rw [pk_un e2]
            rcases D s s16 with ⟨x, y⟩ | ⟨x, y⟩
            · exact Or.inl ⟨x, fun z => (m.mp z).elim e2 (fun w => y w.2)⟩
            · exact Or.inr ⟨x, m.mpr (Or.inr ⟨e, y⟩)⟩
end
section
/-! delete -/
theorem dt_th {H pX pY kt : Nat → Int32} (C : dt_Pc H pX pY) (T : dt_Kt pX kt) {j : Nat} (hj : j < 16) : dt_Th H pY (nI j) ↔ ¬ kt j = 0 := by
  rw [dt_kt_iff T hj]
  constructor
  · rintro ⟨s, s16, x, y⟩
    rcases C s s16 with ⟨z, _⟩ | ⟨_, p', _, z, w⟩
    · exact absurd z x
    · exact ⟨s, s16, by rw [z, ← w, y]⟩
  · rintro ⟨s, s16, y⟩
    rcases C s s16 with ⟨_, z⟩ | ⟨x, p', _, z, w⟩
    · exact absurd (y.symm.trans z) (dt_nm1 (by omega))
    · exact ⟨s, s16, by rw [x]; exact dt_10, by rw [w, ← z, y]⟩
theorem dt_le0 {x : Int32} (h : 0 ≤ x.toInt) (z : x ≤ 0) : x = 0 := by
  rw [Int32.le_iff_toInt_le] at z
  have c : (0 : Int32).toInt = 0 := by decide
  exact Int32.toInt_inj.mp (by omega)
theorem dt_Mk_set {H pX pY kt mX mY sz nu st M N : Nat → Int32} (C : dt_Pc H pX pY) (T : dt_Kt pX kt) (m : dt_Mk kt mX mY sz)
    (f : ∀ p, p < 16 → (dt_Rs kt mX nu st sz p → M p = 0) ∧ (¬ dt_Rs kt mX nu st sz p → M p = mX p)) (g : ∀ p, p < 16 → (dt_So H pY nu st sz p → N p = mY p) ∧ (¬ dt_So H pY nu st sz p → N p = 0)) : dt_Mk kt M N sz := by
  intro p hp k
  obtain ⟨e, l, w⟩ := m p hp k
  have ho : dt_Ho kt nu st sz p ↔ dt_So H pY nu st sz p := by
    constructor
    · rintro ⟨q, hq, x, y⟩
      exact ⟨q, hq, y, (dt_th C T hq).mpr ((dt_kt_le T hq).mp x)⟩
    · rintro ⟨q, hq, y, x⟩
      exact ⟨q, hq, (dt_kt_le T hq).mpr ((dt_th C T hq).mp x), y⟩
  by_cases h : dt_So H pY nu st sz p
  · rw [(g p hp).1 h, (f p hp).2 fun z => z.2.2 (ho.mpr h)]
    exact ⟨e, l, w⟩
  · rw [(g p hp).2 h]
    by_cases z : mX p ≤ 0
    · rw [(f p hp).2 fun y => y.2.1 z]
      exact ⟨(dt_le0 l z).symm, l, w⟩
    · rw [(f p hp).1 ⟨(dt_kt_le T hp).mpr k, z, fun y => h (ho.mp y)⟩]
      have c : (0 : Int32).toInt = 0 := by decide
      exact ⟨rfl, by omega, by omega⟩
theorem dt_Mk_less {pX pX' kt kt' mX mY sz : Nat → Int32} (T : dt_Kt pX kt) (T' : dt_Kt pX' kt') (m : dt_Mk kt mX mY sz) (h : ∀ s p, s < 16 → p < 16 → pX' s = nI p → pX s = nI p) : dt_Mk kt' mX mY sz := by
  intro p hp k
  obtain ⟨s, s16, e⟩ := (dt_kt_iff T' hp).mp k
  exact m p hp ((dt_kt_iff T hp).mpr ⟨s, s16, h s p s16 hp e⟩)
/-- how many keys a deleted one hands on -/
theorem dt_cn_hand {n : Nat} {sl dp : Nat → Nat} {pa H : Nat → Int32} {i e : Nat} (R : dt_Ro n sl) (P : dt_Pa n sl dp pa) (D : dt_Hd n sl H) (E : dt_En n dp i e) (hi : i < n) : dt_cn (dt_Hc (upd H (sl i) 0) pa (nI (sl i))) 16 = dt_cn (fun k => i < k ∧ dp k = dp i + 1) e := by
  have a : dt_cn (fun s => ∃ j, j < n ∧ sl j = s ∧ ((i < j ∧ j < e) ∧ dp j = dp i + 1)) 16 = dt_cn (fun j => (i < j ∧ j < e) ∧ dp j = dp i + 1) n := dt_cn_img R.1 R.2
  have b : dt_cn (dt_Hc (upd H (sl i) 0) pa (nI (sl i))) 16 = dt_cn (fun s => ∃ j, j < n ∧ sl j = s ∧ ((i < j ∧ j < e) ∧ dp j = dp i + 1)) 16 := by
    refine dt_cn_eq fun s s16 => ?_
    constructor
    · rintro ⟨x, y⟩
      have ne : s ≠ sl i := fun z => x (by rw [z, pk_us])
      rw [pk_un ne] at x
      rcases D s s16 with ⟨z, _⟩ | ⟨_, j, hj, rfl⟩
      · exact absurd z x
      · exact ⟨j, hj, rfl, (dt_child R P E hi hj).mp y⟩
    · rintro ⟨j, hj, rfl, z⟩
      have ne : sl j ≠ sl i := fun y => by
        have := R.2 j i hj hi y
        omega
      refine ⟨?_, (dt_child R P E hi hj).mpr z⟩
      rw [pk_un ne, dt_in_held D R hj]
      exact dt_10
  rw [b, a, dt_cn_ext (e := e) E.2.1 fun j h _ z => absurd z.1.2 (by omega)]
  exact dt_cn_eq fun j hj => ⟨fun z => ⟨z.1.1, z.2⟩, fun z => ⟨⟨z.1, hj⟩, z.2⟩⟩
section
variable {fm : Int32} {st sz mk kt nu sA dA pX ri pY H pa go : Nat → Int32}
theorem dx_delete {post : Int32 → SX → Prop} {sl dp : Nat → Nat} {i e n p : Nat} (C : dt_Pc H pX pY) (R : dt_Ro n sl) (hs : ∀ j, j < n → sA j = nI (sl j)) (hd : ∀ j, j < n → dA j = nI (dp j)) (hl : ∀ j, j < n → dp j ≤ j) (E : dt_En n dp i e) (hn : n ≤ 16) (hi : i < n) (h1 : H (sl i) = 1) (hp : p < 16) (ep : pX (sl i) = nI p)
    (K : ∀ A B M : Nat → Int32, (∀ k, k < i → A k = nI (sl k)) → (∀ o, i < o → o < n → A (o - 1) = nI (sl o)) → (∀ k, k < i → B k = nI (dp k)) → (∀ o, i < o → o < e → B (o - 1) = nI (dp o - 1)) → (∀ o, e ≤ o → o < n → B (o - 1) = nI (dp o)) → (∀ q, q < 16 → (dt_Rs (upd kt p (kt p - 1)) mk nu st sz q → M q = 0) ∧ (¬ dt_Rs (upd kt p (kt p - 1)) mk nu st sz q → M q = mk q)) → post (nI (dt_cn (fun k => i < k ∧ dp k = dp i + 1) e)) (fm, nI (n - 1), st, sz, M, upd kt p (kt p - 1), nu, A, B, upd pX (sl i) (-1), ri)) :
    wpX_delete post (fm, nI n, st, sz, mk, kt, nu, sA, dA, pX, ri) (nI (sl i)) := by
  have a16 := R.1 i hi
  have ie := E.1
  have en := E.2.1
  unfold wpX_delete
  dsimp only
  refine dx_h1 C a16 h1 (br_f dt_10 (dx_place R hn hi hs (dx_end E hn hd hl ⟨dt_in (by omega), nm_r (e' := nI (dp i)) (by rw [nI_clamp (by omega), hd i hi]) (nm_r (nI_1 i) ⟨e - (i + 1) + 1, ?_⟩)⟩)))
  have w := dx_del38 (post := post) (x1 := nI (sl i)) (fm := fm) (fk := nI n) (st := st) (sz := sz) (mk := mk) (kt := kt) (nu := nu) (sA := sA) (pX := pX) (ri := ri) E hn hd hl ?_ (e - (i + 1)) (i + 1) dA (by omega) (by omega) (fun _ _ => rfl) (fun k x y => absurd y (by omega)) (fun _ _ => rfl)
  · rw [dt_cn_0 fun k hk z => absurd z.1 (by omega)] at w
    exact w
  · intro B b1 b2 b3
    refine br_t (nI_le (by omega) (by omega)) (dx_forget a16 hp ep ?_)
    dsimp only
    rw [nI_1 i]
    refine dx_cut (a := i) (g := 1) hn (by omega) (fun A B' c1 c2 c3 c4 => dx_rm (fun M f => ?_))
    refine K A B' M (fun k hk => ?_) (fun o h h' => ?_) (fun k hk => ?_) (fun o h h' => ?_) (fun o h h' => ?_) f
    · rw [c1 k hk]; exact hs k (by omega)
    · rw [c2 o (by omega) h']; exact hs o h'
    · rw [c3 k hk, b1 k (by omega)]; exact hd k (by omega)
    · rw [c4 o (by omega) (by omega)]; exact b2 o h h'
    · rw [c4 o (by omega) h', b3 o h]; exact hd o h'
theorem dy_delete {post : Int32 → SY → Prop} {a : Nat} (a16 : a < 16) (h1 : H a = 1)
    (K : ∀ PA M : Nat → Int32, (∀ s, s < 16 → (dt_Hc (upd H a 0) pa (nI a) s → PA s = pa a) ∧ (¬ dt_Hc (upd H a 0) pa (nI a) s → PA s = pa s)) → (∀ p, p < 16 → (dt_So (upd H a 0) pY nu st sz p → M p = mk p) ∧ (¬ dt_So (upd H a 0) pY nu st sz p → M p = 0)) → post (nI (dt_cn (dt_Hc (upd H a 0) pa (nI a)) 16)) (fm, upd H a 0, pY, ri, PA, st, sz, M, nu, go)) :
    wpY_delete post (fm, H, pY, ri, pa, st, sz, mk, nu, go) (nI a) := by
  unfold wpY_delete
  dsimp only
  refine dy_m0 a16 h1 (br_t rfl ?_)
  rw [nI_clamp (n := a) (by omega), dt_b0]
  exact ⟨dt_in a16, nm_e ⟨dt_in a16, dy_ha (fun PA f => dy_se (fun M g => K PA M f g))⟩⟩
end
def dt_delf (f : Nat → Nat) (i : Nat) : Nat → Nat := fun j => if j < i then f j else f (j + 1)
theorem dt_delf1 {f : Nat → Nat} {i j : Nat} (h : j < i) : dt_delf f i j = f j := if_pos h
theorem dt_delf2 {f : Nat → Nat} {i o : Nat} (h : i < o) : dt_delf f i (o - 1) = f o := by
  unfold dt_delf
  rw [if_neg (by omega), Nat.sub_add_cancel (by omega)]
def dt_dld (f : Nat → Nat) (i e : Nat) : Nat → Nat := fun j => if j < i then f j else if j + 1 < e then f (j + 1) - 1 else f (j + 1)
theorem dt_dld1 {f : Nat → Nat} {i e j : Nat} (h : j < i) : dt_dld f i e j = f j := if_pos h
theorem dt_dld2 {f : Nat → Nat} {i e o : Nat} (h : i < o) (h' : o < e) : dt_dld f i e (o - 1) = f o - 1 := by
  unfold dt_dld
  rw [if_neg (by omega), if_pos (by omega), Nat.sub_add_cancel (by omega)]
theorem dt_dld3 {f : Nat → Nat} {i e o : Nat} (h : i < o) (h' : e ≤ o) : dt_dld f i e (o - 1) = f o := by
  unfold dt_dld
  rw [if_neg (by omega), if_neg (by omega), Nat.sub_add_cancel (by omega)]
theorem i_vc_delete {k : Nat} {u : SX} {v : SY} (I : i_Rel k u v) (hk : k + 4 ≤ 2048) (v1 : Int32) : wpX_delete (fun r u' => wpY_delete (fun r' v' => r' = r ∧ i_Rel (k + 4) u' v') v v1) u v1 := by
  refine dt_el (P := fun u v => wpX_delete (fun r u' => wpY_delete (fun r' v' => r' = r ∧ i_Rel (k + 4) u' v') v v1) u v1) ?_ I
  intro fm n st sz mX kt nu sA dA pX ri H pY pa mY go sl dp i
  have J := dt_re (k := k + 4) (fm := fm) (st := st) (nu := nu) (ri := ri) (go := go) sl dp i
  obtain ⟨hn, hs, hd, R, P, D, C, T, M⟩ := i
  rcases dt_hcase C v1 with bd | ⟨a, a16, rfl, h1⟩
  · unfold wpX_delete wpY_delete
    dsimp only
    exact dx_h0 C bd (br_t rfl (dy_m1 bd (br_f dt_10 ⟨rfl, J⟩)))
  · obtain ⟨p, hp, ep, eq⟩ := dt_Pc_1 C a16 h1
    obtain ⟨i, hi, rfl⟩ := dt_held D a16 h1
    obtain ⟨e, E⟩ := dt_En_ex dp hi
    have ie := E.1
    have en := E.2.1
    refine dx_delete C R hs hd (dt_dp_le P) E hn hi h1 hp ep (fun A B M' a1 a2 b1 b2 b3 f => ?_)
    refine dy_delete a16 h1 (fun PA N g f' => ⟨by rw [dt_cn_hand R P D E hi], ?_⟩)
    have s1 : ∀ j, j < i → dt_delf sl i j = sl j := fun j h => dt_delf1 h
    have s2 : ∀ o, i < o → o < n → dt_delf sl i (o - 1) = sl o := fun o h _ => dt_delf2 h
    have C' := dt_Pc_for (a := sl i) C
    have T' := dt_Kt_for T a16 hp ep
    have M1 := dt_Mk_less T T' M (fun s q s16 q16 z => by
      by_cases y : s = sl i
      · rw [y, pk_us] at z
        exact absurd z.symm (dt_nm1 (by omega))
      · rw [pk_un y] at z
        exact z)
    have hc : ∀ j, j < n → j ≠ i → (dt_Hc (upd H (sl i) 0) pa (nI (sl i)) (sl j) ↔ pa (sl j) = nI (sl i)) := by
      intro j hj ne
      have ne' : sl j ≠ sl i := fun e => ne (R.2 j i hj hi e)
      unfold dt_Hc
      rw [pk_un ne', dt_in_held D R hj]
      exact ⟨fun z => z.2, fun z => ⟨dt_10, z⟩⟩
    refine dt_re (dt_delf sl i) (dt_dld dp i e) ⟨by omega, ?_, ?_, dt_delR R hi s1 s2, dt_delP R P E hi s1 s2 (fun j h => dt_dld1 h) (fun o h h' => dt_dld2 h h') (fun o h _ => dt_dld3 (by omega) h) ?_ ?_, ?_, C', T', dt_Mk_set C' T' M1 f f'⟩
    · intro j hj
      rcases dt_ixd (i := i) hj with h | ⟨o, h, h', rfl⟩
      · rw [a1 j h, dt_delf1 h]
      · rw [a2 o h h', dt_delf2 h]
    · intro j hj
      rcases dt_ixd (i := i) hj with h | ⟨o, h, h', rfl⟩
      · rw [b1 j h, dt_dld1 h]
      · by_cases c : o < e
        · rw [b2 o h c, dt_dld2 h c]
        · rw [b3 o (by omega) h', dt_dld3 h (by omega)]
    · intro j hj ne z
      exact (g (sl j) (R.1 j hj)).1 ((hc j hj ne).mpr z)
    · intro j hj ne z
      exact (g (sl j) (R.1 j hj)).2 (fun y => z ((hc j hj ne).mp y))
    · intro s s16
      have m := dt_delI (sl' := dt_delf sl i) R hi s1 s2 s
      by_cases y : s = sl i
      · rw [y, pk_us]
        rw [y] at m
        exact Or.inl ⟨rfl, fun z => (m.mp z).1 rfl⟩
      · rw [pk_un y]
        rcases D s s16 with ⟨x, w⟩ | ⟨x, w⟩
        · exact Or.inl ⟨x, fun z => w (m.mp z).2⟩
        · exact Or.inr ⟨x, m.mpr ⟨y, w⟩⟩
end
section
/-! revoke, and the constructors -/
section
variable {fm : Int32} {st sz mk kt nu sA dA pX ri pY H pa go : Nat → Int32}
theorem dx_revoke {post : Int32 → SX → Prop} {sl dp : Nat → Nat} {i g n : Nat} (C : dt_Pc H pX pY) (R : dt_Ro n sl) (hs : ∀ j, j < n → sA j = nI (sl j)) (hd : ∀ j, j < n → dA j = nI (dp j)) (hl : ∀ j, j < n → dp j ≤ j) (E : dt_En n dp i (i + 1 + g)) (hn : n ≤ 16) (hi : i < n) (hh : ∀ j, j < n → H (sl j) = 1) (T : dt_Kt pX kt)
    (K : ∀ PX KT A B M : Nat → Int32, (∀ s, dt_Pt sl i (i + 1 + g) s → PX s = -1) → (∀ s, ¬ dt_Pt sl i (i + 1 + g) s → PX s = pX s) → dt_Kt PX KT → (∀ k, k ≤ i → A k = sA k) → (∀ o, i + 1 + g ≤ o → o < n → A (o - g) = sA o) → (∀ k, k ≤ i → B k = dA k) → (∀ o, i + 1 + g ≤ o → o < n → B (o - g) = dA o) → (∀ q, q < 16 → (dt_Rs KT mk nu st sz q → M q = 0) ∧ (¬ dt_Rs KT mk nu st sz q → M q = mk q)) → post (nI g) (fm, nI (n - g), st, sz, M, KT, nu, A, B, PX, ri)) :
    wpX_revoke post (fm, nI n, st, sz, mk, kt, nu, sA, dA, pX, ri) (nI (sl i)) := by
  have a16 := R.1 i hi
  have en := E.2.1
  unfold wpX_revoke
  dsimp only
  refine dx_h1 C a16 (hh i hi) (br_f dt_10 (dx_place R hn hi hs (dx_end E hn hd hl (nm_r (nI_1 i) ⟨g + 1, dx_rev27 R hn en hs C hh (fun PX KT f1 f2 T' => ?_) g (i + 1) pX kt (by omega) (by omega) (fun s z => ?_) (fun _ _ => rfl) T⟩))))
  · have e : nI (i + 1 + g) - nI i - 1 = nI g := by
      rw [pk_sub (by omega), dt_pred (by omega)]
      exact congrArg nI (by omega)
    refine br_t (nI_le (by omega) (by omega)) ?_
    rw [nI_1 i, e]
    refine dx_cut (a := i + 1) (g := g) hn en (fun A B c1 c2 c3 c4 => dx_rm (fun M f => ?_))
    exact K PX KT A B M f1 f2 T' (fun k hk => c1 k (by omega)) c2 (fun k hk => c3 k (by omega)) c4 f
  · obtain ⟨k, ⟨x, y⟩, _⟩ := z
    omega
theorem dy_revoke {post : Int32 → SY → Prop} {sl dp : Nat → Nat} {i n : Nat} (R : dt_Ro n sl) (P : dt_Pa n sl dp pa) (D : dt_Hd n sl H) (hn : n ≤ 16) (hi : i < n)
    (K : ∀ HH M G : Nat → Int32, (∀ s, s < 16 → (dt_Ds n sl dp i s → HH s = 0) ∧ (¬ dt_Ds n sl dp i s → HH s = H s)) → (∀ p, p < 16 → (dt_So HH pY nu st sz p → M p = mk p) ∧ (¬ dt_So HH pY nu st sz p → M p = 0)) → post (nI (dt_cn (dt_Ds n sl dp i) 16)) (fm, HH, pY, ri, pa, st, sz, M, nu, G)) :
    wpY_revoke post (fm, H, pY, ri, pa, st, sz, mk, nu, go) (nI (sl i)) := by
  have a16 := R.1 i hi
  unfold wpY_revoke
  dsimp only
  refine dy_m0 a16 (dt_in_held D R hi) (br_t rfl ⟨17, dy_rv12 R P D hn hi (fun G fg => ⟨17, dy_rv57 (Q := dt_Ds n sl dp i) fg (fun HH fh => ?_) 16 0 H (by omega) (fun q h => absurd h (Nat.not_lt_zero q)) (fun _ _ => rfl)⟩) 16 0 go (by omega) (fun q h => absurd h (Nat.not_lt_zero q))⟩)
  exact br_t (dt_16t (by omega) (by omega)) (dy_se (fun M f => K HH M G fh f))
end
def dt_cutf (f : Nat → Nat) (i g : Nat) : Nat → Nat := fun j => if j ≤ i then f j else f (j + g)
theorem dt_cutf1 {f : Nat → Nat} {i g j : Nat} (h : j ≤ i) : dt_cutf f i g j = f j := if_pos h
theorem dt_cutf2 {f : Nat → Nat} {i g o : Nat} (h : i + 1 + g ≤ o) : dt_cutf f i g (o - g) = f o := by
  unfold dt_cutf
  rw [if_neg (by omega), Nat.sub_add_cancel (by omega)]
theorem i_vc_revoke {k : Nat} {u : SX} {v : SY} (I : i_Rel k u v) (hk : k + 4 ≤ 2048) (v1 : Int32) : wpX_revoke (fun r u' => wpY_revoke (fun r' v' => r' = r ∧ i_Rel (k + 4) u' v') v v1) u v1 := by
  refine dt_el (P := fun u v => wpX_revoke (fun r u' => wpY_revoke (fun r' v' => r' = r ∧ i_Rel (k + 4) u' v') v v1) u v1) ?_ I
  intro fm n st sz mX kt nu sA dA pX ri H pY pa mY go sl dp i
  have J := dt_re (k := k + 4) (fm := fm) (st := st) (nu := nu) (ri := ri) (go := go) sl dp i
  obtain ⟨hn, hs, hd, R, P, D, C, T, M⟩ := i
  rcases dt_hcase C v1 with bd | ⟨a, a16, rfl, h1⟩
  · unfold wpX_revoke wpY_revoke
    dsimp only
    exact dx_h0 C bd (br_t rfl (dy_m1 bd (br_f dt_10 ⟨rfl, J⟩)))
  · obtain ⟨i, hi, rfl⟩ := dt_held D a16 h1
    obtain ⟨e, E⟩ := dt_En_ex dp hi
    obtain ⟨g, rfl⟩ : ∃ g, e = i + 1 + g := ⟨e - (i + 1), by have := E.1; omega⟩
    have en := E.2.1
    refine dx_revoke C R hs hd (dt_dp_le P) E hn hi (fun j hj => dt_in_held D R hj) T (fun PX KT A B M' f1 f2 T' a1 a2 b1 b2 f => ?_)
    refine dy_revoke R P D hn hi (fun HH N G fh f' => ⟨?_, ?_⟩)
    · rw [dt_cn_De R E]
      exact congrArg nI (by omega)
    have ds : ∀ s, dt_Ds n sl dp i s ↔ dt_Pt sl i (i + 1 + g) s := by
      intro s
      constructor
      · rintro ⟨j, hj, x, y⟩
        exact ⟨j, (dt_En_De E hj).mp y, x⟩
      · rintro ⟨j, y, x⟩
        have hj : j < n := by omega
        exact ⟨j, hj, x, (dt_En_De E hj).mpr y⟩
    have C' : dt_Pc HH PX pY := by
      intro s s16
      by_cases z : dt_Ds n sl dp i s
      · exact Or.inl ⟨(fh s s16).1 z, f1 s ((ds s).mp z)⟩
      · rw [(fh s s16).2 z, f2 s (fun y => z ((ds s).mpr y))]
        exact C s s16
    have M1 := dt_Mk_less T T' M (fun s q s16 q16 z => by
      by_cases y : dt_Pt sl i (i + 1 + g) s
      · rw [f1 s y] at z
        exact absurd z.symm (dt_nm1 (by omega))
      · rw [f2 s y] at z
        exact z)
    have s1 : ∀ j, j ≤ i → dt_cutf sl i g j = sl j := fun j h => dt_cutf1 h
    have s2 : ∀ o, i + 1 + g ≤ o → o < n → dt_cutf sl i g (o - g) = sl o := fun o h _ => dt_cutf2 h
    refine dt_re (dt_cutf sl i g) (dt_cutf dp i g) ⟨by omega, ?_, ?_, dt_revR R en s1 s2, dt_revP P E s1 s2 (fun j h => dt_cutf1 h) (fun o h _ => dt_cutf2 h), ?_, C', T', dt_Mk_set C' T' M1 f f'⟩
    · intro j hj
      rcases dt_ixr en hj with h | ⟨o, h, h', rfl⟩
      · rw [a1 j h, dt_cutf1 h]; exact hs j (by omega)
      · rw [a2 o h h', dt_cutf2 h]; exact hs o h'
    · intro j hj
      rcases dt_ixr en hj with h | ⟨o, h, h', rfl⟩
      · rw [b1 j h, dt_cutf1 h]; exact hd j (by omega)
      · rw [b2 o h h', dt_cutf2 h]; exact hd o h'
    · intro s s16
      have m := dt_revI (sl' := dt_cutf sl i g) R en s1 s2 s
      by_cases z : dt_Ds n sl dp i s
      · exact Or.inl ⟨(fh s s16).1 z, fun y => (m.mp y).2 ((ds s).mp z)⟩
      · rw [(fh s s16).2 z]
        rcases D s s16 with ⟨x, w⟩ | ⟨x, w⟩
        · exact Or.inl ⟨x, fun y => w (m.mp y).1⟩
        · exact Or.inr ⟨x, m.mpr ⟨w, fun y => z ((ds s).mpr y)⟩⟩
theorem dx_in78 {post : SX → Prop} {fm fk : Int32} {st sz mk kt nu sA dA ri : Nat → Int32} (K : ∀ PX : Nat → Int32, (∀ s, s < 16 → PX s = -1) → post (1, 1, st, upd sz 0 64, mk, upd kt 0 1, nu, sA, dA, upd PX 0 0, upd ri 0 7)) :
    ∀ (d j : Nat) (PX : Nat → Int32), j + d = 16 → (∀ s, s < j → PX s = -1) → wX_init_78 post fm fk (d + 1) (nI j) st sz mk kt nu sA dA PX ri := by
  intro d
  induction d with
  | zero =>
    intro j PX hj c
    exact br_t (dt_16t (by omega) (by omega)) (nm_e (nm_e (nm_e (nm_e (K PX (fun s hs => c s (by omega)))))))
  | succ d ih =>
    intro j PX hj c
    refine br_f (dt_16f (by omega)) ⟨dt_in (by omega), nm_e (nm_r (nI_1 j) ?_)⟩
    rw [nI_clamp (n := j) (by omega)]
    refine ih (j + 1) _ (by omega) (fun s hs => ?_)
    by_cases z : s = j
    · rw [z, pk_us]
    · rw [pk_un z]; exact c s (by omega)
theorem i_vc0 : wpX_init (fun u => wpY_init (fun v => i_Rel 0 u v)) := by
  refine Exists.intro 17 (dx_in78 (fun PX hP => ?_) 16 0 (fun _ => 0) (by omega) (fun q h => absurd h (Nat.not_lt_zero q)))
  unfold wpY_init
  rw [dt_b1]
  refine nm_e (nm_e (nm_e (nm_e ?_)))
  have m1 : ∀ s, s < 16 → s ≠ 0 → ∀ p, p < 16 → ¬ PX s = nI p := fun s hs _ p hp e => dt_nm1 (by omega) (e.symm.trans (hP s hs))
  refine dt_re (n := 1) (fun _ => 0) (fun _ => 0) ⟨by omega, fun _ _ => rfl, fun _ _ => rfl, ⟨fun _ _ => Nat.succ_pos 15, fun a b ha hb _ => by omega⟩, ?_, ?_, ?_, ?_, ?_⟩
  · intro a ha
    exact Or.inl ⟨rfl, pk_us⟩
  · intro s hs
    by_cases z : s = 0
    · rw [z, pk_us]
      exact Or.inr ⟨rfl, 0, by omega, rfl⟩
    · rw [pk_un z]
      refine Or.inl ⟨rfl, ?_⟩
      rintro ⟨j, _, e⟩
      exact z e.symm
  · intro s hs
    by_cases z : s = 0
    · rw [z, pk_us, pk_us]
      exact Or.inr ⟨rfl, 0, by omega, rfl, rfl⟩
    · rw [pk_un z, pk_un z]
      exact Or.inl ⟨rfl, hP s hs⟩
  · have T0 : dt_Kt PX (fun _ => 0) := by
      intro p hp
      rw [dt_cn_0 fun s hs e => dt_nm1 (by omega) (e.symm.trans (hP s hs))]
      exact nI_0.symm
    have T1 := dt_Kt_put (p := 0) T0 (by omega) (by omega) (hP 0 (by omega))
    exact T1
  · intro p hp kp
    by_cases z : p = 0
    · rw [z, pk_us]
      decide
    · rw [pk_un z] at kp
      exact absurd rfl kp
end
