section
/-! rows of the kit (starting text): bits and numbers -/
def bt (x : Int32) (i : Nat) : Bool := x.toBitVec.getLsbD i
theorem b_ext {x y : Int32} (h : ∀ i, i < 32 → bt x i = bt y i) : x = y := Int32.toBitVec_inj.mp (BitVec.eq_of_getLsbD_eq (fun i hi => h i hi))
theorem b_or (x y : Int32) (i : Nat) : bt (x ||| y) i = (bt x i || bt y i) := by unfold bt; rw [Int32.toBitVec_or, BitVec.getLsbD_or]
theorem b_and (x y : Int32) (i : Nat) : bt (x &&& y) i = (bt x i && bt y i) := by unfold bt; rw [Int32.toBitVec_and, BitVec.getLsbD_and]
theorem b_xor (x y : Int32) (i : Nat) : bt (x ^^^ y) i = (bt x i ^^ bt y i) := by unfold bt; rw [Int32.toBitVec_xor, BitVec.getLsbD_xor]
theorem b_big {x : Int32} {i : Nat} (h : 32 ≤ i) : bt x i = false := BitVec.getLsbD_of_ge _ _ h
theorem b_m1 : ∀ i, i < 32 → bt (-1) i = true := by decide +kernel
theorem b_0 (i : Nat) : bt 0 i = false := BitVec.getLsbD_zero
theorem s_l : ∀ n, n < 32 → ((nI n &&& 31).toBitVec.smod 32).toNat = n := by decide +kernel
theorem b_shl (n : Nat) (hn : n < 32) (x : Int32) {i : Nat} (hi : i < 32) : bt (x <<< (nI n &&& 31)) i = (decide (n ≤ i) && bt x (i - n)) := by
  unfold bt
  rw [Int32.toBitVec_shiftLeft]
  show (x.toBitVec <<< ((nI n &&& 31).toBitVec.smod 32).toNat).getLsbD i = _
  rw [s_l n hn, BitVec.getLsbD_shiftLeft]
  rcases Nat.lt_or_ge i n with h | h
  · simp [h, Nat.not_le.mpr h]
  · simp [hi, h, Nat.not_lt.mpr h]
theorem b_sshr (n : Nat) (hn : n < 32) (x : Int32) {i : Nat} (hi : i < 32) : bt (x >>> (nI n &&& 31)) i = if n + i < 32 then bt x (n + i) else bt x 31 := by
  unfold bt
  rw [Int32.toBitVec_shiftRight]
  show (x.toBitVec.sshiftRight ((nI n &&& 31).toBitVec.smod 32).toNat).getLsbD i = _
  rw [s_l n hn, BitVec.getLsbD_sshiftRight, BitVec.msb_eq_getLsbD_last]
  simp [hi]
theorem ts_nf {x : Bool} (h : ¬ x = false) : x = true := by cases x <;> first | rfl | exact absurd rfl h
theorem ts_nt {x : Bool} (h : ¬ x = true) : x = false := by cases x <;> first | rfl | exact absurd rfl h
theorem pk_us {f : Nat → Int32} {k : Nat} {x : Int32} : upd f k x k = x := if_pos rfl
theorem pk_un {f : Nat → Int32} {k j : Nat} {x : Int32} (h : j ≠ k) : upd f k x j = f j := if_neg h
theorem pk_sub {a b : Nat} (h : b ≤ a) : nI a - nI b = nI (a - b) := by
  obtain ⟨c, rfl⟩ : ∃ c, a = c + b := ⟨a - b, by omega⟩
  rw [← nI_add, Int32.add_sub_cancel, Nat.add_sub_cancel]
theorem pk_m1 (n : Nat) : nI (n + 1) + (-1) = nI n := by
  rw [← nI_1, Int32.add_assoc, show (1 : Int32) + (-1) = 0 from rfl, Int32.add_zero]
theorem pk_mul (a b : Nat) : nI a * nI b = nI (a * b) := (Int32.ofNat_mul a b).symm
theorem pk_div {a d : Nat} (ha : a < 2 ^ 31) (h0 : 0 < d) (hd : d < 2 ^ 31) : nI a / nI d = nI (a / d) := by
  apply Int32.toInt_inj.mp
  rw [lg_idiv_nonneg (by rw [nI_toInt ha]; omega) (by rw [nI_toInt hd]; omega), nI_toInt ha, nI_toInt hd, nI_toInt (Nat.lt_of_le_of_lt (Nat.div_le_self a d) ha)]
  first | rfl | exact (Int.natCast_ediv _ _).symm
theorem pk_rem {a d : Nat} (ha : a < 2 ^ 31) (h0 : 0 < d) (hd : d < 2 ^ 31) : nI a - nI a / nI d * nI d = nI (a % d) := by
  rw [pk_div ha h0 hd, pk_mul, pk_sub (Nat.div_mul_le_self a d)]
  exact congrArg nI (by have := Nat.div_add_mod' a d; omega)
theorem pk_ix (x : Int32) {n : Nat} (hn : n < 2 ^ 31) : x < 0 ∨ nI n ≤ x ∨ ∃ j : Nat, j < n ∧ x = nI j := by
  by_cases h : x < 0
  · exact Or.inl h
  · obtain ⟨j, hj, rfl⟩ := nI_of h
    by_cases h2 : j < n
    · exact Or.inr (Or.inr ⟨j, h2, rfl⟩)
    · exact Or.inr (Or.inl (nI_le (by omega) hj))
theorem pk_le {x y : Int32} {A B : Prop} (a b : Nat) (f : a ≤ b → A) (g : b < a → B) (hx : x = nI a := by rfl) (hy : y = nI b := by rfl) (ha : a < 2 ^ 31 := by omega) (hb : b < 2 ^ 31 := by omega) : (x ≤ y → A) ∧ (¬ x ≤ y → B) := by
  subst hx hy
  rw [nI_leI ha hb]
  exact ⟨f, fun z => g (by omega)⟩
theorem pk_lt {x y : Int32} {A B : Prop} (a b : Nat) (f : a < b → A) (g : b ≤ a → B) (hx : x = nI a := by rfl) (hy : y = nI b := by rfl) (ha : a < 2 ^ 31 := by omega) (hb : b < 2 ^ 31 := by omega) : (x < y → A) ∧ (¬ x < y → B) := by
  subst hx hy
  rw [nI_ltI ha hb]
  exact ⟨f, fun z => g (by omega)⟩
theorem pk_eq {x y : Int32} {A B : Prop} (a b : Nat) (f : a = b → A) (g : a ≠ b → B) (hx : x = nI a := by rfl) (hy : y = nI b := by rfl) (ha : a < 2 ^ 31 := by omega) (hb : b < 2 ^ 31 := by omega) : (x = y → A) ∧ (¬ x = y → B) := by
  subst hx hy
  rw [nI_eq ha hb]
  exact ⟨f, g⟩
theorem pk_in {x : Int32} (n N : Nat) (h : n < N) (hx : x = nI n := by rfl) (hN : N < 2 ^ 31 := by omega) : vp_in x N := by
  subst hx
  exact vp_in_nI h hN
theorem pk_cl {x : Int32} (n : Nat) (hx : x = nI n := by rfl) (h : n < 2 ^ 31 := by omega) : x.toNatClampNeg = n := by
  subst hx
  exact nI_clamp h
theorem pk_tn {n : Nat} (h : n < 2 ^ 32) : (nI n).toBitVec.toNat = n := Nat.mod_eq_of_lt h
theorem pk_least (P : Nat → Prop) (h : ∃ k, P k) : ∃ k, P k ∧ ∀ j, j < k → ¬ P j := by
  obtain ⟨k, hk⟩ := h
  induction k using Nat.strongRecOn with
  | ind k ih =>
    by_cases e : ∃ j, j < k ∧ P j
    · obtain ⟨j, hj, pj⟩ := e
      exact ih j hj pj
    · exact ⟨k, hk, fun j hj pj => e ⟨j, hj, pj⟩⟩
end
section
/-! one bit of a mask; counts below a bound; greatest and least -/
theorem cg_b1 : ∀ k, k < 32 → bt 1 k = decide (k = 0) := by decide +kernel
theorem cg_sh1 (x : Int32) {i : Nat} (hi : i < 32) : (x >>> (nI i &&& 31)) &&& 1 = if bt x i = true then 1 else 0 := by
  apply b_ext
  intro k hk
  rw [b_and, b_sshr i hi x hk, cg_b1 k hk]
  by_cases h0 : k = 0
  · subst h0
    by_cases hb : bt x i = true
    · rw [if_pos hb, if_pos (by omega), cg_b1 0 (by omega)]
      simp [hb]
    · rw [if_neg hb, if_pos (by omega), b_0]
      simp [ts_nt hb]
  · rw [decide_eq_false h0, Bool.and_false]
    split
    · rw [cg_b1 k hk, decide_eq_false h0]
    · rw [b_0]
theorem cg_t0 (x : Int32) {i : Nat} (hi : i < 32) : ((x >>> (nI i &&& 31)) &&& 1 = 0) = (bt x i = false) := by
  rw [cg_sh1 x hi]
  by_cases hb : bt x i = true
  · rw [if_pos hb, hb]
    exact propext ⟨fun h => absurd h (by decide), fun h => absurd h (by decide)⟩
  · rw [if_neg hb, ts_nt hb]
    exact propext ⟨fun _ => rfl, fun _ => rfl⟩
theorem cg_t1 (x : Int32) {i : Nat} (hi : i < 32) : ((x >>> (nI i &&& 31)) &&& 1 = 1) = (bt x i = true) := by
  rw [cg_sh1 x hi]
  by_cases hb : bt x i = true
  · rw [if_pos hb, hb]
    exact propext ⟨fun _ => rfl, fun _ => rfl⟩
  · rw [if_neg hb, ts_nt hb]
    exact propext ⟨fun h => absurd h (by decide), fun h => absurd h (by decide)⟩
theorem cg_not (x : Int32) {i : Nat} (hi : i < 32) : bt (x ^^^ (-1)) i = !bt x i := by
  rw [b_xor, b_m1 i hi]
  cases bt x i <;> rfl
theorem cg_one {j : Nat} (hj : j < 32) (i : Nat) : bt ((1 : Int32) <<< (nI j &&& 31)) i = decide (i = j) := by
  rcases Nat.lt_or_ge i 32 with hi | hi
  · rw [b_shl j hj 1 hi]
    by_cases h : j ≤ i
    · rw [decide_eq_true h, Bool.true_and, cg_b1 (i - j) (by omega)]
      exact decide_eq_decide.mpr (by omega)
    · rw [decide_eq_false h, Bool.false_and]
      exact (decide_eq_false (by omega)).symm
  · rw [b_big hi]
    exact (decide_eq_false (by omega)).symm
theorem cg_full0 : ∀ n, n < 10 → ∀ i, i < 32 → bt (((1 : Int32) <<< (nI n &&& 31)) - 1) i = decide (i < n) := by decide +kernel
theorem cg_full {n : Nat} (hn : n ≤ 9) (i : Nat) : bt (((1 : Int32) <<< (nI n &&& 31)) - 1) i = decide (i < n) := by
  rcases Nat.lt_or_ge i 32 with hi | hi
  · exact cg_full0 n (by omega) i hi
  · rw [b_big hi]
    exact (decide_eq_false (by omega)).symm
theorem cg_z {x : Int32} (h : ∀ i, bt x i = false) : x = 0 := b_ext (fun i _ => by rw [h i, b_0])
theorem cg_nz {x : Int32} (h : ¬ x = 0) : ∃ i, bt x i = true := by
  apply Classical.byContradiction
  intro z
  exact h (cg_z (fun i => ts_nt (fun q => z ⟨i, q⟩)))
def cg_cn (p : Nat → Bool) : Nat → Nat
  | 0 => 0
  | k + 1 => cg_cn p k + (if p k = true then 1 else 0)
theorem cg_cn_s (p : Nat → Bool) (k : Nat) : cg_cn p (k + 1) = cg_cn p k + (if p k = true then 1 else 0) := rfl
theorem cg_cn_le (p : Nat → Bool) (k : Nat) : cg_cn p k ≤ k := by
  induction k with
  | zero => exact Nat.le_refl 0
  | succ k ih =>
    rw [cg_cn_s]
    split <;> omega
theorem cg_cn_mono {p q : Nat → Bool} {k : Nat} (h : ∀ i, i < k → p i = true → q i = true) : cg_cn p k ≤ cg_cn q k := by
  induction k with
  | zero => exact Nat.le_refl 0
  | succ k ih =>
    have a := ih (fun i hi => h i (by omega))
    have b := h k (by omega)
    rw [cg_cn_s, cg_cn_s]
    by_cases hp : p k = true
    · rw [if_pos hp, if_pos (b hp)]
      omega
    · rw [if_neg hp]
      split <;> omega
theorem cg_cn_congr {p q : Nat → Bool} {k : Nat} (h : ∀ i, i < k → p i = q i) : cg_cn p k = cg_cn q k :=
  Nat.le_antisymm (cg_cn_mono (fun i hi z => by rw [← h i hi]; exact z)) (cg_cn_mono (fun i hi z => by rw [h i hi]; exact z))
theorem cg_cn_0 {p : Nat → Bool} {k : Nat} (h : ∀ i, i < k → p i = false) : cg_cn p k = 0 := by
  induction k with
  | zero => rfl
  | succ k ih =>
    rw [cg_cn_s, ih (fun i hi => h i (by omega)), h k (by omega)]
    rfl
theorem cg_cn_pos {p : Nat → Bool} {k j : Nat} (hj : j < k) (h : p j = true) : 0 < cg_cn p k := by
  induction k with
  | zero => omega
  | succ k ih =>
    rw [cg_cn_s]
    by_cases e : j = k
    · subst e
      rw [if_pos h]
      omega
    · have := ih (by omega)
      omega
theorem cg_cn_split (p q : Nat → Bool) (k : Nat) : cg_cn p k = cg_cn (fun i => p i && q i) k + cg_cn (fun i => p i && !q i) k := by
  induction k with
  | zero => rfl
  | succ k ih =>
    rw [cg_cn_s, cg_cn_s, cg_cn_s, ih]
    cases p k <;> cases q k <;> simp <;> omega
theorem cg_cn_lt {p q : Nat → Bool} {k j : Nat} (h : ∀ i, i < k → p i = true → q i = true) (hj : j < k) (hq : q j = true) (hp : p j = false) : cg_cn p k < cg_cn q k := by
  have e : cg_cn q k = cg_cn (fun i => q i && p i) k + cg_cn (fun i => q i && !p i) k := cg_cn_split q p k
  have a : cg_cn p k ≤ cg_cn (fun i => q i && p i) k := cg_cn_mono (fun i hi z => by simp [z, h i hi z])
  have b : 0 < cg_cn (fun i => q i && !p i) k := cg_cn_pos hj (by simp [hq, hp])
  omega
theorem cg_cn_or (p q : Nat → Bool) (k : Nat) : cg_cn (fun i => p i || q i) k ≤ cg_cn p k + cg_cn q k := by
  induction k with
  | zero => exact Nat.le_refl 0
  | succ k ih =>
    rw [cg_cn_s, cg_cn_s, cg_cn_s]
    cases p k <;> cases q k <;> simp <;> omega
theorem cg_cn_two {p : Nat → Bool} {k i j : Nat} (hi : i < k) (hj : j < k) (hij : i ≠ j) (h1 : p i = true) (h2 : p j = true) : 2 ≤ cg_cn p k := by
  have a : 0 < cg_cn (fun x => p x && decide (x = i)) k := cg_cn_pos hi (by simp [h1])
  have b : 0 < cg_cn (fun x => p x && !decide (x = i)) k := cg_cn_pos hj (by simp [h2, Ne.symm hij])
  have c : cg_cn p k = cg_cn (fun x => p x && decide (x = i)) k + cg_cn (fun x => p x && !decide (x = i)) k := cg_cn_split p (fun x => decide (x = i)) k
  omega
theorem cg_cn_1 {i k : Nat} (hi : i < k) : cg_cn (fun x => decide (x = i)) k = 1 := by
  induction k with
  | zero => omega
  | succ k ih =>
    rw [cg_cn_s]
    by_cases e : i = k
    · subst e
      rw [cg_cn_0 (fun j hj => decide_eq_false (by omega))]
      simp
    · rw [ih (by omega), if_neg (by simp; omega)]
theorem cg_cn_match (R : Nat → Nat → Prop) (hR : ∀ u z z', R u z → R u z' → z = z') : ∀ (k : Nat) (A B : Nat → Bool), (∀ z, z < k → A z = true → ∃ u, u < 9 ∧ B u = true ∧ R u z) → cg_cn A k ≤ cg_cn B 9 := by
  intro k
  induction k with
  | zero => intro A B _; exact Nat.zero_le _
  | succ k ih =>
    intro A B h
    by_cases hk : A k = true
    · obtain ⟨u, hu, hB, hr⟩ := h k (by omega) hk
      have i1 := ih A (fun x => B x && !decide (x = u)) (fun z hz hA => by
        obtain ⟨u', hu', hB', hr'⟩ := h z (by omega) hA
        refine ⟨u', hu', ?_, hr'⟩
        have ne : u' ≠ u := fun e => by
          subst e
          have := hR _ _ _ hr hr'
          omega
        simp [hB', ne])
      have c : cg_cn B 9 = cg_cn (fun x => B x && decide (x = u)) 9 + cg_cn (fun x => B x && !decide (x = u)) 9 := cg_cn_split B (fun x => decide (x = u)) 9
      have d : 0 < cg_cn (fun x => B x && decide (x = u)) 9 := cg_cn_pos hu (by simp [hB])
      rw [cg_cn_s, if_pos hk]
      omega
    · rw [cg_cn_s, if_neg hk]
      exact ih A B (fun z hz => h z (by omega))
theorem cg_cn_ext {p : Nat → Bool} {n N : Nat} (hN : n ≤ N) (h : ∀ i, n ≤ i → p i = false) : cg_cn p N = cg_cn p n := by
  obtain ⟨d, rfl⟩ := Nat.exists_eq_add_of_le hN
  clear hN
  induction d with
  | zero => rfl
  | succ d ih =>
    have e : cg_cn p (n + (d + 1)) = cg_cn p (n + d) + (if p (n + d) = true then 1 else 0) := rfl
    rw [e, ih, h (n + d) (by omega)]
    rfl
theorem cg_maxk (h : Nat → Nat) (p : Nat → Prop) : ∀ k, (∃ x, x < k ∧ p x) → ∃ x, x < k ∧ p x ∧ ∀ y, y < k → p y → h y ≤ h x := by
  intro k
  induction k with
  | zero => rintro ⟨x, hx, _⟩; omega
  | succ k ih =>
    intro hex
    by_cases h1 : ∃ x, x < k ∧ p x
    · obtain ⟨x, hx, px, hm⟩ := ih h1
      by_cases h2 : p k ∧ h x < h k
      · refine ⟨k, by omega, h2.1, fun y hy py => ?_⟩
        rcases Nat.lt_or_ge y k with z | z
        · have := hm y z py
          have := h2.2
          omega
        · have e : y = k := by omega
          rw [e]
          exact Nat.le_refl _
      · refine ⟨x, by omega, px, fun y hy py => ?_⟩
        rcases Nat.lt_or_ge y k with z | z
        · exact hm y z py
        · have e : y = k := by omega
          subst e
          exact Nat.le_of_not_lt (fun q => h2 ⟨py, q⟩)
    · obtain ⟨x, hx, px⟩ := hex
      have e : x = k := by
        rcases Nat.lt_or_ge x k with z | z
        · exact absurd ⟨x, z, px⟩ h1
        · omega
      subst e
      refine ⟨x, by omega, px, fun y hy py => ?_⟩
      rcases Nat.lt_or_ge y x with z | z
      · exact absurd ⟨y, z, py⟩ h1
      · have e : y = x := by omega
        rw [e]
        exact Nat.le_refl _
theorem cg_max (h : Nat → Nat) (p : Nat → Prop) (hb : ∀ x, p x → x < 9) (hex : ∃ x, p x) : ∃ x, p x ∧ ∀ y, p y → h y ≤ h x := by
  obtain ⟨x, px⟩ := hex
  obtain ⟨z, _, pz, hz⟩ := cg_maxk h p 9 ⟨x, hb x px, px⟩
  exact ⟨z, pz, fun y py => hz y (hb y py) py⟩
theorem cg_min (h : Nat → Nat) (p : Nat → Prop) (hex : ∃ x, p x) : ∃ x, p x ∧ ∀ y, p y → h x ≤ h y := by
  obtain ⟨k, ⟨x, px, e⟩, hk⟩ := pk_least (fun k => ∃ x, p x ∧ h x = k) (by obtain ⟨x, px⟩ := hex; exact ⟨h x, x, px, rfl⟩)
  exact ⟨x, px, fun y py => Nat.le_of_not_lt (fun q => hk (h y) (by omega) ⟨y, py, rfl⟩)⟩
theorem cg_last (Q : Nat → Prop) : ∀ t, (∀ s, s < t → Q s) ∨ ∃ s, s < t ∧ ¬ Q s ∧ ∀ r, s < r → r < t → Q r := by
  intro t
  induction t with
  | zero => exact Or.inl (fun s hs => absurd hs (by omega))
  | succ t ih =>
    by_cases q : Q t
    · rcases ih with h | ⟨s, hs, hq, hr⟩
      · refine Or.inl (fun s hs => ?_)
        rcases Nat.lt_or_ge s t with z | z
        · exact h s z
        · have e : s = t := by omega
          rw [e]
          exact q
      · refine Or.inr ⟨s, by omega, hq, fun r h1 h2 => ?_⟩
        rcases Nat.lt_or_ge r t with z | z
        · exact hr r h1 z
        · have e : r = t := by omega
          rw [e]
          exact q
    · exact Or.inr ⟨t, by omega, q, fun r h1 h2 => absurd h1 (by omega)⟩
end
section
/-! schedules: steps, chains, lower bounds; a greedy sequence is a chain -/
def cg_St (P : Nat → Bool) (L : Nat → Nat → Bool) (m : Nat) (D E : Int32) : Prop :=
  (∀ x, bt D x = true → bt E x = true) ∧ (∀ x, bt E x = true → bt D x = false → P x = true ∧ ∀ u, P u = true → L u x = true → bt D u = true) ∧ cg_cn (fun x => bt E x && !bt D x) 9 ≤ m ∧ ∃ x, bt E x = true ∧ bt D x = false
def cg_Ch (P : Nat → Bool) (L : Nat → Nat → Bool) (m : Nat) : Nat → Int32 → Prop
  | 0 => fun E => E = 0
  | k + 1 => fun E => ∃ D, cg_Ch P L m k D ∧ cg_St P L m D E
def cg_LB (P : Nat → Bool) (L : Nat → Nat → Bool) (m : Nat) (X : Nat → Bool) (t : Nat) : Prop :=
  ∀ k E, cg_Ch P L m k E → (∀ x, X x = true → bt E x = true) → t ≤ k
def cg_Rd (P : Nat → Bool) (L : Nat → Nat → Bool) (D : Int32) (x : Nat) : Prop :=
  P x = true ∧ bt D x = false ∧ ∀ u, P u = true → L u x = true → bt D u = true
def cg_Gs (P : Nat → Bool) (L : Nat → Nat → Bool) (m : Nat) (h : Nat → Nat) (D E : Int32) : Prop :=
  (∀ x, bt D x = true → bt E x = true) ∧ (∀ x, bt E x = true → bt D x = false → cg_Rd P L D x) ∧ cg_cn (fun x => bt E x && !bt D x) 9 ≤ m ∧ (∀ y, cg_Rd P L D y → bt E y = false → cg_cn (fun x => bt E x && !bt D x) 9 = m ∧ ∀ x, bt E x = true → bt D x = false → h y ≤ h x)
def cg_Sq (P : Nat → Bool) (L : Nat → Nat → Bool) (m : Nat) (h : Nat → Nat) (T : Nat) (D : Nat → Int32) : Prop :=
  D 0 = 0 ∧ ∀ t, t < T → cg_Gs P L m h (D t) (D (t + 1)) ∧ ∃ x, P x = true ∧ bt (D t) x = false
def cg_Nx (P : Nat → Bool) (L : Nat → Nat → Bool) (a w : Nat) : Prop :=
  P w = true ∧ L a w = true ∧ ∀ z, P z = true → L a z = true → L z w = true → False
section
variable {P : Nat → Bool} {L : Nat → Nat → Bool} {m : Nat}
theorem cg_ch_cl : ∀ (k : Nat) (E : Int32), cg_Ch P L m k E → ∀ x, bt E x = true → P x = true ∧ ∀ u, P u = true → L u x = true → bt E u = true := by
  intro k
  induction k with
  | zero =>
    intro E h x hx
    have h : E = 0 := h
    rw [h, b_0] at hx
    exact absurd hx (by decide)
  | succ k ih =>
    rintro E ⟨D, hD, h1, h2, _, _⟩ x hx
    by_cases hd : bt D x = true
    · exact ⟨(ih D hD x hd).1, fun u hu hl => h1 u ((ih D hD x hd).2 u hu hl)⟩
    · exact ⟨(h2 x hx (ts_nt hd)).1, fun u hu hl => h1 u ((h2 x hx (ts_nt hd)).2 u hu hl)⟩
theorem cg_ch_pr {k : Nat} {D E : Int32} (hD : cg_Ch P L m k D) (hS : cg_St P L m D E) {u x : Nat} (hx : bt E x = true) (hu : P u = true) (hl : L u x = true) : bt D u = true := by
  by_cases hd : bt D x = true
  · exact (cg_ch_cl k D hD x hd).2 u hu hl
  · exact (hS.2.1 x hx (ts_nt hd)).2 u hu hl
theorem cg_ch_sz (hP : ∀ x, P x = true → x < 9) : ∀ (k : Nat) (E : Int32), cg_Ch P L m k E → k ≤ cg_cn (bt E) 9 := by
  intro k
  induction k with
  | zero => intro E _; exact Nat.zero_le _
  | succ k ih =>
    intro E hE
    obtain ⟨D, hD, h1, h2, h3, x, hx, hd⟩ := hE
    have a := ih D hD
    have b : cg_cn (bt D) 9 < cg_cn (bt E) 9 := cg_cn_lt (fun i _ hi => h1 i hi) (hP x (h2 x hx hd).1) hx hd
    omega
theorem cg_lb_0 (X : Nat → Bool) : cg_LB P L m X 0 := fun _ _ _ _ => Nat.zero_le _
theorem cg_lb_mono {X Y : Nat → Bool} {t : Nat} (h : cg_LB P L m X t) (hs : ∀ x, X x = true → Y x = true) : cg_LB P L m Y t :=
  fun k E hE hY => h k E hE (fun x hx => hY x (hs x hx))
theorem cg_lb_blk {Z X : Nat → Bool} {t k' : Nat} (hZ : cg_LB P L m Z t) (hb : ∀ z x, Z z = true → X x = true → P z = true ∧ L z x = true) (hX : ∀ x, X x = true → x < 9) (hc : m * k' < cg_cn X 9) : cg_LB P L m X (t + k' + 1) := by
  have key : ∀ k E, cg_Ch P L m k E → cg_cn (fun x => X x && bt E x) 9 ≤ m * (k - t) := by
    intro k
    induction k with
    | zero =>
      intro E h
      have h : E = 0 := h
      rw [cg_cn_0 (fun i _ => by rw [h, b_0, Bool.and_false])]
      exact Nat.zero_le _
    | succ k ih =>
      intro E hE
      obtain ⟨D, hD, hS⟩ := hE
      have h1 := hS.1
      have h3 := hS.2.2.1
      have i1 := ih D hD
      by_cases hk : k < t
      · have z : cg_cn (fun x => X x && bt E x) 9 = 0 := by
          apply cg_cn_0
          intro i hi
          apply ts_nt
          intro hx
          have hx1 : X i = true := by cases q : X i <;> simp_all
          have hx2 : bt E i = true := by cases q : bt E i <;> simp_all
          have : t ≤ k := hZ k D hD (fun z hz => cg_ch_pr hD hS hx2 (hb z i hz hx1).1 (hb z i hz hx1).2)
          omega
        omega
      · have c1 : cg_cn (fun x => X x && bt E x) 9 ≤ cg_cn (fun x => (X x && bt D x) || (bt E x && !bt D x)) 9 := by
          apply cg_cn_mono
          intro i _ hi
          cases q1 : X i <;> cases q2 : bt E i <;> cases q3 : bt D i <;> simp_all
        have c2 : cg_cn (fun x => (X x && bt D x) || (bt E x && !bt D x)) 9 ≤ cg_cn (fun x => X x && bt D x) 9 + cg_cn (fun x => bt E x && !bt D x) 9 := cg_cn_or (fun x => X x && bt D x) (fun x => bt E x && !bt D x) 9
        have e : k + 1 - t = (k - t) + 1 := by omega
        rw [e, Nat.mul_add, Nat.mul_one]
        omega
  intro k E hE hXE
  have a := key k E hE
  have b : cg_cn X 9 ≤ cg_cn (fun x => X x && bt E x) 9 := cg_cn_mono (fun i _ hi => by simp [hi, hXE i hi])
  have c : m * k' < m * (k - t) := by omega
  have d : k' < k - t := Nat.lt_of_mul_lt_mul_left c
  omega
/-! the greedy sequence -/
theorem cg_sq_cl {h : Nat → Nat} {T : Nat} {D : Nat → Int32} (hS : cg_Sq P L m h T D) : ∀ t, t ≤ T → ∀ x, bt (D t) x = true → P x = true ∧ ∀ u, P u = true → L u x = true → bt (D t) u = true := by
  intro t
  induction t with
  | zero =>
    intro _ x hx
    rw [hS.1, b_0] at hx
    exact absurd hx (by decide)
  | succ t ih =>
    intro ht x hx
    obtain ⟨⟨g1, g2, _, _⟩, _⟩ := hS.2 t (by omega)
    by_cases hd : bt (D t) x = true
    · have i1 := ih (by omega) x hd
      exact ⟨i1.1, fun u hu hl => g1 u (i1.2 u hu hl)⟩
    · have i1 := g2 x hx (ts_nt hd)
      exact ⟨i1.1, fun u hu hl => g1 u (i1.2.2 u hu hl)⟩
theorem cg_sq_pr {h : Nat → Nat} {T : Nat} {D : Nat → Int32} (hS : cg_Sq P L m h T D) {t u x : Nat} (ht : t < T) (hx : bt (D (t + 1)) x = true) (hu : P u = true) (hl : L u x = true) : bt (D t) u = true := by
  obtain ⟨⟨g1, g2, _, _⟩, _⟩ := hS.2 t ht
  by_cases hd : bt (D t) x = true
  · exact (cg_sq_cl hS t (by omega) x hd).2 u hu hl
  · exact (g2 x hx (ts_nt hd)).2.2 u hu hl
theorem cg_sq_mono {h : Nat → Nat} {T : Nat} {D : Nat → Int32} (hS : cg_Sq P L m h T D) {s : Nat} : ∀ t, s ≤ t → t ≤ T → ∀ x, bt (D s) x = true → bt (D t) x = true := by
  intro t
  induction t with
  | zero =>
    intro h1 _ x hx
    have e : s = 0 := by omega
    rw [← e]
    exact hx
  | succ t ih =>
    intro h1 h2 x hx
    by_cases e : s = t + 1
    · rw [← e]
      exact hx
    · exact (hS.2 t (by omega)).1.1 x (ih (by omega) (by omega) x hx)
theorem cg_sq_slot {h : Nat → Nat} {T : Nat} {D : Nat → Int32} (hS : cg_Sq P L m h T D) {s : Nat} : ∀ t, s ≤ t → t ≤ T → ∀ x, bt (D t) x = true → bt (D s) x = false → ∃ r, s ≤ r ∧ r < t ∧ bt (D (r + 1)) x = true ∧ bt (D r) x = false := by
  intro t
  induction t with
  | zero =>
    intro h1 _ x hx hs
    have e : s = 0 := by omega
    rw [e, hx] at hs
    exact absurd hs (by decide)
  | succ t ih =>
    intro h1 h2 x hx hs
    by_cases e : s = t + 1
    · rw [e, hx] at hs
      exact absurd hs (by decide)
    · by_cases hd : bt (D t) x = true
      · obtain ⟨r, a, b, c, d⟩ := ih (by omega) (by omega) x hd hs
        exact ⟨r, a, by omega, c, d⟩
      · exact ⟨t, by omega, by omega, hx, ts_nt hd⟩
/-- the undone task of the greatest label is ready: a slot is not empty -/
theorem cg_rd_ex {h : Nat → Nat} (hP : ∀ x, P x = true → x < 9) (hm : ∀ u v, P u = true → P v = true → L u v = true → h v < h u) {D : Int32} (hex : ∃ x, P x = true ∧ bt D x = false) : ∃ x, cg_Rd P L D x := by
  obtain ⟨x, ⟨px, dx⟩, hx⟩ := cg_max h (fun x => P x = true ∧ bt D x = false) (fun x hx => hP x hx.1) hex
  refine ⟨x, px, dx, fun u hu hl => ?_⟩
  apply ts_nf
  intro q
  have := hx u ⟨hu, q⟩
  have := hm u x hu px hl
  omega
theorem cg_gs_st {h : Nat → Nat} (h1 : 1 ≤ m) {D E : Int32} (hg : cg_Gs P L m h D E) (hex : ∃ x, cg_Rd P L D x) (hP : ∀ x, P x = true → x < 9) : cg_St P L m D E := by
  obtain ⟨g1, g2, g3, g4⟩ := hg
  refine ⟨g1, fun x hx hd => ⟨(g2 x hx hd).1, (g2 x hx hd).2.2⟩, g3, ?_⟩
  obtain ⟨x, hx⟩ := hex
  by_cases he : bt E x = true
  · exact ⟨x, he, hx.2.1⟩
  · have c := (g4 x hx (ts_nt he)).1
    apply Classical.byContradiction
    intro z
    have : cg_cn (fun x => bt E x && !bt D x) 9 = 0 := by
      apply cg_cn_0
      intro i _
      apply ts_nt
      intro q
      apply z
      refine ⟨i, ?_, ?_⟩
      · cases q1 : bt E i <;> simp_all
      · cases q1 : bt D i <;> simp_all
    omega
theorem cg_sq_ch {h : Nat → Nat} (h1 : 1 ≤ m) (hP : ∀ x, P x = true → x < 9) (hm : ∀ u v, P u = true → P v = true → L u v = true → h v < h u) {T : Nat} {D : Nat → Int32} (hS : cg_Sq P L m h T D) : ∀ t, t ≤ T → cg_Ch P L m t (D t) := by
  intro t
  induction t with
  | zero => intro _; exact hS.1
  | succ t ih =>
    intro ht
    obtain ⟨hg, hex⟩ := hS.2 t (by omega)
    exact ⟨D t, ih (by omega), cg_gs_st h1 hg (cg_rd_ex hP hm hex) hP⟩
/-- the tasks of the slots s .. t-1, by their number -/
theorem cg_sq_cn {h : Nat → Nat} {T : Nat} {D : Nat → Int32} (hS : cg_Sq P L m h T D) (q : Nat → Bool) {s c : Nat} : ∀ t, s ≤ t → t ≤ T → (∀ r, s ≤ r → r < t → c ≤ cg_cn (fun x => (bt (D (r + 1)) x && !bt (D r) x) && q x) 9) → c * (t - s) ≤ cg_cn (fun x => (bt (D t) x && !bt (D s) x) && q x) 9 := by
  intro t
  induction t with
  | zero =>
    intro h1 _ _
    rw [Nat.zero_sub, Nat.mul_zero]
    exact Nat.zero_le _
  | succ t ih =>
    intro h1 h2 hr
    by_cases e : s = t + 1
    · rw [e, Nat.sub_self, Nat.mul_zero]
      exact Nat.zero_le _
    · have i1 := ih (by omega) (by omega) (fun r a b => hr r a (by omega))
      have i2 := hr t (by omega) (by omega)
      have sp : cg_cn (fun x => (bt (D (t + 1)) x && !bt (D s) x) && q x) 9 = cg_cn (fun x => ((bt (D (t + 1)) x && !bt (D s) x) && q x) && bt (D t) x) 9 + cg_cn (fun x => ((bt (D (t + 1)) x && !bt (D s) x) && q x) && !bt (D t) x) 9 := cg_cn_split (fun x => (bt (D (t + 1)) x && !bt (D s) x) && q x) (bt (D t)) 9
      have a : cg_cn (fun x => (bt (D t) x && !bt (D s) x) && q x) 9 ≤ cg_cn (fun x => ((bt (D (t + 1)) x && !bt (D s) x) && q x) && bt (D t) x) 9 := by
        apply cg_cn_mono
        intro i _ hi
        have g := (hS.2 t (by omega)).1.1 i
        cases q1 : bt (D (t + 1)) i <;> cases q2 : bt (D t) i <;> cases q3 : bt (D s) i <;> simp_all
      have b : cg_cn (fun x => (bt (D (t + 1)) x && !bt (D t) x) && q x) 9 ≤ cg_cn (fun x => ((bt (D (t + 1)) x && !bt (D s) x) && q x) && !bt (D t) x) 9 := by
        apply cg_cn_mono
        intro i _ hi
        have g := cg_sq_mono hS t (s := s) (by omega) (by omega) i
        cases q1 : bt (D (t + 1)) i <;> cases q2 : bt (D t) i <;> cases q3 : bt (D s) i <;> simp_all
      have e2 : t + 1 - s = (t - s) + 1 := by omega
      rw [e2, Nat.mul_add, Nat.mul_one]
      omega
end
end
section
/-! Coffman and Graham: with labels by lists, two machines, a greedy sequence is as short as any chain -/
def cg_Xs (D : Nat → Int32) (s t V : Nat) : Nat → Bool := fun x => (bt (D t) x && !bt (D s) x) || decide (x = V)
def cg_Fl (D : Nat → Int32) (h : Nat → Nat) (V r : Nat) : Prop := 2 ≤ cg_cn (fun x => (bt (D (r + 1)) x && !bt (D r) x) && decide (h V < h x)) 9
theorem cg_Xs_i {D : Nat → Int32} {s t V x : Nat} : cg_Xs D s t V x = true ↔ (bt (D t) x = true ∧ bt (D s) x = false) ∨ x = V := by
  unfold cg_Xs
  simp
section
variable {P : Nat → Bool} {L : Nat → Nat → Bool} {h : Nat → Nat} {T : Nat} {D : Nat → Int32}
theorem cg_blk (hP : ∀ x, P x = true → x < 9) (hS : cg_Sq P L 2 h T D) {s t V : Nat} (hst : s ≤ t) (ht : t < T) (hV : P V = true) (hVD : bt (D t) V = false) (hf : ∀ r, s ≤ r → r < t → cg_Fl D h V r) : (∀ x, cg_Xs D s t V x = true → P x = true ∧ (x = V ∨ (bt (D t) x = true ∧ h V < h x)) ∧ bt (D s) x = false) ∧ (∀ y z, cg_Xs D s t V y = true → P z = true → L y z = true → cg_Xs D s t V z = true ∨ bt (D t) z = false) ∧ 2 * (t - s) < cg_cn (cg_Xs D s t V) 9 := by
  have hVs : bt (D s) V = false := by
    apply ts_nt
    intro q
    rw [cg_sq_mono hS t hst (by omega) V q] at hVD
    exact absurd hVD (by decide)
  have b1 : ∀ x, cg_Xs D s t V x = true → P x = true ∧ (x = V ∨ (bt (D t) x = true ∧ h V < h x)) ∧ bt (D s) x = false := by
    intro x hx
    rcases cg_Xs_i.mp hx with ⟨x1, x2⟩ | e
    · refine ⟨(cg_sq_cl hS t (by omega) x x1).1, Or.inr ⟨x1, ?_⟩, x2⟩
      obtain ⟨r, r1, r2, r3, r4⟩ := cg_sq_slot hS t hst (by omega) x x1 x2
      apply Classical.byContradiction
      intro hn
      have f : 2 ≤ cg_cn (fun x => (bt (D (r + 1)) x && !bt (D r) x) && decide (h V < h x)) 9 := hf r r1 r2
      have g := (hS.2 r (by omega)).1.2.2.1
      have l : cg_cn (fun x => (bt (D (r + 1)) x && !bt (D r) x) && decide (h V < h x)) 9 < cg_cn (fun x => bt (D (r + 1)) x && !bt (D r) x) 9 := by
        apply cg_cn_lt (j := x) (fun i _ hi => by cases q1 : (bt (D (r + 1)) i && !bt (D r) i) <;> simp_all) (hP x (cg_sq_cl hS t (by omega) x x1).1)
        · simp [r3, r4]
        · simp [r3, r4]
          omega
      omega
    · rw [e]
      exact ⟨hV, Or.inl rfl, hVs⟩
  refine ⟨b1, ?_, ?_⟩
  · intro y z hy hz hl
    by_cases hd : bt (D t) z = true
    · left
      refine cg_Xs_i.mpr (Or.inl ⟨hd, ?_⟩)
      apply ts_nt
      intro q
      have := (cg_sq_cl hS s (by omega) z q).2 y (b1 y hy).1 hl
      rw [(b1 y hy).2.2] at this
      exact absurd this (by decide)
    · exact Or.inr (ts_nt hd)
  · have c := cg_sq_cn hS (fun x => decide (h V < h x)) (s := s) (c := 2) t hst (by omega) (fun r r1 r2 => hf r r1 r2)
    have l : cg_cn (fun x => (bt (D t) x && !bt (D s) x) && decide (h V < h x)) 9 < cg_cn (cg_Xs D s t V) 9 := by
      apply cg_cn_lt (j := V) (fun i _ hi => ?_) (hP V hV) (cg_Xs_i.mpr (Or.inr rfl))
      · simp [hVD]
      · refine cg_Xs_i.mpr (Or.inl ?_)
        cases q1 : bt (D t) i <;> cases q2 : bt (D s) i <;> simp_all
    exact Nat.lt_of_le_of_lt c l
theorem cg_step (hP : ∀ x, P x = true → x < 9) (htr : ∀ u v w, P u = true → P v = true → P w = true → L u v = true → L v w = true → L u w = true) (hm : ∀ u v, P u = true → P v = true → L u v = true → h v < h u) (hi : ∀ x y, P x = true → P y = true → h x = h y → x = y) (hcg : ∀ a y, P a = true → P y = true → h a < h y → ∀ w, cg_Nx P L a w → ¬ cg_Nx P L y w → ∃ w', cg_Nx P L y w' ∧ ¬ cg_Nx P L a w' ∧ h w < h w') (hS : cg_Sq P L 2 h T D) : ∀ t, t < T → ∀ V, P V = true → bt (D t) V = false → (∀ z, P z = true → bt (D t) z = false → z ≠ V → h z < h V) → ∃ Xs : Nat → Bool, Xs V = true ∧ (∀ x, Xs x = true → P x = true ∧ (x = V ∨ (bt (D t) x = true ∧ h V < h x))) ∧ (∀ y z, Xs y = true → P z = true → L y z = true → Xs z = true ∨ bt (D t) z = false) ∧ cg_LB P L 2 Xs (t + 1) := by
  intro t
  induction t using Nat.strongRecOn with
  | ind t ih =>
    intro ht V hV hVD hmax
    rcases cg_last (fun r => cg_Fl D h V r) t with hall | ⟨s, hs, hnf, hfl⟩
    · obtain ⟨b1, b2, b3⟩ := cg_blk hP hS (s := 0) (Nat.zero_le t) ht hV hVD (fun r _ hr => hall r hr)
      refine ⟨cg_Xs D 0 t V, cg_Xs_i.mpr (Or.inr rfl), fun x hx => ⟨(b1 x hx).1, (b1 x hx).2.1⟩, b2, ?_⟩
      have z := cg_lb_blk (k' := t) (cg_lb_0 (P := P) (L := L) (m := 2) (fun _ => false)) (fun z x hz => absurd hz (by decide)) (fun x hx => hP x (b1 x hx).1) b3
      rw [Nat.zero_add] at z
      exact z
    · have hsT : s < T := by omega
      obtain ⟨b1, b2, b3⟩ := cg_blk hP hS (s := s + 1) (by omega) ht hV hVD (fun r h1 h2 => hfl r (by omega) h2)
      obtain ⟨⟨g1, g2, g3, g4⟩, _⟩ := hS.2 s hsT
      have hXV : cg_Xs D (s + 1) t V V = true := cg_Xs_i.mpr (Or.inr rfl)
      have hnf : ¬ 2 ≤ cg_cn (fun x => (bt (D (s + 1)) x && !bt (D s) x) && decide (h V < h x)) 9 := hnf
      have hle : ∀ x, cg_Xs D (s + 1) t V x = true → h V ≤ h x := fun x hx => by
        rcases (b1 x hx).2.1 with e | e
        · rw [e]
          exact Nat.le_refl _
        · omega
      have hnd : ∀ x, cg_Xs D (s + 1) t V x = true → bt (D s) x = false := fun x hx => ts_nt (fun q => by
        have := g1 x q
        rw [(b1 x hx).2.2] at this
        exact absurd this (by decide))
      have A : ∀ x, cg_Xs D (s + 1) t V x = true → ¬ cg_Rd P L (D s) x := by
        intro x hx hr
        obtain ⟨c1, c2⟩ := g4 x hr (b1 x hx).2.2
        apply hnf
        have : cg_cn (fun x => bt (D (s + 1)) x && !bt (D s) x) 9 ≤ cg_cn (fun x => (bt (D (s + 1)) x && !bt (D s) x) && decide (h V < h x)) 9 := by
          apply cg_cn_mono
          intro i _ hi'
          have q1 : bt (D (s + 1)) i = true := by cases q : bt (D (s + 1)) i <;> simp_all
          have q2 : bt (D s) i = false := by cases q : bt (D s) i <;> simp_all
          have q3 : h V < h i := by
            have a1 := c2 i q1 q2
            have a2 := hle x hx
            have a3 : h V ≠ h i := fun e => by
              have e2 := hi V i hV (g2 i q1 q2).1 e
              rw [← e2, (b1 V hXV).2.2] at q1
              exact absurd q1 (by decide)
            omega
          simp [q1, q2, q3]
        omega
      have F : ∀ z x, cg_Xs D (s + 1) t V x = true → P z = true → bt (D (s + 1)) z = false → L z x = true → cg_Xs D (s + 1) t V z = true := by
        intro z x hx hz hz1 hl
        by_cases hd : bt (D t) z = true
        · exact cg_Xs_i.mpr (Or.inl ⟨hd, hz1⟩)
        · exfalso
          rcases (b1 x hx).2.1 with e | e
          · subst e
            have a := hm z x hz hV hl
            have b := hmax z hz (ts_nt hd) (fun e => by subst e; omega)
            omega
          · exact hd ((cg_sq_cl hS t (by omega) x e.1).2 z hz hl)
      have B1 : ∀ x, cg_Xs D (s + 1) t V x = true → ∃ u, bt (D (s + 1)) u = true ∧ bt (D s) u = false ∧ P u = true ∧ L u x = true := by
        intro x0 hx0
        apply Classical.byContradiction
        intro hno
        obtain ⟨x, ⟨hx, hbad⟩, hmx⟩ := cg_max h (fun x => cg_Xs D (s + 1) t V x = true ∧ ¬ ∃ u, bt (D (s + 1)) u = true ∧ bt (D s) u = false ∧ P u = true ∧ L u x = true) (fun x hx => hP x (b1 x hx.1).1) ⟨x0, hx0, hno⟩
        have nr : ∃ u, P u = true ∧ L u x = true ∧ bt (D s) u = false := by
          apply Classical.byContradiction
          intro z
          exact A x hx ⟨(b1 x hx).1, hnd x hx, fun u hu hl => ts_nf (fun q => z ⟨u, hu, hl, q⟩)⟩
        obtain ⟨u, hu, hl, hd⟩ := nr
        by_cases hu1 : bt (D (s + 1)) u = true
        · exact hbad ⟨u, hu1, hd, hu, hl⟩
        · have hxu := F u x hx hu (ts_nt hu1) hl
          have ga : ∃ a, bt (D (s + 1)) a = true ∧ bt (D s) a = false ∧ P a = true ∧ L a u = true := Classical.byContradiction (fun z => by
            have a1 := hmx u ⟨hxu, z⟩
            have a2 := hm u x hu (b1 x hx).1 hl
            omega)
          obtain ⟨a, a1, a2, a3, a4⟩ := ga
          exact hbad ⟨a, a1, a2, a3, htr a u x a3 hu (b1 x hx).1 a4 hl⟩
      have B2 : ∀ u u', bt (D (s + 1)) u = true → bt (D s) u = false → h V < h u → bt (D (s + 1)) u' = true → bt (D s) u' = false → h V < h u' → u = u' := by
        intro u u' p1 p2 p3 q1 q2 q3
        apply Classical.byContradiction
        intro ne
        exact hnf (cg_cn_two (hP u (g2 u p1 p2).1) (hP u' (g2 u' q1 q2).1) ne (by simp [p1, p2, p3]) (by simp [q1, q2, q3]))
      obtain ⟨a, a1, a2, a3, a4⟩ := B1 V hXV
      have haV : h V < h a := hm a V a3 hV a4
      have B : ∀ x, cg_Xs D (s + 1) t V x = true → L a x = true := by
        intro x hx
        obtain ⟨u, u1, u2, u3, u4⟩ := B1 x hx
        have k1 := hm u x u3 (b1 x hx).1 u4
        have k2 := hle x hx
        have e := B2 a u a1 a2 haV u1 u2 (by omega)
        rw [e]
        exact u4
      have C : ∀ z, P z = true → bt (D s) z = false → z ≠ a → h z < h a := by
        intro z hz hzd hza
        by_cases hz1 : bt (D (s + 1)) z = true
        · apply Classical.byContradiction
          intro q
          exact hza (B2 z a hz1 hzd (by omega) a1 a2 haV)
        · by_cases hd : bt (D t) z = true
          · exact hm a z a3 hz (B z (cg_Xs_i.mpr (Or.inl ⟨hd, ts_nt hz1⟩)))
          · by_cases e : z = V
            · rw [e]
              exact haV
            · have := hmax z hz (ts_nt hd) e
              omega
      obtain ⟨Ys, y1, y2, y3, y4⟩ := ih s hs hsT a a3 a2 C
      have Ebef : ∀ y x, Ys y = true → cg_Xs D (s + 1) t V x = true → L y x = true := by
        intro y0 x0 hy0 hx0
        apply Classical.byContradiction
        intro hno
        obtain ⟨y, ⟨hy, hbad⟩, hmn⟩ := cg_min h (fun y => Ys y = true ∧ ∃ x, cg_Xs D (s + 1) t V x = true ∧ ¬ L y x = true) ⟨y0, hy0, x0, hx0, hno⟩
        obtain ⟨x, ⟨hx, hlx⟩, hmx⟩ := cg_max h (fun x => cg_Xs D (s + 1) t V x = true ∧ ¬ L y x = true) (fun x hx => hP x (b1 x hx.1).1) hbad
        have pY : P y = true := (y2 y hy).1
        have pX : P x = true := (b1 x hx).1
        rcases (y2 y hy).2 with e | ⟨yd, yh⟩
        · rw [e] at hlx
          exact hlx (B x hx)
        · have ns : ∀ z, Ys z = true → ¬ L y z = true := by
            intro z hz hl
            have k1 := hm y z pY (y2 z hz).1 hl
            have k2 : L z x = true := Classical.byContradiction (fun q => by
              have := hmn z ⟨hz, x, hx, q⟩
              omega)
            exact hlx (htr y z x pY (y2 z hz).1 pX hl k2)
          have nx : ∀ z, cg_Xs D (s + 1) t V z = true → ¬ L z x = true := by
            intro z hz hl
            have k1 := hm z x (b1 z hz).1 pX hl
            have k2 : L y z = true := Classical.byContradiction (fun q => by
              have := hmx z ⟨hz, q⟩
              omega)
            exact hlx (htr y z x pY (b1 z hz).1 pX k2 hl)
          have zs : ∀ z, P z = true → L a z = true → bt (D (s + 1)) z = false := by
            intro z hz hl
            apply ts_nt
            intro q
            have := cg_sq_pr hS hsT q a3 hl
            rw [a2] at this
            exact absurd this (by decide)
          have N1 : cg_Nx P L a x := ⟨pX, B x hx, fun z hz h1 h2 => nx z (F z x hx hz (zs z hz h1) h2) h2⟩
          obtain ⟨w, w1, w2, w3⟩ := hcg a y a3 pY yh x N1 (fun q => hlx q.2.1)
          have wd : bt (D s) w = false := by
            rcases y3 y w hy w1.1 w1.2.1 with q | q
            · exact absurd w1.2.1 (ns w q)
            · exact q
          have hVw : h V < h w := by
            have := hle x hx
            omega
          have wt : bt (D t) w = true := by
            apply ts_nf
            intro q
            by_cases e : w = V
            · rw [e] at hVw
              omega
            · have := hmax w w1.1 q e
              omega
          have ws : bt (D (s + 1)) w = false := by
            apply ts_nt
            intro q
            have e := B2 w a q wd hVw a1 a2 haV
            rw [e] at w1
            exact ns a y1 w1.2.1
          have wX : cg_Xs D (s + 1) t V w = true := cg_Xs_i.mpr (Or.inl ⟨wt, ws⟩)
          apply w2
          refine ⟨w1.1, B w wX, fun z hz h1 h2 => ?_⟩
          have zX := F z w wX hz (zs z hz h1) h2
          have k1 := hm z w hz w1.1 h2
          have k2 : L y z = true := Classical.byContradiction (fun q => by
            have := hmx z ⟨zX, q⟩
            omega)
          exact w1.2.2 z hz k2 h2
      refine ⟨cg_Xs D (s + 1) t V, hXV, fun x hx => ⟨(b1 x hx).1, (b1 x hx).2.1⟩, b2, ?_⟩
      have z := cg_lb_blk (k' := t - (s + 1)) y4 (fun z x hz hx => ⟨(y2 z hz).1, Ebef z x hz hx⟩) (fun x hx => hP x (b1 x hx).1) b3
      have e : s + 1 + (t - (s + 1)) + 1 = t + 1 := by omega
      rw [e] at z
      exact z
theorem cg_main (hP : ∀ x, P x = true → x < 9) (htr : ∀ u v w, P u = true → P v = true → P w = true → L u v = true → L v w = true → L u w = true) (hm : ∀ u v, P u = true → P v = true → L u v = true → h v < h u) (hi : ∀ x y, P x = true → P y = true → h x = h y → x = y) (hcg : ∀ a y, P a = true → P y = true → h a < h y → ∀ w, cg_Nx P L a w → ¬ cg_Nx P L y w → ∃ w', cg_Nx P L y w' ∧ ¬ cg_Nx P L a w' ∧ h w < h w') (hS : cg_Sq P L 2 h T D) : cg_LB P L 2 P T := by
  cases T with
  | zero => exact cg_lb_0 _
  | succ t =>
    obtain ⟨V, ⟨hV, hVD⟩, hmx⟩ := cg_max h (fun x => P x = true ∧ bt (D t) x = false) (fun x hx => hP x hx.1) (hS.2 t (by omega)).2
    obtain ⟨Xs, _, x2, _, x4⟩ := cg_step hP htr hm hi hcg hS t (by omega) V hV hVD (fun z hz hzd ne => by
      have a := hmx z ⟨hz, hzd⟩
      have b : h z ≠ h V := fun e => ne (hi z V hz hV e)
      omega)
    exact cg_lb_mono x4 (fun x hx => (x2 x hx).1)
end
end
section
/-! Hu: with heights in a forest, m machines, a greedy sequence is as short as any chain; one machine -/
def cg_A (P : Nat → Bool) (h : Nat → Nat) (j : Nat) : Nat → Bool := fun x => P x && decide (j ≤ h x)
theorem cg_A_i {P : Nat → Bool} {h : Nat → Nat} {j x : Nat} : cg_A P h j x = true ↔ P x = true ∧ j ≤ h x := by
  unfold cg_A
  simp
section
variable {P : Nat → Bool} {L : Nat → Nat → Bool} {m : Nat} {h : Nat → Nat} {T : Nat} {D : Nat → Int32}
theorem cg_lvl (hs : ∀ x, P x = true → 2 ≤ h x → ∃ y, P y = true ∧ L x y = true ∧ h y + 1 = h x) {j τ : Nat} (hj : 1 ≤ j) (hτ : 1 ≤ τ) (H : cg_LB P L m (cg_A P h (j + 1)) τ) : cg_LB P L m (cg_A P h j) (τ + 1) := by
  intro k E hE hA
  cases k with
  | zero =>
    have := H 0 E hE (fun x hx => hA x (cg_A_i.mpr ⟨(cg_A_i.mp hx).1, by have := (cg_A_i.mp hx).2; omega⟩))
    omega
  | succ k =>
    obtain ⟨D', hD, hS⟩ := hE
    have := H k D' hD (fun x hx => by
      obtain ⟨px, hx⟩ := cg_A_i.mp hx
      obtain ⟨y, py, ly, hy⟩ := hs x px (by omega)
      exact cg_ch_pr hD hS (hA y (cg_A_i.mpr ⟨py, by omega⟩)) px ly)
    omega
theorem cg_hu (h1 : 1 ≤ m) (hP : ∀ x, P x = true → x < 9) (hm : ∀ u v, P u = true → P v = true → L u v = true → h v < h u) (hp : ∀ x, P x = true → 1 ≤ h x) (hs : ∀ x, P x = true → 2 ≤ h x → ∃ y, P y = true ∧ L x y = true ∧ h y + 1 = h x) (htree : ∀ u z z', P u = true → cg_Nx P L u z → cg_Nx P L u z' → z = z') (hS : cg_Sq P L m h T D) : cg_LB P L m P T := by
  cases hT : T with
  | zero => exact cg_lb_0 _
  | succ T' =>
    rw [← hT]
    obtain ⟨t, ⟨x0, px0, dx0, hx0⟩, hlt⟩ := pk_least (fun t => ∃ x, P x = true ∧ bt (D t) x = false ∧ T ≤ t + h x) (by
      obtain ⟨x, px, dx⟩ := (hS.2 T' (by omega)).2
      exact ⟨T', x, px, dx, by have := hp x px; omega⟩)
    have htT : t < T := by
      apply Classical.byContradiction
      intro q
      obtain ⟨x, px, dx⟩ := (hS.2 T' (by omega)).2
      exact hlt T' (by omega) ⟨x, px, dx, by have := hp x px; omega⟩
    -- the slots before t are full of tasks of height at least T - t
    have full : ∀ d s, s + d + 1 = t → m ≤ cg_cn (fun x => (bt (D (s + 1)) x && !bt (D s) x) && decide (T - t ≤ h x)) 9 := by
      intro d
      induction d with
      | zero =>
        intro s hsd
        obtain ⟨⟨g1, g2, g3, g4⟩, _⟩ := hS.2 s (by omega)
        have e : s + 1 = t := by omega
        have d1 : bt (D (s + 1)) x0 = false := by rw [e]; exact dx0
        have d0 : bt (D s) x0 = false := ts_nt (fun q => by
          have := g1 x0 q
          rw [d1] at this
          exact absurd this (by decide))
        have up : ∀ x, P x = true → bt (D s) x = false → h x ≤ T - t := by
          intro x px dx
          apply Classical.byContradiction
          intro q
          exact hlt s (by omega) ⟨x, px, dx, by omega⟩
        have r0 : cg_Rd P L (D s) x0 := by
          refine ⟨px0, d0, fun u pu lu => ts_nf (fun q => ?_)⟩
          have a1 := up u pu q
          have a2 := hm u x0 pu px0 lu
          omega
        obtain ⟨c1, c2⟩ := g4 x0 r0 d1
        have : cg_cn (fun x => bt (D (s + 1)) x && !bt (D s) x) 9 ≤ cg_cn (fun x => (bt (D (s + 1)) x && !bt (D s) x) && decide (T - t ≤ h x)) 9 := by
          apply cg_cn_mono
          intro i _ hi'
          have q1 : bt (D (s + 1)) i = true := by cases q : bt (D (s + 1)) i <;> simp_all
          have q2 : bt (D s) i = false := by cases q : bt (D s) i <;> simp_all
          have q3 : T - t ≤ h i := by
            have := c2 i q1 q2
            omega
          simp only [q1, q2, decide_eq_true q3]
          decide
        omega
      | succ d ih =>
        intro s hsd
        have i1 := ih (s + 1) (by omega)
        apply Classical.byContradiction
        intro hlow
        obtain ⟨⟨g1, g2, g3, g4⟩, _⟩ := hS.2 s (by omega)
        obtain ⟨⟨k1, k2, k3, k4⟩, _⟩ := hS.2 (s + 1) (by omega)
        have ex : ∀ y, cg_Rd P L (D s) y → T - t ≤ h y → bt (D (s + 1)) y = true := by
          intro y hy hh
          apply ts_nf
          intro q
          obtain ⟨c1, c2⟩ := g4 y hy q
          have : cg_cn (fun x => bt (D (s + 1)) x && !bt (D s) x) 9 ≤ cg_cn (fun x => (bt (D (s + 1)) x && !bt (D s) x) && decide (T - t ≤ h x)) 9 := by
            apply cg_cn_mono
            intro i _ hi'
            have q1 : bt (D (s + 1)) i = true := by cases q : bt (D (s + 1)) i <;> simp_all
            have q2 : bt (D s) i = false := by cases q : bt (D s) i <;> simp_all
            have q3 : T - t ≤ h i := by
              have := c2 i q1 q2
              omega
            simp only [q1, q2, decide_eq_true q3]
            decide
          omega
        have mt := cg_cn_match (fun u z => P u = true ∧ cg_Nx P L u z) (fun u z z' a b => htree u z z' a.1 a.2 b.2) 9 (fun x => (bt (D (s + 1 + 1)) x && !bt (D (s + 1)) x) && decide (T - t ≤ h x)) (fun x => (bt (D (s + 1)) x && !bt (D s) x) && decide (T - t ≤ h x)) (by
          intro z _ hz
          have z1 : bt (D (s + 1 + 1)) z = true := by cases q : bt (D (s + 1 + 1)) z <;> simp_all
          have z2 : bt (D (s + 1)) z = false := by cases q : bt (D (s + 1)) z <;> simp_all
          have z3 : T - t ≤ h z := by
            apply of_decide_eq_true
            cases q : decide (T - t ≤ h z) <;> simp_all
          have pz := (k2 z z1 z2).1
          have d0 : bt (D s) z = false := ts_nt (fun q => by
            have := g1 z q
            rw [z2] at this
            exact absurd this (by decide))
          have nr : ∃ u, P u = true ∧ L u z = true ∧ bt (D s) u = false := by
            apply Classical.byContradiction
            intro q
            have := ex z ⟨pz, d0, fun u hu hl => ts_nf (fun w => q ⟨u, hu, hl, w⟩)⟩ z3
            rw [z2] at this
            exact absurd this (by decide)
          obtain ⟨u, pu, lu, du⟩ := nr
          have u1 : bt (D (s + 1)) u = true := cg_sq_pr hS (by omega) z1 pu lu
          have u3 : T - t ≤ h u := by
            have := hm u z pu pz lu
            omega
          refine ⟨u, hP u pu, ?_, pu, pz, lu, fun w pw l1 l2 => ?_⟩
          · simp only [u1, du, decide_eq_true u3]
            decide
          · have w1 : bt (D (s + 1)) w = true := cg_sq_pr hS (by omega) z1 pw l2
            have := cg_sq_pr hS (by omega) w1 pu l1
            rw [du] at this
            exact absurd this (by decide))
        omega
    have c0 : m * (t - 0) ≤ cg_cn (fun x => (bt (D t) x && !bt (D 0) x) && decide (T - t ≤ h x)) 9 := cg_sq_cn hS (fun x => decide (T - t ≤ h x)) (s := 0) (c := m) t (Nat.zero_le t) (by omega) (fun r _ hr => full (t - r - 1) r (by omega))
    rw [Nat.sub_zero] at c0
    have c1 : cg_cn (fun x => (bt (D t) x && !bt (D 0) x) && decide (T - t ≤ h x)) 9 < cg_cn (cg_A P h (T - t)) 9 := by
      apply cg_cn_lt (j := x0) (fun i _ hi => ?_) (hP x0 px0) (cg_A_i.mpr ⟨px0, by omega⟩)
      · simp [dx0]
      · have q1 : bt (D t) i = true := by cases q : bt (D t) i <;> simp_all
        have q3 : T - t ≤ h i := by
          apply of_decide_eq_true
          cases q : decide (T - t ≤ h i) <;> simp_all
        exact cg_A_i.mpr ⟨(cg_sq_cl hS t (by omega) i q1).1, q3⟩
    have base := cg_lb_blk (k' := t) (cg_lb_0 (P := P) (L := L) (m := m) (fun _ => false)) (fun z x hz => absurd hz (by decide)) (X := cg_A P h (T - t)) (fun x hx => hP x (cg_A_i.mp hx).1) (by omega)
    have down : ∀ i, i + 1 ≤ T - t → cg_LB P L m (cg_A P h (T - t - i)) (t + 1 + i) := by
      intro i
      induction i with
      | zero =>
        intro _
        rw [Nat.zero_add] at base
        exact base
      | succ i ih =>
        intro hi
        have a := ih (by omega)
        have e : T - t - i = (T - t - (i + 1)) + 1 := by omega
        rw [e] at a
        have a2 : 1 ≤ t + 1 + i := by omega
        have a1 : 1 ≤ T - t - (i + 1) := by omega
        exact cg_lvl hs a1 a2 a
    have fin := down (T - t - 1) (by omega)
    have e : t + 1 + (T - t - 1) = T := by omega
    rw [e] at fin
    exact cg_lb_mono fin (fun x hx => (cg_A_i.mp hx).1)
/-- one machine: a chain of every length up to the number of tasks -/
theorem cg_one_ch (hP : ∀ x, P x = true → x < 9) (hm : ∀ u v, P u = true → P v = true → L u v = true → h v < h u) : ∀ k, k ≤ cg_cn P 9 → ∃ E, cg_Ch P L 1 k E ∧ cg_cn (bt E) 9 = k := by
  intro k
  induction k with
  | zero => intro _; exact ⟨0, rfl, cg_cn_0 (fun i _ => b_0 i)⟩
  | succ k ih =>
    intro hk
    obtain ⟨E, hE, hc⟩ := ih (by omega)
    have ex : ∃ x, P x = true ∧ bt E x = false := by
      apply Classical.byContradiction
      intro z
      have : cg_cn P 9 ≤ cg_cn (bt E) 9 := cg_cn_mono (fun i _ hi => ts_nf (fun q => z ⟨i, hi, q⟩))
      omega
    obtain ⟨x, rx⟩ := cg_rd_ex hP hm ex
    have x9 := hP x rx.1
    have bE : ∀ i, bt (E ||| ((1 : Int32) <<< (nI x &&& 31))) i = (bt E i || decide (i = x)) := fun i => by rw [b_or, cg_one (by omega)]
    have one : cg_cn (fun i => bt (E ||| ((1 : Int32) <<< (nI x &&& 31))) i && !bt E i) 9 = 1 := by
      rw [← cg_cn_1 x9]
      apply cg_cn_congr
      intro i _
      rw [bE]
      by_cases e : i = x
      · subst e
        simp [rx.2.1]
      · simp [e]
    refine ⟨E ||| ((1 : Int32) <<< (nI x &&& 31)), ⟨E, hE, ?_, ?_, by omega, x, ?_, rx.2.1⟩, ?_⟩
    · intro i hi
      rw [bE, hi]
      rfl
    · intro i hi hd
      rw [bE, hd] at hi
      have e : i = x := by simpa using hi
      subst e
      exact ⟨rx.1, rx.2.2⟩
    · rw [bE]
      simp
    · have sp : cg_cn (bt (E ||| ((1 : Int32) <<< (nI x &&& 31)))) 9 = cg_cn (fun i => bt (E ||| ((1 : Int32) <<< (nI x &&& 31))) i && bt E i) 9 + cg_cn (fun i => bt (E ||| ((1 : Int32) <<< (nI x &&& 31))) i && !bt E i) 9 := cg_cn_split _ (bt E) 9
      have : cg_cn (fun i => bt (E ||| ((1 : Int32) <<< (nI x &&& 31))) i && bt E i) 9 = cg_cn (bt E) 9 := by
        apply cg_cn_congr
        intro i _
        rw [bE]
        cases bt E i <;> simp
      omega
end
theorem cg_one_opt {P : Nat → Bool} {L : Nat → Nat → Bool} {h : Nat → Nat} (hP : ∀ x, P x = true → x < 9) (hm : ∀ u v, P u = true → P v = true → L u v = true → h v < h u) {S : Int32} (hS : ∀ x, bt S x = P x) : cg_Ch P L 1 (cg_cn P 9) S ∧ cg_LB P L 1 P (cg_cn P 9) := by
  constructor
  · obtain ⟨E, hE, hc⟩ := cg_one_ch (L := L) hP hm (cg_cn P 9) (Nat.le_refl _)
    have e : E = S := by
      apply b_ext
      intro i _
      rw [hS]
      by_cases q : bt E i = true
      · rw [q, (cg_ch_cl _ E hE i q).1]
      · rw [ts_nt q]
        symm
        apply ts_nt
        intro p
        have : cg_cn (bt E) 9 < cg_cn P 9 := cg_cn_lt (fun j _ hj => (cg_ch_cl _ E hE j hj).1) (hP i p) p (ts_nt q)
        omega
    rw [← e]
    exact hE
  · cases hn : cg_cn P 9 with
    | zero => exact cg_lb_0 _
    | succ k =>
      have := cg_lb_blk (k' := k) (cg_lb_0 (P := P) (L := L) (m := 1) (fun _ => false)) (fun z x hz => absurd hz (by decide)) (X := P) hP (by omega)
      rw [Nat.zero_add] at this
      exact this
end
section
/-! orders: paths, closure, rank, heights -/
def cg_Pt (F : Nat → Int32) (n : Nat) : Nat → Nat → Nat → Prop
  | 0 => fun u v => u < n ∧ bt (F u) v = true
  | k + 1 => fun u v => ∃ w, cg_Pt F n k u w ∧ w < n ∧ bt (F w) v = true
def cg_Tc (F : Nat → Int32) (n u v : Nat) : Prop := ∃ k, cg_Pt F n k u v
def cg_Cl (F : Nat → Int32) (n : Nat) (La : Nat → Int32) : Prop := ∀ u, u < n → ∀ v, bt (La u) v = true ↔ cg_Tc F n u v
def cg_Bd (F : Nat → Int32) (n : Nat) : Prop := ∀ u, u < n → ∀ v, bt (F u) v = true → v < n
def cg_Ok (n : Nat) (F La : Nat → Int32) : Prop := n ≤ 9 ∧ cg_Bd F n ∧ cg_Cl F n La ∧ ∀ u, u < n → bt (La u) u = false
section
variable {F G : Nat → Int32} {n u v w : Nat}
theorem cg_tc_e (hu : u < n) (h : bt (F u) v = true) : cg_Tc F n u v := ⟨0, hu, h⟩
theorem cg_tc_r (h : cg_Tc F n u w) (hw : w < n) (hv : bt (F w) v = true) : cg_Tc F n u v := by
  obtain ⟨k, hk⟩ := h
  exact ⟨k + 1, w, hk, hw, hv⟩
theorem cg_tc_min (S : Nat → Nat → Prop) (h0 : ∀ u v, u < n → bt (F u) v = true → S u v) (h1 : ∀ u w v, S u w → w < n → bt (F w) v = true → S u v) (h : cg_Tc F n u v) : S u v := by
  obtain ⟨k, hk⟩ := h
  induction k generalizing v with
  | zero => exact h0 u v hk.1 hk.2
  | succ k ih =>
    obtain ⟨w, a, b, c⟩ := hk
    exact h1 u w v (ih a) b c
theorem cg_tc_tr (h : cg_Tc F n u w) (h2 : cg_Tc F n w v) : cg_Tc F n u v :=
  cg_tc_min (fun a b => cg_Tc F n u a → cg_Tc F n u b) (fun _ _ ha hb z => cg_tc_r z ha hb) (fun _ _ _ i hw hb z => cg_tc_r (i z) hw hb) h2 h
theorem cg_tc_lt (h : cg_Tc F n u v) : u < n := cg_tc_min (fun a _ => a < n) (fun _ _ a _ => a) (fun _ _ _ i _ _ => i) h
theorem cg_tc_rt (hB : cg_Bd F n) (h : cg_Tc F n u v) : v < n := cg_tc_min (fun _ b => b < n) (fun u v hu hb => hB u hu v hb) (fun _ w v _ hw hb => hB w hw v hb) h
theorem cg_tc_mono {n' : Nat} (hn : n ≤ n') (hs : ∀ i, i < n → ∀ v, bt (F i) v = true → bt (G i) v = true) (h : cg_Tc F n u v) : cg_Tc G n' u v :=
  cg_tc_min (fun a b => cg_Tc G n' a b) (fun a b ha hb => cg_tc_e (by omega) (hs a ha b hb)) (fun _ w b i hw hb => cg_tc_r i (by omega) (hs w hw b hb)) h
theorem cg_tc_last (h : cg_Tc F n u v) : ∃ z, z < n ∧ bt (F z) v = true ∧ (z = u ∨ cg_Tc F n u z) := by
  obtain ⟨k, hk⟩ := h
  cases k with
  | zero => exact ⟨u, hk.1, hk.2, Or.inl rfl⟩
  | succ k =>
    obtain ⟨w, a, b, c⟩ := hk
    exact ⟨w, b, c, Or.inr ⟨k, a⟩⟩
theorem cg_cl_mk {La : Nat → Int32} (h1 : ∀ u, u < n → ∀ v, bt (F u) v = true → bt (La u) v = true) (h2 : ∀ u, u < n → ∀ v, bt (La u) v = true → cg_Tc F n u v) (h3 : ∀ u w v, u < n → w < n → bt (La u) w = true → bt (La w) v = true → bt (La u) v = true) : cg_Cl F n La := by
  intro u hu v
  refine ⟨h2 u hu v, fun h => ?_⟩
  exact cg_tc_min (fun a b => a < n → bt (La a) b = true) (fun a b ha hb _ => h1 a ha b hb) (fun a w b i hw hb ha => h3 a w b ha hw (i ha) (h1 w hw b hb)) h hu
theorem cg_cl_uq {A B : Nat → Int32} (hA : cg_Cl F n A) (hB : cg_Cl F n B) (hu : u < n) : A u = B u := by
  apply b_ext
  intro i _
  by_cases q : bt (A u) i = true
  · rw [q, (hB u hu i).mpr ((hA u hu i).mp q)]
  · rw [ts_nt q]
    symm
    apply ts_nt
    intro p
    exact q ((hA u hu i).mpr ((hB u hu i).mp p))
theorem cg_cl_congr {A : Nat → Int32} (h : ∀ i, i < n → G i = F i) (hA : cg_Cl G n A) : cg_Cl F n A := by
  intro u hu v
  rw [hA u hu v]
  exact ⟨cg_tc_mono (Nat.le_refl n) (fun i hi v z => by rw [← h i hi]; exact z), cg_tc_mono (Nat.le_refl n) (fun i hi v z => by rw [h i hi]; exact z)⟩
theorem cg_ok_mk {La : Nat → Int32} (hn : n ≤ 9) (hB : cg_Bd F n) (hC : cg_Cl F n La) (hi : ∀ u, u < n → ¬ cg_Tc F n u u) : cg_Ok n F La :=
  ⟨hn, hB, hC, fun u hu => ts_nt (fun q => hi u hu ((hC u hu u).mp q))⟩
end
section
variable {F La : Nat → Int32} {n u v w : Nat}
theorem cg_ok_lt (ok : cg_Ok n F La) (hu : u < n) (h : bt (La u) v = true) : v < n := cg_tc_rt ok.2.1 ((ok.2.2.1 u hu v).mp h)
theorem cg_ok_tr (ok : cg_Ok n F La) (hu : u < n) (h : bt (La u) w = true) (h2 : bt (La w) v = true) : bt (La u) v = true := by
  have hw := cg_ok_lt ok hu h
  exact (ok.2.2.1 u hu v).mpr (cg_tc_tr ((ok.2.2.1 u hu w).mp h) ((ok.2.2.1 w hw v).mp h2))
theorem cg_ok_ir (ok : cg_Ok n F La) (hu : u < n) : ¬ cg_Tc F n u u := fun h => by
  have := (ok.2.2.1 u hu u).mpr h
  rw [ok.2.2.2 u hu] at this
  exact absurd this (by decide)
theorem cg_ok_e (ok : cg_Ok n F La) (hu : u < n) (h : bt (F u) v = true) : bt (La u) v = true := (ok.2.2.1 u hu v).mpr (cg_tc_e hu h)
/-- the rank: how many tasks are after it -/
theorem cg_rk (ok : cg_Ok n F La) (hu : u < n) (h : bt (La u) v = true) : cg_cn (bt (La v)) 9 < cg_cn (bt (La u)) 9 := by
  have hv := cg_ok_lt ok hu h
  exact cg_cn_lt (j := v) (fun i _ hi => cg_ok_tr ok hu h hi) (by have := ok.1; omega) h (ok.2.2.2 v hv)
theorem cg_rk9 (ok : cg_Ok n F La) (hu : u < n) : cg_cn (bt (La u)) 9 < 9 := by
  have a : cg_cn (bt (La u)) 9 < cg_cn (fun _ => true) 9 := cg_cn_lt (j := u) (fun i _ hi => rfl) (by have := ok.1; omega) rfl (ok.2.2.2 u hu)
  have b : cg_cn (fun _ => true) 9 = 9 := by decide
  omega
theorem cg_pt_rk (ok : cg_Ok n F La) : ∀ k v, cg_Pt F n k u v → k + cg_cn (bt (La v)) 9 < cg_cn (bt (La u)) 9 := by
  intro k
  induction k with
  | zero =>
    intro v h
    rw [Nat.zero_add]
    exact cg_rk ok h.1 (cg_ok_e ok h.1 h.2)
  | succ k ih =>
    intro v h
    obtain ⟨w, a, b, c⟩ := h
    have i1 := ih w a
    have i2 := cg_rk ok b (cg_ok_e ok b c)
    omega
/-! heights by a specification -/
theorem cg_ht_ex (rk : Nat → Nat) (hr : ∀ u, u < n → ∀ v, bt (F u) v = true → v < n ∧ rk v < rk u) (h9 : ∀ u, u < n → rk u < 9) : ∃ H : Nat → Nat, ∀ u, u < n → 1 ≤ H u ∧ H u ≤ rk u + 1 ∧ (∀ v, bt (F u) v = true → H v < H u) ∧ (2 ≤ H u → ∃ v, bt (F u) v = true ∧ H v + 1 = H u) := by
  have key : ∀ K, ∃ H : Nat → Nat, ∀ u, u < n → rk u < K → 1 ≤ H u ∧ H u ≤ rk u + 1 ∧ (∀ v, bt (F u) v = true → H v < H u) ∧ (2 ≤ H u → ∃ v, bt (F u) v = true ∧ H v + 1 = H u) := by
    intro K
    induction K with
    | zero => exact ⟨fun _ => 0, fun u _ h => absurd h (by omega)⟩
    | succ K ih =>
      obtain ⟨H, hH⟩ := ih
      have ch : ∀ u, ∃ c, 1 ≤ c ∧ (∀ v, bt (F u) v = true → H v < c) ∧ (2 ≤ c → ∃ v, bt (F u) v = true ∧ H v + 1 = c) := by
        intro u
        by_cases hex : ∃ v, v < 32 ∧ bt (F u) v = true
        · obtain ⟨v, _, bv, hv⟩ := cg_maxk H (fun v => bt (F u) v = true) 32 hex
          refine ⟨H v + 1, by omega, fun w hw => ?_, fun _ => ⟨v, bv, rfl⟩⟩
          have : w < 32 := by
            apply Classical.byContradiction
            intro q
            rw [b_big (by omega)] at hw
            exact absurd hw (by decide)
          have := hv w this hw
          omega
        · refine ⟨1, by omega, fun w hw => ?_, fun z => absurd z (by omega)⟩
          exfalso
          apply hex
          refine ⟨w, ?_, hw⟩
          apply Classical.byContradiction
          intro q
          rw [b_big (by omega)] at hw
          exact absurd hw (by decide)
      obtain ⟨f, hf⟩ := Classical.skolem.mp ch
      refine ⟨fun u => if rk u < K then H u else f u, fun u hu hk => ?_⟩
      have sub : ∀ v, bt (F u) v = true → (if rk v < K then H v else f v) = H v := by
        intro v hv
        have := (hr u hu v hv).2
        rw [if_pos (by omega)]
      show 1 ≤ (if rk u < K then H u else f u) ∧ (if rk u < K then H u else f u) ≤ rk u + 1 ∧ (∀ v, bt (F u) v = true → (if rk v < K then H v else f v) < (if rk u < K then H u else f u)) ∧ (2 ≤ (if rk u < K then H u else f u) → ∃ v, bt (F u) v = true ∧ (if rk v < K then H v else f v) + 1 = (if rk u < K then H u else f u))
      by_cases hk2 : rk u < K
      · rw [if_pos hk2]
        obtain ⟨a, b, c, d⟩ := hH u hu hk2
        refine ⟨a, b, fun v hv => ?_, fun z => ?_⟩
        · rw [sub v hv]
          exact c v hv
        · obtain ⟨v, v1, v2⟩ := d z
          exact ⟨v, v1, by rw [sub v v1]; exact v2⟩
      · rw [if_neg hk2]
        obtain ⟨a, c, d⟩ := hf u
        refine ⟨a, ?_, fun v hv => ?_, fun z => ?_⟩
        · by_cases z : 2 ≤ f u
          · obtain ⟨v, v1, v2⟩ := d z
            have r := hr u hu v v1
            have := (hH v r.1 (by omega)).2.1
            omega
          · omega
        · rw [sub v hv]
          exact c v hv
        · obtain ⟨v, v1, v2⟩ := d z
          exact ⟨v, v1, by rw [sub v v1]; exact v2⟩
  obtain ⟨H, hH⟩ := key 9
  exact ⟨H, fun u hu => hH u hu (h9 u hu)⟩
def cg_Ht (n : Nat) (F La : Nat → Int32) (H : Nat → Nat) : Prop :=
  (∀ u, u < n → 1 ≤ H u ∧ H u ≤ 9) ∧ (∀ u, u < n → ∀ v, bt (La u) v = true → H v < H u) ∧ (∀ u, u < n → 2 ≤ H u → ∃ v, bt (F u) v = true ∧ H v + 1 = H u)
theorem cg_ht (ok : cg_Ok n F La) : ∃ H, cg_Ht n F La H := by
  obtain ⟨H, hH⟩ := cg_ht_ex (F := F) (n := n) (fun u => cg_cn (bt (La u)) 9) (fun u hu v hv => ⟨ok.2.1 u hu v hv, cg_rk ok hu (cg_ok_e ok hu hv)⟩) (fun u hu => cg_rk9 ok hu)
  refine ⟨H, fun u hu => ⟨(hH u hu).1, ?_⟩, fun u hu v hv => ?_, fun u hu => (hH u hu).2.2.2⟩
  · have a := (hH u hu).2.1
    have b := cg_rk9 ok hu
    show H u ≤ 9
    have a : H u ≤ cg_cn (bt (La u)) 9 + 1 := a
    omega
  · have t := (ok.2.2.1 u hu v).mp hv
    exact cg_tc_min (fun a b => H b < H a) (fun a b ha hb => (hH a ha).2.2.1 b hb) (fun a w b i hw hb => by have := (hH w hw).2.2.1 b hb; omega) t
/-- an immediate follower is an edge -/
theorem cg_imm (ok : cg_Ok n F La) (hu : u < n) (h : bt (La u) v = true) (hn : ∀ w, w < n → bt (La u) w = true → bt (La w) v = true → False) : bt (F u) v = true := by
  obtain ⟨z, z1, z2, z3⟩ := cg_tc_last ((ok.2.2.1 u hu v).mp h)
  rcases z3 with e | e
  · rw [← e]
    exact z2
  · exact (hn z z1 ((ok.2.2.1 u hu z).mpr e) (cg_ok_e ok z1 z2)).elim
/-- one order more -/
theorem cg_add {F' La' : Nat → Int32} (ok : cg_Ok n F La) (hu : u < n) (hv : v < n) (huv : u ≠ v) (hvu : bt (La v) u = false) (hF : ∀ w, w < n → ∀ x, bt (F' w) x = true ↔ bt (F w) x = true ∨ (w = u ∧ x = v)) (hL : ∀ w, w < n → ∀ x, bt (La' w) x = true ↔ bt (La w) x = true ∨ ((w = u ∨ bt (La w) u = true) ∧ (x = v ∨ bt (La v) x = true))) : cg_Ok n F' La' := by
  have nvu : ¬ bt (La v) u = true := by rw [hvu]; decide
  refine ⟨ok.1, ?_, ?_, ?_⟩
  · intro w hw x hx
    rcases (hF w hw x).mp hx with e | e
    · exact ok.2.1 w hw x e
    · omega
  · have mono : ∀ a b, cg_Tc F n a b → cg_Tc F' n a b := fun a b h => cg_tc_mono (Nat.le_refl n) (fun i hi x hx => (hF i hi x).mpr (Or.inl hx)) h
    have euv : cg_Tc F' n u v := cg_tc_e hu ((hF u hu v).mpr (Or.inr ⟨rfl, rfl⟩))
    intro w hw x
    constructor
    · intro h
      rcases (hL w hw x).mp h with e | ⟨e1, e2⟩
      · exact mono w x ((ok.2.2.1 w hw x).mp e)
      · have t1 : cg_Tc F' n w v := by
          rcases e1 with e | e
          · rw [e]
            exact euv
          · exact cg_tc_tr (mono w u ((ok.2.2.1 w hw u).mp e)) euv
        rcases e2 with e | e
        · rw [e]
          exact t1
        · exact cg_tc_tr t1 (mono v x ((ok.2.2.1 v hv x).mp e))
    · intro h
      refine cg_tc_min (fun a b => a < n → bt (La' a) b = true) (fun a b ha hb _ => ?_) (fun a y b i hy hb ha => ?_) h hw
      · rcases (hF a ha b).mp hb with e | ⟨e1, e2⟩
        · exact (hL a ha b).mpr (Or.inl (cg_ok_e ok ha e))
        · exact (hL a ha b).mpr (Or.inr ⟨Or.inl e1, Or.inl e2⟩)
      · rcases (hL a ha y).mp (i ha) with e | ⟨e1, e2⟩
        · rcases (hF y hy b).mp hb with f | ⟨f1, f2⟩
          · exact (hL a ha b).mpr (Or.inl (cg_ok_tr ok ha e (cg_ok_e ok hy f)))
          · subst f1
            exact (hL a ha b).mpr (Or.inr ⟨Or.inr e, Or.inl f2⟩)
        · rcases (hF y hy b).mp hb with f | ⟨f1, f2⟩
          · refine (hL a ha b).mpr (Or.inr ⟨e1, Or.inr ?_⟩)
            rcases e2 with e | e
            · rw [e] at f
              exact cg_ok_e ok hv f
            · exact cg_ok_tr ok hv e (cg_ok_e ok hy f)
          · exfalso
            rcases e2 with e | e
            · omega
            · rw [f1] at e
              exact nvu e
  · intro w hw
    apply ts_nt
    intro h
    rcases (hL w hw w).mp h with e | ⟨e1, e2⟩
    · rw [ok.2.2.2 w hw] at e
      exact absurd e (by decide)
    · rcases e1 with e1 | e1
      · rcases e2 with e2 | e2
        · omega
        · rw [e1] at e2
          exact nvu e2
      · rcases e2 with e2 | e2
        · rw [e2] at e1
          exact nvu e1
        · exact nvu (cg_ok_tr ok hv e2 e1)
/-- fewer orders -/
theorem cg_sub {F' La' : Nat → Int32} (ok : cg_Ok n F La) (hF : ∀ w, w < n → ∀ x, bt (F' w) x = true → bt (F w) x = true) (hC : cg_Cl F' n La') : cg_Ok n F' La' :=
  cg_ok_mk ok.1 (fun w hw x hx => ok.2.1 w hw x (hF w hw x hx)) hC (fun w hw h => cg_ok_ir ok hw (cg_tc_mono (Nat.le_refl n) hF h))
def cg_sk (v i : Nat) : Nat := if i < v then i else i + 1
/-- one task less -/
theorem cg_rem {F' La' : Nat → Int32} (ok : cg_Ok (n + 1) F La) (hv : v < n + 1) (hF : ∀ w, w < n → ∀ x, bt (F' w) x = true → bt (F (cg_sk v w)) (cg_sk v x) = true) (hC : cg_Cl F' n La') : cg_Ok n F' La' := by
  have sk : ∀ i, i < n → cg_sk v i < n + 1 := fun i hi => by unfold cg_sk; split <;> omega
  refine cg_ok_mk (by have := ok.1; omega) (fun w hw x hx => ?_) hC (fun w hw h => ?_)
  · have := ok.2.1 _ (sk w hw) _ (hF w hw x hx)
    unfold cg_sk at this
    split at this <;> omega
  · exact cg_ok_ir ok (sk w hw) (cg_tc_min (fun a b => cg_Tc F (n + 1) (cg_sk v a) (cg_sk v b)) (fun a b ha hb => cg_tc_e (sk a ha) (hF a ha b hb)) (fun a y b i hy hb => cg_tc_r i (sk y hy) (hF y hy b hb)) h)
/-- one task more -/
theorem cg_new {F' La' : Nat → Int32} (ok : cg_Ok n F La) (hn : n < 9) (hF : ∀ w, w < n → F' w = F w) (h0 : F' n = 0) (hC : cg_Cl F' (n + 1) La') : cg_Ok (n + 1) F' La' := by
  have e : ∀ w x, w < n + 1 → bt (F' w) x = true → w < n ∧ bt (F w) x = true := by
    intro w x hw hx
    by_cases q : w = n
    · rw [q, h0, b_0] at hx
      exact absurd hx (by decide)
    · have : w < n := by omega
      rw [hF w this] at hx
      exact ⟨this, hx⟩
  refine cg_ok_mk (by omega) (fun w hw x hx => ?_) hC (fun w hw h => ?_)
  · have := e w x hw hx
    have := ok.2.1 w this.1 x this.2
    omega
  · have t : cg_Tc F n w w := cg_tc_min (fun a b => cg_Tc F n a b) (fun a b ha hb => cg_tc_e (e a b ha hb).1 (e a b ha hb).2) (fun a y b i hy hb => cg_tc_r i (e y b hy hb).1 (e y b hy hb).2) h
    exact cg_ok_ir ok (cg_tc_lt t) t
end
end
section
/-! walks: isTask, in, closeOrders, findLater -/
section
variable {n : Nat} {pt : Int32} {F La Nx Lb : Nat → Int32}
theorem cg_isX1 {post : Int32 → Prop} {j : Nat} (hn : n ≤ 9) (hj : j < n) (h : post 1) : wpX_isTask post (nI n, pt, F, La, Nx, Lb) (nI j) :=
  br_f (nI_pos (by omega)) (br_f (nI_ge hj (by omega)) h)
theorem cg_isX0 {post : Int32 → Prop} {x : Int32} (hx : x < 0 ∨ nI n ≤ x) (h : post 0) : wpX_isTask post (nI n, pt, F, La, Nx, Lb) x := by
  by_cases q : x < 0
  · exact br_t q h
  · exact br_f q (br_t (hx.resolve_left q) h)
theorem cg_c40 {post : SX → Prop} {J : Int32 → (Nat → Int32) → (Nat → Int32) → (Nat → Int32) → (Nat → Int32) → Prop} {L0 : Nat → Int32} {M : Nat} (hn : n ≤ 9) (hM : M < n) (hJ : ∀ A', (∀ i, i < n → ∀ v, bt (A' i) v = (bt (L0 i) v || (bt (L0 i) M && bt (L0 M) v))) → J (nI (M + 1)) F A' Nx Lb) : ∀ (d j : Nat) (A : Nat → Int32), j + d = n → (∀ i, i < n → ∀ v, bt (A i) v = (bt (L0 i) v || (decide (i < j) && bt (L0 i) M && bt (L0 M) v))) → wX_closeOrders_40 post J (nI M) (nI n) pt (d + 1) (nI j) F A Nx Lb := by
  intro d
  induction d with
  | zero =>
    intro j A hj hA
    have e : j = n := by omega
    subst e
    exact br_t (nI_le (Nat.le_refl _) (by omega)) (nm_r (nI_1 M) (hJ A (fun i hi v => by rw [hA i hi v, decide_eq_true hi, Bool.true_and])))
  | succ d ih =>
    intro j A hj hA
    have hjn : j < n := by omega
    have cj : (nI j).toNatClampNeg = j := nI_clamp (by omega)
    have cM : (nI M).toNatClampNeg = M := nI_clamp (by omega)
    have vj : vp_in (nI j) 9 := vp_in_nI (by omega) (by omega)
    have vM : vp_in (nI M) 9 := vp_in_nI (by omega) (by omega)
    refine br_f (nI_ge hjn (by omega)) ⟨vj, ?_⟩
    rw [cj, cg_t0 _ (by omega), cM]
    have hAj : ∀ v, bt (A j) v = bt (L0 j) v := fun v => by rw [hA j hjn v, decide_eq_false (by omega)]; simp
    have hAM : ∀ v, bt (A M) v = bt (L0 M) v := fun v => by rw [hA M hM v]; cases bt (L0 M) v <;> simp
    refine br_c (fun h0 => nm_r (nI_1 j) (ih (j + 1) A (by omega) ?_)) (fun h1 => ⟨vj, vM, vj, nm_e (nm_r (nI_1 j) (ih (j + 1) _ (by omega) ?_))⟩)
    · intro i hi v
      rw [hA i hi v]
      by_cases e : i = j
      · subst e
        rw [hAj] at h0
        simp [h0]
      · have : decide (i < j + 1) = decide (i < j) := decide_eq_decide.mpr (by omega)
        rw [this]
    · intro i hi v
      by_cases e : i = j
      · subst e
        rw [pk_us, b_or, hAj, hAM]
        have h2 := ts_nf h1
        rw [hAj] at h2
        simp [h2]
      · have : decide (i < j + 1) = decide (i < j) := decide_eq_decide.mpr (by omega)
        rw [pk_un e, hA i hi v, this]
def cg_Wi (F : Nat → Int32) (n M : Nat) (A : Nat → Int32) : Prop :=
  (∀ u, u < n → ∀ v, bt (F u) v = true → bt (A u) v = true) ∧ (∀ u, u < n → ∀ v, bt (A u) v = true → cg_Tc F n u v) ∧ (∀ w, w < M → ∀ u, u < n → ∀ v, bt (A u) w = true → bt (A w) v = true → bt (A u) v = true)
theorem cg_c30 {post : SX → Prop} (hn : n ≤ 9) (hp : ∀ A', cg_Cl F n A' → post (nI n, pt, F, A', Nx, Lb)) : ∀ (d M : Nat) (A : Nat → Int32), M + d = n → cg_Wi F n M A → wX_closeOrders_30 post (nI n) pt (d + 1) (nI M) F A Nx Lb := by
  intro d
  induction d with
  | zero =>
    intro M A hM hA
    have e : M = n := by omega
    subst e
    exact br_t (nI_le (Nat.le_refl _) (by omega)) (hp A (cg_cl_mk hA.1 hA.2.1 (fun u w v hu hw h1 h2 => hA.2.2 w hw u hu v h1 h2)))
  | succ d ih =>
    intro M A hM hA
    have hMn : M < n := by omega
    refine br_f (nI_ge hMn (by omega)) ⟨n + 1, cg_c40 (L0 := A) hn hMn ?_ n 0 A (by omega) (fun i hi v => by simp)⟩
    intro A' hA'
    refine ih (M + 1) A' (by omega) ⟨?_, ?_, ?_⟩
    · intro u hu v hv
      rw [hA' u hu v, hA.1 u hu v hv]
      rfl
    · intro u hu v hv
      rw [hA' u hu v] at hv
      by_cases q : bt (A u) v = true
      · exact hA.2.1 u hu v q
      · have q1 : bt (A u) M = true := by cases z : bt (A u) M <;> simp_all
        have q2 : bt (A M) v = true := by cases z : bt (A M) v <;> simp_all
        exact cg_tc_tr (hA.2.1 u hu M q1) (hA.2.1 M hMn v q2)
    · intro w hw u hu v h1 h2
      have hwn : w < n := by omega
      rw [hA' u hu w] at h1
      rw [hA' w hwn v] at h2
      rw [hA' u hu v]
      by_cases e : w = M
      · subst e
        have a1 : bt (A u) w = true := by cases z : bt (A u) w <;> simp_all
        have a2 : bt (A w) v = true := by cases z : bt (A w) v <;> simp_all
        simp [a1, a2]
      · have i1 := hA.2.2 w (by omega) u hu v
        have i2 := hA.2.2 w (by omega) u hu M
        have i3 := hA.2.2 w (by omega) M hMn v
        revert h1 h2 i1 i2 i3
        cases bt (A u) w <;> cases bt (A w) v <;> cases bt (A u) v <;> cases bt (A u) M <;> cases bt (A M) v <;> cases bt (A w) M <;> cases bt (A M) w <;> simp
theorem cg_c2 {post : SX → Prop} (hn : n ≤ 9) (hp : ∀ A', cg_Cl F n A' → post (nI n, pt, F, A', Nx, Lb)) : ∀ (d j : Nat) (A : Nat → Int32), j + d = n → (∀ i, i < j → A i = F i) → wX_closeOrders_2 post (nI n) pt (d + 1) (nI j) F A Nx Lb := by
  intro d
  induction d with
  | zero =>
    intro j A hj hA
    have e : j = n := by omega
    subst e
    refine br_t (nI_le (Nat.le_refl _) (by omega)) ⟨j + 1, cg_c30 hn hp j 0 A (by omega) ⟨?_, ?_, fun w hw => absurd hw (by omega)⟩⟩
    · intro u hu v hv
      rw [hA u hu]
      exact hv
    · intro u hu v hv
      rw [hA u hu] at hv
      exact cg_tc_e hu hv
  | succ d ih =>
    intro j A hj hA
    have hjn : j < n := by omega
    have cj : (nI j).toNatClampNeg = j := nI_clamp (by omega)
    have vj : vp_in (nI j) 9 := vp_in_nI (by omega) (by omega)
    refine br_f (nI_ge hjn (by omega)) ⟨vj, vj, nm_e (nm_r (nI_1 j) (ih (j + 1) _ (by omega) ?_))⟩
    intro i hi
    rw [cj]
    by_cases e : i = j
    · subst e
      rw [pk_us]
    · rw [pk_un e]
      exact hA i (by omega)
theorem cg_close {post : SX → Prop} (hn : n ≤ 9) (hp : ∀ A', cg_Cl F n A' → post (nI n, pt, F, A', Nx, Lb)) : wpX_closeOrders post (nI n, pt, F, La, Nx, Lb) :=
  ⟨n + 1, cg_c2 hn hp n 0 La (by omega) (fun i hi => absurd hi (by omega))⟩
end
/-! the reference -/
section
variable {n : Nat} {G Lt Sl : Nat → Int32}
theorem cg_isY1 {post : Int32 → Prop} {j : Nat} (hn : n ≤ 9) (hj : j < n) (h : post 1) : wpY_isTask post (nI n, G, Lt, Sl) (nI j) :=
  br_f (nI_pos (by omega)) (br_f (nI_ge hj (by omega)) h)
theorem cg_isY0 {post : Int32 → Prop} {x : Int32} (hx : x < 0 ∨ nI n ≤ x) (h : post 0) : wpY_isTask post (nI n, G, Lt, Sl) x := by
  by_cases q : x < 0
  · exact br_t q h
  · exact br_f q (br_t (hx.resolve_left q) h)
theorem cg_in {post : Int32 → Prop} {f : Int32} {p0 : Int32} {i : Nat} (hi : i < 32) (h1 : bt p0 i = true → post 1) (h0 : bt p0 i = false → post 0) : wpY_in post (f, G, Lt, Sl) p0 (nI i) := by
  unfold wpY_in
  dsimp only
  rw [cg_t1 _ hi]
  exact br_c h1 (fun z => h0 (ts_nt z))
theorem cg_dm {n u w u' w' : Nat} (hw : w < n) (hw' : w' < n) (e : u' * n + w' = u * n + w) : u' = u ∧ w' = w := by
  have t : u' = u := by
    rcases Nat.lt_trichotomy u' u with q | q | q
    · have := Nat.mul_le_mul_right n (show u' + 1 ≤ u from q)
      rw [Nat.succ_mul] at this
      omega
    · exact q
    · have := Nat.mul_le_mul_right n (show u + 1 ≤ u' from q)
      rw [Nat.succ_mul] at this
      omega
  subst t
  exact ⟨rfl, by omega⟩
def cg_Fi (G : Nat → Int32) (n r q : Nat) (A : Nat → Int32) : Prop :=
  (∀ u, u < n → ∀ v, bt (A u) v = true → cg_Tc G n u v) ∧ (∀ k, k ≤ r → ∀ u v, cg_Pt G n k u v → bt (A u) v = true) ∧ (∀ u w, u < n → w < n → u * n + w < q → cg_Pt G n r u w → ∀ v, bt (G w) v = true → bt (A u) v = true)
theorem cg_pt_lt : ∀ (k : Nat) {u v : Nat}, cg_Pt G n k u v → u < n := fun k _ _ h => cg_tc_lt ⟨k, h⟩
theorem cg_f38 {post : SY → Prop} {J : Int32 → (Nat → Int32) → (Nat → Int32) → (Nat → Int32) → Prop} {r : Nat} (hn : n ≤ 9) (hB : cg_Bd G n) (hr : r < 9) (hJ : ∀ A', cg_Fi G n (r + 1) 0 A' → J (nI (r + 1)) G A' Sl) : ∀ (d q : Nat) (A : Nat → Int32), q + d = n * n → cg_Fi G n r q A → wY_findLater_38 post J (nI r) (nI n) (d + 1) (nI q) G A Sl := by
  have hnn : n * n ≤ 81 := Nat.mul_le_mul hn hn
  have em : nI n * nI n = nI (n * n) := pk_mul n n
  intro d
  induction d with
  | zero =>
    intro q A hq hA
    have e : q = n * n := by omega
    subst e
    have c : nI n * nI n ≤ nI (n * n) := by rw [em]; exact nI_le (Nat.le_refl _) (by omega)
    refine br_t c (nm_r (nI_1 r) (hJ A ⟨hA.1, fun k hk u v hp => ?_, fun u w _ _ h => absurd h (by omega)⟩))
    by_cases e : k = r + 1
    · subst e
      obtain ⟨w, a, b, c⟩ := hp
      have hu := cg_pt_lt r a
      refine hA.2.2 u w hu b ?_ a v c
      have := Nat.mul_le_mul_right n (show u + 1 ≤ n from hu)
      rw [Nat.succ_mul] at this
      omega
    · exact hA.2.1 k (by omega) u v hp
  | succ d ih =>
    intro q A hq hA
    have hqn : q < n * n := by omega
    have n0 : 0 < n := by
      rcases Nat.eq_zero_or_pos n with z | z
      · subst z
        omega
      · exact z
    have c : ¬ nI n * nI n ≤ nI q := by rw [em]; exact nI_ge hqn (by omega)
    have e2 : nI q / nI n = nI (q / n) := pk_div (by omega) n0 (by omega)
    have e3 : nI q - nI (q / n) * nI n = nI (q % n) := by rw [← e2]; exact pk_rem (by omega) n0 (by omega)
    have hu : q / n < n := Nat.div_lt_of_lt_mul hqn
    have hw : q % n < n := Nat.mod_lt _ n0
    have hqe : q / n * n + q % n = q := Nat.div_add_mod' q n
    refine br_f c ?_
    rw [e2, e3]
    generalize q / n = u at *
    generalize q % n = w at *
    have cu : (nI u).toNatClampNeg = u := nI_clamp (by omega)
    have cw : (nI w).toNatClampNeg = w := nI_clamp (by omega)
    have vu : vp_in (nI u) 9 := vp_in_nI (by omega) (by omega)
    have vw : vp_in (nI w) 9 := vp_in_nI (by omega) (by omega)
    have nz : ¬ nI n = 0 := nI_ne0 n0 (by omega)
    refine ⟨nz, vu, nz, cg_in (by omega) (fun hb => ?_) (fun hb => ?_)⟩
    · refine br_f (by decide) ⟨nz, nz, vu, nz, vw, vu, nm_e (nm_r (nI_1 q) (ih (q + 1) _ (by omega) ⟨?_, ?_, ?_⟩))⟩
      · intro u' hu' v hv
        rw [cu, cw] at hv
        by_cases e : u' = u
        · subst e
          rw [pk_us, b_or] at hv
          by_cases z : bt (A u') v = true
          · exact hA.1 u' hu' v z
          · rw [ts_nt z, Bool.false_or] at hv
            rw [cu] at hb
            exact cg_tc_r (hA.1 u' hu' w hb) hw hv
        · rw [pk_un e] at hv
          exact hA.1 u' hu' v hv
      · intro k hk u' v hp
        rw [cu, cw]
        have i1 := hA.2.1 k hk u' v hp
        by_cases e : u' = u
        · subst e
          rw [pk_us, b_or, i1]
          rfl
        · rw [pk_un e]
          exact i1
      · intro u' w' hu' hw' hlt hp v hv
        rw [cu, cw]
        by_cases e : u' * n + w' < q
        · have i1 := hA.2.2 u' w' hu' hw' e hp v hv
          by_cases e : u' = u
          · subst e
            rw [pk_us, b_or, i1]
            rfl
          · rw [pk_un e]
            exact i1
        · obtain ⟨z1, z2⟩ := cg_dm hw hw' (show u' * n + w' = u * n + w by omega)
          subst z1 z2
          rw [pk_us, b_or, hv, Bool.or_true]
    · refine br_t rfl (nm_r (nI_1 q) (ih (q + 1) A (by omega) ⟨hA.1, hA.2.1, ?_⟩))
      intro u' w' hu' hw' hlt hp v hv
      by_cases e : u' * n + w' < q
      · exact hA.2.2 u' w' hu' hw' e hp v hv
      · obtain ⟨z1, z2⟩ := cg_dm hw hw' (show u' * n + w' = u * n + w by omega)
        subst z1 z2
        rw [cu, hA.2.1 r (Nat.le_refl r) u' w' hp] at hb
        exact absurd hb (by decide)
theorem cg_f30 {post : SY → Prop} (hn : n ≤ 9) (hB : cg_Bd G n) (hk : ∀ k u v, cg_Pt G n k u v → k ≤ 9) (hp : ∀ A', cg_Cl G n A' → post (nI n, G, A', Sl)) : ∀ (d r : Nat) (A : Nat → Int32), r + d = 9 → cg_Fi G n r 0 A → wY_findLater_30 post (nI n) (d + 1) (nI r) G A Sl := by
  intro d
  induction d with
  | zero =>
    intro r A hr hA
    have e : r = 9 := by omega
    subst e
    refine br_t (by decide) (hp A (fun u hu v => ⟨hA.1 u hu v, fun h => ?_⟩))
    obtain ⟨k, h⟩ := h
    exact hA.2.1 k (hk k u v h) u v h
  | succ d ih =>
    intro r A hr hA
    exact br_f (nI_ge (b := 9) (by omega) (by omega)) ⟨n * n + 1, cg_f38 hn hB (by omega) (fun A' hA' => ih (r + 1) A' (by omega) hA') (n * n) 0 A (by omega) hA⟩
theorem cg_f2 {post : SY → Prop} (hn : n ≤ 9) (hB : cg_Bd G n) (hk : ∀ k u v, cg_Pt G n k u v → k ≤ 9) (hp : ∀ A', cg_Cl G n A' → post (nI n, G, A', Sl)) : ∀ (d j : Nat) (A : Nat → Int32), j + d = n → (∀ i, i < j → A i = G i) → wY_findLater_2 post (nI n) (d + 1) (nI j) G A Sl := by
  intro d
  induction d with
  | zero =>
    intro j A hj hA
    have e : j = n := by omega
    subst e
    refine br_t (nI_le (Nat.le_refl _) (by omega)) ⟨9 + 1, cg_f30 hn hB hk hp 9 0 A (by omega) ⟨?_, ?_, fun u w _ _ h => absurd h (by omega)⟩⟩
    · intro u hu v hv
      rw [hA u hu] at hv
      exact cg_tc_e hu hv
    · intro k hk0 u v h
      have e : k = 0 := by omega
      subst e
      rw [hA u h.1]
      exact h.2
  | succ d ih =>
    intro j A hj hA
    have hjn : j < n := by omega
    have cj : (nI j).toNatClampNeg = j := nI_clamp (by omega)
    have vj : vp_in (nI j) 9 := vp_in_nI (by omega) (by omega)
    refine br_f (nI_ge hjn (by omega)) ⟨vj, vj, nm_e (nm_r (nI_1 j) (ih (j + 1) _ (by omega) ?_))⟩
    intro i hi
    rw [cj]
    by_cases e : i = j
    · subst e
      rw [pk_us]
    · rw [pk_un e]
      exact hA i (by omega)
theorem cg_ok_congr {F La : Nat → Int32} (h : ∀ i, i < n → G i = F i) (ok : cg_Ok n F La) : cg_Ok n G La :=
  ⟨ok.1, fun u hu v hv => ok.2.1 u hu v (by rw [← h u hu]; exact hv), cg_cl_congr (fun i hi => (h i hi).symm) ok.2.2.1, ok.2.2.2⟩
theorem cg_find {post : SY → Prop} {La : Nat → Int32} (ok : cg_Ok n G La) (hp : ∀ A', (∀ u, u < n → A' u = La u) → post (nI n, G, A', Sl)) : wpY_findLater post (nI n, G, Lt, Sl) := by
  refine ⟨n + 1, cg_f2 ok.1 ok.2.1 (fun k u v h => ?_) (fun A' hA' => hp A' (fun u hu => cg_cl_uq hA' ok.2.2.1 hu)) n 0 Lt (by omega) (fun i hi => absurd hi (by omega))⟩
  have a := cg_pt_rk ok k v h
  have b := cg_rk9 ok (cg_pt_lt k h)
  omega
end
end
section
/-! the relation; tasks and orders -/
/-- the same tasks and orders; later is their closure, without a circle -/
def i_Rel (k : Nat) (u : SX) (v : SY) : Prop := ∃ (n : Nat) (pt : Int32) (F La Nx Lb G Lt Sl : Nat → Int32), u = (nI n, pt, F, La, Nx, Lb) ∧ v = (nI n, G, Lt, Sl) ∧ cg_Ok n F La ∧ ∀ i, i < n → G i = F i
theorem cg_rel {k n : Nat} {pt : Int32} {F La Nx Lb G Lt Sl : Nat → Int32} (ok : cg_Ok n F La) (hG : ∀ i, i < n → G i = F i) : i_Rel k (nI n, pt, F, La, Nx, Lb) (nI n, G, Lt, Sl) := ⟨n, pt, F, La, Nx, Lb, G, Lt, Sl, rfl, rfl, ok, hG⟩
theorem i_up {k : Nat} {u : SX} {v : SY} (h : i_Rel k u v) : i_Rel (k + 3) u v := h
theorem cg_ok0 {n : Nat} (hn : n ≤ 9) : cg_Ok n (fun _ => 0) (fun _ => 0) := by
  have nz : ∀ v, ¬ bt (0 : Int32) v = true := fun v h => by
    rw [b_0] at h
    exact absurd h (by decide)
  refine cg_ok_mk hn (fun u _ v h => absurd h (nz v)) (fun u hu v => ⟨fun h => absurd h (nz v), fun h => ?_⟩) (fun u hu h => ?_)
  · exact (cg_tc_min (fun _ _ => False) (fun _ b _ h => nz b h) (fun _ _ _ i _ _ => i) h).elim
  · exact cg_tc_min (fun _ _ => False) (fun _ b _ h => nz b h) (fun _ _ _ i _ _ => i) h
theorem i_vc0 (k0 : Int32) : wpX_init (fun u => wpY_init (fun v => i_Rel 1 u v) k0) k0 := by
  by_cases h0 : 0 ≤ k0
  · by_cases h9 : k0 ≤ 9
    · obtain ⟨j, hj, rfl⟩ := nI_of (x := k0) (Int32.not_lt.mpr h0)
      have hj9 : j ≤ 9 := (nI_leI (b := 9) hj (by decide)).mp h9
      exact br_t h0 (br_t h9 (br_t h0 (br_t h9 (cg_rel (cg_ok0 hj9) (fun _ _ => rfl)))))
    · exact br_t h0 (br_f h9 (br_t h0 (br_f h9 (cg_rel (n := 9) (cg_ok0 (Nat.le_refl 9)) (fun _ _ => rfl)))))
  · exact br_f h0 (br_f h0 (cg_rel (n := 0) (cg_ok0 (by omega)) (fun _ _ => rfl)))
theorem i_vc_tasks {k : Nat} {u : SX} {v : SY} (I : i_Rel k u v) (hk : k + 3 ≤ 1537) : wpX_tasks (fun r => wpY_tasks (fun r' => r' = r ∧ i_Rel (k + 3) u v) v) u := by
  obtain ⟨n, pt, F, La, Nx, Lb, G, Lt, Sl, rfl, rfl, ok, hG⟩ := I
  exact ⟨rfl, cg_rel ok hG⟩
theorem i_vc_addTask {k : Nat} {u : SX} {v : SY} (I : i_Rel k u v) (hk : k + 3 ≤ 1537) : wpX_addTask (fun r u' => wpY_addTask (fun r' v' => r' = r ∧ i_Rel (k + 3) u' v') v) u := by
  obtain ⟨n, pt, F, La, Nx, Lb, G, Lt, Sl, rfl, rfl, ok, hG⟩ := I
  have hn := ok.1
  have cn : (nI n).toNatClampNeg = n := nI_clamp (by omega)
  unfold wpX_addTask wpY_addTask
  dsimp only
  rw [cn]
  by_cases h9 : n = 9
  · subst h9
    exact br_f (by decide) (br_t (by decide) ⟨rfl, cg_rel ok hG⟩)
  · have hlt : n < 9 := by omega
    have ne : ¬ nI n = 9 := fun e => h9 ((nI_eq (b := 9) (by omega) (by decide)).mp e)
    have vn : vp_in (nI n) 9 := vp_in_nI hlt (by decide)
    refine br_t (nI_lt (b := 9) hlt (by decide)) ⟨vn, nm_e (nm_r (nI_1 n) (cg_close (by omega) (fun A' hA' => ?_)))⟩
    dsimp only
    refine br_f ne ⟨vn, nm_e (nm_r (nI_1 n) ⟨rfl, cg_rel (cg_new ok hlt (fun w hw => pk_un (by omega)) pk_us hA') (fun i hi => ?_)⟩)⟩
    by_cases e : i = n
    · subst e
      rw [pk_us, pk_us]
    · rw [pk_un e, pk_un e]
      exact hG i (by omega)
theorem i_vc_after {k : Nat} {u : SX} {v : SY} (I : i_Rel k u v) (hk : k + 3 ≤ 1537) (v1 : Int32) (v2 : Int32) : wpX_after (fun r => wpY_after (fun r' v' => r' = r ∧ i_Rel (k + 3) u v') v v1 v2) u v1 v2 := by
  obtain ⟨n, pt, F, La, Nx, Lb, G, Lt, Sl, rfl, rfl, ok, hG⟩ := I
  have hn := ok.1
  unfold wpX_after wpY_after
  dsimp only
  have bad : ∀ x, x < 0 ∨ nI n ≤ x ∨ ∃ j, j < n ∧ x = nI j := fun x => pk_ix x (by omega)
  rcases bad v1 with h1 | h1 | ⟨a, ha, rfl⟩
  · exact cg_isX0 (Or.inl h1) (br_t rfl (cg_isY0 (Or.inl h1) (br_t rfl ⟨rfl, cg_rel ok hG⟩)))
  · exact cg_isX0 (Or.inr h1) (br_t rfl (cg_isY0 (Or.inr h1) (br_t rfl ⟨rfl, cg_rel ok hG⟩)))
  · refine cg_isX1 hn ha (br_f (by decide) ?_)
    rcases bad v2 with h1 | h1 | ⟨b, hb, rfl⟩
    · exact cg_isX0 (Or.inl h1) (br_t rfl (cg_isY1 hn ha (br_f (by decide) (cg_isY0 (Or.inl h1) (br_t rfl ⟨rfl, cg_rel ok hG⟩)))))
    · exact cg_isX0 (Or.inr h1) (br_t rfl (cg_isY1 hn ha (br_f (by decide) (cg_isY0 (Or.inr h1) (br_t rfl ⟨rfl, cg_rel ok hG⟩)))))
    · have ca : (nI a).toNatClampNeg = a := nI_clamp (by omega)
      have va : vp_in (nI a) 9 := vp_in_nI (by omega) (by decide)
      refine cg_isX1 hn hb (br_f (by decide) ⟨va, ?_⟩)
      rw [ca, cg_t0 _ (by omega)]
      refine br_c (fun h0 => ?_) (fun h1 => ?_)
      · refine cg_isY1 hn ha (br_f (by decide) (cg_isY1 hn hb (br_f (by decide) (cg_find (cg_ok_congr hG ok) (fun A' hA' => ?_)))))
        dsimp only
        refine ⟨va, cg_in (by omega) (fun h => ?_) (fun h => ⟨rfl, rfl, cg_rel ok hG⟩)⟩
        rw [hA' a ha, h0] at h
        exact absurd h (by decide)
      · refine cg_isY1 hn ha (br_f (by decide) (cg_isY1 hn hb (br_f (by decide) (cg_find (cg_ok_congr hG ok) (fun A' hA' => ?_)))))
        dsimp only
        refine ⟨va, cg_in (by omega) (fun h => ⟨rfl, rfl, cg_rel ok hG⟩) (fun h => ?_)⟩
        rw [hA' a ha] at h
        exact absurd h h1
theorem i_vc_removeOrder {k : Nat} {u : SX} {v : SY} (I : i_Rel k u v) (hk : k + 3 ≤ 1537) (v1 : Int32) (v2 : Int32) : wpX_removeOrder (fun r u' => wpY_removeOrder (fun r' v' => r' = r ∧ i_Rel (k + 3) u' v') v v1 v2) u v1 v2 := by
  obtain ⟨n, pt, F, La, Nx, Lb, G, Lt, Sl, rfl, rfl, ok, hG⟩ := I
  have hn := ok.1
  unfold wpX_removeOrder wpY_removeOrder
  dsimp only
  have bad : ∀ x, x < 0 ∨ nI n ≤ x ∨ ∃ j, j < n ∧ x = nI j := fun x => pk_ix x (by omega)
  rcases bad v1 with h1 | h1 | ⟨a, ha, rfl⟩
  · exact cg_isX0 (Or.inl h1) (br_t rfl (cg_isY0 (Or.inl h1) (br_t rfl ⟨rfl, cg_rel ok hG⟩)))
  · exact cg_isX0 (Or.inr h1) (br_t rfl (cg_isY0 (Or.inr h1) (br_t rfl ⟨rfl, cg_rel ok hG⟩)))
  · refine cg_isX1 hn ha (br_f (by decide) ?_)
    rcases bad v2 with h1 | h1 | ⟨b, hb, rfl⟩
    · exact cg_isX0 (Or.inl h1) (br_t rfl (cg_isY1 hn ha (br_f (by decide) (cg_isY0 (Or.inl h1) (br_t rfl ⟨rfl, cg_rel ok hG⟩)))))
    · exact cg_isX0 (Or.inr h1) (br_t rfl (cg_isY1 hn ha (br_f (by decide) (cg_isY0 (Or.inr h1) (br_t rfl ⟨rfl, cg_rel ok hG⟩)))))
    · have ca : (nI a).toNatClampNeg = a := nI_clamp (by omega)
      have va : vp_in (nI a) 9 := vp_in_nI (by omega) (by decide)
      refine cg_isX1 hn hb (br_f (by decide) ⟨va, ?_⟩)
      rw [ca, cg_t0 _ (by omega)]
      refine br_c (fun h0 => ?_) (fun h1 => ?_)
      · refine cg_isY1 hn ha (br_f (by decide) (cg_isY1 hn hb (br_f (by decide) ⟨va, cg_in (by omega) (fun h => ?_) (fun h => br_t rfl ⟨rfl, cg_rel ok hG⟩)⟩)))
        rw [hG a ha, h0] at h
        exact absurd h (by decide)
      · refine ⟨va, va, nm_e (cg_close hn (fun A' hA' => ?_))⟩
        dsimp only
        refine cg_isY1 hn ha (br_f (by decide) (cg_isY1 hn hb (br_f (by decide) ⟨va, cg_in (by omega) (fun h => br_f (by decide) ⟨va, va, nm_e ⟨rfl, cg_rel (cg_sub ok (fun w hw x hx => ?_) hA') (fun i hi => ?_)⟩⟩) (fun h => ?_)⟩)))
        · by_cases e : w = a
          · subst e
            rw [pk_us, b_and] at hx
            cases q : bt (F w) x <;> simp_all
          · rw [pk_un e] at hx
            exact hx
        · by_cases e : i = a
          · subst e
            rw [pk_us, pk_us, hG i hi]
          · rw [pk_un e, pk_un e]
            exact hG i hi
        · rw [hG a ha] at h
          exact absurd h h1
end
section
/-! addOrder, removeTask -/
section
variable {n : Nat} {pt : Int32} {F La Nx Lb : Nat → Int32}
theorem cg_a80 {post : Int32 → SX → Prop} {u : Nat} {g : Int32} (hn : n ≤ 9) (hu : u < n) (hp : ∀ A', (∀ w, w < n → ∀ x, bt (A' w) x = (bt (La w) x || ((decide (w = u) || bt (La w) u) && bt g x))) → post 1 (nI n, pt, F, A', Nx, Lb)) : ∀ (d j : Nat) (A : Nat → Int32), j + d = n → (∀ w, w < n → ∀ x, bt (A w) x = (bt (La w) x || (decide (w < j) && (decide (w = u) || bt (La w) u) && bt g x))) → wX_addOrder_80 post (nI u) g (nI n) pt (d + 1) (nI j) F A Nx Lb := by
  intro d
  induction d with
  | zero =>
    intro j A hj hA
    have e : j = n := by omega
    subst e
    exact br_t (nI_le (Nat.le_refl _) (by omega)) (hp A (fun w hw x => by rw [hA w hw x, decide_eq_true hw, Bool.true_and]))
  | succ d ih =>
    intro j A hj hA
    have hjn : j < n := by omega
    have cj : (nI j).toNatClampNeg = j := nI_clamp (by omega)
    have vj : vp_in (nI j) 9 := vp_in_nI (by omega) (by omega)
    have hAj : ∀ x, bt (A j) x = bt (La j) x := fun x => by rw [hA j hjn x, decide_eq_false (by omega)]; simp
    have nx : ∀ i, i ≠ j → decide (i < j + 1) = decide (i < j) := fun i e => decide_eq_decide.mpr (by omega)
    have W : (decide (j = u) || bt (La j) u) = true → wX_addOrder_109 post (wX_addOrder_80 post (nI u) g (nI n) pt (d + 1)) (nI u) g (nI j) (nI n) pt F A Nx Lb := by
      intro hc
      refine ⟨vj, vj, nm_e (nm_r (nI_1 j) (ih (j + 1) _ (by omega) ?_))⟩
      intro w hw x
      rw [cj]
      by_cases e : w = j
      · subst e
        rw [pk_us, b_or, hAj, hc, decide_eq_true (by omega)]
        simp
      · rw [pk_un e, hA w hw x, nx w e]
    refine br_f (nI_ge hjn (by omega)) (br_c (fun e => W ?_) (fun e => ⟨vj, ?_⟩))
    · have e := (nI_eq (by omega) (by omega)).mp e
      rw [decide_eq_true e]
      rfl
    · have e : j ≠ u := fun q => e (by rw [q])
      rw [cj, cg_t0 _ (by omega), hAj]
      refine br_c (fun h0 => nm_r (nI_1 j) (ih (j + 1) A (by omega) ?_)) (fun h1 => W ?_)
      · intro w hw x
        rw [hA w hw x]
        by_cases e2 : w = j
        · subst e2
          rw [h0, decide_eq_false e]
          simp
        · rw [nx w e2]
      · rw [ts_nf h1, Bool.or_true]
end
theorem i_vc_addOrder {k : Nat} {u : SX} {v : SY} (I : i_Rel k u v) (hk : k + 3 ≤ 1537) (v1 : Int32) (v2 : Int32) : wpX_addOrder (fun r u' => wpY_addOrder (fun r' v' => r' = r ∧ i_Rel (k + 3) u' v') v v1 v2) u v1 v2 := by
  obtain ⟨n, pt, F, La, Nx, Lb, G, Lt, Sl, rfl, rfl, ok, hG⟩ := I
  have hn := ok.1
  unfold wpX_addOrder wpY_addOrder
  dsimp only
  have bad : ∀ x, x < 0 ∨ nI n ≤ x ∨ ∃ j, j < n ∧ x = nI j := fun x => pk_ix x (by omega)
  rcases bad v1 with h1 | h1 | ⟨a, ha, rfl⟩
  · exact cg_isX0 (Or.inl h1) (br_t rfl (cg_isY0 (Or.inl h1) (br_t rfl ⟨rfl, cg_rel ok hG⟩)))
  · exact cg_isX0 (Or.inr h1) (br_t rfl (cg_isY0 (Or.inr h1) (br_t rfl ⟨rfl, cg_rel ok hG⟩)))
  · refine cg_isX1 hn ha (br_f (by decide) ?_)
    rcases bad v2 with h1 | h1 | ⟨b, hb, rfl⟩
    · exact cg_isX0 (Or.inl h1) (br_t rfl (cg_isY1 hn ha (br_f (by decide) (cg_isY0 (Or.inl h1) (br_t rfl ⟨rfl, cg_rel ok hG⟩)))))
    · exact cg_isX0 (Or.inr h1) (br_t rfl (cg_isY1 hn ha (br_f (by decide) (cg_isY0 (Or.inr h1) (br_t rfl ⟨rfl, cg_rel ok hG⟩)))))
    · have ca : (nI a).toNatClampNeg = a := nI_clamp (by omega)
      have cb : (nI b).toNatClampNeg = b := nI_clamp (by omega)
      have va : vp_in (nI a) 9 := vp_in_nI (by omega) (by decide)
      have vb : vp_in (nI b) 9 := vp_in_nI (by omega) (by decide)
      have okG := cg_ok_congr hG ok
      refine cg_isX1 hn hb (br_f (by decide) ?_)
      refine br_c (fun e => ?_) (fun e => ⟨vb, ?_⟩)
      · refine cg_isY1 hn ha (br_f (by decide) (cg_isY1 hn hb (br_f (by decide) (cg_find okG (fun A' hA' => ?_)))))
        dsimp only
        exact br_t e ⟨rfl, cg_rel ok hG⟩
      · have ne : a ≠ b := fun q => e (by rw [q])
        rw [ca, cb, cg_t0 _ (by omega), cg_t0 _ (by omega)]
        refine br_c (fun h0 => ⟨va, br_c (fun f0 => ⟨va, va, nm_e ⟨vb, nm_e ⟨n + 1, cg_a80 (La := La) hn ha (fun A2 hA2 => ?_) n 0 La (by omega) (fun w hw x => by simp)⟩⟩⟩) (fun f1 => ?_)⟩) (fun h1 => ?_)
        · refine cg_isY1 hn ha (br_f (by decide) (cg_isY1 hn hb (br_f (by decide) (cg_find okG (fun A' hA' => ?_)))))
          dsimp only
          refine br_f e ⟨vb, cg_in (by omega) (fun h => ?_) (fun h => br_t rfl ⟨va, cg_in (by omega) (fun h => ?_) (fun h => br_t rfl ⟨va, va, nm_e ⟨rfl, cg_rel (cg_add ok ha hb ne h0 ?_ ?_) ?_⟩⟩)⟩)⟩
          · rw [hA' b hb, h0] at h
            exact absurd h (by decide)
          · rw [hG a ha, f0] at h
            exact absurd h (by decide)
          · intro w hw x
            by_cases e : w = a
            · subst e
              rw [pk_us, b_or, cg_one (by omega)]
              simp
            · rw [pk_un e]
              simp [e]
          · intro w hw x
            rw [hA2 w hw x, b_or, cg_one (by omega)]
            simp [Bool.or_comm, or_comm]
          · intro i hi
            by_cases e : i = a
            · subst e
              rw [pk_us, pk_us, hG i hi]
            · rw [pk_un e, pk_un e]
              exact hG i hi
        · refine cg_isY1 hn ha (br_f (by decide) (cg_isY1 hn hb (br_f (by decide) (cg_find okG (fun A' hA' => ?_)))))
          dsimp only
          refine br_f e ⟨vb, cg_in (by omega) (fun h => ?_) (fun h => br_t rfl ⟨va, cg_in (by omega) (fun h => br_f (by decide) ⟨rfl, cg_rel ok hG⟩) (fun h => ?_)⟩)⟩
          · rw [hA' b hb, h0] at h
            exact absurd h (by decide)
          · rw [hG a ha] at h
            exact absurd h f1
        · refine cg_isY1 hn ha (br_f (by decide) (cg_isY1 hn hb (br_f (by decide) (cg_find okG (fun A' hA' => ?_)))))
          dsimp only
          refine br_f e ⟨vb, cg_in (by omega) (fun h => br_f (by decide) ⟨rfl, cg_rel ok hG⟩) (fun h => ?_)⟩
          rw [hA' b hb] at h
          exact absurd h h1
/-! removeTask -/
def cg_tr (v : Nat) (x : Int32) : Int32 := (x &&& (((1 : Int32) <<< (nI v &&& 31)) - 1)) ||| ((x >>> ((1 : Int32) &&& 31)) &&& ((((1 : Int32) <<< (nI v &&& 31)) - 1) ^^^ (-1)))
theorem cg_shr1 (x : Int32) {i : Nat} (hi : i < 32) : bt (x >>> ((1 : Int32) &&& 31)) i = if 1 + i < 32 then bt x (1 + i) else bt x 31 := b_sshr 1 (by omega) x hi
theorem cg_tr_b {v : Nat} (hv : v ≤ 9) {x : Int32} (hx : ∀ i, 9 ≤ i → bt x i = false) (j : Nat) : bt (cg_tr v x) j = bt x (cg_sk v j) := by
  unfold cg_tr cg_sk
  rcases Nat.lt_or_ge j 32 with hj | hj
  · rw [b_or, b_and, b_and, cg_not _ hj, cg_full hv, cg_shr1 x hj]
    by_cases h : j < v
    · rw [if_pos h]
      simp [h]
    · rw [if_neg h]
      by_cases h31 : 1 + j < 32
      · rw [if_pos h31, Nat.add_comm 1 j]
        simp [h]
      · rw [if_neg h31, hx 31 (by omega), hx (j + 1) (by omega)]
        simp [h]
  · rw [b_big hj, hx _ (by split <;> omega)]
theorem cg_cut_b {v : Nat} (hv : v ≤ 9) {x : Int32} (hx : ∀ i, 9 ≤ i → bt x i = false) (j : Nat) : bt ((x &&& (((1 : Int32) <<< (nI v &&& 31)) - 1)) ||| ((x >>> ((nI v + 1) &&& 31)) <<< (nI v &&& 31))) j = bt x (cg_sk v j) := by
  unfold cg_sk
  rcases Nat.lt_or_ge j 32 with hj | hj
  · rw [nI_1, b_or, b_and, cg_full hv, b_shl v (by omega) _ hj]
    by_cases h : j < v
    · rw [if_pos h, decide_eq_false (show ¬ v ≤ j by omega)]
      simp [h]
    · rw [if_neg h, decide_eq_true (show v ≤ j by omega), b_sshr (v + 1) (by omega) x (by omega), show v + 1 + (j - v) = j + 1 by omega]
      by_cases h31 : j + 1 < 32
      · rw [if_pos h31]
        simp [h]
      · rw [if_neg h31, hx 31 (by omega), hx (j + 1) (by omega)]
        simp [h]
  · rw [b_big hj, hx _ (by split <;> omega)]
theorem cg_cut_tr {v : Nat} (hv : v ≤ 9) {x : Int32} (hx : ∀ i, 9 ≤ i → bt x i = false) : (x &&& (((1 : Int32) <<< (nI v &&& 31)) - 1)) ||| ((x >>> ((nI v + 1) &&& 31)) <<< (nI v &&& 31)) = cg_tr v x := b_ext (fun j _ => by rw [cg_cut_b hv hx, cg_tr_b hv hx])
section
variable {n : Nat} {pt : Int32} {La Nx Lb : Nat → Int32}
theorem cg_r58 {post : Int32 → SX → Prop} {v : Nat} {B : Nat → Int32} (hn : n ≤ 9) (hp : ∀ A' A2, (∀ i, i < n → A' i = cg_tr v (B i)) → cg_Cl A' n A2 → post (nI n) (nI n, pt, A', A2, Nx, Lb)) : ∀ (d j : Nat) (A : Nat → Int32), j + d = n → (∀ i, i < n → A i = if i < j then cg_tr v (B i) else B i) → wX_removeTask_58 post (((1 : Int32) <<< (nI v &&& 31)) - 1) (nI n) pt (d + 1) (nI j) A La Nx Lb := by
  intro d
  induction d with
  | zero =>
    intro j A hj hA
    have e : j = n := by omega
    subst e
    exact br_t (nI_le (Nat.le_refl _) (by omega)) (cg_close hn (fun A2 hA2 => hp A A2 (fun i hi => by rw [hA i hi, if_pos hi]) hA2))
  | succ d ih =>
    intro j A hj hA
    have hjn : j < n := by omega
    have cj : (nI j).toNatClampNeg = j := nI_clamp (by omega)
    have vj : vp_in (nI j) 9 := vp_in_nI (by omega) (by omega)
    refine br_f (nI_ge hjn (by omega)) ⟨vj, vj, vj, nm_e (nm_r (nI_1 j) (ih (j + 1) _ (by omega) ?_))⟩
    intro i hi
    rw [cj]
    by_cases e : i = j
    · subst e
      rw [pk_us, hA i hi, if_neg (by omega), if_pos (by omega)]
      rfl
    · rw [pk_un e, hA i hi]
      by_cases q : i < j
      · rw [if_pos q, if_pos (by omega)]
      · rw [if_neg q, if_neg (by omega)]
theorem cg_r22 {post : Int32 → SX → Prop} {v : Nat} {F : Nat → Int32} (hn : n ≤ 8) (hv : v ≤ n) (hp : ∀ A' A2, (∀ i, i < n → A' i = cg_tr v (F (cg_sk v i))) → cg_Cl A' n A2 → post (nI n) (nI n, pt, A', A2, Nx, Lb)) : ∀ (d j : Nat) (A : Nat → Int32), j + d = n → v ≤ j → (∀ i, i < n + 1 → A i = if v ≤ i ∧ i < j then F (i + 1) else F i) → wX_removeTask_22 post (nI v) (nI n) pt (d + 1) (nI j) A La Nx Lb := by
  intro d
  induction d with
  | zero =>
    intro j A hj hvj hA
    have e : j = n := by omega
    subst e
    refine br_t (nI_le (Nat.le_refl _) (by omega)) (nm_e ⟨j + 1, cg_r58 (B := fun i => F (cg_sk v i)) (by omega) hp j 0 A (by omega) (fun i hi => ?_)⟩)
    rw [hA i (by omega), if_neg (show ¬ i < 0 by omega)]
    unfold cg_sk
    by_cases q : i < v
    · rw [if_pos q, if_neg (by omega)]
    · rw [if_neg q, if_pos (by omega)]
  | succ d ih =>
    intro j A hj hvj hA
    have hjn : j < n := by omega
    have cj : (nI j).toNatClampNeg = j := nI_clamp (by omega)
    have cj1 : (nI j + 1).toNatClampNeg = j + 1 := by rw [nI_1]; exact nI_clamp (by omega)
    have vj : vp_in (nI j) 9 := vp_in_nI (by omega) (by omega)
    have vj1 : vp_in (nI j + 1) 9 := by rw [nI_1]; exact vp_in_nI (by omega) (by omega)
    refine br_f (nI_ge hjn (by omega)) ⟨vj1, vj, nm_e (nm_r (nI_1 j) (ih (j + 1) _ (by omega) (by omega) ?_))⟩
    intro i hi
    rw [cj, cj1]
    by_cases e : i = j
    · subst e
      rw [pk_us, hA (i + 1) (by omega), if_neg (by omega), if_pos (by omega)]
    · rw [pk_un e, hA i hi]
      by_cases q : v ≤ i ∧ i < j
      · rw [if_pos q, if_pos (by omega)]
      · rw [if_neg q, if_neg (by omega)]
end
section
variable {n : Nat} {Lt Sl : Nat → Int32}
theorem cg_y64 {post : Int32 → SY → Prop} {v : Nat} {B : Nat → Int32} (hn : n ≤ 9) (hv : v ≤ 9) (hB : ∀ i, i < n → ∀ x, 9 ≤ x → bt (B i) x = false) (hp : ∀ A', (∀ i, i < n → A' i = cg_tr v (B i)) → post (nI n) (nI n, A', Lt, Sl)) : ∀ (d j : Nat) (A : Nat → Int32), j + d = n → (∀ i, i < n → A i = if i < j then cg_tr v (B i) else B i) → wY_removeTask_64 post (nI v) (nI n) (d + 1) (nI j) A Lt Sl := by
  intro d
  induction d with
  | zero =>
    intro j A hj hA
    have e : j = n := by omega
    subst e
    exact br_t (nI_le (Nat.le_refl _) (by omega)) (hp A (fun i hi => by rw [hA i hi, if_pos hi]))
  | succ d ih =>
    intro j A hj hA
    have hjn : j < n := by omega
    have cj : (nI j).toNatClampNeg = j := nI_clamp (by omega)
    have vj : vp_in (nI j) 9 := vp_in_nI (by omega) (by omega)
    have hAj : A j = B j := by rw [hA j hjn, if_neg (by omega)]
    refine br_f (nI_ge hjn (by omega)) ⟨vj, ?_⟩
    unfold wpY_cut
    dsimp only
    rw [cj, hAj, cg_cut_tr hv (hB j hjn)]
    refine ⟨vj, nm_e (nm_r (nI_1 j) (ih (j + 1) _ (by omega) ?_))⟩
    intro i hi
    by_cases e : i = j
    · subst e
      rw [pk_us, if_pos (by omega)]
    · rw [pk_un e, hA i hi]
      by_cases q : i < j
      · rw [if_pos q, if_pos (by omega)]
      · rw [if_neg q, if_neg (by omega)]
theorem cg_y12 {post : Int32 → SY → Prop} {v : Nat} {G : Nat → Int32} (hn : n ≤ 8) (hv : v ≤ n) (hG : ∀ i, i < n + 1 → ∀ x, 9 ≤ x → bt (G i) x = false) (hp : ∀ A', (∀ i, i < n → A' i = cg_tr v (G (cg_sk v i))) → post (nI n) (nI n, A', Lt, Sl)) : ∀ (d j : Nat) (A : Nat → Int32), j + d = n → v ≤ j → (∀ i, i < n + 1 → A i = if v ≤ i ∧ i < j then G (i + 1) else G i) → wY_removeTask_12 post (nI v) (nI (n + 1)) (d + 1) (nI j) A Lt Sl := by
  have ep : nI (n + 1) - 1 = nI n := nI_pred n
  have cn : (nI n).toNatClampNeg = n := nI_clamp (by omega)
  intro d
  induction d with
  | zero =>
    intro j A hj hvj hA
    have e : j = n := by omega
    subst e
    refine br_t (by rw [ep]; exact nI_le (Nat.le_refl _) (by omega)) (nm_r ep ⟨vp_in_nI (by omega) (by omega), nm_e ⟨j + 1, cg_y64 (B := fun i => G (cg_sk v i)) (by omega) (by omega) (fun i hi => hG _ (by unfold cg_sk; split <;> omega)) hp j 0 _ (by omega) (fun i hi => ?_)⟩⟩)
    rw [cn, pk_un (by omega), hA i (by omega), if_neg (show ¬ i < 0 by omega)]
    unfold cg_sk
    by_cases q : i < v
    · rw [if_pos q, if_neg (by omega)]
    · rw [if_neg q, if_pos (by omega)]
  | succ d ih =>
    intro j A hj hvj hA
    have hjn : j < n := by omega
    have cj : (nI j).toNatClampNeg = j := nI_clamp (by omega)
    have cj1 : (nI j + 1).toNatClampNeg = j + 1 := by rw [nI_1]; exact nI_clamp (by omega)
    have vj : vp_in (nI j) 9 := vp_in_nI (by omega) (by omega)
    have vj1 : vp_in (nI j + 1) 9 := by rw [nI_1]; exact vp_in_nI (by omega) (by omega)
    refine br_f (by rw [ep]; exact nI_ge hjn (by omega)) ⟨vj1, vj, nm_e (nm_r (nI_1 j) (ih (j + 1) _ (by omega) (by omega) ?_))⟩
    intro i hi
    rw [cj, cj1]
    by_cases e : i = j
    · subst e
      rw [pk_us, hA (i + 1) (by omega), if_neg (by omega), if_pos (by omega)]
    · rw [pk_un e, hA i hi]
      by_cases q : v ≤ i ∧ i < j
      · rw [if_pos q, if_pos (by omega)]
      · rw [if_neg q, if_neg (by omega)]
end
theorem i_vc_removeTask {k : Nat} {u : SX} {v : SY} (I : i_Rel k u v) (hk : k + 3 ≤ 1537) (v1 : Int32) : wpX_removeTask (fun r u' => wpY_removeTask (fun r' v' => r' = r ∧ i_Rel (k + 3) u' v') v v1) u v1 := by
  obtain ⟨n, pt, F, La, Nx, Lb, G, Lt, Sl, rfl, rfl, ok, hG⟩ := I
  have hn := ok.1
  unfold wpX_removeTask wpY_removeTask
  dsimp only
  rcases pk_ix v1 (show n < 2 ^ 31 by omega) with h1 | h1 | ⟨a, ha, rfl⟩
  · exact cg_isX0 (Or.inl h1) (br_t rfl (cg_isY0 (Or.inl h1) (br_t rfl ⟨rfl, cg_rel ok hG⟩)))
  · exact cg_isX0 (Or.inr h1) (br_t rfl (cg_isY0 (Or.inr h1) (br_t rfl ⟨rfl, cg_rel ok hG⟩)))
  · obtain ⟨n, rfl⟩ : ∃ m, n = m + 1 := ⟨n - 1, by omega⟩
    have hb : ∀ i, i < n + 1 → ∀ x, 9 ≤ x → bt (F i) x = false := fun i hi x hx => ts_nt (fun q => by
      have := ok.2.1 i hi x q
      omega)
    have sk : ∀ i, i < n → cg_sk a i < n + 1 := fun i hi => by unfold cg_sk; split <;> omega
    refine cg_isX1 hn ha (br_f (by decide) (nm_r (nI_pred n) ⟨n - a + 1, cg_r22 (F := F) (by omega) (by omega) (fun A1 A2 h1 h2 => ?_) (n - a) a F (by omega) (Nat.le_refl a) (fun i hi => by rw [if_neg (by omega)])⟩))
    refine cg_isY1 hn ha (br_f (by decide) ⟨n - a + 1, cg_y12 (G := G) (by omega) (by omega) (fun i hi x hx => by rw [hG i hi]; exact hb i hi x hx) (fun A' h3 => ⟨rfl, cg_rel (cg_rem ok ha (fun w hw x hx => ?_) h2) (fun i hi => ?_)⟩) (n - a) a G (by omega) (Nat.le_refl a) (fun i hi => by rw [if_neg (by omega)])⟩)
    · rw [h1 w hw, cg_tr_b (by omega) (hb _ (sk w hw))] at hx
      exact hx
    · rw [h3 i hi, h1 i hi, hG _ (sk i hi)]
end
section
/-! heights -/
theorem cg_and0 {x y : Int32} : (x &&& y = 0) ↔ ¬ ∃ z, bt x z = true ∧ bt y z = true := by
  constructor
  · rintro h ⟨z, h1, h2⟩
    have : bt (x &&& y) z = true := by rw [b_and, h1, h2]; rfl
    rw [h, b_0] at this
    exact absurd this (by decide)
  · intro h
    apply cg_z
    intro i
    apply ts_nt
    intro q
    rw [b_and] at q
    exact h ⟨i, by cases z : bt x i <;> simp_all, by cases z : bt y i <;> simp_all⟩
section
variable {n : Nat} {pt : Int32} {F La Nx Lb : Nat → Int32}
theorem cg_h29 {post : Int32 → Prop} {J : Int32 → Int32 → Int32 → Prop} {R : Int32} {c i : Nat} (hn : n ≤ 9) (hJ : ∀ I, (∀ w, bt I w = true ↔ w < n ∧ bt R w = true ∧ ∃ z, bt (La w) z = true ∧ bt R z = true) → J I (nI (c + 1)) (nI (i + 1))) : ∀ (d j : Nat) (I : Int32), j + d = n → (∀ w, bt I w = true ↔ w < j ∧ bt R w = true ∧ ∃ z, bt (La w) z = true ∧ bt R z = true) → wX_heightOf_29 post J R (nI c) (nI i) (nI n) pt F La Nx Lb (d + 1) I (nI j) := by
  intro d
  induction d with
  | zero =>
    intro j I hj hI
    have e : j = n := by omega
    subst e
    exact br_t (nI_le (Nat.le_refl _) (by omega)) (nm_r (nI_1 c) (nm_r (nI_1 i) (hJ I hI)))
  | succ d ih =>
    intro j I hj hI
    have hjn : j < n := by omega
    have cj : (nI j).toNatClampNeg = j := nI_clamp (by omega)
    have vj : vp_in (nI j) 9 := vp_in_nI (by omega) (by omega)
    have skip : ¬ (bt R j = true ∧ ∃ z, bt (La j) z = true ∧ bt R z = true) → ∀ w, bt I w = true ↔ w < j + 1 ∧ bt R w = true ∧ ∃ z, bt (La w) z = true ∧ bt R z = true := by
      intro hs w
      rw [hI w]
      constructor
      · rintro ⟨a, b⟩
        exact ⟨by omega, b⟩
      · rintro ⟨a, b⟩
        refine ⟨?_, b⟩
        by_cases e : w = j
        · subst e
          exact absurd b hs
        · omega
    refine br_f (nI_ge hjn (by omega)) ?_
    rw [cj, cg_t0 _ (by omega)]
    refine br_c (fun h0 => nm_r (nI_1 j) (ih (j + 1) I (by omega) (skip (fun z => by rw [h0] at z; exact absurd z.1 (by decide))))) (fun h1 => ⟨vj, br_c (fun g0 => nm_r (nI_1 j) (ih (j + 1) I (by omega) (skip (fun z => cg_and0.mp g0 z.2)))) (fun g1 => nm_e (nm_r (nI_1 j) (ih (j + 1) _ (by omega) ?_)))⟩)
    intro w
    rw [b_or, cg_one (by omega)]
    by_cases e : w = j
    · subst e
      have g2 : ∃ z, bt (La w) z = true ∧ bt R z = true := Classical.byContradiction (fun q => g1 (cg_and0.mpr q))
      exact ⟨fun _ => ⟨by omega, ts_nf h1, g2⟩, fun _ => by simp⟩
    · rw [decide_eq_false e, Bool.or_false, hI w]
      exact ⟨fun ⟨a, b⟩ => ⟨by omega, b⟩, fun ⟨a, b⟩ => ⟨by omega, b⟩⟩
theorem cg_h12 {post : Int32 → Prop} {H : Nat → Nat} {u : Nat} (ok : cg_Ok n F La) (hH : cg_Ht n F La H) (hu : u < n) (hp : post (nI (H u))) : ∀ (d i : Nat) (R : Int32), i + d = 9 → i + 1 ≤ H u → (∀ w, bt R w = true ↔ bt (La u) w = true ∧ i + 1 ≤ H w) → wX_heightOf_12 post (nI n) pt F La Nx Lb (d + 1) R (nI (i + 1)) (nI i) := by
  intro d
  induction d with
  | zero =>
    intro i R hi hiu hR
    have := (hH.1 u hu).2
    omega
  | succ d ih =>
    intro i R hi hiu hR
    refine br_f (nI_ge (b := 9) (by omega) (by decide)) (br_c (fun h0 => ?_) (fun h1 => ⟨n + 1, cg_h29 ok.1 (fun I hI => ih (i + 1) I (by omega) ?_ ?_) n 0 0 (by omega) (fun w => ?_)⟩))
    · have e : H u = i + 1 := by
        apply Classical.byContradiction
        intro q
        obtain ⟨v, v1, v2⟩ := hH.2.2 u hu (by omega)
        have : bt R v = true := (hR v).mpr ⟨cg_ok_e ok hu v1, by omega⟩
        rw [h0, b_0] at this
        exact absurd this (by decide)
      rw [← e]
      exact hp
    · obtain ⟨w, hw⟩ := cg_nz h1
      obtain ⟨a, b⟩ := (hR w).mp hw
      have := hH.2.1 u hu w a
      omega
    · intro w
      rw [hI w]
      constructor
      · rintro ⟨a, b, z, z1, z2⟩
        have := ((hR z).mp z2).2
        have := hH.2.1 w a z z1
        exact ⟨((hR w).mp b).1, by omega⟩
      · rintro ⟨a, b⟩
        have hw := cg_ok_lt ok hu a
        obtain ⟨z, z1, z2⟩ := hH.2.2 w hw (by omega)
        exact ⟨hw, (hR w).mpr ⟨a, by omega⟩, z, cg_ok_e ok hw z1, (hR z).mpr ⟨cg_ok_tr ok hu a (cg_ok_e ok hw z1), by omega⟩⟩
    · rw [b_0]
      exact ⟨fun h => absurd h (by decide), fun h => absurd h.1 (by omega)⟩
theorem cg_hX {post : Int32 → Prop} {H : Nat → Nat} {u : Nat} (ok : cg_Ok n F La) (hH : cg_Ht n F La H) (hu : u < n) (hp : post (nI (H u))) : wpX_heightOf post (nI n, pt, F, La, Nx, Lb) (nI u) := by
  have cu : (nI u).toNatClampNeg = u := nI_clamp (by have := ok.1; omega)
  refine ⟨vp_in_nI (by have := ok.1; omega) (by decide), nm_e ⟨10, cg_h12 ok hH hu hp 9 0 _ (by omega) (hH.1 u hu).1 (fun w => ?_)⟩⟩
  rw [cu]
  exact ⟨fun h => ⟨h, by have := (hH.1 w (cg_ok_lt ok hu h)).1; omega⟩, fun h => h.1⟩
end
section
variable {n : Nat} {G Lt Sl La : Nat → Int32}
theorem cg_y28 {post : Int32 → Prop} {J : Int32 → Int32 → Prop} {R : Int32} {c : Nat} (hn : n ≤ 9) (hz : (∀ v, ¬ ∃ w, w < n ∧ bt R w = true ∧ bt (G w) v = true) → post (nI c)) (hJ : ∀ I, (∃ v, bt I v = true) → (∀ v, bt I v = true ↔ ∃ w, w < n ∧ bt R w = true ∧ bt (G w) v = true) → J I (nI (c + 1))) : ∀ (d j : Nat) (I : Int32), j + d = n → (∀ v, bt I v = true ↔ ∃ w, w < j ∧ bt R w = true ∧ bt (G w) v = true) → wY_height_28 post J R (nI c) (nI n) G Lt Sl (d + 1) I (nI j) := by
  intro d
  induction d with
  | zero =>
    intro j I hj hI
    have e : j = n := by omega
    subst e
    refine br_t (nI_le (Nat.le_refl _) (by omega)) (br_c (fun h0 => hz (fun v h => ?_)) (fun h1 => nm_r (nI_1 c) (hJ I (cg_nz h1) hI)))
    have := (hI v).mpr h
    rw [h0, b_0] at this
    exact absurd this (by decide)
  | succ d ih =>
    intro j I hj hI
    have hjn : j < n := by omega
    have cj : (nI j).toNatClampNeg = j := nI_clamp (by omega)
    have vj : vp_in (nI j) 9 := vp_in_nI (by omega) (by omega)
    refine br_f (nI_ge hjn (by omega)) (cg_in (by omega) (fun hb => br_f (by decide) ⟨vj, nm_e (nm_r (nI_1 j) (ih (j + 1) _ (by omega) (fun v => ?_)))⟩) (fun hb => br_t rfl (nm_r (nI_1 j) (ih (j + 1) I (by omega) (fun v => ?_)))))
    · rw [cj, b_or, Bool.or_eq_true, hI v]
      constructor
      · rintro (⟨w, a, b⟩ | h)
        · exact ⟨w, by omega, b⟩
        · exact ⟨j, by omega, hb, h⟩
      · rintro ⟨w, a, b, c⟩
        by_cases e : w = j
        · subst e
          exact Or.inr c
        · exact Or.inl ⟨w, by omega, b, c⟩
    · rw [hI v]
      constructor
      · rintro ⟨w, a, b⟩
        exact ⟨w, by omega, b⟩
      · rintro ⟨w, a, b, c⟩
        by_cases e : w = j
        · subst e
          rw [hb] at b
          exact absurd b (by decide)
        · exact ⟨w, by omega, b, c⟩
theorem cg_y16 {post : Int32 → Prop} {H : Nat → Nat} {u : Nat} (ok : cg_Ok n G La) (hH : cg_Ht n G La H) (hu : u < n) (hp : post (nI (H u))) : ∀ (d c : Nat) (R : Int32), c + d = 10 → (∀ v, bt R v = true → v < n ∧ H v + c ≤ H u + 1) → (∃ v, bt R v = true ∧ H v + c = H u + 1) → wY_height_16 post (nI n) G Lt Sl (d + 1) R (nI c) := by
  intro d
  induction d with
  | zero =>
    intro c R hc hR hex
    obtain ⟨v, v1, v2⟩ := hex
    have := (hH.1 v (hR v v1).1).1
    have := (hH.1 u hu).2
    omega
  | succ d ih =>
    intro c R hc hR hex
    obtain ⟨v, v1, v2⟩ := hex
    have hv := (hR v v1).1
    have hv1 := (hH.1 v hv).1
    refine br_f (nI_nlt (a := 9) (by omega) (by decide)) ⟨n + 1, cg_y28 ok.1 (fun hz => ?_) (fun I hne hI => ih (c + 1) I (by omega) (fun z hz => ?_) ?_) n 0 0 (by omega) (fun w => ?_)⟩
    · have e : H u = c := by
        by_cases q : 2 ≤ H v
        · obtain ⟨z, z1, z2⟩ := hH.2.2 v hv q
          exact absurd ⟨v, hv, v1, z1⟩ (hz z)
        · omega
      rw [← e]
      exact hp
    · obtain ⟨w, w1, w2, w3⟩ := (hI z).mp hz
      have a := (hR w w2).2
      have b := hH.2.1 w w1 z (cg_ok_e ok w1 w3)
      exact ⟨ok.2.1 w w1 z w3, by omega⟩
    · obtain ⟨z, hz⟩ := hne
      obtain ⟨w, w1, w2, w3⟩ := (hI z).mp hz
      have a := (hR w w2).2
      have b := hH.2.1 w w1 z (cg_ok_e ok w1 w3)
      have c1 := (hH.1 z (ok.2.1 w w1 z w3)).1
      obtain ⟨y, y1, y2⟩ := hH.2.2 v hv (by omega)
      exact ⟨y, (hI y).mpr ⟨v, hv, v1, y1⟩, by omega⟩
    · rw [b_0]
      exact ⟨fun h => absurd h (by decide), fun ⟨_, h, _⟩ => absurd h (by omega)⟩
end
theorem i_vc_height {k : Nat} {u : SX} {v : SY} (I : i_Rel k u v) (hk : k + 3 ≤ 1537) (v1 : Int32) : wpX_height (fun r => wpY_height (fun r' => r' = r ∧ i_Rel (k + 3) u v) v v1) u v1 := by
  obtain ⟨n, pt, F, La, Nx, Lb, G, Lt, Sl, rfl, rfl, ok, hG⟩ := I
  have hn := ok.1
  unfold wpX_height wpY_height
  dsimp only
  rcases pk_ix v1 (show n < 2 ^ 31 by omega) with h1 | h1 | ⟨a, ha, rfl⟩
  · exact cg_isX0 (Or.inl h1) (br_t rfl (cg_isY0 (Or.inl h1) (br_t rfl ⟨rfl, cg_rel ok hG⟩)))
  · exact cg_isX0 (Or.inr h1) (br_t rfl (cg_isY0 (Or.inr h1) (br_t rfl ⟨rfl, cg_rel ok hG⟩)))
  · obtain ⟨H, hH⟩ := cg_ht ok
    have hHG : cg_Ht n G La H := ⟨hH.1, hH.2.1, fun u hu q => by rw [hG u hu]; exact hH.2.2 u hu q⟩
    refine cg_isX1 hn ha (br_f (by decide) (cg_hX ok hH ha ?_))
    refine cg_isY1 hn ha (br_f (by decide) (nm_e ⟨10, cg_y16 (cg_ok_congr hG ok) hHG ha ⟨rfl, cg_rel ok hG⟩ 9 1 _ (by omega) (fun w hw => ?_) ⟨a, ?_, rfl⟩⟩))
    · rw [cg_one (by omega)] at hw
      have e : w = a := of_decide_eq_true hw
      subst e
      exact ⟨ha, Nat.le_refl _⟩
    · rw [cg_one (by omega)]
      exact decide_eq_true rfl
end
section
/-! immediate, bitsIn, superfluous, inTrees -/
def cg_any (p : Nat → Bool) : Nat → Bool
  | 0 => false
  | k + 1 => cg_any p k || p k
theorem cg_any_i {p : Nat → Bool} {k : Nat} : cg_any p k = true ↔ ∃ i, i < k ∧ p i = true := by
  induction k with
  | zero => exact ⟨fun h => Bool.noConfusion h, fun ⟨_, h, _⟩ => absurd h (by omega)⟩
  | succ k ih =>
    have e : cg_any p (k + 1) = (cg_any p k || p k) := rfl
    rw [e, Bool.or_eq_true, ih]
    constructor
    · rintro (⟨i, a, b⟩ | h)
      · exact ⟨i, by omega, b⟩
      · exact ⟨k, by omega, h⟩
    · rintro ⟨i, a, b⟩
      by_cases e : i = k
      · subst e
        exact Or.inr b
      · exact Or.inl ⟨i, by omega, b⟩
def cg_xt (n : Nat) (La : Nat → Int32) (u v : Nat) : Bool := cg_any (fun w => bt (La u) w && bt (La w) v) n
theorem cg_xt_i {n : Nat} {La : Nat → Int32} {u v : Nat} : cg_xt n La u v = true ↔ ∃ w, w < n ∧ bt (La u) w = true ∧ bt (La w) v = true := by
  unfold cg_xt
  rw [cg_any_i]
  simp
theorem cg_lt32 {x : Int32} {i : Nat} (h : bt x i = true) : i < 32 := by
  apply Classical.byContradiction
  intro q
  rw [b_big (by omega)] at h
  exact absurd h (by decide)
section
variable {n : Nat} {pt : Int32} {F La Nx Lb : Nat → Int32}
theorem cg_i5 {post : Int32 → Prop} {A : Int32} (hn : n ≤ 9) (hp : ∀ r, (∀ v, bt r v = true ↔ bt A v = true ∧ ¬ ∃ w, w < n ∧ bt A w = true ∧ bt (La w) v = true) → post r) : ∀ (d j : Nat) (r : Int32), j + d = n → (∀ v, bt r v = true ↔ bt A v = true ∧ ¬ ∃ w, w < j ∧ bt A w = true ∧ bt (La w) v = true) → wX_immediate_5 post A (nI n) pt F La Nx Lb (d + 1) r (nI j) := by
  intro d
  induction d with
  | zero =>
    intro j r hj hr
    have e : j = n := by omega
    subst e
    exact br_t (nI_le (Nat.le_refl _) (by omega)) (hp r hr)
  | succ d ih =>
    intro j r hj hr
    have hjn : j < n := by omega
    have cj : (nI j).toNatClampNeg = j := nI_clamp (by omega)
    have vj : vp_in (nI j) 9 := vp_in_nI (by omega) (by omega)
    refine br_f (nI_ge hjn (by omega)) ?_
    rw [cj, cg_t0 _ (by omega)]
    refine br_c (fun h0 => nm_r (nI_1 j) (ih (j + 1) r (by omega) (fun v => ?_))) (fun h1 => ⟨vj, nm_e (nm_r (nI_1 j) (ih (j + 1) _ (by omega) (fun v => ?_)))⟩)
    · rw [hr v]
      refine and_congr_right (fun _ => not_congr ⟨fun ⟨w, a, b⟩ => ⟨w, by omega, b⟩, fun ⟨w, a, b, c⟩ => ?_⟩)
      by_cases e : w = j
      · subst e
        rw [h0] at b
        exact absurd b (by decide)
      · exact ⟨w, by omega, b, c⟩
    · have h1 := ts_nf h1
      constructor
      · intro h
        have v32 := cg_lt32 h
        rw [b_and, cg_not _ v32] at h
        have q1 : bt r v = true := by cases z : bt r v <;> simp_all
        have q2 : bt (La j) v = false := by cases z : bt (La j) v <;> simp_all
        obtain ⟨a, b⟩ := (hr v).mp q1
        refine ⟨a, fun ⟨w, w1, w2, w3⟩ => ?_⟩
        by_cases e : w = j
        · subst e
          rw [q2] at w3
          exact absurd w3 (by decide)
        · exact b ⟨w, by omega, w2, w3⟩
      · rintro ⟨a, b⟩
        have v32 := cg_lt32 a
        have q1 : bt r v = true := (hr v).mpr ⟨a, fun ⟨w, w1, w2, w3⟩ => b ⟨w, by omega, w2, w3⟩⟩
        have q2 : bt (La j) v = false := ts_nt (fun q => b ⟨j, by omega, h1, q⟩)
        rw [b_and, cg_not _ v32, q1, q2]
        rfl
theorem cg_im {post : Int32 → Prop} {A p0 : Int32} (hn : n ≤ 9) (hp : ∀ r, (∀ v, bt r v = true ↔ bt A v = true ∧ ¬ ∃ w, w < n ∧ bt A w = true ∧ bt (La w) v = true) → post r) : wpX_immediate post (nI n, pt, F, La, Nx, Lb) p0 A :=
  ⟨n + 1, cg_i5 hn hp n 0 A (by omega) (fun v => ⟨fun h => ⟨h, fun ⟨_, h, _⟩ => absurd h (by omega)⟩, fun h => h.1⟩)⟩
theorem cg_b4 {post : Int32 → Prop} {x : Int32} (hp : post (nI (cg_cn (bt x) 9))) : ∀ (d j : Nat), j + d = 9 → wX_bitsIn_4 post x (nI n) pt F La Nx Lb (d + 1) (nI (cg_cn (bt x) j)) (nI j) := by
  intro d
  induction d with
  | zero =>
    intro j hj
    have e : j = 9 := by omega
    subst e
    exact br_t (by decide) hp
  | succ d ih =>
    intro j hj
    have e : nI (cg_cn (bt x) j) + ((x >>> (nI j &&& 31)) &&& 1) = nI (cg_cn (bt x) (j + 1)) := by
      rw [cg_sh1 x (by omega), cg_cn_s]
      by_cases q : bt x j = true
      · rw [if_pos q, if_pos q, nI_1]
      · rw [if_neg q, if_neg q, Int32.add_zero, Nat.add_zero]
    exact br_f (nI_ge (b := 9) (by omega) (by decide)) (nm_r e (nm_r (nI_1 j) (ih (j + 1) (by omega))))
theorem cg_bits {post : Int32 → Prop} {x : Int32} (hp : post (nI (cg_cn (bt x) 9))) : wpX_bitsIn post (nI n, pt, F, La, Nx, Lb) x := ⟨10, cg_b4 hp 9 0 (by omega)⟩
end
def cg_sx (n : Nat) (F La : Nat → Int32) : Nat → Nat
  | 0 => 0
  | j + 1 => cg_sx n F La j + cg_cn (fun v => bt (F j) v && cg_xt n La j v) 9
def cg_gd (n : Nat) (F La : Nat → Int32) (u : Nat) : Prop := cg_cn (fun v => bt (F u) v && !cg_xt n La u v) 9 ≤ 1
theorem cg_m9 {x : Int32} (h : ∀ i, 9 ≤ i → bt x i = false) : ∃ k, k < 512 ∧ x = nI k := by
  refine ⟨x.toBitVec.toNat, ?_, ?_⟩
  · exact Nat.lt_pow_two_of_testBit (n := 9) _ (fun i hi => h i hi)
  · apply Int32.toBitVec_inj.1
    show x.toBitVec = BitVec.ofNat 32 x.toBitVec.toNat
    simp
theorem cg_pop : ∀ k, k < 512 → ((nI k &&& (nI k - 1)) = 0 ↔ cg_cn (bt (nI k)) 9 ≤ 1) := by decide +kernel
section
variable {n : Nat} {pt : Int32} {F La Nx Lb : Nat → Int32}
theorem cg_s4 {post : Int32 → Prop} (ok : cg_Ok n F La) (hp : post (nI (cg_sx n F La n))) : ∀ (d j : Nat), j + d = n → wX_superfluous_4 post (nI n) pt F La Nx Lb (d + 1) (nI (cg_sx n F La j)) (nI j) := by
  have hn := ok.1
  intro d
  induction d with
  | zero =>
    intro j hj
    have e : j = n := by omega
    subst e
    exact br_t (nI_le (Nat.le_refl _) (by omega)) hp
  | succ d ih =>
    intro j hj
    have hjn : j < n := by omega
    have cj : (nI j).toNatClampNeg = j := nI_clamp (by omega)
    have vj : vp_in (nI j) 9 := vp_in_nI (by omega) (by omega)
    refine br_f (nI_ge hjn (by omega)) ⟨vj, cg_im hn (fun r hr => ⟨vj, cg_bits ?_⟩)⟩
    rw [cj] at hr ⊢
    have e : cg_cn (bt (F j &&& (r ^^^ (-1)))) 9 = cg_cn (fun v => bt (F j) v && cg_xt n La j v) 9 := by
      apply cg_cn_congr
      intro v hv
      rw [b_and, cg_not _ (by omega)]
      by_cases q : bt (F j) v = true
      · rw [q, Bool.true_and, Bool.true_and]
        by_cases z : cg_xt n La j v = true
        · rw [z]
          have : bt r v = false := ts_nt (fun w => ((hr v).mp w).2 (cg_xt_i.mp z))
          rw [this]
          rfl
        · rw [ts_nt z]
          have : bt r v = true := (hr v).mpr ⟨cg_ok_e ok hjn q, fun w => z (cg_xt_i.mpr w)⟩
          rw [this]
          rfl
      · rw [ts_nt q, Bool.false_and, Bool.false_and]
    rw [e]
    exact nm_r (nI_add _ _) (nm_r (nI_1 j) (ih (j + 1) (by omega)))
/-- the immediate followers in both forms -/
theorem cg_near (ok : cg_Ok n F La) {u : Nat} (hu : u < n) {r : Int32} (hr : ∀ v, bt r v = true ↔ bt (La u) v = true ∧ ¬ ∃ w, w < n ∧ bt (La u) w = true ∧ bt (La w) v = true) (v : Nat) : bt r v = (bt (F u) v && !cg_xt n La u v) := by
  by_cases z : cg_xt n La u v = true
  · rw [z, Bool.not_true, Bool.and_false]
    exact ts_nt (fun w => ((hr v).mp w).2 (cg_xt_i.mp z))
  · rw [ts_nt z, Bool.not_false, Bool.and_true]
    by_cases q : bt (F u) v = true
    · rw [q]
      exact (hr v).mpr ⟨cg_ok_e ok hu q, fun w => z (cg_xt_i.mpr w)⟩
    · rw [ts_nt q]
      exact ts_nt (fun w => q (cg_imm ok hu ((hr v).mp w).1 (fun x x1 x2 x3 => ((hr v).mp w).2 ⟨x, x1, x2, x3⟩)))
theorem cg_x2 {post : Int32 → Prop} (ok : cg_Ok n F La) (h1 : (∀ u, u < n → cg_gd n F La u) → post 1) (h0 : (∃ u, u < n ∧ ¬ cg_gd n F La u) → post 0) : ∀ (d j : Nat), j + d = n → (∀ u, u < j → cg_gd n F La u) → wX_inTrees_2 post (nI n) pt F La Nx Lb (d + 1) (nI j) := by
  have hn := ok.1
  intro d
  induction d with
  | zero =>
    intro j hj hA
    have e : j = n := by omega
    subst e
    exact br_t (nI_le (Nat.le_refl _) (by omega)) (h1 hA)
  | succ d ih =>
    intro j hj hA
    have hjn : j < n := by omega
    have cj : (nI j).toNatClampNeg = j := nI_clamp (by omega)
    have vj : vp_in (nI j) 9 := vp_in_nI (by omega) (by omega)
    refine br_f (nI_ge hjn (by omega)) ⟨vj, cg_im hn (fun r hr => ?_)⟩
    rw [cj] at hr
    have hb := cg_near ok hjn hr
    obtain ⟨k, hk, e⟩ := cg_m9 (x := r) (fun i hi => by
      apply ts_nt
      intro q
      have := cg_ok_lt ok hjn ((hr i).mp q).1
      omega)
    have hp := cg_pop k hk
    rw [← e] at hp
    have g : cg_cn (bt r) 9 ≤ 1 ↔ cg_gd n F La j := by
      unfold cg_gd
      rw [cg_cn_congr (fun i _ => hb i)]
    rw [g] at hp
    refine br_c (fun z => nm_r (nI_1 j) (ih (j + 1) (by omega) (fun u hu => ?_))) (fun z => h0 ⟨j, hjn, fun q => z (hp.mpr q)⟩)
    by_cases e : u = j
    · subst e
      exact hp.mp z
    · exact hA u (by omega)
theorem cg_trX {post : Int32 → Prop} (ok : cg_Ok n F La) (h1 : (∀ u, u < n → cg_gd n F La u) → post 1) (h0 : (∃ u, u < n ∧ ¬ cg_gd n F La u) → post 0) : wpX_inTrees post (nI n, pt, F, La, Nx, Lb) :=
  ⟨n + 1, cg_x2 ok h1 h0 n 0 (by omega) (fun u hu => absurd hu (by omega))⟩
end
section
variable {n : Nat} {G A Sl La : Nat → Int32}
theorem cg_e2 {post : Int32 → Prop} {u v : Nat} (hn : n ≤ 9) (hA : ∀ u, u < n → A u = La u) (hu : u < n) (hv : v < 9) (h1 : cg_xt n La u v = true → post 1) (h0 : cg_xt n La u v = false → post 0) : ∀ (d j : Nat), j + d = n → (∀ w, w < j → ¬ (bt (La u) w = true ∧ bt (La w) v = true)) → wY_extra_2 post (nI u) (nI v) (nI n) G A Sl (d + 1) (nI j) := by
  have cu : (nI u).toNatClampNeg = u := nI_clamp (by omega)
  have vu : vp_in (nI u) 9 := vp_in_nI (by omega) (by omega)
  intro d
  induction d with
  | zero =>
    intro j hj hI
    have e : j = n := by omega
    subst e
    exact br_t (nI_le (Nat.le_refl _) (by omega)) (h0 (ts_nt (fun q => by obtain ⟨w, a, b⟩ := cg_xt_i.mp q; exact hI w a b)))
  | succ d ih =>
    intro j hj hI
    have hjn : j < n := by omega
    have cj : (nI j).toNatClampNeg = j := nI_clamp (by omega)
    have vj : vp_in (nI j) 9 := vp_in_nI (by omega) (by omega)
    have nx : ¬ (bt (La u) j = true ∧ bt (La j) v = true) → ∀ w, w < j + 1 → ¬ (bt (La u) w = true ∧ bt (La w) v = true) := by
      intro h w hw
      by_cases e : w = j
      · rw [e]
        exact h
      · exact hI w (by omega)
    refine br_f (nI_ge hjn (by omega)) ⟨vu, cg_in (by omega) (fun hb => br_f (by decide) ⟨vj, cg_in (by omega) (fun hc => br_f (by decide) (h1 (cg_xt_i.mpr ⟨j, hjn, ?_, ?_⟩))) (fun hc => br_t rfl (nm_r (nI_1 j) (ih (j + 1) (by omega) (nx (fun q => ?_)))))⟩) (fun hb => br_t rfl (nm_r (nI_1 j) (ih (j + 1) (by omega) (nx (fun q => ?_)))))⟩
    · rw [cu, hA u hu] at hb
      exact hb
    · rw [cj, hA j hjn] at hc
      exact hc
    · rw [cj, hA j hjn, q.2] at hc
      exact absurd hc (by decide)
    · rw [cu, hA u hu, q.1] at hb
      exact absurd hb (by decide)
theorem cg_extra {post : Int32 → Prop} {u v : Nat} (hn : n ≤ 9) (hA : ∀ u, u < n → A u = La u) (hu : u < n) (hv : v < 9) (h1 : cg_xt n La u v = true → post 1) (h0 : cg_xt n La u v = false → post 0) : wpY_extra post (nI n, G, A, Sl) (nI u) (nI v) :=
  ⟨n + 1, cg_e2 hn hA hu hv h1 h0 n 0 (by omega) (fun w hw => absurd hw (by omega))⟩
theorem cg_s18 {post : Int32 → SY → Prop} {J : Int32 → Int32 → Prop} {u c : Nat} (hn : n ≤ 9) (hA : ∀ u, u < n → A u = La u) (hu : u < n) (hJ : J (nI (c + cg_cn (fun v => bt (G u) v && cg_xt n La u v) n)) (nI (u + 1))) : ∀ (d j : Nat), j + d = n → wY_superfluous_18 post J (nI u) (nI n) G A Sl (d + 1) (nI (c + cg_cn (fun v => bt (G u) v && cg_xt n La u v) j)) (nI j) := by
  have cu : (nI u).toNatClampNeg = u := nI_clamp (by omega)
  have vu : vp_in (nI u) 9 := vp_in_nI (by omega) (by omega)
  intro d
  induction d with
  | zero =>
    intro j hj
    have e : j = n := by omega
    subst e
    exact br_t (nI_le (Nat.le_refl _) (by omega)) (nm_r (nI_1 u) hJ)
  | succ d ih =>
    intro j hj
    have hjn : j < n := by omega
    have i1 := ih (j + 1) (by omega)
    rw [cg_cn_s] at i1
    refine br_f (nI_ge hjn (by omega)) ⟨vu, cg_in (by omega) (fun hb => br_f (by decide) (cg_extra hn hA hu (by omega) (fun hx => br_f (by decide) (nm_r (nI_1 _) (nm_r (nI_1 j) ?_))) (fun hx => br_t rfl (nm_r (nI_1 j) ?_)))) (fun hb => br_t rfl (nm_r (nI_1 j) ?_))⟩
    · rw [cu] at hb
      rw [hb, hx, if_pos (by rfl : (true && true) = true), ← Nat.add_assoc] at i1
      exact i1
    · rw [hx, Bool.and_false, if_neg (by decide)] at i1
      exact i1
    · rw [cu] at hb
      rw [hb, Bool.false_and, if_neg (by decide)] at i1
      exact i1
theorem cg_s8 {post : Int32 → SY → Prop} (hn : n ≤ 9) (hB : cg_Bd G n) (hA : ∀ u, u < n → A u = La u) (hp : post (nI (cg_sx n G La n)) (nI n, G, A, Sl)) : ∀ (d j : Nat), j + d = n → wY_superfluous_8 post (nI n) G A Sl (d + 1) (nI (cg_sx n G La j)) (nI j) := by
  intro d
  induction d with
  | zero =>
    intro j hj
    have e : j = n := by omega
    subst e
    exact br_t (nI_le (Nat.le_refl _) (by omega)) hp
  | succ d ih =>
    intro j hj
    have hjn : j < n := by omega
    have e : cg_cn (fun v => bt (G j) v && cg_xt n La j v) 9 = cg_cn (fun v => bt (G j) v && cg_xt n La j v) n := cg_cn_ext hn (fun i hi => by
      have : bt (G j) i = false := ts_nt (fun q => by
        have := hB j hjn i q
        omega)
      rw [this, Bool.false_and])
    have i1 := ih (j + 1) (by omega)
    have e2 : cg_sx n G La (j + 1) = cg_sx n G La j + cg_cn (fun v => bt (G j) v && cg_xt n La j v) 9 := rfl
    rw [e2, e] at i1
    exact br_f (nI_ge hjn (by omega)) ⟨n + 1, cg_s18 hn hA hjn i1 n 0 (by omega)⟩
theorem cg_t18 {post : Int32 → SY → Prop} {J : Int32 → Prop} {u : Nat} (hn : n ≤ 9) (hA : ∀ u, u < n → A u = La u) (hu : u < n) (hJ : cg_cn (fun v => bt (G u) v && !cg_xt n La u v) n ≤ 1 → J (nI (u + 1))) (h0 : ¬ cg_cn (fun v => bt (G u) v && !cg_xt n La u v) n ≤ 1 → post 0 (nI n, G, A, Sl)) : ∀ (d j : Nat), j + d = n → wY_inTrees_18 post J (nI u) (nI n) G A Sl (d + 1) (nI (cg_cn (fun v => bt (G u) v && !cg_xt n La u v) j)) (nI j) := by
  have cu : (nI u).toNatClampNeg = u := nI_clamp (by omega)
  have vu : vp_in (nI u) 9 := vp_in_nI (by omega) (by omega)
  intro d
  induction d with
  | zero =>
    intro j hj
    have e : j = n := by omega
    subst e
    have hc := cg_cn_le (fun v => bt (G u) v && !cg_xt j La u v) j
    refine br_t (nI_le (Nat.le_refl _) (by omega)) (pk_le _ 1 (fun q => nm_r (nI_1 u) (hJ q)) (fun q => h0 (by omega)) rfl rfl (by omega))
  | succ d ih =>
    intro j hj
    have hjn : j < n := by omega
    have i1 := ih (j + 1) (by omega)
    rw [cg_cn_s] at i1
    refine br_f (nI_ge hjn (by omega)) ⟨vu, cg_in (by omega) (fun hb => br_f (by decide) (cg_extra hn hA hu (by omega) (fun hx => br_f (by decide) (nm_r (nI_1 j) ?_)) (fun hx => br_t rfl (nm_r (nI_1 _) (nm_r (nI_1 j) ?_))))) (fun hb => br_t rfl (nm_r (nI_1 j) ?_))⟩
    · rw [hx, Bool.not_true, Bool.and_false, if_neg (by decide)] at i1
      exact i1
    · rw [cu] at hb
      rw [hb, hx, if_pos (by rfl : (true && !false) = true)] at i1
      exact i1
    · rw [cu] at hb
      rw [hb, Bool.false_and, if_neg (by decide)] at i1
      exact i1
theorem cg_t6 {post : Int32 → SY → Prop} (hn : n ≤ 9) (hB : cg_Bd G n) (hA : ∀ u, u < n → A u = La u) (h1 : (∀ u, u < n → cg_gd n G La u) → post 1 (nI n, G, A, Sl)) (h0 : (∃ u, u < n ∧ ¬ cg_gd n G La u) → post 0 (nI n, G, A, Sl)) : ∀ (d j : Nat), j + d = n → (∀ u, u < j → cg_gd n G La u) → wY_inTrees_6 post (nI n) G A Sl (d + 1) (nI j) := by
  intro d
  induction d with
  | zero =>
    intro j hj hI
    have e : j = n := by omega
    subst e
    exact br_t (nI_le (Nat.le_refl _) (by omega)) (h1 hI)
  | succ d ih =>
    intro j hj hI
    have hjn : j < n := by omega
    have e : cg_cn (fun v => bt (G j) v && !cg_xt n La j v) 9 = cg_cn (fun v => bt (G j) v && !cg_xt n La j v) n := cg_cn_ext hn (fun i hi => by
      have : bt (G j) i = false := ts_nt (fun q => by
        have := hB j hjn i q
        omega)
      rw [this, Bool.false_and])
    refine br_f (nI_ge hjn (by omega)) ⟨n + 1, cg_t18 hn hA hjn (fun q => ih (j + 1) (by omega) (fun u hu => ?_)) (fun q => h0 ⟨j, hjn, fun z => q ?_⟩) n 0 (by omega)⟩
    · by_cases e1 : u = j
      · subst e1
        show _ ≤ 1
        rw [e]
        exact q
      · exact hI u (by omega)
    · rw [← e]
      exact z
theorem cg_trY {post : Int32 → SY → Prop} {Lt : Nat → Int32} (ok : cg_Ok n G La) (h1 : ∀ A, (∀ u, u < n → cg_gd n G La u) → post 1 (nI n, G, A, Sl)) (h0 : ∀ A, (∃ u, u < n ∧ ¬ cg_gd n G La u) → post 0 (nI n, G, A, Sl)) : wpY_inTrees post (nI n, G, Lt, Sl) := by
  unfold wpY_inTrees
  dsimp only
  refine cg_find ok (fun A hA => ?_)
  exact ⟨n + 1, cg_t6 ok.1 ok.2.1 hA (h1 A) (h0 A) n 0 (by omega) (fun u hu => absurd hu (by omega))⟩
end
theorem cg_sx_congr {n : Nat} {F G La : Nat → Int32} (hG : ∀ i, i < n → G i = F i) : ∀ j, j ≤ n → cg_sx n G La j = cg_sx n F La j := by
  intro j
  induction j with
  | zero => intro _; rfl
  | succ j ih =>
    intro hj
    show cg_sx n G La j + cg_cn (fun v => bt (G j) v && cg_xt n La j v) 9 = cg_sx n F La j + cg_cn (fun v => bt (F j) v && cg_xt n La j v) 9
    rw [ih (by omega), hG j (by omega)]
theorem cg_gd_congr {n : Nat} {F G La : Nat → Int32} (hG : ∀ i, i < n → G i = F i) {u : Nat} (hu : u < n) : cg_gd n G La u ↔ cg_gd n F La u := by
  unfold cg_gd
  rw [hG u hu]
theorem i_vc_superfluous {k : Nat} {u : SX} {v : SY} (I : i_Rel k u v) (hk : k + 3 ≤ 1537) : wpX_superfluous (fun r => wpY_superfluous (fun r' v' => r' = r ∧ i_Rel (k + 3) u v') v) u := by
  obtain ⟨n, pt, F, La, Nx, Lb, G, Lt, Sl, rfl, rfl, ok, hG⟩ := I
  refine ⟨n + 1, cg_s4 ok ?_ n 0 (by omega)⟩
  unfold wpY_superfluous
  dsimp only
  refine cg_find (cg_ok_congr hG ok) (fun A hA => ?_)
  have okG := cg_ok_congr hG ok
  refine ⟨n + 1, cg_s8 ok.1 okG.2.1 hA ⟨?_, cg_rel ok hG⟩ n 0 (by omega)⟩
  rw [cg_sx_congr hG n (Nat.le_refl n)]
theorem i_vc_inTrees {k : Nat} {u : SX} {v : SY} (I : i_Rel k u v) (hk : k + 3 ≤ 1537) : wpX_inTrees (fun r => wpY_inTrees (fun r' v' => r' = r ∧ i_Rel (k + 3) u v') v) u := by
  obtain ⟨n, pt, F, La, Nx, Lb, G, Lt, Sl, rfl, rfl, ok, hG⟩ := I
  refine cg_trX ok (fun h => cg_trY (cg_ok_congr hG ok) (fun A h2 => ⟨rfl, cg_rel ok hG⟩) (fun A h2 => ?_)) (fun h => cg_trY (cg_ok_congr hG ok) (fun A h2 => ?_) (fun A h2 => ⟨rfl, cg_rel ok hG⟩))
  · obtain ⟨u, hu, h3⟩ := h2
    exact absurd ((cg_gd_congr hG hu).mpr (h u hu)) h3
  · obtain ⟨u, hu, h3⟩ := h
    exact absurd ((cg_gd_congr hG hu).mp (h2 u hu)) h3
end
section
/-! isReady, bestReady, lengthOnList -/
def cg_L (La : Nat → Int32) : Nat → Nat → Bool := fun u v => bt (La u) v
def cg_Bi (Ca : Nat → Prop) (h : Nat → Nat) (j : Nat) (x : Int32) : Prop :=
  (x = -1 ∧ ∀ i, i < j → ¬ Ca i) ∨ ∃ b, b < j ∧ x = nI b ∧ Ca b ∧ ∀ i, i < j → Ca i → h i ≤ h b
theorem cg_bi_skip {Ca : Nat → Prop} {h : Nat → Nat} {j : Nat} {x : Int32} (hi : cg_Bi Ca h j x) (hc : ¬ Ca j) : cg_Bi Ca h (j + 1) x := by
  rcases hi with ⟨e, a⟩ | ⟨b, b1, b2, b3, b4⟩
  · refine Or.inl ⟨e, fun i hi => ?_⟩
    by_cases q : i = j
    · rw [q]
      exact hc
    · exact a i (by omega)
  · refine Or.inr ⟨b, by omega, b2, b3, fun i hi ci => ?_⟩
    by_cases q : i = j
    · rw [q] at ci
      exact absurd ci hc
    · exact b4 i (by omega) ci
theorem cg_cn_ins {S : Int32} {b : Nat} (hb : b < 9) (h : bt S b = false) : cg_cn (bt (S ||| ((1 : Int32) <<< (nI b &&& 31)))) 9 = cg_cn (bt S) 9 + 1 := by
  have e : ∀ i, bt (S ||| ((1 : Int32) <<< (nI b &&& 31))) i = (bt S i || decide (i = b)) := fun i => by rw [b_or, cg_one (by omega)]
  have sp : cg_cn (bt (S ||| ((1 : Int32) <<< (nI b &&& 31)))) 9 = cg_cn (fun i => bt (S ||| ((1 : Int32) <<< (nI b &&& 31))) i && bt S i) 9 + cg_cn (fun i => bt (S ||| ((1 : Int32) <<< (nI b &&& 31))) i && !bt S i) 9 := cg_cn_split _ (bt S) 9
  have a1 : cg_cn (fun i => bt (S ||| ((1 : Int32) <<< (nI b &&& 31))) i && bt S i) 9 = cg_cn (bt S) 9 := cg_cn_congr (fun i _ => by rw [e]; cases bt S i <;> simp)
  have a2 : cg_cn (fun i => bt (S ||| ((1 : Int32) <<< (nI b &&& 31))) i && !bt S i) 9 = 1 := by
    rw [← cg_cn_1 hb]
    apply cg_cn_congr
    intro i _
    rw [e]
    by_cases q : i = b
    · subst q
      simp [h]
    · simp [q]
  omega
section
variable {n : Nat} {pt : Int32} {F La Nx Lb : Nat → Int32}
theorem cg_rd2 {post : Int32 → Prop} {v : Nat} {O : Int32} (hn : n ≤ 9) (hv : v < n) (h1 : (∀ u, u < n → bt O u = true → bt (La u) v = false) → post 1) (h0 : (∃ u, u < n ∧ bt O u = true ∧ bt (La u) v = true) → post 0) : ∀ (d j : Nat), j + d = n → (∀ u, u < j → bt O u = true → bt (La u) v = false) → wX_isReady_2 post (nI v) O (nI n) pt F La Nx Lb (d + 1) (nI j) := by
  intro d
  induction d with
  | zero =>
    intro j hj hI
    have e : j = n := by omega
    subst e
    exact br_t (nI_le (Nat.le_refl _) (by omega)) (h1 hI)
  | succ d ih =>
    intro j hj hI
    have hjn : j < n := by omega
    have cj : (nI j).toNatClampNeg = j := nI_clamp (by omega)
    have vj : vp_in (nI j) 9 := vp_in_nI (by omega) (by omega)
    have nx : (bt O j = true → bt (La j) v = false) → ∀ u, u < j + 1 → bt O u = true → bt (La u) v = false := by
      intro h u hu
      by_cases e : u = j
      · rw [e]
        exact h
      · exact hI u (by omega)
    refine br_f (nI_ge hjn (by omega)) ?_
    rw [cj, cg_t0 _ (by omega), cg_t0 _ (by omega)]
    exact br_c (fun q => nm_r (nI_1 j) (ih (j + 1) (by omega) (nx (fun z => by rw [q] at z; exact absurd z (by decide))))) (fun q => ⟨vj, br_c (fun w => nm_r (nI_1 j) (ih (j + 1) (by omega) (nx (fun _ => w)))) (fun w => h0 ⟨j, hjn, ts_nf q, ts_nf w⟩)⟩)
theorem cg_rdy {post : Int32 → Prop} {v : Nat} {O : Int32} (hn : n ≤ 9) (hv : v < n) (h1 : (∀ u, u < n → bt O u = true → bt (La u) v = false) → post 1) (h0 : (∃ u, u < n ∧ bt O u = true ∧ bt (La u) v = true) → post 0) : wpX_isReady post (nI n, pt, F, La, Nx, Lb) (nI v) O :=
  ⟨n + 1, cg_rd2 hn hv h1 h0 n 0 (by omega) (fun u hu => absurd hu (by omega))⟩
theorem cg_b15 {post : Int32 → Prop} {h : Nat → Nat} {D S : Int32} (hn : n ≤ 9) (hpt : ∀ x, bt pt x = true → x < n) (hLb : ∀ i, i < n → Lb i = nI (h i) ∧ h i ≤ 9) (hp : ∀ x, cg_Bi (fun j => cg_Rd (bt pt) (cg_L La) D j ∧ bt S j = false) h n x → post x) : ∀ (d j : Nat) (x : Int32), j + d = n → cg_Bi (fun j => cg_Rd (bt pt) (cg_L La) D j ∧ bt S j = false) h j x → wX_bestReady_15 post S (pt &&& (D ^^^ (-1))) (nI n) pt F La Nx Lb (d + 1) x (nI j) := by
  have hO : ∀ i, i < n → bt (pt &&& (D ^^^ (-1))) i = (bt pt i && !bt D i) := fun i hi => by rw [b_and, cg_not _ (by omega)]
  intro d
  induction d with
  | zero =>
    intro j x hj hI
    have e : j = n := by omega
    subst e
    exact br_t (nI_le (Nat.le_refl _) (by omega)) (hp x hI)
  | succ d ih =>
    intro j x hj hI
    have hjn : j < n := by omega
    have cj : (nI j).toNatClampNeg = j := nI_clamp (by omega)
    have vj : vp_in (nI j) 9 := vp_in_nI (by omega) (by omega)
    refine br_f (nI_ge hjn (by omega)) ?_
    rw [cg_t0 _ (by omega), cg_t0 _ (by omega)]
    refine br_c (fun q => nm_r (nI_1 j) (ih (j + 1) x (by omega) (cg_bi_skip hI ?_))) (fun q => br_c (fun w => cg_rdy hn hjn (fun hr => br_f (by decide) ?_) (fun hr => br_t rfl (nm_r (nI_1 j) (ih (j + 1) x (by omega) (cg_bi_skip hI ?_))))) (fun w => nm_r (nI_1 j) (ih (j + 1) x (by omega) (cg_bi_skip hI ?_))))
    · rintro ⟨⟨a, b, c⟩, _⟩
      rw [hO j hjn, a, b] at q
      exact absurd q (by decide)
    · have q := ts_nf q
      rw [hO j hjn] at q
      have q1 : bt pt j = true := by cases z : bt pt j <;> simp_all
      have q2 : bt D j = false := by cases z : bt D j <;> simp_all
      have ca : cg_Rd (bt pt) (cg_L La) D j ∧ bt S j = false := by
        refine ⟨⟨q1, q2, fun u hu hl => ts_nf (fun z => ?_)⟩, w⟩
        have hu' := hpt u hu
        have := hr u hu' (by rw [hO u hu', hu, z]; rfl)
        have hl : bt (La u) j = true := hl
        rw [hl] at this
        exact absurd this (by decide)
      rcases hI with ⟨e, a⟩ | ⟨b, b1, b2, b3, b4⟩
      · subst e
        refine br_t (by decide) (nm_r (nI_1 j) (ih (j + 1) _ (by omega) (Or.inr ⟨j, by omega, rfl, ca, fun i hi ci => ?_⟩)))
        by_cases e : i = j
        · rw [e]
          exact Nat.le_refl _
        · exact absurd ci (a i (by omega))
      · subst b2
        have cb : (nI b).toNatClampNeg = b := nI_clamp (by omega)
        have vb : vp_in (nI b) 9 := vp_in_nI (by omega) (by omega)
        refine br_f (nI_pos (by omega)) ⟨vj, vb, ?_⟩
        rw [cj, cb, (hLb j hjn).1, (hLb b (by omega)).1]
        have l1 := (hLb j hjn).2
        have l2 := (hLb b (by omega)).2
        refine pk_le (h j) (h b) (fun z => nm_r (nI_1 j) (ih (j + 1) _ (by omega) (Or.inr ⟨b, by omega, rfl, b3, fun i hi ci => ?_⟩))) (fun z => nm_r (nI_1 j) (ih (j + 1) _ (by omega) (Or.inr ⟨j, by omega, rfl, ca, fun i hi ci => ?_⟩))) rfl rfl (by omega) (by omega)
        · by_cases e : i = j
          · rw [e]
            exact z
          · exact b4 i (by omega) ci
        · by_cases e : i = j
          · rw [e]
            exact Nat.le_refl _
          · have := b4 i (by omega) ci
            omega
    · rintro ⟨⟨a, b, c⟩, _⟩
      obtain ⟨u, u1, u2, u3⟩ := hr
      rw [hO u u1] at u2
      have z1 : bt pt u = true := by cases z : bt pt u <;> simp_all
      have z2 := c u z1 u3
      rw [z1, z2] at u2
      exact absurd u2 (by decide)
    · rintro ⟨_, z⟩
      exact w z
theorem cg_best {post : Int32 → Prop} {h : Nat → Nat} {D S : Int32} (hn : n ≤ 9) (hpt : ∀ x, bt pt x = true → x < n) (hLb : ∀ i, i < n → Lb i = nI (h i) ∧ h i ≤ 9) (hp : ∀ x, cg_Bi (fun j => cg_Rd (bt pt) (cg_L La) D j ∧ bt S j = false) h n x → post x) : wpX_bestReady post (nI n, pt, F, La, Nx, Lb) D S :=
  nm_e ⟨n + 1, cg_b15 hn hpt hLb hp n 0 (-1) (by omega) (Or.inl ⟨rfl, fun i hi => absurd hi (by omega)⟩)⟩
def cg_Sl (pt : Int32) (La : Nat → Int32) (h : Nat → Nat) (D : Int32) (k : Nat) (S : Int32) : Prop :=
  (∀ x, bt S x = true → cg_Rd (bt pt) (cg_L La) D x) ∧ cg_cn (bt S) 9 ≤ k ∧ ∀ y, cg_Rd (bt pt) (cg_L La) D y → bt S y = false → cg_cn (bt S) 9 = k ∧ ∀ x, bt S x = true → h y ≤ h x
theorem cg_l24 {post : Int32 → Prop} {J : Int32 → Int32 → Prop} {h : Nat → Nat} {D : Int32} {m c : Nat} (hn : n ≤ 9) (hm9 : m ≤ 9) (hpt : ∀ x, bt pt x = true → x < n) (hLb : ∀ i, i < n → Lb i = nI (h i) ∧ h i ≤ 9) (hJ : ∀ S, cg_Sl pt La h D m S → J (D ||| S) (nI (c + 1))) : ∀ (d k : Nat) (S : Int32), k + d = m → cg_Sl pt La h D k S → wX_lengthOnList_24 post J (nI m) D (nI c) (nI n) pt F La Nx Lb (d + 1) S (nI k) := by
  intro d
  induction d with
  | zero =>
    intro k S hk hI
    have e : k = m := by omega
    subst e
    exact br_t (nI_le (Nat.le_refl _) (by omega)) (nm_e (nm_r (nI_1 c) (hJ S hI)))
  | succ d ih =>
    intro k S hk hI
    refine br_f (nI_ge (show k < m by omega) (by omega)) (cg_best hn hpt hLb (fun x hx => ?_))
    rcases hx with ⟨e, a⟩ | ⟨b, b1, b2, b3, b4⟩
    · subst e
      refine br_t (by decide) (nm_r (nI_1 k) (ih (k + 1) S (by omega) ⟨hI.1, by have := hI.2.1; omega, fun y hy hs => ?_⟩))
      exact absurd ⟨hy, hs⟩ (a y (hpt y hy.1))
    · subst b2
      have e : ∀ i, bt (S ||| ((1 : Int32) <<< (nI b &&& 31))) i = (bt S i || decide (i = b)) := fun i => by rw [b_or, cg_one (by omega)]
      have ci := cg_cn_ins (S := S) (b := b) (by omega) b3.2
      refine br_f (nI_pos (by omega)) (nm_e (nm_r (nI_1 k) (ih (k + 1) _ (by omega) ⟨fun x hx => ?_, ?_, fun y hy hs => ?_⟩)))
      · rw [e] at hx
        by_cases q : x = b
        · rw [q]
          exact b3.1
        · rw [decide_eq_false q, Bool.or_false] at hx
          exact hI.1 x hx
      · rw [ci]
        have := hI.2.1
        omega
      · rw [e] at hs
        have s1 : bt S y = false := by cases z : bt S y <;> simp_all
        obtain ⟨c1, c2⟩ := hI.2.2 y hy s1
        refine ⟨by rw [ci, c1], fun x hx => ?_⟩
        rw [e] at hx
        by_cases q : x = b
        · rw [q]
          exact b4 y (hpt y hy.1) ⟨hy, s1⟩
        · rw [decide_eq_false q, Bool.or_false] at hx
          exact c2 x hx
theorem cg_sl_gs {h : Nat → Nat} {D S : Int32} {m : Nat} (hS : cg_Sl pt La h D m S) : cg_Gs (bt pt) (cg_L La) m h D (D ||| S) := by
  have ec : cg_cn (fun x => bt (D ||| S) x && !bt D x) 9 = cg_cn (bt S) 9 := by
    apply cg_cn_congr
    intro i _
    rw [b_or]
    by_cases q : bt S i = true
    · rw [q, (hS.1 i q).2.1]
      rfl
    · rw [ts_nt q]
      cases bt D i <;> rfl
  refine ⟨fun x hx => by rw [b_or, hx]; rfl, fun x hx hd => ?_, by rw [ec]; exact hS.2.1, fun y hy he => ?_⟩
  · rw [b_or, hd, Bool.false_or] at hx
    exact hS.1 x hx
  · rw [b_or] at he
    have s1 : bt S y = false := by cases z : bt S y <;> simp_all
    obtain ⟨c1, c2⟩ := hS.2.2 y hy s1
    refine ⟨by rw [ec, c1], fun x hx hd => ?_⟩
    rw [b_or, hd, Bool.false_or] at hx
    exact c2 x hx
theorem cg_l4 {post : Int32 → Prop} {h : Nat → Nat} {m : Nat} (hn : n ≤ 9) (hm1 : 1 ≤ m) (hm9 : m ≤ 9) (hpt : ∀ x, bt pt x = true → x < n) (hLb : ∀ i, i < n → Lb i = nI (h i) ∧ h i ≤ 9) (hmo : ∀ u v, bt pt u = true → bt pt v = true → cg_L La u v = true → h v < h u) (hp : ∀ T Ds, cg_Sq (bt pt) (cg_L La) m h T Ds → Ds T = pt → post (nI T)) : ∀ (d c : Nat) (Ds : Nat → Int32), c + d = 9 → cg_Sq (bt pt) (cg_L La) m h c Ds → wX_lengthOnList_4 post (nI m) (nI n) pt F La Nx Lb (d + 1) (Ds c) (nI c) := by
  have hP9 : ∀ x, bt pt x = true → x < 9 := fun x hx => by have := hpt x hx; omega
  have ex : ∀ (c : Nat) (Ds : Nat → Int32), cg_Sq (bt pt) (cg_L La) m h c Ds → ¬ Ds c = pt → ∃ x, bt pt x = true ∧ bt (Ds c) x = false := by
    intro c Ds hS hne
    apply Classical.byContradiction
    intro q
    apply hne
    apply b_ext
    intro i _
    by_cases z : bt pt i = true
    · rw [z]
      exact ts_nf (fun w => q ⟨i, z, w⟩)
    · rw [ts_nt z]
      exact ts_nt (fun w => z (cg_sq_cl hS c (Nat.le_refl c) i w).1)
  intro d
  induction d with
  | zero =>
    intro c Ds hc hS
    have e : c = 9 := by omega
    subst e
    refine br_c (fun e => hp 9 Ds hS e) (fun e => ?_)
    obtain ⟨x, x1, x2⟩ := ex 9 Ds hS e
    exfalso
    have a := cg_ch_sz hP9 9 (Ds 9) (cg_sq_ch hm1 hP9 hmo hS 9 (Nat.le_refl 9))
    have b : cg_cn (bt (Ds 9)) 9 < cg_cn (bt pt) 9 := cg_cn_lt (fun i _ hi => (cg_sq_cl hS 9 (Nat.le_refl 9) i hi).1) (hP9 x x1) x1 x2
    have c := cg_cn_le (bt pt) 9
    omega
  | succ d ih =>
    intro c Ds hc hS
    refine br_c (fun e => hp c Ds hS e) (fun e => br_f (nI_ge (b := 9) (by omega) (by decide)) ⟨m + 1, cg_l24 (h := h) hn hm9 hpt hLb (fun S hSl => ?_) m 0 0 (by omega) ⟨fun x hx => ?_, ?_, fun y hy hs => ?_⟩⟩)
    · have i1 := ih (c + 1) (fun j => if j ≤ c then Ds j else Ds c ||| S) (by omega) ⟨by
        show (if 0 ≤ c then Ds 0 else Ds c ||| S) = 0
        rw [if_pos (by omega)]
        exact hS.1, fun t ht => ?_⟩
      · have i1 : wX_lengthOnList_4 post (nI m) (nI n) pt F La Nx Lb (d + 1) (if c + 1 ≤ c then Ds (c + 1) else Ds c ||| S) (nI (c + 1)) := i1
        rw [if_neg (by omega)] at i1
        exact i1
      · show cg_Gs (bt pt) (cg_L La) m h (if t ≤ c then Ds t else Ds c ||| S) (if t + 1 ≤ c then Ds (t + 1) else Ds c ||| S) ∧ ∃ x, bt pt x = true ∧ bt (if t ≤ c then Ds t else Ds c ||| S) x = false
        rw [if_pos (show t ≤ c by omega)]
        by_cases q : t = c
        · subst q
          rw [if_neg (by omega)]
          exact ⟨cg_sl_gs hSl, ex t Ds hS e⟩
        · rw [if_pos (by omega)]
          exact hS.2 t (by omega)
    · rw [b_0] at hx
      exact absurd hx (by decide)
    · rw [cg_cn_0 (fun i _ => b_0 i)]
      exact Nat.le_refl 0
    · refine ⟨cg_cn_0 (fun i _ => b_0 i), fun x hx => ?_⟩
      rw [b_0] at hx
      exact absurd hx (by decide)
theorem cg_len {post : Int32 → Prop} {h : Nat → Nat} {m : Nat} (hn : n ≤ 9) (hm1 : 1 ≤ m) (hm9 : m ≤ 9) (hpt : ∀ x, bt pt x = true → x < n) (hLb : ∀ i, i < n → Lb i = nI (h i) ∧ h i ≤ 9) (hmo : ∀ u v, bt pt u = true → bt pt v = true → cg_L La u v = true → h v < h u) (hp : ∀ T Ds, cg_Sq (bt pt) (cg_L La) m h T Ds → Ds T = pt → post (nI T)) : wpX_lengthOnList post (nI n, pt, F, La, Nx, Lb) (nI m) :=
  ⟨10, cg_l4 hn hm1 hm9 hpt hLb hmo hp 9 0 (fun _ => 0) (by omega) ⟨rfl, fun t ht => absurd ht (by omega)⟩⟩
end
end
section
/-! labels by lists: the invariant, pure -/
theorem cg_sub_le {x y : Nat} (h : ∀ j, x.testBit j = true → y.testBit j = true) : x ≤ y := by
  have e : x ||| y = y := by
    apply Nat.eq_of_testBit_eq
    intro j
    rw [Nat.testBit_or]
    cases q : x.testBit j
    · rfl
    · rw [h j q]
      rfl
  rw [← e]
  exact Nat.left_le_or
theorem cg_tb {a b i : Nat} (h1 : a.testBit i = true) (h2 : b.testBit i = false) (h3 : ∀ j, i < j → b.testBit j = true → a.testBit j = true) : b < a := by
  have s : b / 2 ^ (i + 1) ≤ a / 2 ^ (i + 1) := by
    apply cg_sub_le
    intro j hj
    rw [← Nat.shiftRight_eq_div_pow, Nat.testBit_shiftRight] at hj ⊢
    exact h3 _ (by omega) hj
  rw [Nat.testBit_eq_decide_div_mod_eq] at h1 h2
  have e1 := of_decide_eq_true h1
  have e2 := of_decide_eq_false h2
  rw [Nat.pow_succ, ← Nat.div_div_eq_div_mul, ← Nat.div_div_eq_div_mul] at s
  apply Classical.byContradiction
  intro q
  have l : a / 2 ^ i ≤ b / 2 ^ i := Nat.div_le_div_right (by omega)
  generalize a / 2 ^ i = A at *
  generalize b / 2 ^ i = B at *
  omega
theorem cg_mk {x : Int32} {N : Nat} (h : ∀ i, N ≤ i → bt x i = false) : ∃ k, k < 2 ^ N ∧ x = nI k := by
  refine ⟨x.toBitVec.toNat, Nat.lt_pow_two_of_testBit _ (fun i hi => h i hi), ?_⟩
  apply Int32.toBitVec_inj.1
  show x.toBitVec = BitVec.ofNat 32 x.toBitVec.toNat
  simp
theorem cg_nb {a i : Nat} (hi : i < 32) : bt (nI a) i = a.testBit i := by
  show (BitVec.ofNat 32 a).getLsbD i = _
  rw [BitVec.getLsbD_ofNat, decide_eq_true hi, Bool.true_and]
theorem cg_cmp {x y : Int32} (hx : ∀ i, 10 ≤ i → bt x i = false) (hy : ∀ i, 10 ≤ i → bt y i = false) (hle : x ≤ y) {i : Nat} (h1 : bt x i = true) (h2 : bt y i = false) : ∃ j, i < j ∧ bt y j = true ∧ bt x j = false := by
  obtain ⟨a, ha, ea⟩ := cg_mk hx
  obtain ⟨b, hb, eb⟩ := cg_mk hy
  apply Classical.byContradiction
  intro q
  have i32 := cg_lt32 h1
  have l : b < a := by
    apply cg_tb (i := i)
    · rw [← cg_nb i32, ← ea]
      exact h1
    · rw [← cg_nb i32, ← eb]
      exact h2
    · intro j hj hbj
      by_cases j32 : j < 32
      · rw [← cg_nb j32, ← eb] at hbj
        rw [← cg_nb j32, ← ea]
        exact ts_nf (fun z => q ⟨j, hj, hbj, z⟩)
      · have : b.testBit j = false := Nat.testBit_lt_two_pow (Nat.lt_of_lt_of_le hb (Nat.pow_le_pow_right (by decide) (by omega)))
        rw [this] at hbj
        exact absurd hbj (by decide)
  rw [ea, eb, nI_leI (by omega) (by omega)] at hle
  omega
section
variable {P : Nat → Bool} {L : Nat → Nat → Bool} {rk : Nat → Nat}
theorem cg_nx_ex (hP : ∀ x, P x = true → x < 9) (htr : ∀ u v w, P u = true → P v = true → P w = true → L u v = true → L v w = true → L u w = true) (hr : ∀ u v, P u = true → P v = true → L u v = true → rk v < rk u) {u v : Nat} (hu : P u = true) (hv : P v = true) (hl : L u v = true) : ∃ w, cg_Nx P L u w ∧ (w = v ∨ L w v = true) := by
  obtain ⟨w, ⟨w1, w2, w3⟩, hw⟩ := cg_max rk (fun w => P w = true ∧ L u w = true ∧ (w = v ∨ L w v = true)) (fun x hx => hP x hx.1) ⟨v, hv, hl, Or.inl rfl⟩
  refine ⟨w, ⟨w1, w2, fun z z1 z2 z3 => ?_⟩, w3⟩
  have a := hw z ⟨z1, z2, Or.inr (by
    rcases w3 with e | e
    · rw [← e]
      exact z3
    · exact htr z w v z1 w1 hv z3 e)⟩
  have b := hr z w z1 w1 z3
  omega
def cg_Li (P : Nat → Bool) (L : Nat → Nat → Bool) (k : Nat) (lb : Nat → Nat) : Prop :=
  (∀ v, lb v ≤ k ∧ (lb v ≠ 0 → P v = true)) ∧ (∀ x y, lb x ≠ 0 → lb x = lb y → x = y) ∧ (∀ y w, lb y ≠ 0 → cg_Nx P L y w → lb w ≠ 0 ∧ lb w < lb y) ∧ (∀ a y, lb a ≠ 0 → P y = true → (lb y = 0 ∨ lb a < lb y) → ∀ w, cg_Nx P L a w → ¬ cg_Nx P L y w → ∃ w', cg_Nx P L y w' ∧ ¬ cg_Nx P L a w' ∧ (lb w' = 0 ∨ lb w < lb w')) ∧ ((∀ v, P v = true → lb v ≠ 0) ∨ k ≤ cg_cn (fun v => P v && decide (lb v ≠ 0)) 9)
theorem cg_li_0 : cg_Li P L 0 (fun _ => 0) :=
  ⟨fun _ => ⟨Nat.le_refl 0, fun h => absurd rfl h⟩, fun _ _ h => absurd rfl h, fun _ _ h => absurd rfl h, fun _ _ h => absurd rfl h, Or.inr (Nat.zero_le _)⟩
def cg_put (lb : Nat → Nat) (c k : Nat) : Nat → Nat := fun i => if i = c then k else lb i
theorem cg_put_s {lb : Nat → Nat} {c k : Nat} : cg_put lb c k c = k := if_pos rfl
theorem cg_put_n {lb : Nat → Nat} {c k i : Nat} (h : i ≠ c) : cg_put lb c k i = lb i := if_neg h
theorem cg_li_step {k c : Nat} {lb : Nat → Nat} (hP : ∀ x, P x = true → x < 9) (hL : cg_Li P L k lb) (pc : P c = true) (c0 : lb c = 0) (cn : ∀ w, cg_Nx P L c w → lb w ≠ 0) (cm : ∀ i, P i = true → lb i = 0 → (∀ w, cg_Nx P L i w → lb w ≠ 0) → ∀ w, cg_Nx P L c w → ¬ cg_Nx P L i w → ∃ w', cg_Nx P L i w' ∧ ¬ cg_Nx P L c w' ∧ lb w < lb w') : cg_Li P L (k + 1) (cg_put lb c (k + 1)) := by
  obtain ⟨a1, a2, a3, a4, a5⟩ := hL
  have ne : ∀ w, lb w ≠ 0 → w ≠ c := fun w h e => h (by rw [e]; exact c0)
  refine ⟨fun v => ?_, fun x y hx hxy => ?_, fun y w hy hw => ?_, fun a y ha py hay w hw hnw => ?_, Or.inr ?_⟩
  · by_cases e : v = c
    · subst e
      rw [cg_put_s]
      exact ⟨Nat.le_refl _, fun _ => pc⟩
    · rw [cg_put_n e]
      exact ⟨by have := (a1 v).1; omega, (a1 v).2⟩
  · by_cases ex : x = c
    · subst ex
      by_cases ey : y = x
      · exact ey.symm
      · rw [cg_put_s, cg_put_n ey] at hxy
        have := (a1 y).1
        omega
    · rw [cg_put_n ex] at hx hxy
      by_cases ey : y = c
      · subst ey
        rw [cg_put_s] at hxy
        have := (a1 x).1
        omega
      · rw [cg_put_n ey] at hxy
        exact a2 x y hx hxy
  · by_cases ey : y = c
    · subst ey
      have h0 := cn w hw
      rw [cg_put_s, cg_put_n (ne w h0)]
      exact ⟨h0, by have := (a1 w).1; omega⟩
    · rw [cg_put_n ey] at hy ⊢
      obtain ⟨b1, b2⟩ := a3 y w hy hw
      rw [cg_put_n (ne w b1)]
      exact ⟨b1, b2⟩
  · by_cases ea : a = c
    · subst ea
      rw [cg_put_s] at hay
      have ya : y ≠ a := fun e => by
        subst e
        exact hnw hw
      rw [cg_put_n ya] at hay
      have y0 : lb y = 0 := by
        have := (a1 y).1
        omega
      have w0 := cn w hw
      rw [cg_put_n (ne w w0)]
      have wk := (a1 w).1
      by_cases cy : ∀ w, cg_Nx P L y w → lb w ≠ 0
      · obtain ⟨w', p1, p2, p3⟩ := cm y py y0 cy w hw hnw
        refine ⟨w', p1, p2, Or.inr ?_⟩
        rw [cg_put_n (ne w' (cy w' p1))]
        exact p3
      · have ex : ∃ w', cg_Nx P L y w' ∧ lb w' = 0 := by
          apply Classical.byContradiction
          intro q
          exact cy (fun w' h1 h2 => q ⟨w', h1, h2⟩)
        obtain ⟨w', p1, p2⟩ := ex
        refine ⟨w', p1, fun q => cn w' q p2, ?_⟩
        by_cases e : w' = a
        · rw [e, cg_put_s]
          exact Or.inr (by omega)
        · rw [cg_put_n e]
          exact Or.inl p2
    · rw [cg_put_n ea] at ha hay
      have old : lb y = 0 ∨ lb a < lb y := by
        by_cases ey : y = c
        · rw [ey]
          exact Or.inl c0
        · rw [cg_put_n ey] at hay
          exact hay
      obtain ⟨w', p1, p2, p3⟩ := a4 a y ha py old w hw hnw
      have w0 := (a3 a w ha hw).1
      have wk := (a1 w).1
      refine ⟨w', p1, p2, ?_⟩
      rw [cg_put_n (ne w w0)]
      by_cases e : w' = c
      · rw [e, cg_put_s]
        exact Or.inr (by omega)
      · rw [cg_put_n e]
        exact p3
  · rcases a5 with q | q
    · exact absurd c0 (q c pc)
    · have l : cg_cn (fun v => P v && decide (lb v ≠ 0)) 9 < cg_cn (fun v => P v && decide (cg_put lb c (k + 1) v ≠ 0)) 9 := by
        apply cg_cn_lt (j := c) (fun i _ hi => ?_) (hP c pc)
        · rw [pc, cg_put_s, decide_eq_true (by omega)]
          rfl
        · rw [c0, decide_eq_false (by omega), Bool.and_false]
        · have q1 : P i = true := by cases z : P i <;> simp_all
          have q2 : lb i ≠ 0 := by
            apply of_decide_eq_true
            cases z : decide (lb i ≠ 0)
            · rw [z, Bool.and_false] at hi
              exact absurd hi (by decide)
            · rfl
          rw [q1, cg_put_n (ne i q2), decide_eq_true q2]
          rfl
      omega
/-- an unlabelled task of the least rank can be labelled -/
theorem cg_li_ex {lb : Nat → Nat} (hr : ∀ u v, P u = true → P v = true → L u v = true → rk v < rk u) (hex : ∃ v, P v = true ∧ lb v = 0) : ∃ c, P c = true ∧ lb c = 0 ∧ ∀ w, cg_Nx P L c w → lb w ≠ 0 := by
  obtain ⟨c, ⟨c1, c2⟩, hc⟩ := cg_min rk (fun v => P v = true ∧ lb v = 0) hex
  refine ⟨c, c1, c2, fun w hw h0 => ?_⟩
  have a := hc w ⟨hw.1, h0⟩
  have b := hr c w c1 hw.1 hw.2.1
  omega
theorem cg_li_skip {k : Nat} {lb : Nat → Nat} (hr : ∀ u v, P u = true → P v = true → L u v = true → rk v < rk u) (hL : cg_Li P L k lb) (hno : ∀ c, P c = true → lb c = 0 → ¬ ∀ w, cg_Nx P L c w → lb w ≠ 0) : cg_Li P L (k + 1) lb := by
  obtain ⟨a1, a2, a3, a4, a5⟩ := hL
  refine ⟨fun v => ⟨by have := (a1 v).1; omega, (a1 v).2⟩, a2, a3, a4, Or.inl (fun v hv h0 => ?_)⟩
  obtain ⟨c, c1, c2, c3⟩ := cg_li_ex (L := L) hr ⟨v, hv, h0⟩
  exact hno c c1 c2 c3
theorem cg_li_fin {lb : Nat → Nat} (hP : ∀ x, P x = true → x < 9) (htr : ∀ u v w, P u = true → P v = true → P w = true → L u v = true → L v w = true → L u w = true) (hr : ∀ u v, P u = true → P v = true → L u v = true → rk v < rk u) (hL : cg_Li P L 9 lb) : (∀ x y, P x = true → P y = true → lb x = lb y → x = y) ∧ (∀ u v, P u = true → P v = true → L u v = true → lb v < lb u) ∧ (∀ a y, P a = true → P y = true → lb a < lb y → ∀ w, cg_Nx P L a w → ¬ cg_Nx P L y w → ∃ w', cg_Nx P L y w' ∧ ¬ cg_Nx P L a w' ∧ lb w < lb w') := by
  obtain ⟨a1, a2, a3, a4, a5⟩ := hL
  have all : ∀ v, P v = true → lb v ≠ 0 := by
    rcases a5 with q | q
    · exact q
    · intro v hv h0
      have l : cg_cn (fun v => P v && decide (lb v ≠ 0)) 9 < cg_cn (fun _ => true) 9 := by
        apply cg_cn_lt (j := v) (fun i _ _ => rfl) (hP v hv) rfl
        rw [h0, decide_eq_false (by omega), Bool.and_false]
      have b : cg_cn (fun _ => true) 9 = 9 := by decide
      omega
  refine ⟨fun x y px py e => a2 x y (all x px) e, ?_, fun a y pa py hay w hw hnw => ?_⟩
  · have key : ∀ K u v, rk u < K → P u = true → P v = true → L u v = true → lb v < lb u := by
      intro K
      induction K with
      | zero => intro u v h; omega
      | succ K ih =>
        intro u v h pu pv l
        obtain ⟨w, w1, w2⟩ := cg_nx_ex hP htr hr pu pv l
        have b := (a3 u w (all u pu) w1).2
        rcases w2 with e | e
        · rw [← e]
          exact b
        · have r := hr u w pu w1.1 w1.2.1
          have := ih w v (by omega) w1.1 pv e
          omega
    exact fun u v => key (rk u + 1) u v (by omega)
  · obtain ⟨w', p1, p2, p3⟩ := a4 a y (all a pa) py (Or.inr hay) w hw hnw
    exact ⟨w', p1, p2, p3.resolve_left (all w' p1.1)⟩
end
end
section
/-! walks: labelByHeights, labelList, labelByLists -/
theorem cg_nar0 : ∀ k, k < 10 → (nI k).toInt8.toInt32.toInt8.toInt32 = nI k := by decide +kernel
theorem cg_nar {k : Nat} (hk : k ≤ 9) : vp_nar .byte (nI k).toInt8.toInt32 = nI k := by
  rw [vp_nar_byte]
  exact cg_nar0 k (by omega)
theorem cg_narz : vp_nar .byte 0 = nI 0 := by
  rw [vp_nar_byte]
  decide
section
variable {n : Nat} {pt : Int32} {F La Nx Lb : Nat → Int32}
theorem cg_bh2 {post : SX → Prop} {H : Nat → Nat} (ok : cg_Ok n F La) (hH : cg_Ht n F La H) (hp : ∀ B, (∀ i, i < n → B i = nI (H i)) → post (nI n, pt, F, La, Nx, B)) : ∀ (d j : Nat) (B : Nat → Int32), j + d = n → (∀ i, i < j → B i = nI (H i)) → wX_labelByHeights_2 post (nI n) pt (d + 1) (nI j) F La Nx B := by
  have hn := ok.1
  intro d
  induction d with
  | zero =>
    intro j B hj hB
    have e : j = n := by omega
    subst e
    exact br_t (nI_le (Nat.le_refl _) (by omega)) (hp B hB)
  | succ d ih =>
    intro j B hj hB
    have hjn : j < n := by omega
    have cj : (nI j).toNatClampNeg = j := nI_clamp (by omega)
    have vj : vp_in (nI j) 9 := vp_in_nI (by omega) (by omega)
    refine br_f (nI_ge hjn (by omega)) (cg_hX ok hH hjn ⟨vj, nm_e (nm_r (nI_1 j) (ih (j + 1) _ (by omega) (fun i hi => ?_)))⟩)
    rw [cj, cg_nar (hH.1 j hjn).2]
    by_cases e : i = j
    · subst e
      rw [pk_us]
    · rw [pk_un e]
      exact hB i (by omega)
theorem cg_lbH {post : SX → Prop} {H : Nat → Nat} (ok : cg_Ok n F La) (hH : cg_Ht n F La H) (hp : ∀ B, (∀ i, i < n → B i = nI (H i)) → post (nI n, pt, F, La, Nx, B)) : wpX_labelByHeights post (nI n, pt, F, La, Nx, Lb) :=
  ⟨n + 1, cg_bh2 ok hH hp n 0 Lb (by omega) (fun i hi => absurd hi (by omega))⟩
/-- r is the set of the labels of the tasks in S -/
def cg_Lm (n : Nat) (lb : Nat → Nat) (S r : Int32) : Prop := ∀ b, bt r b = true ↔ ∃ w, w < n ∧ bt S w = true ∧ lb w = b
theorem cg_ll4 {post : Int32 → Prop} {lb : Nat → Nat} {S : Int32} (hn : n ≤ 9) (hLb : ∀ i, i < n → Lb i = nI (lb i) ∧ lb i ≤ 9) (h0 : (∃ w, w < n ∧ bt S w = true ∧ lb w = 0) → post (-1)) (h1 : ∀ r, (∀ w, w < n → bt S w = true → lb w ≠ 0) → cg_Lm n lb S r → post r) : ∀ (d j : Nat) (r : Int32), j + d = n → (∀ w, w < j → bt S w = true → lb w ≠ 0) → (∀ b, bt r b = true ↔ ∃ w, w < j ∧ bt S w = true ∧ lb w = b) → wX_labelList_4 post S (nI n) pt F La Nx Lb (d + 1) r (nI j) := by
  intro d
  induction d with
  | zero =>
    intro j r hj ha hr
    have e : j = n := by omega
    subst e
    exact br_t (nI_le (Nat.le_refl _) (by omega)) (h1 r ha hr)
  | succ d ih =>
    intro j r hj ha hr
    have hjn : j < n := by omega
    have cj : (nI j).toNatClampNeg = j := nI_clamp (by omega)
    have vj : vp_in (nI j) 9 := vp_in_nI (by omega) (by omega)
    have l9 := (hLb j hjn).2
    refine br_f (nI_ge hjn (by omega)) ?_
    rw [cj, cg_t0 _ (by omega), (hLb j hjn).1]
    refine br_c (fun q => nm_r (nI_1 j) (ih (j + 1) r (by omega) (fun w hw hb => ?_) (fun b => ?_))) (fun q => ⟨vj, br_c (fun z => h0 ⟨j, hjn, ts_nf q, ?_⟩) (fun z => ⟨vj, nm_e (nm_r (nI_1 j) (ih (j + 1) _ (by omega) (fun w hw hb => ?_) (fun b => ?_)))⟩)⟩)
    · by_cases e : w = j
      · subst e
        rw [q] at hb
        exact absurd hb (by decide)
      · exact ha w (by omega) hb
    · rw [hr b]
      constructor
      · rintro ⟨w, w1, w2⟩
        exact ⟨w, by omega, w2⟩
      · rintro ⟨w, w1, w2, w3⟩
        by_cases e : w = j
        · subst e
          rw [q] at w2
          exact absurd w2 (by decide)
        · exact ⟨w, by omega, w2, w3⟩
    · exact (nI_eq (b := 0) (by omega) (by omega)).mp z
    · by_cases e : w = j
      · subst e
        intro z0
        rw [z0] at z
        exact z rfl
      · exact ha w (by omega) hb
    · rw [b_or, cg_one (by omega), Bool.or_eq_true, hr b]
      constructor
      · rintro (⟨w, w1, w2⟩ | e)
        · exact ⟨w, by omega, w2⟩
        · exact ⟨j, by omega, ts_nf q, (of_decide_eq_true e).symm⟩
      · rintro ⟨w, w1, w2, w3⟩
        by_cases e : w = j
        · subst e
          exact Or.inr (decide_eq_true w3.symm)
        · exact Or.inl ⟨w, by omega, w2, w3⟩
theorem cg_ll {post : Int32 → Prop} {lb : Nat → Nat} {S : Int32} (hn : n ≤ 9) (hLb : ∀ i, i < n → Lb i = nI (lb i) ∧ lb i ≤ 9) (h0 : (∃ w, w < n ∧ bt S w = true ∧ lb w = 0) → post (-1)) (h1 : ∀ r, (∀ w, w < n → bt S w = true → lb w ≠ 0) → cg_Lm n lb S r → post r) : wpX_labelList post (nI n, pt, F, La, Nx, Lb) S :=
  ⟨n + 1, cg_ll4 hn hLb h0 h1 n 0 0 (by omega) (fun w hw => absurd hw (by omega)) (fun b => by
    rw [b_0]
    exact ⟨fun h => absurd h (by decide), fun ⟨_, h, _⟩ => absurd h (by omega)⟩)⟩
theorem cg_lm_ex (lb : Nat → Nat) (S : Int32) : ∀ j, (∀ i, i < j → lb i < 32) → ∃ r, cg_Lm j lb S r := by
  intro j
  induction j with
  | zero => exact fun _ => ⟨0, fun b => by rw [b_0]; exact ⟨fun h => absurd h (by decide), fun ⟨_, h, _⟩ => absurd h (by omega)⟩⟩
  | succ j ih =>
    intro hl
    obtain ⟨r, hr⟩ := ih (fun i hi => hl i (by omega))
    by_cases q : bt S j = true
    · refine ⟨r ||| ((1 : Int32) <<< (nI (lb j) &&& 31)), fun b => ?_⟩
      rw [b_or, cg_one (hl j (by omega)), Bool.or_eq_true, hr b]
      constructor
      · rintro (⟨w, w1, w2⟩ | e)
        · exact ⟨w, by omega, w2⟩
        · exact ⟨j, by omega, q, (of_decide_eq_true e).symm⟩
      · rintro ⟨w, w1, w2, w3⟩
        by_cases e : w = j
        · subst e
          exact Or.inr (decide_eq_true w3.symm)
        · exact Or.inl ⟨w, by omega, w2, w3⟩
    · refine ⟨r, fun b => ?_⟩
      rw [hr b]
      constructor
      · rintro ⟨w, w1, w2⟩
        exact ⟨w, by omega, w2⟩
      · rintro ⟨w, w1, w2, w3⟩
        by_cases e : w = j
        · subst e
          exact absurd w2 q
        · exact ⟨w, by omega, w2, w3⟩
theorem cg_lm_uq {lb : Nat → Nat} {S r s : Int32} (h1 : cg_Lm n lb S r) (h2 : cg_Lm n lb S s) : r = s := by
  apply b_ext
  intro i _
  by_cases q : bt r i = true
  · rw [q, (h2 i).mpr ((h1 i).mp q)]
  · rw [ts_nt q]
    symm
    exact ts_nt (fun z => q ((h1 i).mpr ((h2 i).mp z)))
theorem cg_lm_10 {lb : Nat → Nat} {S r : Int32} (hl : ∀ i, i < n → lb i ≤ 9) (h1 : cg_Lm n lb S r) : ∀ i, 10 ≤ i → bt r i = false := by
  intro i hi
  apply ts_nt
  intro q
  obtain ⟨w, w1, w2, w3⟩ := (h1 i).mp q
  have := hl w w1
  omega
theorem cg_lm_pos {lb : Nat → Nat} {S r : Int32} (hl : ∀ i, i < n → lb i ≤ 9) (h1 : cg_Lm n lb S r) : ¬ r < 0 := by
  obtain ⟨k, hk, e⟩ := cg_mk (cg_lm_10 hl h1)
  rw [e]
  exact nI_pos (by omega)
/-- v may be labelled now -/
def cg_Cd (n : Nat) (pt : Int32) (Nx : Nat → Int32) (lb : Nat → Nat) (v : Nat) : Prop := bt pt v = true ∧ lb v = 0 ∧ ∀ w, w < n → bt (Nx v) w = true → lb w ≠ 0
def cg_Sc (n : Nat) (pt : Int32) (Nx : Nat → Int32) (lb : Nat → Nat) (j : Nat) (x y : Int32) : Prop :=
  (x = -1 ∧ ∀ i, i < j → ¬ cg_Cd n pt Nx lb i) ∨ ∃ b, b < j ∧ x = nI b ∧ cg_Cd n pt Nx lb b ∧ cg_Lm n lb (Nx b) y ∧ ∀ i, i < j → cg_Cd n pt Nx lb i → ∀ r, cg_Lm n lb (Nx i) r → y ≤ r
theorem cg_sc_skip {lb : Nat → Nat} {j : Nat} {x y : Int32} (hi : cg_Sc n pt Nx lb j x y) (hc : ¬ cg_Cd n pt Nx lb j) : cg_Sc n pt Nx lb (j + 1) x y := by
  rcases hi with ⟨e, a⟩ | ⟨b, b1, b2, b3, b4, b5⟩
  · refine Or.inl ⟨e, fun i hi => ?_⟩
    by_cases q : i = j
    · rw [q]
      exact hc
    · exact a i (by omega)
  · refine Or.inr ⟨b, by omega, b2, b3, b4, fun i hi ci => ?_⟩
    by_cases q : i = j
    · rw [q] at ci
      exact absurd ci hc
    · exact b5 i (by omega) ci
theorem cg_l65 {post : SX → Prop} {J : Int32 → (Nat → Int32) → (Nat → Int32) → (Nat → Int32) → (Nat → Int32) → Prop} {lb : Nat → Nat} {k : Nat} (hn : n ≤ 9) (hk : k ≤ 9) (hLb : ∀ i, i < n → Lb i = nI (lb i) ∧ lb i ≤ 9) (hno : (∀ c, c < n → ¬ cg_Cd n pt Nx lb c) → J (nI (k + 1)) F La Nx Lb) (hyes : ∀ c y, c < n → cg_Cd n pt Nx lb c → cg_Lm n lb (Nx c) y → (∀ i, i < n → cg_Cd n pt Nx lb i → ∀ r, cg_Lm n lb (Nx i) r → y ≤ r) → J (nI (k + 1)) F La Nx (upd Lb c (nI k))) : ∀ (d j : Nat) (x y : Int32), j + d = n → cg_Sc n pt Nx lb j x y → wX_labelByLists_65 post J (nI k) (nI n) pt F La Nx Lb (d + 1) x y (nI j) := by
  have hl9 : ∀ i, i < n → lb i ≤ 9 := fun i hi => (hLb i hi).2
  intro d
  induction d with
  | zero =>
    intro j x y hj hI
    have e : j = n := by omega
    subst e
    refine br_t (nI_le (Nat.le_refl _) (by omega)) ?_
    rcases hI with ⟨e, a⟩ | ⟨b, b1, b2, b3, b4, b5⟩
    · subst e
      exact br_t (by decide) (nm_r (nI_1 k) (hno a))
    · subst b2
      have cb : (nI b).toNatClampNeg = b := nI_clamp (by omega)
      have h := hyes b y b1 b3 b4 b5
      refine br_f (nI_pos (by omega)) ⟨vp_in_nI (by omega) (by omega), ?_⟩
      rw [cb, cg_nar hk]
      exact nm_e (nm_r (nI_1 k) h)
  | succ d ih =>
    intro j x y hj hI
    have hjn : j < n := by omega
    have cj : (nI j).toNatClampNeg = j := nI_clamp (by omega)
    have vj : vp_in (nI j) 9 := vp_in_nI (by omega) (by omega)
    refine br_f (nI_ge hjn (by omega)) ?_
    rw [cj, cg_t0 _ (by omega), (hLb j hjn).1]
    refine br_c (fun q => nm_r (nI_1 j) (ih (j + 1) x y (by omega) (cg_sc_skip hI (fun c => ?_)))) (fun q => ⟨vj, br_c (fun z => ⟨vj, cg_ll hn hLb (fun hex => br_t (by decide) (nm_r (nI_1 j) (ih (j + 1) x y (by omega) (cg_sc_skip hI (fun c => ?_))))) (fun r hall hr => br_f (cg_lm_pos hl9 hr) ?_)⟩) (fun z => nm_r (nI_1 j) (ih (j + 1) x y (by omega) (cg_sc_skip hI (fun c => ?_))))⟩)
    · rw [c.1] at q
      exact absurd q (by decide)
    · obtain ⟨w, w1, w2, w3⟩ := hex
      exact c.2.2 w w1 w2 w3
    · have cd : cg_Cd n pt Nx lb j := ⟨ts_nf q, (nI_eq (b := 0) (by have := hl9 j hjn; omega) (by omega)).mp z, hall⟩
      rcases hI with ⟨e, a⟩ | ⟨b, b1, b2, b3, b4, b5⟩
      · subst e
        refine br_t (by decide) (nm_r (nI_1 j) (ih (j + 1) _ r (by omega) (Or.inr ⟨j, by omega, rfl, cd, hr, fun i hi ci s hs => ?_⟩)))
        by_cases e : i = j
        · subst e
          rw [cg_lm_uq hr hs]
          exact Int32.le_refl _
        · exact absurd ci (a i (by omega))
      · subst b2
        refine br_f (nI_pos (by omega)) (br_c (fun lt => nm_r (nI_1 j) (ih (j + 1) _ r (by omega) (Or.inr ⟨j, by omega, rfl, cd, hr, fun i hi ci s hs => ?_⟩))) (fun nlt => nm_r (nI_1 j) (ih (j + 1) _ y (by omega) (Or.inr ⟨b, by omega, rfl, b3, b4, fun i hi ci s hs => ?_⟩))))
        · by_cases e : i = j
          · subst e
            rw [cg_lm_uq hr hs]
            exact Int32.le_refl _
          · exact Int32.le_trans (Int32.le_of_lt lt) (b5 i (by omega) ci s hs)
        · by_cases e : i = j
          · subst e
            rw [← cg_lm_uq hr hs]
            exact Int32.not_lt.mp nlt
          · exact b5 i (by omega) ci s hs
    · have := (nI_eq (b := 0) (by have := hl9 j hjn; omega) (by omega)).mpr c.2.1
      exact z this
def cg_Xn (n : Nat) (pt : Int32) (La Nx : Nat → Int32) : Prop := ∀ v, v < n → ∀ w, bt (Nx v) w = true ↔ cg_Nx (bt pt) (cg_L La) v w
theorem cg_l52 {post : SX → Prop} (ok : cg_Ok n F La) (hpt : ∀ x, bt pt x = true → x < n) (hX : cg_Xn n pt La Nx) (hp : ∀ B h, (∀ i, i < n → B i = nI (h i) ∧ h i ≤ 9) → cg_Li (bt pt) (cg_L La) 9 h → post (nI n, pt, F, La, Nx, B)) : ∀ (d k : Nat) (B : Nat → Int32) (lb : Nat → Nat), k + d = 9 → (∀ i, i < n → B i = nI (lb i)) → cg_Li (bt pt) (cg_L La) k lb → wX_labelByLists_52 post (nI n) pt (d + 1) (nI (k + 1)) F La Nx B := by
  have hn := ok.1
  have hP9 : ∀ x, bt pt x = true → x < 9 := fun x hx => by have := hpt x hx; omega
  have hr : ∀ u v, bt pt u = true → bt pt v = true → cg_L La u v = true → cg_cn (bt (La v)) 9 < cg_cn (bt (La u)) 9 := fun u v hu hv hl => cg_rk ok (hpt u hu) hl
  intro d
  induction d with
  | zero =>
    intro k B lb hk hB hL
    have e : k = 9 := by omega
    subst e
    exact br_t (by decide) (hp B lb (fun i hi => ⟨hB i hi, (hL.1 i).1⟩) hL)
  | succ d ih =>
    intro k B lb hk hB hL
    have cd : ∀ c, c < n → (cg_Cd n pt Nx lb c ↔ bt pt c = true ∧ lb c = 0 ∧ ∀ w, cg_Nx (bt pt) (cg_L La) c w → lb w ≠ 0) := by
      intro c hc
      constructor
      · rintro ⟨a, b, e⟩
        exact ⟨a, b, fun w hw => e w (hpt w hw.1) ((hX c hc w).mpr hw)⟩
      · rintro ⟨a, b, e⟩
        exact ⟨a, b, fun w _ hb => e w ((hX c hc w).mp hb)⟩
    refine br_f (nI_nlt (a := 9) (by omega) (by decide)) ⟨n + 1, cg_l65 (lb := lb) hn (by omega) (fun i hi => ⟨hB i hi, by have := (hL.1 i).1; omega⟩) (fun hno => ih (k + 1) B lb (by omega) hB ?_) (fun c y hc hcd hy hmin => ih (k + 1) _ (cg_put lb c (k + 1)) (by omega) ?_ ?_) n 0 (-1) 0 (by omega) (Or.inl ⟨rfl, fun i hi => absurd hi (by omega)⟩)⟩
    · exact cg_li_skip (rk := fun u => cg_cn (bt (La u)) 9) hr hL (fun c c1 c2 c3 => hno c (hpt c c1) ((cd c (hpt c c1)).mpr ⟨c1, c2, c3⟩))
    · intro i hi
      by_cases e : i = c
      · subst e
        rw [pk_us, cg_put_s]
      · rw [pk_un e, cg_put_n e]
        exact hB i hi
    · have c3 := (cd c hc).mp hcd
      have l9 : ∀ i, i < n → lb i ≤ 9 := fun i _ => by have := (hL.1 i).1; omega
      refine cg_li_step hP9 hL c3.1 c3.2.1 c3.2.2 (fun i pi i0 ia w hw hnw => ?_)
      have hi := hpt i pi
      -- the list of i
      have hcdi := (cd i hi).mpr ⟨pi, i0, ia⟩
      have hex : ∃ r, cg_Lm n lb (Nx i) r := cg_lm_ex lb (Nx i) n (fun i hi => by have := l9 i hi; omega)
      obtain ⟨r, hr'⟩ := hex
      have le := hmin i hi hcdi r hr'
      have w9 := hpt w hw.1
      have x1 : bt y (lb w) = true := (hy (lb w)).mpr ⟨w, w9, (hX c hc w).mpr hw, rfl⟩
      have x2 : bt r (lb w) = false := by
        apply ts_nt
        intro q
        obtain ⟨z, z1, z2, z3⟩ := (hr' (lb w)).mp q
        have e := hL.2.1 z w (hcdi.2.2 z z1 z2) z3
        rw [e] at z2
        exact hnw ((hX i hi w).mp z2)
      obtain ⟨j, j1, j2, j3⟩ := cg_cmp (cg_lm_10 l9 hy) (cg_lm_10 l9 hr') le x1 x2
      obtain ⟨z, z1, z2, z3⟩ := (hr' j).mp j2
      refine ⟨z, (hX i hi z).mp z2, fun q => ?_, by omega⟩
      have : bt y j = true := (hy j).mpr ⟨z, z1, (hX c hc z).mpr q, z3⟩
      rw [j3] at this
      exact absurd this (by decide)
theorem cg_l2 {post : SX → Prop} (ok : cg_Ok n F La) (hpt : ∀ x, bt pt x = true → x < n) (hp : ∀ C B h, (∀ i, i < n → B i = nI (h i) ∧ h i ≤ 9) → cg_Li (bt pt) (cg_L La) 9 h → post (nI n, pt, F, La, C, B)) : ∀ (d j : Nat) (C B : Nat → Int32), j + d = n → (∀ v, v < j → B v = nI 0 ∧ ∀ w, bt (C v) w = true ↔ cg_Nx (bt pt) (cg_L La) v w) → wX_labelByLists_2 post (nI n) pt (d + 1) (nI j) F La C B := by
  have hn := ok.1
  intro d
  induction d with
  | zero =>
    intro j C B hj hI
    have e : j = n := by omega
    subst e
    exact br_t (nI_le (Nat.le_refl _) (by omega)) ⟨9 + 1, cg_l52 ok hpt (fun v hv => (hI v hv).2) (fun B h h1 h2 => hp C B h h1 h2) 9 0 B (fun _ => 0) (by omega) (fun i hi => (hI i hi).1) cg_li_0⟩
  | succ d ih =>
    intro j C B hj hI
    have hjn : j < n := by omega
    have cj : (nI j).toNatClampNeg = j := nI_clamp (by omega)
    have vj : vp_in (nI j) 9 := vp_in_nI (by omega) (by omega)
    refine br_f (nI_ge hjn (by omega)) ⟨vj, nm_e ⟨vj, cg_im hn (fun r hr => ⟨vj, nm_e (nm_r (nI_1 j) (ih (j + 1) _ _ (by omega) (fun v hv => ?_)))⟩)⟩⟩
    rw [cj] at hr ⊢
    by_cases e : v = j
    · subst e
      rw [pk_us, pk_us, cg_narz]
      refine ⟨rfl, fun w => ?_⟩
      rw [b_and, Bool.and_eq_true, hr w, b_and, Bool.and_eq_true]
      constructor
      · rintro ⟨⟨⟨a, _⟩, b⟩, c⟩
        refine ⟨c, a, fun z z1 z2 z3 => b ⟨z, hpt z z1, ?_, z3⟩⟩
        rw [b_and, z1, Bool.and_true]
        exact z2
      · rintro ⟨a, b, c⟩
        refine ⟨⟨⟨b, a⟩, fun ⟨z, z1, z2, z3⟩ => ?_⟩, a⟩
        rw [b_and, Bool.and_eq_true] at z2
        exact c z z2.2 z2.1 z3
    · rw [pk_un e, pk_un e]
      exact hI v (by omega)
theorem cg_lbL {post : SX → Prop} (ok : cg_Ok n F La) (hpt : ∀ x, bt pt x = true → x < n) (hp : ∀ C B h, (∀ i, i < n → B i = nI (h i) ∧ h i ≤ 9) → cg_Li (bt pt) (cg_L La) 9 h → post (nI n, pt, F, La, C, B)) : wpX_labelByLists post (nI n, pt, F, La, Nx, Lb) :=
  ⟨n + 1, cg_l2 ok hpt hp n 0 Nx Lb (by omega) (fun v hv => absurd hv (by omega))⟩
end
end
section
/-! the reference's table: the least number of slots for every set -/
theorem cg_pred : ∀ w o s : Nat, w &&& o = w → s &&& o = s → s < w → s ≤ (w - 1) &&& o := by
  intro w
  induction w using Nat.strongRecOn with
  | ind w ih =>
    intro o s hw hs hlt
    have hw2 : w / 2 &&& o / 2 = w / 2 := by rw [← Nat.and_div_two, hw]
    have hs2 : s / 2 &&& o / 2 = s / 2 := by rw [← Nat.and_div_two, hs]
    have ad : ((w - 1) &&& o) / 2 = (w - 1) / 2 &&& o / 2 := Nat.and_div_two
    by_cases odd : w % 2 = 1
    · have e : (w - 1) / 2 = w / 2 := by omega
      rw [e, hw2] at ad
      omega
    · have e : (w - 1) / 2 = w / 2 - 1 := by omega
      rw [e] at ad
      have i1 := ih (w / 2) (by omega) (o / 2) (s / 2) hw2 hs2 (by omega)
      by_cases s1 : s % 2 = 1
      · have s2 : (s &&& o) % 2 = 1 := by rw [hs]; exact s1
        have o1 := (Nat.and_mod_two_eq_one.mp s2).2
        have a1 : ((w - 1) &&& o) % 2 = 1 := Nat.and_mod_two_eq_one.mpr ⟨by omega, o1⟩
        omega
      · omega
theorem cg_nor (a b : Nat) : nI a ||| nI b = nI (a ||| b) := by
  apply Int32.toBitVec_inj.1
  show BitVec.ofNat 32 a ||| BitVec.ofNat 32 b = BitVec.ofNat 32 (a ||| b)
  apply BitVec.eq_of_getLsbD_eq
  intro i hi
  simp [hi]
theorem cg_nand (a b : Nat) : nI a &&& nI b = nI (a &&& b) := by
  apply Int32.toBitVec_inj.1
  show BitVec.ofNat 32 a &&& BitVec.ofNat 32 b = BitVec.ofNat 32 (a &&& b)
  apply BitVec.eq_of_getLsbD_eq
  intro i hi
  simp [hi]
theorem cg_nb9 {a i : Nat} (ha : a < 512) : bt (nI a) i = a.testBit i := by
  by_cases hi : i < 32
  · exact cg_nb hi
  · rw [b_big (by omega)]
    have le : 2 ^ 9 ≤ 2 ^ i := Nat.pow_le_pow_right (by decide) (by omega)
    exact (Nat.testBit_lt_two_pow (Nat.lt_of_lt_of_le ha le)).symm
def cg_at (A : Nat → Int32) (E c : Nat) : Prop := ∃ k, k ≤ c ∧ A E = nI k
def cg_Dv (P : Nat → Bool) (L : Nat → Nat → Bool) (m : Nat) (A : Nat → Int32) : Prop := A 0 = nI 0 ∧ ∀ E, E < 512 → A E = nI 100 ∨ ∃ k, k ≤ 9 ∧ A E = nI k ∧ cg_Ch P L m k (nI E)
def cg_Dc (P : Nat → Bool) (L : Nat → Nat → Bool) (m d : Nat) (A : Nat → Int32) : Prop := ∀ D E k, D < d → D < 512 → E < 512 → k ≤ 9 → A D = nI k → cg_St P L m (nI D) (nI E) → cg_at A E (k + 1)
section
variable {P : Nat → Bool} {L : Nat → Nat → Bool} {m : Nat} {A : Nat → Int32}
theorem cg_at_up {E c e k : Nat} (h : cg_at A E c) (hc : c ≤ 10) (hk : k ≤ 9) (hn : ¬ A e ≤ nI k) : cg_at (upd A e (nI k)) E c := by
  obtain ⟨q, q1, q2⟩ := h
  by_cases x : E = e
  · subst x
    refine ⟨k, ?_, pk_us⟩
    rw [q2, nI_leI (by omega) (by omega)] at hn
    omega
  · exact ⟨q, q1, by rw [pk_un x]; exact q2⟩
theorem cg_dv_up {e k : Nat} (h : cg_Dv P L m A) (he : e ≠ 0) (hk : k ≤ 9) (hc : cg_Ch P L m k (nI e)) : cg_Dv P L m (upd A e (nI k)) := by
  refine ⟨by rw [pk_un (Ne.symm he)]; exact h.1, fun E hE => ?_⟩
  by_cases x : E = e
  · subst x
    exact Or.inr ⟨k, hk, pk_us, hc⟩
  · rw [pk_un x]
    exact h.2 E hE
theorem cg_dc_up {d e k : Nat} (h : cg_Dc P L m d A) (hde : d ≤ e) (hk : k ≤ 9) (hn : ¬ A e ≤ nI k) : cg_Dc P L m d (upd A e (nI k)) := by
  intro D E q h1 h2 h3 h4 h5 h6
  rw [pk_un (by omega)] at h5
  exact cg_at_up (h D E q h1 h2 h3 h4 h5 h6) (by omega) hk hn
/-- a step from d is a set within those that may come -/
theorem cg_st_sub {d E o : Nat} (hd : d < 512) (hE : E < 512) (ho : o < 512) (hO : ∀ i, bt (nI o) i = true ↔ cg_Rd P L (nI d) i) (hS : cg_St P L m (nI d) (nI E)) : ∃ s, 0 < s ∧ s &&& o = s ∧ cg_cn (bt (nI s)) 9 ≤ m ∧ d ||| s = E := by
  obtain ⟨s1, s2, s3, x, x1, x2⟩ := hS
  have hs : E ^^^ d < 512 := Nat.xor_lt_two_pow (n := 9) hE hd
  have t : ∀ i, (E ^^^ d).testBit i = (bt (nI E) i && !bt (nI d) i) := by
    intro i
    have i1 := s1 i
    rw [Nat.testBit_xor, ← cg_nb9 hE, ← cg_nb9 hd]
    cases q1 : bt (nI E) i <;> cases q2 : bt (nI d) i <;> simp_all
  refine ⟨E ^^^ d, ?_, ?_, ?_, ?_⟩
  · apply Nat.pos_of_ne_zero
    intro z
    have := t x
    rw [z, x1, x2, Nat.zero_testBit] at this
    exact absurd this (by decide)
  · apply Nat.eq_of_testBit_eq
    intro i
    rw [Nat.testBit_and]
    by_cases q : (E ^^^ d).testBit i = true
    · rw [q, Bool.true_and, ← cg_nb9 ho]
      rw [t] at q
      have q1 : bt (nI E) i = true := by cases z : bt (nI E) i <;> simp_all
      have q2 : bt (nI d) i = false := by cases z : bt (nI d) i <;> simp_all
      exact (hO i).mpr ⟨(s2 i q1 q2).1, q2, (s2 i q1 q2).2⟩
    · rw [ts_nt q, Bool.false_and]
  · have e : cg_cn (bt (nI (E ^^^ d))) 9 = cg_cn (fun x => bt (nI E) x && !bt (nI d) x) 9 := cg_cn_congr (fun i _ => by rw [cg_nb9 hs, t])
    rw [e]
    exact s3
  · apply Nat.eq_of_testBit_eq
    intro i
    have i1 := s1 i
    rw [Nat.testBit_or, t, ← cg_nb9 hE, ← cg_nb9 hd]
    cases q1 : bt (nI E) i <;> cases q2 : bt (nI d) i <;> simp_all
/-- a set within those that may come is a step -/
theorem cg_sub_st {d o w : Nat} (hd : d < 512) (ho : o < 512) (hO : ∀ i, bt (nI o) i = true ↔ cg_Rd P L (nI d) i) (hw : w &&& o = w) (h0 : 0 < w) (hc : cg_cn (bt (nI w)) 9 ≤ m) : w < 512 ∧ cg_St P L m (nI d) (nI (d ||| w)) := by
  have w5 : w < 512 := by
    have : w ≤ o := by rw [← hw]; exact Nat.and_le_right
    omega
  have wo : ∀ i, bt (nI w) i = true → cg_Rd P L (nI d) i := by
    intro i hi
    apply (hO i).mp
    rw [cg_nb9 ho]
    rw [cg_nb9 w5, ← hw, Nat.testBit_and] at hi
    cases z : o.testBit i <;> simp_all
  have e : ∀ i, bt (nI (d ||| w)) i = (bt (nI d) i || bt (nI w) i) := fun i => by rw [← cg_nor, b_or]
  refine ⟨w5, fun x hx => by rw [e, hx]; rfl, fun x hx hd => ?_, ?_, ?_⟩
  · rw [e, hd, Bool.false_or] at hx
    exact ⟨(wo x hx).1, (wo x hx).2.2⟩
  · have q : cg_cn (fun x => bt (nI (d ||| w)) x && !bt (nI d) x) 9 = cg_cn (bt (nI w)) 9 := by
      apply cg_cn_congr
      intro i _
      rw [e]
      by_cases q : bt (nI w) i = true
      · rw [q, (wo i q).2.1]
        rfl
      · rw [ts_nt q]
        cases bt (nI d) i <;> rfl
    rw [q]
    exact hc
  · obtain ⟨x, hx⟩ := cg_nz (nI_ne0 h0 (by omega))
    exact ⟨x, by rw [e, hx, Bool.or_true], (wo x hx).2.1⟩
/-- the finished table answers -/
theorem cg_tab {S : Int32} {T : Nat} (hP : ∀ x, P x = true → x < 9) (hS : ∀ x, bt S x = P x) (hv : cg_Dv P L m A) (hc : cg_Dc P L m 512 A) (hT : cg_Ch P L m T S) (hL : cg_LB P L m P T) : ∃ s, s < 512 ∧ S = nI s ∧ A s = nI T := by
  have key : ∀ k E, cg_Ch P L m k E → ∃ e, e < 512 ∧ E = nI e ∧ cg_at A e k := by
    intro k
    induction k with
    | zero => intro E hE; exact ⟨0, by omega, hE, 0, Nat.le_refl 0, hv.1⟩
    | succ k ih =>
      intro E hE
      have hE0 := hE
      obtain ⟨D, hD, hSt⟩ := hE
      obtain ⟨d, d1, d2, kd, d3, d4⟩ := ih D hD
      obtain ⟨e, e1, e2⟩ := cg_m9 (x := E) (fun i hi => ts_nt (fun q => by
        have := hP i (cg_ch_cl (k + 1) E hE0 i q).1
        omega))
      have s9 := cg_ch_sz hP k D hD
      have c9 := cg_cn_le (bt D) 9
      rw [d2, e2] at hSt
      obtain ⟨q, q1, q2⟩ := hc d e kd d1 d1 e1 (by omega) d4 hSt
      exact ⟨e, e1, e2, q, by omega, q2⟩
  obtain ⟨s, s1, s2, k, k1, k2⟩ := key T S hT
  refine ⟨s, s1, s2, ?_⟩
  have t9 := cg_ch_sz hP T S hT
  have c9 := cg_cn_le (bt S) 9
  rcases hv.2 s s1 with q | ⟨k', q1, q2, q3⟩
  · rw [k2, nI_eq (by omega) (by omega)] at q
    omega
  · rw [← s2] at q3
    have l := hL k' S q3 (fun x hx => by rw [hS]; exact hx)
    rw [q2, nI_eq (by omega) (by omega)] at k2
    have e : k' = T := by omega
    rw [q2, e]
end
end
section
/-! walks: the size, what may come, the table -/
section
variable {n : Nat} {G Lt Sl : Nat → Int32}
theorem cg_sz4 {post : Int32 → Prop} {x : Int32} (hp : post (nI (cg_cn (bt x) 9))) : ∀ (d j : Nat), j + d = 9 → wY_sizeOf_4 post x (nI n) G Lt Sl (d + 1) (nI (cg_cn (bt x) j)) (nI j) := by
  intro d
  induction d with
  | zero =>
    intro j hj
    have e : j = 9 := by omega
    subst e
    exact br_t (by decide) hp
  | succ d ih =>
    intro j hj
    have i1 := ih (j + 1) (by omega)
    rw [cg_cn_s] at i1
    refine br_f (nI_ge (b := 9) (by omega) (by decide)) (cg_in (by omega) (fun hb => br_f (by decide) (nm_r (nI_1 _) (nm_r (nI_1 j) ?_))) (fun hb => br_t rfl (nm_r (nI_1 j) ?_)))
    · rw [if_pos hb] at i1
      exact i1
    · rw [if_neg (by rw [hb]; decide)] at i1
      exact i1
theorem cg_sz {post : Int32 → Prop} {x : Int32} (hp : post (nI (cg_cn (bt x) 9))) : wpY_sizeOf post (nI n, G, Lt, Sl) x := ⟨10, cg_sz4 hp 9 0 (by omega)⟩
theorem cg_o5 {post : Int32 → Prop} {S D : Int32} (hn : n ≤ 9) (hp : ∀ r, (∀ v, bt r v = true ↔ bt S v = true ∧ bt D v = false ∧ ¬ ∃ u, u < n ∧ bt S u = true ∧ bt D u = false ∧ bt (G u) v = true) → post r) : ∀ (d j : Nat) (W : Int32), j + d = n → (∀ v, bt W v = true ↔ ∃ u, u < j ∧ bt S u = true ∧ bt D u = false ∧ bt (G u) v = true) → wY_open_5 post S D (nI n) G Lt Sl (d + 1) W (nI j) := by
  intro d
  induction d with
  | zero =>
    intro j W hj hW
    have e : j = n := by omega
    subst e
    refine br_t (nI_le (Nat.le_refl _) (by omega)) (hp _ (fun v => ?_))
    rw [← hW v]
    by_cases v32 : v < 32
    · rw [b_and, b_and, cg_not _ v32, cg_not _ v32]
      cases bt S v <;> cases bt D v <;> cases bt W v <;> decide
    · rw [b_big (by omega), b_big (x := S) (by omega)]
      exact ⟨fun h => absurd h (by decide), fun h => absurd h.1 (by decide)⟩
  | succ d ih =>
    intro j W hj hW
    have hjn : j < n := by omega
    have cj : (nI j).toNatClampNeg = j := nI_clamp (by omega)
    have vj : vp_in (nI j) 9 := vp_in_nI (by omega) (by omega)
    have skip : ¬ (bt S j = true ∧ bt D j = false) → ∀ v, bt W v = true ↔ ∃ u, u < j + 1 ∧ bt S u = true ∧ bt D u = false ∧ bt (G u) v = true := by
      intro hs v
      rw [hW v]
      constructor
      · rintro ⟨u, a, b⟩
        exact ⟨u, by omega, b⟩
      · rintro ⟨u, a, b, c, e⟩
        by_cases q : u = j
        · subst q
          exact absurd ⟨b, c⟩ hs
        · exact ⟨u, by omega, b, c, e⟩
    refine br_f (nI_ge hjn (by omega)) (cg_in (by omega) (fun hb => br_f (by decide) (cg_in (by omega) (fun hd => br_f (by decide) (nm_r (nI_1 j) (ih (j + 1) W (by omega) (skip (fun q => by rw [hd] at q; exact absurd q.2 (by decide)))))) (fun hd => br_t rfl ⟨vj, nm_e (nm_r (nI_1 j) (ih (j + 1) _ (by omega) (fun v => ?_)))⟩))) (fun hb => br_t rfl (nm_r (nI_1 j) (ih (j + 1) W (by omega) (skip (fun q => by rw [hb] at q; exact absurd q.1 (by decide)))))))
    rw [cj, b_or, Bool.or_eq_true, hW v]
    constructor
    · rintro (⟨u, a, b⟩ | h)
      · exact ⟨u, by omega, b⟩
      · exact ⟨j, by omega, hb, hd, h⟩
    · rintro ⟨u, a, b, c, e⟩
      by_cases q : u = j
      · subst q
        exact Or.inr e
      · exact Or.inl ⟨u, by omega, b, c, e⟩
theorem cg_opn {post : Int32 → Prop} {S D : Int32} (hn : n ≤ 9) (hp : ∀ r, (∀ v, bt r v = true ↔ bt S v = true ∧ bt D v = false ∧ ¬ ∃ u, u < n ∧ bt S u = true ∧ bt D u = false ∧ bt (G u) v = true) → post r) : wpY_open post (nI n, G, Lt, Sl) S D :=
  ⟨n + 1, cg_o5 hn hp n 0 0 (by omega) (fun v => by
    rw [b_0]
    exact ⟨fun h => absurd h (by decide), fun ⟨_, h, _⟩ => absurd h (by omega)⟩)⟩
theorem cg_w67 {post : Int32 → SY → Prop} {J : Int32 → (Nat → Int32) → (Nat → Int32) → (Nat → Int32) → Prop} {P : Nat → Bool} {L : Nat → Nat → Bool} {S : Int32} {m d k o : Nat} (hP : ∀ x, P x = true → x < 9) (hm : m ≤ 9) (hd : d < 512) (hk : k ≤ 9) (hCh : cg_Ch P L m k (nI d)) (ho : o < 512) (hO : ∀ i, bt (nI o) i = true ↔ cg_Rd P L (nI d) i) (hJ : ∀ B, cg_Dv P L m B → cg_Dc P L m (d + 1) B → J (nI (d + 1)) G Lt B) : ∀ (N w : Nat) (B : Nat → Int32), w < N → w &&& o = w → cg_Dv P L m B → cg_Dc P L m d B → B d = nI k → (∀ s, s &&& o = s → w < s → cg_cn (bt (nI s)) 9 ≤ m → cg_at B (d ||| s) (k + 1)) → wY_least_67 post J S (nI m) (nI d) (nI o) (nI n) N (nI w) G Lt B := by
  have cd : (nI d).toNatClampNeg = d := nI_clamp (by omega)
  intro N
  induction N with
  | zero => intro w B h; omega
  | succ N ih =>
    intro w B hw hwo hv hc hB hN
    by_cases w0 : w = 0
    · subst w0
      refine br_t (by decide) (nm_r (nI_1 d) (hJ B hv ?_))
      intro D E q h1 h2 h3 h4 h5 h6
      by_cases e : D = d
      · subst e
        rw [hB, nI_eq (by omega) (by omega)] at h5
        subst h5
        obtain ⟨s, s1, s2, s3, s4⟩ := cg_st_sub hd h3 ho hO h6
        rw [← s4]
        exact hN s s2 s1 s3
      · exact hc D E q (by omega) h2 h3 h4 h5 h6
    · have wp : 0 < w := by omega
      have w5 : w < 512 := by
        have : w ≤ o := by rw [← hwo]; exact Nat.and_le_right
        omega
      have e5 : d ||| w < 512 := Nat.or_lt_two_pow (n := 9) hd w5
      have en : (nI w - 1) &&& nI o = nI ((w - 1) &&& o) := by
        have : nI w - 1 = nI (w - 1) := pk_sub (b := 1) wp
        rw [this, cg_nand]
      have w1 : (w - 1) &&& o < w := by
        have : (w - 1) &&& o ≤ w - 1 := Nat.and_le_left
        omega
      have w2 : ((w - 1) &&& o) &&& o = (w - 1) &&& o := by rw [Nat.and_assoc, Nat.and_self]
      have nx : ∀ B', (∀ s, s &&& o = s → w < s → cg_cn (bt (nI s)) 9 ≤ m → cg_at B' (d ||| s) (k + 1)) → (cg_cn (bt (nI w)) 9 ≤ m → cg_at B' (d ||| w) (k + 1)) → ∀ s, s &&& o = s → (w - 1) &&& o < s → cg_cn (bt (nI s)) 9 ≤ m → cg_at B' (d ||| s) (k + 1) := by
        intro B' h1 h2 s hs hlt hcn
        rcases Nat.lt_trichotomy s w with q | q | q
        · have := cg_pred w o s hwo hs q
          omega
        · subst q
          exact h2 hcn
        · exact h1 s hs q hcn
      have c9 := cg_cn_le (bt (nI w)) 9
      refine br_f (nI_nle wp (by omega)) (cg_sz ?_)
      rw [en, cg_nor, cd, nI_clamp (show d ||| w < 2 ^ 31 by omega)]
      refine pk_lt m (cg_cn (bt (nI w)) 9) (fun q => nm_e (ih _ B (by omega) w2 hv hc hB (nx B hN (fun z => absurd z (by omega))))) (fun q => ?_) rfl rfl (by omega) (by omega)
      have v1 : vp_in (nI d) 512 := vp_in_nI hd (by decide)
      have v2 : vp_in (nI (d ||| w)) 512 := vp_in_nI e5 (by decide)
      obtain ⟨_, hSt⟩ := cg_sub_st (P := P) (L := L) hd ho hO hwo wp q
      have hCh2 : cg_Ch P L m (k + 1) (nI (d ||| w)) := ⟨nI d, hCh, hSt⟩
      have k9 : k + 1 ≤ 9 := by
        have a := cg_ch_sz hP (k + 1) _ hCh2
        have b := cg_cn_le (bt (nI (d ||| w))) 9
        omega
      have ne : d ||| w ≠ d := by
        intro e
        obtain ⟨_, _, _, x, x1, x2⟩ := hSt
        rw [e, x2] at x1
        exact absurd x1 (by decide)
      have ge : d ≤ d ||| w := Nat.left_le_or
      refine ⟨v1, v2, ?_⟩
      rw [hB, nI_1]
      refine br_c (fun le => nm_e (ih _ B (by omega) w2 hv hc hB (nx B hN (fun _ => ?_)))) (fun nle => ⟨v1, v2, nm_e (nm_e (ih _ _ (by omega) w2 (cg_dv_up hv (by omega) k9 hCh2) (cg_dc_up hc ge k9 nle) (by rw [pk_un (Ne.symm ne)]; exact hB) (nx _ (fun s h1 h2 h3 => cg_at_up (hN s h1 h2 h3) (by omega) k9 nle) (fun _ => ⟨k + 1, Nat.le_refl _, pk_us⟩))))⟩)
      rcases hv.2 _ e5 with z | ⟨q, q1, q2, _⟩
      · rw [z, nI_leI (by omega) (by omega)] at le
        omega
      · rw [q2, nI_leI (by omega) (by omega)] at le
        exact ⟨q, le, q2⟩
theorem cg_w33 {post : Int32 → SY → Prop} {L : Nat → Nat → Bool} {S : Int32} {m : Nat} (hn : n ≤ 9) (hP : ∀ x, bt S x = true → x < n) (hm : m ≤ 9) (E1 : ∀ u v, bt S u = true → bt S v = true → bt (G u) v = true → L u v = true) (E2 : ∀ u v, bt S u = true → bt S v = true → L u v = true → ∃ z, bt S z = true ∧ bt (G z) v = true ∧ (z = u ∨ L u z = true)) (hp : ∀ B, cg_Dv (bt S) L m B → cg_Dc (bt S) L m 512 B → vp_in S 512 ∧ post (B S.toNatClampNeg) (nI n, G, Lt, B)) : ∀ (N d : Nat) (B : Nat → Int32), d + N = 512 → cg_Dv (bt S) L m B → cg_Dc (bt S) L m d B → wY_least_33 post S (nI m) (nI n) (N + 1) (nI d) G Lt B := by
  have hP9 : ∀ x, bt S x = true → x < 9 := fun x hx => by have := hP x hx; omega
  intro N
  induction N with
  | zero =>
    intro d B hd hv hc
    have e : d = 512 := by omega
    subst e
    exact br_t (by decide) (hp B hv hc)
  | succ N ih =>
    intro d B hd hv hc
    have d5 : d < 512 := by omega
    have cd : (nI d).toNatClampNeg = d := nI_clamp (by omega)
    refine br_f (nI_ge (b := 512) d5 (by decide)) ⟨vp_in_nI d5 (by decide), ?_⟩
    rw [cd]
    refine br_c (fun h100 => ⟨1, br_t (by decide) (nm_r (nI_1 d) (ih (d + 1) B (by omega) hv ?_))⟩) (fun hne => ?_)
    · intro D E q h1 h2 h3 h4 h5 h6
      by_cases e : D = d
      · subst e
        rw [h5] at h100
        have := (nI_eq (b := 100) (by omega) (by decide)).mp h100
        omega
      · exact hc D E q (by omega) h2 h3 h4 h5 h6
    · rcases hv.2 d d5 with z | ⟨k, k1, k2, k3⟩
      · exact absurd z hne
      · refine cg_opn hn (fun r hr => ?_)
        have cl := cg_ch_cl k (nI d) k3
        have hO : ∀ i, bt r i = true ↔ cg_Rd (bt S) L (nI d) i := by
          intro i
          rw [hr i]
          constructor
          · rintro ⟨a, b, c⟩
            refine ⟨a, b, fun u hu hl => ts_nf (fun q => ?_)⟩
            obtain ⟨z, z1, z2, z3⟩ := E2 u i hu a hl
            by_cases zd : bt (nI d) z = true
            · rcases z3 with e | e
              · rw [e, q] at zd
                exact absurd zd (by decide)
              · have := (cl z zd).2 u hu e
                rw [q] at this
                exact absurd this (by decide)
            · exact c ⟨z, hP z z1, z1, ts_nt zd, z2⟩
          · rintro ⟨a, b, c⟩
            refine ⟨a, b, fun ⟨u, u1, u2, u3, u4⟩ => ?_⟩
            have := c u u2 (E1 u i u2 a u4)
            rw [u3] at this
            exact absurd this (by decide)
        obtain ⟨o, o1, o2⟩ := cg_m9 (x := r) (fun i hi => ts_nt (fun q => by
          have := hP9 i ((hO i).mp q).1
          omega))
        subst o2
        refine ⟨o + 1, cg_w67 hP9 hm d5 k1 k3 o1 hO (fun B' h1 h2 => ih (d + 1) B' (by omega) h1 h2) (o + 1) o B (by omega) (Nat.and_self o) hv hc k2 (fun s hs hlt _ => ?_)⟩
        have : s ≤ o := by rw [← hs]; exact Nat.and_le_right
        omega
theorem cg_w2 {post : Int32 → SY → Prop} {L : Nat → Nat → Bool} {S : Int32} {m : Nat} (hn : n ≤ 9) (hP : ∀ x, bt S x = true → x < n) (hm : m ≤ 9) (E1 : ∀ u v, bt S u = true → bt S v = true → bt (G u) v = true → L u v = true) (E2 : ∀ u v, bt S u = true → bt S v = true → L u v = true → ∃ z, bt S z = true ∧ bt (G z) v = true ∧ (z = u ∨ L u z = true)) (hp : ∀ B, cg_Dv (bt S) L m B → cg_Dc (bt S) L m 512 B → vp_in S 512 ∧ post (B S.toNatClampNeg) (nI n, G, Lt, B)) : ∀ (N d : Nat) (B : Nat → Int32), d + N = 512 → (∀ E, E < d → B E = if E = 0 then nI 0 else nI 100) → wY_least_2 post S (nI m) (nI n) (N + 1) (nI d) G Lt B := by
  intro N
  induction N with
  | zero =>
    intro d B hd hB
    have e : d = 512 := by omega
    subst e
    refine br_t (by decide) ⟨512 + 1, cg_w33 hn hP hm E1 E2 hp 512 0 B (by omega) ⟨by rw [hB 0 (by omega), if_pos rfl], fun E hE => ?_⟩ (fun D E q h1 => absurd h1 (by omega))⟩
    rw [hB E hE]
    by_cases e : E = 0
    · subst e
      rw [if_pos rfl]
      exact Or.inr ⟨0, by omega, rfl, rfl⟩
    · rw [if_neg e]
      exact Or.inl rfl
  | succ N ih =>
    intro d B hd hB
    have d5 : d < 512 := by omega
    have cd : (nI d).toNatClampNeg = d := nI_clamp (by omega)
    have vd : vp_in (nI d) 512 := vp_in_nI d5 (by decide)
    have nx : ∀ x, (x = if d = 0 then nI 0 else nI 100) → ∀ E, E < d + 1 → upd B d x E = if E = 0 then nI 0 else nI 100 := by
      intro x hx E hE
      by_cases e : E = d
      · subst e
        rw [pk_us]
        exact hx
      · rw [pk_un e]
        exact hB E (by omega)
    refine br_f (nI_ge (b := 512) d5 (by decide)) ?_
    rw [cd]
    refine br_c (fun e => ⟨vd, nm_e (nm_r (nI_1 d) (ih (d + 1) _ (by omega) (nx _ ?_)))⟩) (fun e => ⟨vd, nm_e (nm_r (nI_1 d) (ih (d + 1) _ (by omega) (nx _ ?_)))⟩)
    · have e := (nI_eq (b := 0) (by omega) (by omega)).mp e
      rw [if_pos e]
      rfl
    · have e : d ≠ 0 := fun q => e (by rw [q]; rfl)
      rw [if_neg e]
      rfl
theorem cg_least {post : Int32 → SY → Prop} {L : Nat → Nat → Bool} {S : Int32} {m T : Nat} (hn : n ≤ 9) (hP : ∀ x, bt S x = true → x < n) (hm : m ≤ 9) (E1 : ∀ u v, bt S u = true → bt S v = true → bt (G u) v = true → L u v = true) (E2 : ∀ u v, bt S u = true → bt S v = true → L u v = true → ∃ z, bt S z = true ∧ bt (G z) v = true ∧ (z = u ∨ L u z = true)) (hT : cg_Ch (bt S) L m T S) (hL : cg_LB (bt S) L m (bt S) T) (hp : ∀ B, post (nI T) (nI n, G, Lt, B)) : wpY_least post (nI n, G, Lt, Sl) S (nI m) := by
  refine ⟨512 + 1, cg_w2 hn hP hm E1 E2 (fun B h1 h2 => ?_) 512 0 Sl (by omega) (fun E hE => absurd hE (by omega))⟩
  obtain ⟨s, s1, s2, s3⟩ := cg_tab (S := S) (fun x hx => by have := hP x hx; omega) (fun _ => rfl) h1 h2 hT hL
  have cs : S.toNatClampNeg = s := by rw [s2]; exact nI_clamp (by omega)
  rw [cs, s3]
  exact ⟨by rw [s2]; exact vp_in_nI s1 (by decide), hp B⟩
end
end
section
/-! shortest, without -/
section
variable {n : Nat} {F La : Nat → Int32} {S : Int32}
theorem cg_P9 (hn : n ≤ 9) (hS : ∀ x, bt S x = true → x < n) : ∀ x, bt S x = true → x < 9 := fun x hx => by have := hS x hx; omega
theorem cg_trS (ok : cg_Ok n F La) (hS : ∀ x, bt S x = true → x < n) : ∀ u v w, bt S u = true → bt S v = true → bt S w = true → cg_L La u v = true → cg_L La v w = true → cg_L La u w = true := fun u _ _ hu _ _ h1 h2 => cg_ok_tr ok (hS u hu) h1 h2
theorem cg_rkS (ok : cg_Ok n F La) (hS : ∀ x, bt S x = true → x < n) : ∀ u v, bt S u = true → bt S v = true → cg_L La u v = true → cg_cn (bt (La v)) 9 < cg_cn (bt (La u)) 9 := fun u _ hu _ h => cg_rk ok (hS u hu) h
/-- what the labels by lists give -/
theorem cg_two {h : Nat → Nat} {T : Nat} {Ds : Nat → Int32} (ok : cg_Ok n F La) (hS : ∀ x, bt S x = true → x < n) (hL : cg_Li (bt S) (cg_L La) 9 h) (hq : cg_Sq (bt S) (cg_L La) 2 h T Ds) (he : Ds T = S) : cg_Ch (bt S) (cg_L La) 2 T S ∧ cg_LB (bt S) (cg_L La) 2 (bt S) T := by
  obtain ⟨a, b, c⟩ := cg_li_fin (rk := fun u => cg_cn (bt (La u)) 9) (cg_P9 ok.1 hS) (cg_trS ok hS) (cg_rkS ok hS) hL
  have d := cg_sq_ch (by omega) (cg_P9 ok.1 hS) b hq T (Nat.le_refl T)
  rw [he] at d
  exact ⟨d, cg_main (cg_P9 ok.1 hS) (cg_trS ok hS) b a c hq⟩
/-- what the heights give, in a forest -/
theorem cg_hus {H : Nat → Nat} {m T : Nat} {Ds : Nat → Int32} (ok : cg_Ok n F La) (hm : 1 ≤ m) (hS : ∀ x, bt S x = true ↔ x < n) (hH : cg_Ht n F La H) (hg : ∀ u, u < n → cg_gd n F La u) (hq : cg_Sq (bt S) (cg_L La) m H T Ds) (he : Ds T = S) : cg_Ch (bt S) (cg_L La) m T S ∧ cg_LB (bt S) (cg_L La) m (bt S) T := by
  have hS1 : ∀ x, bt S x = true → x < n := fun x hx => (hS x).mp hx
  have mo : ∀ u v, bt S u = true → bt S v = true → cg_L La u v = true → H v < H u := fun u v hu _ h => hH.2.1 u (hS1 u hu) v h
  have d := cg_sq_ch hm (cg_P9 ok.1 hS1) mo hq T (Nat.le_refl T)
  rw [he] at d
  refine ⟨d, cg_hu hm (cg_P9 ok.1 hS1) mo (fun x hx => (hH.1 x (hS1 x hx)).1) (fun x hx h2 => ?_) (fun u z z' hu h1 h2 => ?_) hq⟩
  · obtain ⟨y, y1, y2⟩ := hH.2.2 x (hS1 x hx) h2
    exact ⟨y, (hS y).mpr (ok.2.1 x (hS1 x hx) y y1), cg_ok_e ok (hS1 x hx) y1, y2⟩
  · have hun := hS1 u hu
    apply Classical.byContradiction
    intro ne
    have g : cg_cn (fun v => bt (F u) v && !cg_xt n La u v) 9 ≤ 1 := hg u hun
    have k : ∀ z, cg_Nx (bt S) (cg_L La) u z → (bt (F u) z && !cg_xt n La u z) = true := by
      intro z hz
      have nm : ∀ w, w < n → bt (La u) w = true → bt (La w) z = true → False := fun w hw h1 h2 => hz.2.2 w ((hS w).mpr hw) h1 h2
      have e1 := cg_imm ok hun hz.2.1 nm
      have e2 : cg_xt n La u z = false := ts_nt (fun q => by
        obtain ⟨w, w1, w2, w3⟩ := cg_xt_i.mp q
        exact nm w w1 w2 w3)
      rw [e1, e2]
      rfl
    have := cg_cn_two (p := fun v => bt (F u) v && !cg_xt n La u v) (cg_P9 ok.1 hS1 z h1.1) (cg_P9 ok.1 hS1 z' h2.1) ne (k z h1) (k z' h2)
    omega
end
section
variable {n : Nat} {F La G Lt Sl : Nat → Int32}
theorem cg_ysh {post : Int32 → SY → Prop} {m T : Nat} (ok : cg_Ok n F La) (hG : ∀ i, i < n → G i = F i) (hm : m ≤ 9) (hT : cg_Ch (bt (((1 : Int32) <<< (nI n &&& 31)) - 1)) (cg_L La) m T (((1 : Int32) <<< (nI n &&& 31)) - 1)) (hL : cg_LB (bt (((1 : Int32) <<< (nI n &&& 31)) - 1)) (cg_L La) m (bt (((1 : Int32) <<< (nI n &&& 31)) - 1)) T) (hp : ∀ B, post (nI T) (nI n, G, Lt, B)) : wY_shortest_28 post (nI m) (nI n) G Lt Sl := by
  have hS : ∀ x, bt (((1 : Int32) <<< (nI n &&& 31)) - 1) x = true → x < n := fun x hx => by
    rw [cg_full ok.1] at hx
    exact of_decide_eq_true hx
  unfold wY_shortest_28
  refine cg_least ok.1 hS hm (fun u v hu _ h => ?_) (fun u v hu hv h => ?_) hT hL (fun B => hp B)
  · rw [hG u (hS u hu)] at h
    exact cg_ok_e ok (hS u hu) h
  · obtain ⟨z, z1, z2, z3⟩ := cg_tc_last ((ok.2.2.1 u (hS u hu) v).mp h)
    refine ⟨z, ?_, by rw [hG z z1]; exact z2, z3.imp id (fun q => (ok.2.2.1 u (hS u hu) z).mpr q)⟩
    rw [cg_full ok.1]
    exact decide_eq_true z1
end
theorem i_vc_shortest {k : Nat} {u : SX} {v : SY} (I : i_Rel k u v) (hk : k + 3 ≤ 1537) (v1 : Int32) : wpX_shortest (fun r u' => wpY_shortest (fun r' v' => r' = r ∧ i_Rel (k + 3) u' v') v v1) u v1 := by
  obtain ⟨n, pt, F, La, Nx, Lb, G, Lt, Sl, rfl, rfl, ok, hG⟩ := I
  have hn := ok.1
  have okG := cg_ok_congr hG ok
  have hS : ∀ x, bt (((1 : Int32) <<< (nI n &&& 31)) - 1) x = true ↔ x < n := fun x => by
    rw [cg_full hn]
    exact decide_eq_true_iff
  have hS1 : ∀ x, bt (((1 : Int32) <<< (nI n &&& 31)) - 1) x = true → x < n := fun x => (hS x).mp
  unfold wpX_shortest wpY_shortest
  dsimp only
  by_cases h1 : v1 < 1
  · exact br_t h1 (br_t h1 ⟨rfl, cg_rel ok hG⟩)
  by_cases h9 : v1 ≤ 9
  · have h0 : ¬ v1 < 0 := fun z => h1 (Int32.lt_trans z (by decide))
    obtain ⟨m, hm, rfl⟩ := nI_of2 (M := 9) (n := 9) (by decide) h0 h9
    have m1 : 1 ≤ m := by
      apply Classical.byContradiction
      intro q
      have e : m = 0 := by omega
      rw [e] at h1
      exact h1 (by decide)
    refine br_f h1 (br_t h9 (nm_e ?_))
    refine pk_eq m 1 (fun e => ?_) (fun n1 => pk_eq m 2 (fun e => ?_) (fun n2 => ?_))
    · subst e
      obtain ⟨t1, t2⟩ := cg_one_opt (P := bt (((1 : Int32) <<< (nI n &&& 31)) - 1)) (L := cg_L La) (h := fun u => cg_cn (bt (La u)) 9) (cg_P9 hn hS1) (cg_rkS ok hS1) (S := ((1 : Int32) <<< (nI n &&& 31)) - 1) (fun _ => rfl)
      have e : cg_cn (bt (((1 : Int32) <<< (nI n &&& 31)) - 1)) 9 = n := by
        rw [cg_cn_ext hn (fun i hi => ts_nt (fun q => by have := hS1 i q; omega))]
        have all : ∀ j, j ≤ n → cg_cn (bt (((1 : Int32) <<< (nI n &&& 31)) - 1)) j = j := by
          intro j
          induction j with
          | zero => intro _; rfl
          | succ j ih =>
            intro hj
            rw [cg_cn_s, ih (by omega), if_pos ((hS j).mpr (by omega))]
        exact all n (Nat.le_refl n)
      rw [e] at t1 t2
      exact br_f h1 (br_t h9 (br_t (by decide) (cg_ysh ok hG (by omega) t1 t2 (fun B => ⟨rfl, cg_rel ok hG⟩))))
    · subst e
      refine cg_lbL ok hS1 (fun C B h h2 h3 => ?_)
      obtain ⟨_, mo, _⟩ := cg_li_fin (rk := fun u => cg_cn (bt (La u)) 9) (cg_P9 hn hS1) (cg_trS ok hS1) (cg_rkS ok hS1) h3
      dsimp only
      unfold wX_shortest_61
      refine cg_len (m := 2) hn (by omega) (by omega) hS1 h2 mo (fun T Ds hq he => ?_)
      obtain ⟨t1, t2⟩ := cg_two ok hS1 h3 hq he
      exact br_f h1 (br_t h9 (br_t (by decide) (cg_ysh ok hG (by omega) t1 t2 (fun B => ⟨rfl, cg_rel ok hG⟩))))
    · have m3 : ¬ nI m < 3 := nI_nlt (b := 3) (by omega) (by omega)
      refine cg_trX ok (fun hg => br_f (by decide) ?_) (fun hb => br_t rfl ?_)
      · obtain ⟨H, hH⟩ := cg_ht ok
        refine cg_lbH ok hH (fun B hB => ?_)
        dsimp only
        unfold wX_shortest_61
        refine cg_len (h := H) hn m1 hm hS1 (fun i hi => ⟨hB i hi, (hH.1 i hi).2⟩) (fun u v hu _ h => hH.2.1 u (hS1 u hu) v h) (fun T Ds hq he => ?_)
        obtain ⟨t1, t2⟩ := cg_hus ok m1 hS hH hg hq he
        refine br_f h1 (br_t h9 (br_f m3 (cg_trY okG (fun A h2 => ?_) (fun A h2 => ?_))))
        · dsimp only
          exact br_f (by decide) (cg_ysh ok hG hm t1 t2 (fun B => ⟨rfl, cg_rel ok hG⟩))
        · obtain ⟨u, hu, h3⟩ := h2
          exact absurd ((cg_gd_congr hG hu).mpr (hg u hu)) h3
      · refine br_f h1 (br_t h9 (br_f m3 (cg_trY okG (fun A h2 => ?_) (fun A h2 => ?_))))
        · obtain ⟨u, hu, h3⟩ := hb
          exact absurd ((cg_gd_congr hG hu).mp (h2 u hu)) h3
        · dsimp only
          exact br_t rfl ⟨rfl, cg_rel ok hG⟩
  · exact br_f h1 (br_f h9 (br_f h1 (br_f h9 ⟨rfl, cg_rel ok hG⟩)))
theorem i_vc_without {k : Nat} {u : SX} {v : SY} (I : i_Rel k u v) (hk : k + 3 ≤ 1537) (v1 : Int32) : wpX_without (fun r u' => wpY_without (fun r' v' => r' = r ∧ i_Rel (k + 3) u' v') v v1) u v1 := by
  obtain ⟨n, pt, F, La, Nx, Lb, G, Lt, Sl, rfl, rfl, ok, hG⟩ := I
  have hn := ok.1
  unfold wpX_without wpY_without
  dsimp only
  rcases pk_ix v1 (show n < 2 ^ 31 by omega) with h1 | h1 | ⟨a, ha, rfl⟩
  · exact cg_isX0 (Or.inl h1) (br_t rfl (cg_isY0 (Or.inl h1) (br_t rfl ⟨rfl, cg_rel ok hG⟩)))
  · exact cg_isX0 (Or.inr h1) (br_t rfl (cg_isY0 (Or.inr h1) (br_t rfl ⟨rfl, cg_rel ok hG⟩)))
  · have ca : (nI a).toNatClampNeg = a := nI_clamp (by omega)
    have va : vp_in (nI a) 9 := vp_in_nI (by omega) (by decide)
    rw [ca]
    have hS : ∀ x, bt ((((1 : Int32) <<< (nI n &&& 31)) - 1) &&& (((1 : Int32) <<< (nI a &&& 31)) ^^^ (-1))) x = true ↔ x < n ∧ x ≠ a := by
      intro x
      rw [b_and, cg_full hn]
      by_cases q : x < n
      · rw [cg_not _ (by omega), cg_one (by omega)]
        simp [q]
      · simp [q]
    have hS1 : ∀ x, bt ((((1 : Int32) <<< (nI n &&& 31)) - 1) &&& (((1 : Int32) <<< (nI a &&& 31)) ^^^ (-1))) x = true → x < n := fun x hx => ((hS x).mp hx).1
    refine cg_isX1 hn ha (br_f (by decide) ⟨va, nm_e (nm_e ⟨va, nm_e (cg_close hn (fun A1 hA1 => ?_))⟩)⟩)
    dsimp only
    have ok1 : cg_Ok n (upd F a 0) A1 := cg_sub ok (fun w hw x hx => by
      by_cases e : w = a
      · subst e
        rw [pk_us, b_0] at hx
        exact absurd hx (by decide)
      · rw [pk_un e] at hx
        exact hx) hA1
    refine cg_lbL ok1 hS1 (fun C B h h2 h3 => ?_)
    obtain ⟨_, mo, _⟩ := cg_li_fin (rk := fun u => cg_cn (bt (A1 u)) 9) (cg_P9 hn hS1) (cg_trS ok1 hS1) (cg_rkS ok1 hS1) h3
    dsimp only
    refine cg_len (m := 2) hn (by omega) (by omega) hS1 h2 mo (fun T Ds hq he => ⟨va, nm_e (cg_close hn (fun A2 hA2 => ?_))⟩)
    dsimp only
    obtain ⟨t1, t2⟩ := cg_two ok1 hS1 h3 hq he
    have e2 : ∀ i, upd (upd F a 0) a (F a) i = F i := fun i => by
      by_cases e : i = a
      · rw [e, pk_us]
      · rw [pk_un e, pk_un e]
    have ok2 : cg_Ok n (upd (upd F a 0) a (F a)) A2 := cg_sub ok (fun w _ x hx => by rw [e2] at hx; exact hx) hA2
    refine cg_isY1 hn ha (br_f (by decide) ?_)
    refine cg_least (m := 2) hn hS1 (by omega) (fun u v hu _ h => ?_) (fun u v hu hv h => ?_) t1 t2 (fun B => ⟨rfl, cg_rel ok2 (fun i hi => by rw [e2]; exact hG i hi)⟩)
    · obtain ⟨u1, u2⟩ := (hS u).mp hu
      refine cg_ok_e ok1 u1 ?_
      rw [pk_un u2, ← hG u u1]
      exact h
    · obtain ⟨u1, u2⟩ := (hS u).mp hu
      obtain ⟨z, z1, z2, z3⟩ := cg_tc_last ((ok1.2.2.1 u u1 v).mp h)
      have za : z ≠ a := fun e => by
        rw [e, pk_us, b_0] at z2
        exact absurd z2 (by decide)
      rw [pk_un za] at z2
      exact ⟨z, (hS z).mpr ⟨z1, za⟩, by rw [hG z z1]; exact z2, z3.imp id (fun q => (ok1.2.2.1 u u1 z).mpr q)⟩
end
