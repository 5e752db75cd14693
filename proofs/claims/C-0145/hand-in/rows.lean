section
theorem pk_us {f : Nat → Int32} {k : Nat} {x : Int32} : upd f k x k = x := if_pos rfl
theorem pk_un {f : Nat → Int32} {k j : Nat} {x : Int32} (h : j ≠ k) : upd f k x j = f j := if_neg h
theorem pk_sub {a b : Nat} (h : b ≤ a) : nI a - nI b = nI (a - b) := by
  obtain ⟨c, rfl⟩ : ∃ c, a = c + b := ⟨a - b, by omega⟩
  rw [← nI_add, Int32.add_sub_cancel, Nat.add_sub_cancel]
theorem pk_m1 (n : Nat) : nI (n + 1) + (-1) = nI n := by
  rw [← nI_1, Int32.add_assoc, show (1 : Int32) + (-1) = 0 from rfl, Int32.add_zero]
theorem pk_mul (a b : Nat) : nI a * nI b = nI (a * b) := (Int32.ofNat_mul a b).symm
theorem pk_ix (x : Int32) {n : Nat} (hn : n < 2 ^ 31) : x < 0 ∨ nI n ≤ x ∨ ∃ j : Nat, j < n ∧ x = nI j := by
  by_cases h : x < 0
  · exact Or.inl h
  · obtain ⟨j, hj, rfl⟩ := nI_of h
    by_cases h2 : j < n
    · exact Or.inr (Or.inr ⟨j, h2, rfl⟩)
    · exact Or.inr (Or.inl (nI_le (by omega) hj))
theorem pk_le {x y : Int32} {A B : Prop} (a b : Nat) (f : a ≤ b → A) (g : b < a → B) (hx : x = nI a := by rfl) (hy : y = nI b := by rfl) (ha : a < 2 ^ 31 := by omega) (hb : b < 2 ^ 31 := by omega) : (x ≤ y → A) ∧ (¬ x ≤ y → B) := by
  subst hx hy
  rw [nI_leI ha hb]
  exact ⟨f, fun z => g (by omega)⟩
theorem pk_lt {x y : Int32} {A B : Prop} (a b : Nat) (f : a < b → A) (g : b ≤ a → B) (hx : x = nI a := by rfl) (hy : y = nI b := by rfl) (ha : a < 2 ^ 31 := by omega) (hb : b < 2 ^ 31 := by omega) : (x < y → A) ∧ (¬ x < y → B) := by
  subst hx hy
  rw [nI_ltI ha hb]
  exact ⟨f, fun z => g (by omega)⟩
theorem pk_eq {x y : Int32} {A B : Prop} (a b : Nat) (f : a = b → A) (g : a ≠ b → B) (hx : x = nI a := by rfl) (hy : y = nI b := by rfl) (ha : a < 2 ^ 31 := by omega) (hb : b < 2 ^ 31 := by omega) : (x = y → A) ∧ (¬ x = y → B) := by
  subst hx hy
  rw [nI_eq ha hb]
  exact ⟨f, g⟩
theorem pk_in {x : Int32} (n N : Nat) (h : n < N) (hx : x = nI n := by rfl) (hN : N < 2 ^ 31 := by omega) : vp_in x N := by
  subst hx
  exact vp_in_nI h hN
theorem pk_cl {x : Int32} (n : Nat) (hx : x = nI n := by rfl) (h : n < 2 ^ 31 := by omega) : x.toNatClampNeg = n := by
  subst hx
  exact nI_clamp h
theorem pk_tn {n : Nat} (h : n < 2 ^ 32) : (nI n).toBitVec.toNat = n := Nat.mod_eq_of_lt h
theorem pk_and (x : Int32) {m : Int32} (k : Nat) (hm : m.toBitVec.toNat = 2 ^ k - 1) : x &&& m = nI (x.toBitVec.toNat % 2 ^ k) := by
  apply Int32.toBitVec_inj.mp
  apply BitVec.eq_of_toNat_eq
  rw [Int32.toBitVec_and, BitVec.toNat_and, hm, Nat.and_two_pow_sub_one_eq_mod]
  show _ = (BitVec.ofNat 32 _).toNat
  rw [BitVec.toNat_ofNat]
  exact (Nat.mod_eq_of_lt (Nat.lt_of_le_of_lt (Nat.mod_le _ _) x.toBitVec.isLt)).symm
theorem pk_andN {n : Nat} (h : n < 2 ^ 32) {m : Int32} (k : Nat) (hm : m.toBitVec.toNat = 2 ^ k - 1) : nI n &&& m = nI (n % 2 ^ k) := by
  rw [pk_and _ k hm, pk_tn h]
theorem pk_andE (x : Int32) {m : Int32} (k : Nat) (hm : m.toBitVec.toNat = 2 ^ k - 1) : ∃ j : Nat, j < 2 ^ k ∧ x &&& m = nI j := ⟨_, Nat.mod_lt _ (Nat.two_pow_pos k), pk_and x k hm⟩
end
section
noncomputable def fp_b (p : Prop) : Nat := @ite Nat p (Classical.propDecidable p) 1 0
theorem fp_b1 {p : Prop} (h : p) : fp_b p = 1 := by unfold fp_b; rw [if_pos h]
theorem fp_b0 {p : Prop} (h : ¬ p) : fp_b p = 0 := by unfold fp_b; rw [if_neg h]
theorem fp_bc {p q : Prop} (h : p ↔ q) : fp_b p = fp_b q := by rw [propext h]
theorem fp_ble (p : Prop) : fp_b p ≤ 1 := by
  rcases Classical.em p with h | h
  · rw [fp_b1 h]; omega
  · rw [fp_b0 h]; omega
theorem fp_bmo {p q : Prop} (h : p → q) : fp_b p ≤ fp_b q := by
  rcases Classical.em p with hp | hp
  · rw [fp_b1 hp, fp_b1 (h hp)]; omega
  · rw [fp_b0 hp]; omega
noncomputable def fp_c (P : Nat → Prop) : Nat → Nat
  | 0 => 0
  | n + 1 => fp_c P n + fp_b (P n)
theorem fp_cS (P : Nat → Prop) (n : Nat) : fp_c P (n + 1) = fp_c P n + fp_b (P n) := rfl
theorem fp_c_cg {P Q : Nat → Prop} (n : Nat) (h : ∀ i, i < n → (P i ↔ Q i)) : fp_c P n = fp_c Q n := by
  induction n with
  | zero => rfl
  | succ n ih =>
    rw [fp_cS, fp_cS, ih (fun i hi => h i (by omega)), fp_bc (h n (by omega))]
theorem fp_c_mo {P Q : Nat → Prop} (n : Nat) (h : ∀ i, i < n → P i → Q i) : fp_c P n ≤ fp_c Q n := by
  induction n with
  | zero => exact Nat.le_refl _
  | succ n ih =>
    rw [fp_cS, fp_cS]
    have h1 := ih (fun i hi => h i (by omega))
    have h2 := fp_bmo (h n (by omega))
    omega
theorem fp_c_or {P Q : Nat → Prop} (n : Nat) (h : ∀ i, i < n → ¬ (P i ∧ Q i)) : fp_c (fun i => P i ∨ Q i) n = fp_c P n + fp_c Q n := by
  induction n with
  | zero => rfl
  | succ n ih =>
    rw [fp_cS, fp_cS, fp_cS, ih (fun i hi => h i (by omega))]
    have h2 := h n (by omega)
    have h3 : fp_b (P n ∨ Q n) = fp_b (P n) + fp_b (Q n) := by
      rcases Classical.em (P n) with hp | hp
      · rw [fp_b1 (Or.inl hp), fp_b1 hp, fp_b0 (fun q => h2 ⟨hp, q⟩)]
      · rcases Classical.em (Q n) with hq | hq
        · rw [fp_b1 (Or.inr hq), fp_b0 hp, fp_b1 hq]
        · rw [fp_b0 (fun z => z.elim hp hq), fp_b0 hp, fp_b0 hq]
    omega
theorem fp_c_sp (P Q : Nat → Prop) (n : Nat) : fp_c P n = fp_c (fun i => P i ∧ Q i) n + fp_c (fun i => P i ∧ ¬ Q i) n := by
  rw [← fp_c_or n (fun i _ h => h.2.2 h.1.2)]
  refine fp_c_cg n (fun i _ => ⟨fun h => ?_, fun h => h.elim (fun z => z.1) (fun z => z.1)⟩)
  rcases Classical.em (Q i) with hq | hq
  · exact Or.inl ⟨h, hq⟩
  · exact Or.inr ⟨h, hq⟩
theorem fp_c_0 {P : Nat → Prop} (n : Nat) (h : ∀ i, i < n → ¬ P i) : fp_c P n = 0 := by
  induction n with
  | zero => rfl
  | succ n ih => rw [fp_cS, ih (fun i hi => h i (by omega)), fp_b0 (h n (by omega))]
theorem fp_c_tr {P : Nat → Prop} (n : Nat) (h : ∀ i, i < n → P i) : fp_c P n = n := by
  induction n with
  | zero => rfl
  | succ n ih => rw [fp_cS, ih (fun i hi => h i (by omega)), fp_b1 (h n (by omega))]
theorem fp_c_one {n y : Nat} (hy : y < n) : fp_c (fun i => i = y) n = 1 := by
  induction n with
  | zero => omega
  | succ n ih =>
    rw [fp_cS]
    rcases Nat.lt_or_ge y n with h | h
    · rw [ih h, fp_b0 (by omega)]
    · rw [fp_c_0 n (fun i hi => by omega), fp_b1 (by omega)]
theorem fp_c_in {P : Nat → Prop} {n y : Nat} (hy : y < n) (h : ¬ P y) : fp_c (fun i => P i ∨ i = y) n = fp_c P n + 1 := by
  rw [fp_c_or (P := P) (Q := fun i => i = y) n (fun i _ z => h (z.2 ▸ z.1)), fp_c_one hy]
theorem fp_c_le (P : Nat → Prop) (n : Nat) : fp_c P n ≤ n := by
  induction n with
  | zero => exact Nat.le_refl _
  | succ n ih => rw [fp_cS]; have := fp_ble (P n); omega
theorem fp_c_lt {P : Nat → Prop} {n y : Nat} (hy : y < n) (h : ¬ P y) : fp_c P n < n := by
  have h1 := fp_c_in hy h
  have h2 := fp_c_le (fun i => P i ∨ i = y) n
  omega
theorem fp_c_al {P : Nat → Prop} {n : Nat} (h : fp_c P n = n) : ∀ i, i < n → P i := by
  intro i hi
  rcases Classical.em (P i) with hp | hp
  · exact hp
  · have := fp_c_lt hi hp; omega
theorem fp_c_up (P : Nat → Prop) {m n : Nat} (h : m ≤ n) : fp_c P m ≤ fp_c P n := by
  induction n with
  | zero => have : m = 0 := by omega
            rw [this]; exact Nat.le_refl _
  | succ n ih =>
    rcases Nat.lt_or_ge n m with g | g
    · have : m = n + 1 := by omega
      rw [this]; exact Nat.le_refl _
    · rw [fp_cS]; have := ih g; omega
/-- sums over forests -/
def fp_s (f : Nat → Nat) : Nat → Nat
  | 0 => 0
  | k + 1 => fp_s f k + f k
theorem fp_s_le {f : Nat → Nat} {c : Nat} (k : Nat) (h : ∀ i, i < k → f i ≤ c) : fp_s f k ≤ k * c := by
  induction k with
  | zero => exact Nat.zero_le _
  | succ k ih =>
    show fp_s f k + f k ≤ (k + 1) * c
    rw [Nat.succ_mul]
    exact Nat.add_le_add (ih (fun i hi => h i (by omega))) (h k (by omega))
theorem fp_s_ge {f : Nat → Nat} {c : Nat} (k : Nat) (h : ∀ i, i < k → c ≤ f i) : k * c ≤ fp_s f k := by
  induction k with
  | zero => rw [Nat.zero_mul]; exact Nat.zero_le _
  | succ k ih =>
    show (k + 1) * c ≤ fp_s f k + f k
    rw [Nat.succ_mul]
    exact Nat.add_le_add (ih (fun i hi => h i (by omega))) (h k (by omega))
theorem fp_s_c (P : Nat → Prop) (H : Nat → Int32) (n : Nat) (k : Nat) (hk : k < 2 ^ 31) : fp_c (fun e => P e ∧ ∃ i, i < k ∧ H e = nI i) n = fp_s (fun i => fp_c (fun e => P e ∧ H e = nI i) n) k := by
  induction k with
  | zero => exact fp_c_0 n (fun i _ h => by obtain ⟨_, j, hj, _⟩ := h; omega)
  | succ k ih =>
    show _ = fp_s _ k + fp_c (fun e => P e ∧ H e = nI k) n
    rw [← ih (by omega), ← fp_c_or n]
    · refine fp_c_cg n (fun e _ => ⟨?_, ?_⟩)
      · rintro ⟨hp, i, hi, he⟩
        rcases Nat.lt_or_ge i k with g | g
        · exact Or.inl ⟨hp, i, g, he⟩
        · have : i = k := by omega
          exact Or.inr ⟨hp, this ▸ he⟩
      · rintro (⟨hp, i, hi, he⟩ | ⟨hp, he⟩)
        · exact ⟨hp, i, by omega, he⟩
        · exact ⟨hp, k, by omega, he⟩
    · rintro e _ ⟨⟨_, i, hi, he⟩, _, he2⟩
      rw [he] at he2
      have := (nI_eq (by omega) (by omega)).mp he2
      omega
/-- u is joined to v by the edges of A (ends a, b): every set that A doesn't leave and that holds u holds v -/
def fp_J (a b : Nat → Nat) (A : Nat → Prop) (u v : Nat) : Prop := ∀ S : Nat → Prop, (∀ e, A e → (S (a e) ↔ S (b e))) → S u → S v
section
variable {a b : Nat → Nat} {A B : Nat → Prop} {u v w e : Nat}
theorem fp_Jr (u : Nat) : fp_J a b A u u := fun _ _ h => h
theorem fp_Jt (h1 : fp_J a b A u v) (h2 : fp_J a b A v w) : fp_J a b A u w := fun S c s => h2 S c (h1 S c s)
theorem fp_Js (h : fp_J a b A u v) : fp_J a b A v u := fun S c s => Classical.byContradiction fun n => h (fun x => ¬ S x) (fun e he => not_congr (c e he)) n s
theorem fp_Je (h : A e) : fp_J a b A (a e) (b e) := fun _ c s => (c e h).mp s
theorem fp_Jm (h : ∀ e, A e → B e) (j : fp_J a b A u v) : fp_J a b B u v := fun S c s => j S (fun e he => c e (h e he)) s
theorem fp_Jsp (h : ∀ e, A e → fp_J a b B (a e) (b e)) (j : fp_J a b A u v) : fp_J a b B u v := fun S c s => j S (fun e he => ⟨h e he S c, fp_Js (h e he) S c⟩) s
theorem fp_Ja (j : fp_J a b (fun x => A x ∨ x = e) u v) : fp_J a b A u v ∨ (fp_J a b A u (a e) ∧ fp_J a b A (b e) v) ∨ (fp_J a b A u (b e) ∧ fp_J a b A (a e) v) := by
  refine j (fun w => fp_J a b A u w ∨ (fp_J a b A u (a e) ∧ fp_J a b A (b e) w) ∨ (fp_J a b A u (b e) ∧ fp_J a b A (a e) w)) ?_ (Or.inl (fp_Jr u))
  intro x hx
  rcases hx with hx | hx
  · have h1 := fp_Je (a := a) (b := b) hx
    have h2 := fp_Js h1
    constructor
    · rintro (h | ⟨h, g⟩ | ⟨h, g⟩)
      · exact Or.inl (fp_Jt h h1)
      · exact Or.inr (Or.inl ⟨h, fp_Jt g h1⟩)
      · exact Or.inr (Or.inr ⟨h, fp_Jt g h1⟩)
    · rintro (h | ⟨h, g⟩ | ⟨h, g⟩)
      · exact Or.inl (fp_Jt h h2)
      · exact Or.inr (Or.inl ⟨h, fp_Jt g h2⟩)
      · exact Or.inr (Or.inr ⟨h, fp_Jt g h2⟩)
  · subst hx
    constructor
    · rintro (h | ⟨h, _⟩ | ⟨h, _⟩)
      · exact Or.inr (Or.inl ⟨h, fp_Jr _⟩)
      · exact Or.inr (Or.inl ⟨h, fp_Jr _⟩)
      · exact Or.inl h
    · rintro (h | ⟨h, _⟩ | ⟨h, _⟩)
      · exact Or.inr (Or.inr ⟨h, fp_Jr _⟩)
      · exact Or.inl h
      · exact Or.inr (Or.inr ⟨h, fp_Jr _⟩)
/-- no edge's ends are joined without it -/
def fp_Y (a b : Nat → Nat) (A : Nat → Prop) : Prop := ∀ e, A e → ¬ fp_J a b (fun x => A x ∧ x ≠ e) (a e) (b e)
theorem fp_Ym (h : ∀ e, A e → B e) (y : fp_Y a b B) : fp_Y a b A := fun e he j => y e (h e he) (fp_Jm (fun x hx => ⟨h x hx.1, hx.2⟩) j)
theorem fp_Ya (y : fp_Y a b A) (n : ¬ fp_J a b A (a e) (b e)) : fp_Y a b (fun x => A x ∨ x = e) := by
  intro x hx j
  rcases Classical.em (x = e) with hxe | hxe
  · subst hxe
    exact n (fp_Jm (fun z hz => hz.1.resolve_right hz.2) j)
  · have hA : A x := hx.resolve_right hxe
    have j' : fp_J a b (fun z => (A z ∧ z ≠ x) ∨ z = e) (a x) (b x) := fp_Jm (fun z hz => hz.1.elim (fun q => Or.inl ⟨q, hz.2⟩) Or.inr) j
    have up : ∀ {s t : Nat}, fp_J a b (fun z => A z ∧ z ≠ x) s t → fp_J a b A s t := fun q => fp_Jm (fun z hz => hz.1) q
    rcases fp_Ja j' with h | ⟨h, g⟩ | ⟨h, g⟩
    · exact y x hA h
    · exact n (fp_Jt (fp_Js (up h)) (fp_Jt (fp_Je hA) (fp_Js (up g))))
    · exact n (fp_Jt (up g) (fp_Jt (fp_Js (fp_Je hA)) (up h)))
/-- in a forest F an edge z of a way P between the ends of d parts them -/
theorem fp_Yx {P F : Nat → Prop} {z d : Nat} (hP : ∀ x, P x → F x) (hj : fp_J a b P (a d) (b d)) (hz : F z) (y : fp_Y a b F) (hn : ¬ fp_J a b (fun x => P x ∧ x ≠ z) (a d) (b d)) : ¬ fp_J a b (fun x => F x ∧ x ≠ z) (a d) (b d) := by
  intro hF
  have j' : fp_J a b (fun x => (P x ∧ x ≠ z) ∨ x = z) (a d) (b d) := fp_Jm (fun x hx => by
    rcases Classical.em (x = z) with q | q
    · exact Or.inr q
    · exact Or.inl ⟨hx, q⟩) hj
  have up : ∀ {s t : Nat}, fp_J a b (fun x => P x ∧ x ≠ z) s t → fp_J a b (fun x => F x ∧ x ≠ z) s t := fun q => fp_Jm (fun x hx => ⟨hP x hx.1, hx.2⟩) q
  rcases fp_Ja j' with h | ⟨h, g⟩ | ⟨h, g⟩
  · exact hn h
  · exact y z hz (fp_Jt (fp_Js (up h)) (fp_Jt hF (fp_Js (up g))))
  · exact y z hz (fp_Jt (up g) (fp_Jt (fp_Js hF) (up h)))
end
theorem fp_lst (P : Nat → Prop) (v : Nat) (h : P v) : ∃ r, r ≤ v ∧ P r ∧ ∀ u, u < r → ¬ P u := by
  induction v using Nat.strongRecOn with
  | ind v ih =>
    rcases Classical.em (∃ u, u < v ∧ P u) with ⟨u, hu, hp⟩ | hn
    · obtain ⟨r, h1, h2, h3⟩ := ih u hu hp
      exact ⟨r, by omega, h2, h3⟩
    · exact ⟨v, Nat.le_refl _, h, fun u hu hp => hn ⟨u, hu, hp⟩⟩
/-- v is the least vertex of its component -/
def fp_R (a b : Nat → Nat) (A : Nat → Prop) (v : Nat) : Prop := ∀ u, u < v → ¬ fp_J a b A u v
noncomputable def fp_K (a b : Nat → Nat) (A : Nat → Prop) (N : Nat) : Nat := fp_c (fp_R a b A) N
section
variable {a b : Nat → Nat} {A B : Nat → Prop} {u v w e N : Nat}
theorem fp_rpx (v : Nat) : ∃ r, r ≤ v ∧ fp_J a b A r v ∧ fp_R a b A r := by
  obtain ⟨r, h1, h2, h3⟩ := fp_lst (fun r => fp_J a b A r v) v (fp_Jr v)
  exact ⟨r, h1, h2, fun u hu hj => h3 u hu (fp_Jt hj h2)⟩
theorem fp_Ru (h1 : fp_R a b A u) (h2 : fp_R a b A v) (j : fp_J a b A u v) : u = v := by
  rcases Nat.lt_trichotomy u v with h | h | h
  · exact absurd j (h2 u h)
  · exact h
  · exact absurd (fp_Js j) (h1 v h)
theorem fp_Kcg (h : ∀ u v, fp_J a b A u v ↔ fp_J a b B u v) : fp_K a b A N = fp_K a b B N :=
  fp_c_cg N (fun v _ => ⟨fun g u hu j => g u hu ((h u v).mpr j), fun g u hu j => g u hu ((h u v).mp j)⟩)
theorem fp_Kj (j : fp_J a b A (a e) (b e)) : fp_K a b (fun x => A x ∨ x = e) N = fp_K a b A N := by
  refine fp_Kcg (fun u v => ⟨fun h => ?_, fun h => fp_Jm (fun x hx => Or.inl hx) h⟩)
  refine fp_Jsp (fun x hx => ?_) h
  rcases hx with hx | hx
  · exact fp_Je hx
  · rw [hx]; exact j
theorem fp_Kn0 {a1 b1 : Nat} (n : ¬ fp_J a b A (a e) (b e)) (hN1 : b1 < N) (hR1 : fp_R a b A a1) (hR2 : fp_R a b A b1) (hab : a1 < b1)
    (hc : (fp_J a b A a1 (a e) ∧ fp_J a b A b1 (b e)) ∨ (fp_J a b A a1 (b e) ∧ fp_J a b A b1 (a e))) : fp_K a b (fun x => A x ∨ x = e) N + 1 = fp_K a b A N := by
  have hJ : ∀ {s t : Nat}, fp_J a b A s t → fp_J a b (fun x => A x ∨ x = e) s t := fun q => fp_Jm (fun x hx => Or.inl hx) q
  have hje : fp_J a b (fun x => A x ∨ x = e) (a e) (b e) := fp_Je (Or.inr rfl)
  have hj : fp_J a b (fun x => A x ∨ x = e) a1 b1 := by
    rcases hc with ⟨h, g⟩ | ⟨h, g⟩
    · exact fp_Jt (hJ h) (fp_Jt hje (fp_Js (hJ g)))
    · exact fp_Jt (hJ h) (fp_Jt (fp_Js hje) (fp_Js (hJ g)))
  have hkey : ∀ v, fp_R a b A v ↔ (fp_R a b (fun x => A x ∨ x = e) v ∨ v = b1) := by
    intro v
    constructor
    · intro hv
      rcases Classical.em (v = b1) with q | q
      · exact Or.inr q
      · refine Or.inl (fun u hu j => ?_)
        have same : ∀ {s t : Nat}, fp_J a b A s t → fp_J a b A u s → fp_J a b A t v → False := fun q1 q2 q3 => hv u hu (fp_Jt q2 (fp_Jt q1 q3))
        rcases fp_Ja j with h | ⟨h, g⟩ | ⟨h, g⟩
        · exact hv u hu h
        · rcases hc with ⟨c1, c2⟩ | ⟨c1, c2⟩
          · exact q (fp_Ru hv hR2 (fp_Js (fp_Jt c2 g)))
          · have hv1 : a1 = v := fp_Ru hR1 hv (fp_Jt c1 g)
            exact hR2 u (by omega) (fp_Jt h (fp_Js c2))
        · rcases hc with ⟨c1, c2⟩ | ⟨c1, c2⟩
          · have hv1 : a1 = v := fp_Ru hR1 hv (fp_Jt c1 g)
            exact hR2 u (by omega) (fp_Jt h (fp_Js c2))
          · exact q (fp_Ru hv hR2 (fp_Js (fp_Jt c2 g)))
    · rintro (h | h)
      · exact fun u hu j => h u hu (hJ j)
      · rw [h]; exact hR2
  have hb : ¬ fp_R a b (fun x => A x ∨ x = e) b1 := fun h => h a1 hab hj
  unfold fp_K
  rw [← fp_c_in hN1 hb]
  exact fp_c_cg N (fun v _ => (hkey v).symm)
theorem fp_Kn (n : ¬ fp_J a b A (a e) (b e)) (ha : a e < N) (hb : b e < N) : fp_K a b (fun x => A x ∨ x = e) N + 1 = fp_K a b A N := by
  obtain ⟨a1, h1, h2, h3⟩ := fp_rpx (a := a) (b := b) (A := A) (a e)
  obtain ⟨b1, g1, g2, g3⟩ := fp_rpx (a := a) (b := b) (A := A) (b e)
  rcases Nat.lt_trichotomy a1 b1 with h | h | h
  · exact fp_Kn0 n (by omega) h3 g3 h (Or.inl ⟨h2, g2⟩)
  · exact absurd (fp_Jt (fp_Js h2) (h ▸ g2)) n
  · exact fp_Kn0 n (by omega) g3 h3 h (Or.inr ⟨g2, h2⟩)
theorem fp_K0 : fp_K a b (fun _ => False) N = N :=
  fp_c_tr N (fun v _ u hu j => absurd (j (fun x => x = u) (fun _ h => h.elim) rfl) (by omega))
/-- edges of B that come to A lessen the components by one each at most -/
theorem fp_Kge (M : Nat) (ha : ∀ e, B e → a e < N) (hb : ∀ e, B e → b e < N) : fp_K a b A N ≤ fp_K a b (fun x => A x ∨ (B x ∧ x < M)) N + fp_c B M := by
  induction M with
  | zero =>
    refine Nat.le_of_eq (fp_Kcg (fun u v => ⟨fun h => fp_Jm (fun x hx => Or.inl hx) h, fun h => fp_Jm (fun x hx => hx.elim id (fun q => absurd q.2 (by omega))) h⟩))
  | succ M ih =>
    rcases Classical.em (B M) with hB | hB
    · rw [fp_cS, fp_b1 hB]
      have e1 : fp_K a b (fun x => A x ∨ (B x ∧ x < M + 1)) N = fp_K a b (fun x => (A x ∨ (B x ∧ x < M)) ∨ x = M) N := by
        refine fp_Kcg (fun u v => ⟨fun h => fp_Jm (fun x hx => ?_) h, fun h => fp_Jm (fun x hx => ?_) h⟩)
        · rcases hx with hx | ⟨hx, hl⟩
          · exact Or.inl (Or.inl hx)
          · rcases Nat.lt_or_ge x M with q | q
            · exact Or.inl (Or.inr ⟨hx, q⟩)
            · exact Or.inr (by omega)
        · rcases hx with (hx | ⟨hx, hl⟩) | hx
          · exact Or.inl hx
          · exact Or.inr ⟨hx, by omega⟩
          · exact Or.inr ⟨hx ▸ hB, by omega⟩
      rw [e1]
      rcases Classical.em (fp_J a b (fun x => A x ∨ (B x ∧ x < M)) (a M) (b M)) with hj | hj
      · rw [fp_Kj hj]; omega
      · have := fp_Kn (N := N) hj (ha M hB) (hb M hB); omega
    · rw [fp_cS, fp_b0 hB]
      have e1 : fp_K a b (fun x => A x ∨ (B x ∧ x < M + 1)) N = fp_K a b (fun x => A x ∨ (B x ∧ x < M)) N := by
        refine fp_Kcg (fun u v => ⟨fun h => fp_Jm (fun x hx => ?_) h, fun h => fp_Jm (fun x hx => ?_) h⟩)
        · rcases hx with hx | ⟨hx, hl⟩
          · exact Or.inl hx
          · rcases Nat.lt_or_ge x M with q | q
            · exact Or.inr ⟨hx, q⟩
            · have : x = M := by omega
              exact absurd (this ▸ hx) hB
        · rcases hx with hx | ⟨hx, hl⟩
          · exact Or.inl hx
          · exact Or.inr ⟨hx, by omega⟩
      rw [e1]; omega
/-- a forest's components -/
theorem fp_KY (M : Nat) (y : fp_Y a b B) (ha : ∀ e, B e → a e < N) (hb : ∀ e, B e → b e < N) : fp_K a b (fun x => B x ∧ x < M) N + fp_c B M = N := by
  induction M with
  | zero =>
    have : fp_K a b (fun x => B x ∧ x < 0) N = N := by
      refine (fp_Kcg (A := fun x => B x ∧ x < 0) (B := fun _ => False) (fun u v => ⟨fun h => fp_Jm (fun x hx => absurd hx.2 (by omega)) h, fun h => fp_Jm (fun x hx => hx.elim) h⟩)).trans fp_K0
    rw [this]; rfl
  | succ M ih =>
    rcases Classical.em (B M) with hB | hB
    · rw [fp_cS, fp_b1 hB]
      have e1 : fp_K a b (fun x => B x ∧ x < M + 1) N = fp_K a b (fun x => (B x ∧ x < M) ∨ x = M) N := by
        refine fp_Kcg (fun u v => ⟨fun h => fp_Jm (fun x hx => ?_) h, fun h => fp_Jm (fun x hx => ?_) h⟩)
        · rcases Nat.lt_or_ge x M with q | q
          · exact Or.inl ⟨hx.1, q⟩
          · exact Or.inr (by omega)
        · rcases hx with hx | hx
          · exact ⟨hx.1, by omega⟩
          · exact ⟨hx ▸ hB, by omega⟩
      rw [e1]
      have hj : ¬ fp_J a b (fun x => B x ∧ x < M) (a M) (b M) := fun h => y M hB (fp_Jm (fun x hx => ⟨hx.1, by omega⟩) h)
      have := fp_Kn (N := N) hj (ha M hB) (hb M hB); omega
    · rw [fp_cS, fp_b0 hB]
      have e1 : fp_K a b (fun x => B x ∧ x < M + 1) N = fp_K a b (fun x => B x ∧ x < M) N := by
        refine fp_Kcg (fun u v => ⟨fun h => fp_Jm (fun x hx => ?_) h, fun h => fp_Jm (fun x hx => ⟨hx.1, by omega⟩) h⟩)
        rcases Nat.lt_or_ge x M with q | q
        · exact ⟨hx.1, q⟩
        · have : x = M := by omega
          exact absurd (this ▸ hx.1) hB
      rw [e1]; omega
end
end
section
/-- the parts that a parting L of the vertices below v has, if every new part gets the least free number -/
def fp_mx (L : Nat → Nat) : Nat → Nat
  | 0 => 0
  | v + 1 => if fp_mx L v ≤ L v then L v + 1 else fp_mx L v
def fp_G (N : Nat) (L : Nat → Nat) : Prop := ∀ v, v < N → L v ≤ fp_mx L v
theorem fp_mxS (L : Nat → Nat) (v : Nat) : fp_mx L (v + 1) = if fp_mx L v ≤ L v then L v + 1 else fp_mx L v := rfl
theorem fp_mxT {L : Nat → Nat} {v : Nat} (h : fp_mx L v ≤ L v) : fp_mx L (v + 1) = L v + 1 := by rw [fp_mxS, if_pos h]
theorem fp_mxF {L : Nat → Nat} {v : Nat} (h : L v < fp_mx L v) : fp_mx L (v + 1) = fp_mx L v := by rw [fp_mxS, if_neg (by omega)]
theorem fp_mx1 (L : Nat → Nat) (v : Nat) : fp_mx L v ≤ fp_mx L (v + 1) ∧ L v < fp_mx L (v + 1) := by
  rcases Nat.lt_or_ge (L v) (fp_mx L v) with h | h
  · rw [fp_mxF h]; omega
  · rw [fp_mxT h]; omega
theorem fp_mx_lt (L : Nat → Nat) (v : Nat) : ∀ u, u < v → L u < fp_mx L v := by
  induction v with
  | zero => intro u hu; omega
  | succ v ih =>
    intro u hu
    have h := fp_mx1 L v
    rcases Nat.lt_or_ge u v with g | g
    · have := ih u g; omega
    · have e : u = v := by omega
      rw [e]; exact h.2
theorem fp_mx_cg {L K : Nat → Nat} (v : Nat) (h : ∀ u, u < v → L u = K u) : fp_mx L v = fp_mx K v := by
  induction v with
  | zero => rfl
  | succ v ih => rw [fp_mxS, fp_mxS, ih (fun u hu => h u (by omega)), h v (by omega)]
theorem fp_mx_le {N : Nat} {L : Nat → Nat} (g : fp_G N L) (v : Nat) (hv : v ≤ N) : fp_mx L v ≤ v := by
  induction v with
  | zero => exact Nat.le_refl _
  | succ v ih =>
    have h1 := ih (by omega)
    have h2 := g v (by omega)
    rcases Nat.lt_or_ge (L v) (fp_mx L v) with h | h
    · rw [fp_mxF h]; omega
    · rw [fp_mxT h]; omega
theorem fp_mx_c {N : Nat} {L : Nat → Nat} (g : fp_G N L) (v : Nat) (hv : v ≤ N) : fp_c (fun u => L u = fp_mx L u) v = fp_mx L v := by
  induction v with
  | zero => rfl
  | succ v ih =>
    have h2 := g v (by omega)
    rw [fp_cS, ih (by omega)]
    rcases Nat.lt_or_ge (L v) (fp_mx L v) with h | h
    · rw [fp_mxF h, fp_b0 (by omega), Nat.add_zero]
    · rw [fp_mxT h, fp_b1 (by omega)]; omega
/-- r is the least of the bounds -/
def fp_M (cut : (Nat → Nat) → Nat) (N k r : Nat) : Prop := (∀ L, fp_G N L → r ≤ cut L + k * (N - fp_mx L N)) ∧ ∃ L, fp_G N L ∧ cut L + k * (N - fp_mx L N) ≤ r
theorem fp_Mu {cut : (Nat → Nat) → Nat} {N k r s : Nat} (h : fp_M cut N k r) (g : fp_M cut N k s) : r = s := by
  obtain ⟨L, h1, h2⟩ := h.2
  obtain ⟨K, g1, g2⟩ := g.2
  have := h.1 K g1
  have := g.1 L h1
  omega
theorem fp_Mcg {cut dut : (Nat → Nat) → Nat} {N k r : Nat} (e : ∀ L, cut L = dut L) (h : fp_M cut N k r) : fp_M dut N k r := by
  have : cut = dut := funext e
  rw [← this]; exact h
noncomputable def fp_cut (a b : Nat → Nat) (A : Nat → Prop) (L : Nat → Nat) : Nat := fp_c (fun e => A e ∧ L (a e) ≠ L (b e)) 17
theorem fp_lab (a b : Nat → Nat) (A : Nat → Prop) : ∃ L : Nat → Nat, (∀ v, L v ≤ fp_mx L v) ∧ (∀ u v, fp_J a b A u v → L u = L v) ∧ ∀ N, fp_mx L N = fp_K a b A N := by
  obtain ⟨rp, hrp⟩ : ∃ rp : Nat → Nat, ∀ v, rp v ≤ v ∧ fp_J a b A (rp v) v ∧ fp_R a b A (rp v) :=
    ⟨fun v => Classical.choose (fp_rpx (a := a) (b := b) (A := A) v), fun v => Classical.choose_spec (fp_rpx (a := a) (b := b) (A := A) v)⟩
  obtain ⟨L, hL⟩ : ∃ L : Nat → Nat, ∀ v, L v = fp_c (fp_R a b A) (rp v) := ⟨fun v => fp_c (fp_R a b A) (rp v), fun _ => rfl⟩
  have key : ∀ v, fp_mx L v = fp_K a b A v := by
    intro v
    induction v with
    | zero => rfl
    | succ v ih =>
      show _ = fp_c (fp_R a b A) (v + 1)
      have ih' : fp_mx L v = fp_c (fp_R a b A) v := ih
      rw [fp_cS]
      rcases Classical.em (fp_R a b A v) with h | h
      · have e : rp v = v := fp_Ru (hrp v).2.2 h (hrp v).2.1
        have e2 : L v = fp_mx L v := by rw [hL, e, ih']
        rw [fp_mxT (by omega), fp_b1 h]; omega
      · have e : rp v < v := by
          rcases Nat.lt_or_ge (rp v) v with q | q
          · exact q
          · have e : rp v = v := by have := (hrp v).1; omega
            exact absurd (e ▸ (hrp v).2.2) h
        have e2 : fp_c (fp_R a b A) (rp v + 1) ≤ fp_c (fp_R a b A) v := fp_c_up _ (by omega)
        rw [fp_cS, fp_b1 (hrp v).2.2, ← hL] at e2
        rw [fp_mxF (by omega), fp_b0 h]; omega
  refine ⟨L, fun v => ?_, fun u v j => ?_, key⟩
  · rw [key, hL]; exact fp_c_up _ (hrp v).1
  · have e : rp u = rp v := fp_Ru (hrp u).2.2 (hrp v).2.2 (fp_Jt (hrp u).2.1 (fp_Jt j (fp_Js (hrp v).2.1)))
    rw [hL, hL, e]
/-- a parting has at most as many parts as edges inside its parts leave components -/
theorem fp_mxK {a b : Nat → Nat} {A : Nat → Prop} {N : Nat} {L : Nat → Nat} (g : fp_G N L) (h : ∀ e, A e → L (a e) = L (b e)) : fp_mx L N ≤ fp_K a b A N := by
  rw [← fp_mx_c g N (Nat.le_refl _)]
  refine fp_c_mo N (fun v _ hv u hu j => ?_)
  have e : L u = L v := j (fun w => L u = L w) (fun e he => by rw [h e he]) rfl
  have := fp_mx_lt L v u hu
  omega
theorem fp_nIm {i : Nat} (h : i < 2 ^ 31) : nI i ≠ -1 := by
  intro e
  have := nI_pos h
  rw [e] at this
  exact this (by decide)
section
variable {a b : Nat → Nat} {A D : Nat → Prop} {h : Nat → Int32} {N k : Nat}
theorem fp_finU (hk : k < 2 ^ 31) (ha : ∀ e, a e < N) (hb : ∀ e, b e < N)
    (hY : ∀ i, i < k → fp_Y a b (fun e => A e ∧ h e = nI i))
    (hR : ∀ e, A e → h e = -1 ∨ ∃ i, i < k ∧ h e = nI i) (L : Nat → Nat) (g : fp_G N L) :
    fp_c (fun e => A e ∧ h e ≠ -1) 17 ≤ fp_cut a b A L + k * (N - fp_mx L N) := by
  rw [fp_c_sp _ (fun e => L (a e) ≠ L (b e)) 17]
  refine Nat.add_le_add (fp_c_mo 17 (fun e _ q => ⟨q.1.1, q.2⟩)) ?_
  have e1 : fp_c (fun e => (A e ∧ h e ≠ -1) ∧ ¬ (L (a e) ≠ L (b e))) 17 = fp_c (fun e => (A e ∧ L (a e) = L (b e)) ∧ ∃ i, i < k ∧ h e = nI i) 17 := by
    refine fp_c_cg 17 (fun e _ => ⟨fun q => ⟨⟨q.1.1, Classical.not_not.mp q.2⟩, ?_⟩, fun q => ⟨⟨q.1.1, ?_⟩, fun z => z q.1.2⟩⟩)
    · exact (hR e q.1.1).resolve_left q.1.2
    · obtain ⟨i, hi, he⟩ := q.2
      rw [he]; exact fp_nIm (by omega)
  rw [e1, fp_s_c _ _ _ _ hk]
  refine fp_s_le k (fun i hi => ?_)
  have y : fp_Y a b (fun e => (A e ∧ L (a e) = L (b e)) ∧ h e = nI i) := fp_Ym (fun e q => ⟨q.1.1, q.2⟩) (hY i hi)
  have q1 := fp_KY (N := N) 17 y (fun e _ => ha e) (fun e _ => hb e)
  have q2 : fp_mx L N ≤ fp_K a b (fun x => ((A x ∧ L (a x) = L (b x)) ∧ h x = nI i) ∧ x < 17) N := fp_mxK g (fun e q => q.1.1.2)
  omega
theorem fp_finL (hk : k < 2 ^ 31) (hA : ∀ e, A e → e < 17) (ha : ∀ e, a e < N) (hb : ∀ e, b e < N)
    (hR : ∀ e, A e → h e = -1 ∨ ∃ i, i < k ∧ h e = nI i)
    (hDA : ∀ e, D e → A e) (hD : ∀ e, A e → h e = -1 → D e)
    (hT : ∀ i, i < k → ∀ e, D e → fp_J a b (fun x => D x ∧ h x = nI i) (a e) (b e)) :
    ∃ L, fp_G N L ∧ fp_cut a b A L + k * (N - fp_mx L N) ≤ fp_c (fun e => A e ∧ h e ≠ -1) 17 := by
  obtain ⟨L, h1, h2, h3⟩ := fp_lab a b D
  refine ⟨L, fun v _ => h1 v, ?_⟩
  rw [fp_c_sp _ (fun e => ¬ D e) 17, h3]
  refine Nat.add_le_add (fp_c_mo 17 (fun e _ q => ?_)) ?_
  · have nd : ¬ D e := fun d => q.2 (h2 _ _ (fp_Je d))
    exact ⟨⟨q.1, fun z => nd (hD e q.1 z)⟩, nd⟩
  · have e1 : fp_c (fun e => (A e ∧ h e ≠ -1) ∧ ¬ ¬ D e) 17 = fp_c (fun e => D e ∧ ∃ i, i < k ∧ h e = nI i) 17 := by
      refine fp_c_cg 17 (fun e _ => ⟨fun q => ⟨Classical.not_not.mp q.2, (hR e q.1.1).resolve_left q.1.2⟩, fun q => ⟨⟨hDA e q.1, ?_⟩, fun z => z q.1⟩⟩)
      obtain ⟨i, hi, he⟩ := q.2
      rw [he]; exact fp_nIm (by omega)
    rw [e1, fp_s_c _ _ _ _ hk]
    refine fp_s_ge k (fun i hi => ?_)
    have q1 := fp_Kge (a := a) (b := b) (A := fun _ => False) (B := fun e => D e ∧ h e = nI i) (N := N) 17 (fun e _ => ha e) (fun e _ => hb e)
    rw [fp_K0] at q1
    have q2 : fp_K a b (fun x => False ∨ ((D x ∧ h x = nI i) ∧ x < 17)) N = fp_K a b D N := by
      refine fp_Kcg (fun u v => ⟨fun j => fp_Jm (fun x hx => (hx.resolve_left id).1.1) j, fun j => fp_Jsp (fun e he => fp_Jm (fun x hx => Or.inr ⟨hx, hA x (hDA x hx.1)⟩) (hT i hi e he)) j⟩)
    rw [q2] at q1
    omega
theorem fp_fin (hk : k < 2 ^ 31) (hA : ∀ e, A e → e < 17) (ha : ∀ e, a e < N) (hb : ∀ e, b e < N)
    (hY : ∀ i, i < k → fp_Y a b (fun e => A e ∧ h e = nI i))
    (hR : ∀ e, A e → h e = -1 ∨ ∃ i, i < k ∧ h e = nI i)
    (hDA : ∀ e, D e → A e) (hD : ∀ e, A e → h e = -1 → D e)
    (hT : ∀ i, i < k → ∀ e, D e → fp_J a b (fun x => D x ∧ h x = nI i) (a e) (b e)) :
    fp_M (fp_cut a b A) N k (fp_c (fun e => A e ∧ h e ≠ -1) 17) :=
  ⟨fp_finU hk ha hb hY hR, fp_finL hk hA ha hb hR hDA hD hT⟩
theorem fp_mxid (v : Nat) : fp_mx (fun x => x) v = v := by
  induction v with
  | zero => rfl
  | succ v ih => rw [fp_mxT (by rw [ih]; exact Nat.le_refl _)]
/-- every edge has a forest of its own -/
theorem fp_big (ha : ∀ e, a e < N) (hb : ∀ e, b e < N) (hne : ∀ e, A e → a e ≠ b e) (hk : fp_c A 17 ≤ k) : fp_M (fp_cut a b A) N k (fp_c A 17) := by
  refine ⟨fun L g => ?_, fun x => x, fun v _ => by rw [fp_mxid]; exact Nat.le_refl _, ?_⟩
  · have hle := fp_mx_le g N (Nat.le_refl _)
    rcases Nat.lt_or_ge (fp_mx L N) N with q | q
    · have : k * 1 ≤ k * (N - fp_mx L N) := Nat.mul_le_mul_left k (by omega)
      omega
    · have e1 := fp_mx_c g N (Nat.le_refl _)
      have all := fp_c_al (e1.trans (by omega : fp_mx L N = N))
      have : fp_c A 17 ≤ fp_cut a b A L := by
        refine fp_c_mo 17 (fun e _ he => ⟨he, fun z => ?_⟩)
        have h1 : L (a e) = fp_mx L (a e) := all (a e) (ha e)
        have h2 : L (b e) = fp_mx L (b e) := all (b e) (hb e)
        have h3 := hne e he
        rcases Nat.lt_or_ge (a e) (b e) with p | p
        · have := fp_mx_lt L (b e) (a e) p; omega
        · have := fp_mx_lt L (a e) (b e) (by omega); omega
      omega
  · rw [fp_mxid, Nat.sub_self, Nat.mul_zero, Nat.add_zero]
    show fp_c (fun e => A e ∧ a e ≠ b e) 17 ≤ fp_c A 17
    exact fp_c_mo 17 (fun e _ q => q.1)
/-- one forest -/
theorem fp_one (hA : ∀ e, A e → e < 17) (ha : ∀ e, a e < N) (hb : ∀ e, b e < N) : fp_M (fp_cut a b A) N 1 (N - fp_K a b A N) := by
  refine ⟨fun L g => ?_, ?_⟩
  · have q1 := fp_Kge (a := a) (b := b) (A := fun e => A e ∧ L (a e) = L (b e)) (B := fun e => A e ∧ L (a e) ≠ L (b e)) (N := N) 17 (fun e _ => ha e) (fun e _ => hb e)
    have q2 : fp_K a b (fun x => (A x ∧ L (a x) = L (b x)) ∨ ((A x ∧ L (a x) ≠ L (b x)) ∧ x < 17)) N = fp_K a b A N := by
      refine fp_Kcg (fun u v => ⟨fun j => fp_Jm (fun x hx => hx.elim (fun z => z.1) (fun z => z.1.1)) j, fun j => fp_Jm (fun x hx => ?_) j⟩)
      rcases Classical.em (L (a x) = L (b x)) with z | z
      · exact Or.inl ⟨hx, z⟩
      · exact Or.inr ⟨⟨hx, z⟩, hA x hx⟩
    rw [q2] at q1
    have q3 : fp_mx L N ≤ fp_K a b (fun e => A e ∧ L (a e) = L (b e)) N := fp_mxK g (fun e q => q.2)
    have q4 : fp_K a b A N ≤ N := fp_c_le _ N
    have q5 := fp_mx_le g N (Nat.le_refl _)
    have q6 : fp_cut a b A L = fp_c (fun e => A e ∧ L (a e) ≠ L (b e)) 17 := rfl
    omega
  · obtain ⟨L, h1, h2, h3⟩ := fp_lab a b A
    refine ⟨L, fun v _ => h1 v, ?_⟩
    have : fp_cut a b A L = 0 := fp_c_0 17 (fun e _ q => q.2 (h2 _ _ (fp_Je q.1)))
    rw [this, h3]; omega
end
end
section
theorem fp_Mx (cut : (Nat → Nat) → Nat) (N k : Nat) : ∃ r, fp_M cut N k r := by
  have h0 : fp_G N (fun x => x) := fun v _ => by rw [fp_mxid]; exact Nat.le_refl _
  obtain ⟨r, _, ⟨L, g, e⟩, h3⟩ := fp_lst (fun r => ∃ L, fp_G N L ∧ cut L + k * (N - fp_mx L N) = r) _ ⟨_, h0, rfl⟩
  refine ⟨r, fun K gK => ?_, L, g, Nat.le_of_eq e⟩
  rcases Nat.lt_or_ge (cut K + k * (N - fp_mx K N)) r with q | q
  · exact absurd ⟨K, gK, rfl⟩ (h3 _ q)
  · exact q
/-- the ways to go on for r vertices behind m parts -/
def fp_W : Nat → Nat → Nat
  | 0, _ => 1
  | r + 1, m => m * fp_W r m + fp_W r (m + 1)
def fp_rk (L : Nat → Nat) : Nat → Nat → Nat
  | 0, _ => 0
  | r + 1, v => L v * fp_W r (fp_mx L v) + fp_rk L r (v + 1)
theorem fp_rkS (L : Nat → Nat) (r v : Nat) : fp_rk L (r + 1) v = L v * fp_W r (fp_mx L v) + fp_rk L r (v + 1) := rfl
theorem fp_WS (r m : Nat) : fp_W (r + 1) m = m * fp_W r m + fp_W r (m + 1) := rfl
theorem fp_rk_lt (L : Nat → Nat) (r : Nat) : ∀ v, (∀ u, v ≤ u → u < v + r → L u ≤ fp_mx L u) → fp_rk L r v < fp_W r (fp_mx L v) := by
  induction r with
  | zero => intro v _; exact Nat.lt_succ_self 0
  | succ r ih =>
    intro v h
    have h1 := ih (v + 1) (fun u h1 h2 => h u (by omega) (by omega))
    have h2 := h v (Nat.le_refl _) (by omega)
    rw [fp_rkS, fp_WS]
    rcases Nat.lt_or_ge (L v) (fp_mx L v) with q | q
    · rw [fp_mxF q] at h1
      have h3 : (L v + 1) * fp_W r (fp_mx L v) ≤ fp_mx L v * fp_W r (fp_mx L v) := Nat.mul_le_mul_right _ q
      rw [Nat.succ_mul] at h3
      omega
    · have e : L v = fp_mx L v := by omega
      rw [fp_mxT q, e] at h1
      rw [e]
      omega
theorem fp_rk_ne {L K : Nat → Nat} {r v : Nat} (hL : ∀ u, v ≤ u → u < v + (r + 1) → L u ≤ fp_mx L u) (hK : K v ≤ fp_mx K v) (hm : fp_mx L v = fp_mx K v) (hlt : L v < K v) : fp_rk L (r + 1) v < fp_rk K (r + 1) v := by
  have h1 := fp_rk_lt L r (v + 1) (fun u h1 h2 => hL u (by omega) (by omega))
  rw [fp_mxF (by omega)] at h1
  rw [fp_rkS, fp_rkS, ← hm]
  have h3 : (L v + 1) * fp_W r (fp_mx L v) ≤ K v * fp_W r (fp_mx L v) := Nat.mul_le_mul_right _ hlt
  rw [Nat.succ_mul] at h3
  omega
theorem fp_rk_inj {L K : Nat → Nat} (r : Nat) : ∀ v, (∀ u, v ≤ u → u < v + r → L u ≤ fp_mx L u) → (∀ u, v ≤ u → u < v + r → K u ≤ fp_mx K u) → fp_mx L v = fp_mx K v → fp_rk L r v = fp_rk K r v → ∀ u, v ≤ u → u < v + r → L u = K u := by
  induction r with
  | zero => intro v _ _ _ _ u h1 h2; omega
  | succ r ih =>
    intro v hL hK hm he
    have e : L v = K v := by
      rcases Nat.lt_trichotomy (L v) (K v) with q | q | q
      · have := fp_rk_ne hL (hK v (Nat.le_refl _) (by omega)) hm q; omega
      · exact q
      · have := fp_rk_ne hK (hL v (Nat.le_refl _) (by omega)) hm.symm q; omega
    rw [fp_rkS, fp_rkS, hm, e] at he
    have hm' : fp_mx L (v + 1) = fp_mx K (v + 1) := by rw [fp_mxS, fp_mxS, hm, e]
    intro u h1 h2
    rcases Nat.lt_or_ge v u with q | q
    · exact ih (v + 1) (fun u h1 h2 => hL u (by omega) (by omega)) (fun u h1 h2 => hK u (by omega) (by omega)) hm' (by omega) u q (by omega)
    · have : u = v := by omega
      rw [this]; exact e
theorem fp_rk_top (L : Nat → Nat) (r : Nat) : ∀ v, (∀ u, v ≤ u → u < v + r → L u = fp_mx L u) → fp_rk L r v + 1 = fp_W r (fp_mx L v) := by
  induction r with
  | zero => intro v _; rfl
  | succ r ih =>
    intro v h
    have h1 := ih (v + 1) (fun u h1 h2 => h u (by omega) (by omega))
    have h2 := h v (Nat.le_refl _) (by omega)
    rw [fp_mxT (by omega), h2] at h1
    rw [fp_rkS, fp_WS, h2]
    omega
theorem fp_rk_z (L : Nat → Nat) (r : Nat) : ∀ v, (∀ u, v ≤ u → u < v + r → L u = 0) → fp_rk L r v = 0 := by
  induction r with
  | zero => intro v _; rfl
  | succ r ih =>
    intro v h
    rw [fp_rkS, h v (Nat.le_refl _) (by omega), ih (v + 1) (fun u h1 h2 => h u (by omega) (by omega)), Nat.zero_mul]
theorem fp_rk_pre {L K : Nat → Nat} (r d : Nat) : ∀ v, (∀ u, u < v + d → L u = K u) → fp_rk L r (v + d) + 1 = fp_rk K r (v + d) → fp_rk L (d + r) v + 1 = fp_rk K (d + r) v := by
  induction d with
  | zero => intro v _ h; rw [Nat.zero_add]; exact h
  | succ d ih =>
    intro v hu h
    have e : d + 1 + r = (d + r) + 1 := by omega
    rw [e, fp_rkS, fp_rkS, hu v (by omega), fp_mx_cg v (fun u q => hu u (by omega))]
    have e2 : v + 1 + d = v + (d + 1) := by omega
    have := ih (v + 1) (fun u q => hu u (by omega)) (by rw [e2]; exact h)
    omega
/-- the next parting: its rank is one more -/
theorem fp_next {N v : Nat} {L K : Nat → Nat} (g : fp_G N L) (hv : v < N) (h1 : L v < fp_mx L v) (h2 : ∀ u, v < u → u < N → L u = fp_mx L u)
    (k1 : ∀ u, u < v → K u = L u) (k2 : K v = L v + 1) (k3 : ∀ u, v < u → u < N → K u = 0) : fp_G N K ∧ fp_rk K N 0 = fp_rk L N 0 + 1 := by
  have hm : fp_mx K v = fp_mx L v := fp_mx_cg v (fun u hu => k1 u hu)
  constructor
  · intro u hu
    rcases Nat.lt_trichotomy u v with q | q | q
    · rw [k1 u q, fp_mx_cg u (fun w hw => k1 w (by omega))]; exact g u hu
    · rw [q, k2, hm]; omega
    · rw [k3 u q hu]; exact Nat.zero_le _
  · obtain ⟨r, hr⟩ : ∃ r, N = v + (r + 1) := ⟨N - v - 1, by omega⟩
    have t1 := fp_rk_top L r (v + 1) (fun u q1 q2 => h2 u (by omega) (by omega))
    rw [fp_mxF h1] at t1
    have t2 := fp_rk_z K r (v + 1) (fun u q1 q2 => k3 u (by omega) (by omega))
    have key : fp_rk L (r + 1) v + 1 = fp_rk K (r + 1) v := by
      rw [fp_rkS, fp_rkS, k2, hm, t2, Nat.succ_mul]; omega
    have := fp_rk_pre (L := L) (K := K) (r + 1) v 0 (fun u hu => (k1 u (by omega)).symm) (by rw [Nat.zero_add]; exact key)
    rw [hr]; omega
theorem fp_last {N : Nat} {L : Nat → Nat} (g : fp_G N L) (h : ∀ u, 0 < u → u < N → L u = fp_mx L u) : fp_rk L N 0 + 1 = fp_W N 0 := by
  refine fp_rk_top L N 0 (fun u _ h2 => ?_)
  rcases Nat.eq_zero_or_pos u with q | q
  · rw [q]; have := g 0 (by omega); have e : fp_mx L 0 = 0 := rfl; omega
  · exact h u q (by omega)
theorem fp_rkl {N : Nat} {L : Nat → Nat} (g : fp_G N L) : fp_rk L N 0 < fp_W N 0 := fp_rk_lt L N 0 (fun u _ h => g u (by omega))
theorem fp_rki {N : Nat} {L K : Nat → Nat} (g : fp_G N L) (gK : fp_G N K) (e : fp_rk L N 0 = fp_rk K N 0) : ∀ u, u < N → L u = K u :=
  fun u hu => fp_rk_inj N 0 (fun u _ h => g u (by omega)) (fun u _ h => gK u (by omega)) rfl e u (Nat.zero_le _) (by omega)
theorem fp_W7 : ∀ N, N ≤ 7 → fp_W N 0 ≤ 877 := by decide
theorem fp_rk0 (N : Nat) : fp_rk (fun _ => 0) N 0 = 0 := fp_rk_z _ N 0 (fun _ _ _ => rfl)
end
section
theorem fp_if {c d A B : Prop} (e : c ↔ d) (f : d → A) (g : ¬ d → B) : (c → A) ∧ (¬ c → B) := ⟨fun h => f (e.mp h), fun h => g (fun z => h (e.mpr z))⟩
theorem fp_leP {a m : Nat} (ha : a < 2 ^ 31) (hm : m < 2 ^ 31) : nI a ≤ nI m - 1 ↔ a < m := by
  cases m with
  | zero =>
    have h1 : ¬ nI a ≤ nI 0 - 1 := by
      intro h
      have h2 := nI_pos' ha
      have h3 : (0 : Int32) ≤ nI 0 - 1 := Int32.le_trans h2 h
      exact absurd h3 (by decide)
    exact ⟨fun h => absurd h h1, fun h => by omega⟩
  | succ m =>
    rw [nI_pred, nI_leI ha (by omega)]
    omega
theorem fp_ltP {a m : Nat} (ha : a < 2 ^ 31) (hm : m < 2 ^ 31) : nI m - 1 < nI a ↔ m ≤ a := by
  have h := fp_leP ha hm
  rw [← Int32.not_le, h]
  omega
theorem fp_1P (m : Nat) : nI m - 1 + 1 = nI m := Int32.sub_add_cancel _ _
section
variable {f_n f_count : Int32} {a_from a_to a_part a_least : Nat → Int32} {N v E : Nat} {L a b : Nat → Nat}
theorem fy_mb0 {post : Int32 → Prop} (g : fp_G N L) (hN : N ≤ 7) (hp : ∀ j, j < N → a_part j = nI (L j)) (hv : v ≤ N) (h : post (nI (fp_mx L v) - 1)) : ∀ d j n, j + d = v → d < n → wY_mostBefore_4 post (nI v) f_n f_count a_from a_to a_part a_least n (nI (fp_mx L j) - 1) (nI j) := by
  intro d
  induction d with
  | zero =>
    intro j n hj hn
    obtain ⟨n, rfl⟩ : ∃ m, n = m + 1 := ⟨n - 1, by omega⟩
    have e : j = v := by omega
    subst e
    exact br_t (nI_le (Nat.le_refl _) (by omega)) h
  | succ d ih =>
    intro j n hj hn
    obtain ⟨n, rfl⟩ : ∃ m, n = m + 1 := ⟨n - 1, by omega⟩
    have h1 := fp_mx_le g j (by omega)
    have h2 := g j (by omega)
    have hc : (nI j).toNatClampNeg = j := nI_clamp (by omega)
    have K := ih (j + 1) n (by omega) (by omega)
    have hin : vp_in (nI j) 7 := vp_in_nI (by omega) (by omega)
    refine br_f (nI_ge (by omega) (by omega)) ⟨hin, ?_⟩
    rw [hc, hp j (by omega)]
    refine fp_if (fp_leP (by omega) (by omega)) (fun q => nm_r (nI_1 j) ?_) (fun q => ⟨hin, nm_e (nm_r (nI_1 j) ?_)⟩)
    · rw [fp_mxF q] at K; exact K
    · rw [fp_mxT (by omega), nI_pred] at K; exact K
theorem fy_mb {post : Int32 → Prop} (g : fp_G N L) (hN : N ≤ 7) (hp : ∀ j, j < N → a_part j = nI (L j)) (hv : v ≤ N) (h : post (nI (fp_mx L v) - 1)) : wpY_mostBefore post (f_n, f_count, a_from, a_to, a_part, a_least) (nI v) := by
  have K := fy_mb0 (f_n := f_n) (f_count := f_count) (a_from := a_from) (a_to := a_to) (a_least := a_least) g hN hp hv h v 0 (v + 1) (by omega) (by omega)
  rw [show nI (fp_mx L 0) - 1 = -1 from (by decide : nI 0 - 1 = (-1 : Int32)), nI_0] at K
  exact ⟨_, K⟩
theorem fy_np39 {post : Int32 → SY → Prop} {t : Nat → Int32} (hN : N ≤ 7) (H : ∀ p : Nat → Int32, (∀ i, i < N → p i = t i) → post 1 (nI N, f_count, a_from, a_to, p, a_least)) : ∀ d j n (p : Nat → Int32), j + d = N → d < n → (∀ i, i < j → p i = t i) → (∀ i, j ≤ i → i < N → t i = 0) → wY_nextParting_39 post (nI N) f_count n (nI j) a_from a_to p a_least := by
  intro d
  induction d with
  | zero =>
    intro j n p hj hn h1 h2
    obtain ⟨n, rfl⟩ : ∃ m, n = m + 1 := ⟨n - 1, by omega⟩
    have e : j = N := by omega
    subst e
    exact br_t (nI_le (Nat.le_refl _) (by omega)) (H p h1)
  | succ d ih =>
    intro j n p hj hn h1 h2
    obtain ⟨n, rfl⟩ : ∃ m, n = m + 1 := ⟨n - 1, by omega⟩
    have hc : (nI j).toNatClampNeg = j := nI_clamp (by omega)
    have hin : vp_in (nI j) 7 := vp_in_nI (by omega) (by omega)
    refine br_f (nI_ge (by omega) (by omega)) ⟨hin, nm_e (nm_r (nI_1 j) ?_)⟩
    rw [hc]
    refine ih (j + 1) n _ (by omega) (by omega) (fun i hi => ?_) (fun i q1 q2 => h2 i (by omega) q2)
    rcases Nat.lt_or_ge i j with q | q
    · rw [pk_un (by omega)]; exact h1 i q
    · have e : i = j := by omega
      rw [e, pk_us]; exact (h2 j (Nat.le_refl _) (by omega)).symm
theorem fy_np7 {post : Int32 → SY → Prop} (g : fp_G N L) (hN : N ≤ 7) (hp : ∀ j, j < N → a_part j = nI (L j))
    (h0 : (∀ u, 0 < u → u < N → L u = fp_mx L u) → post 0 (nI N, f_count, a_from, a_to, a_part, a_least))
    (h1 : ∀ (K : Nat → Nat) (p : Nat → Int32), fp_G N K → fp_rk K N 0 = fp_rk L N 0 + 1 → (∀ j, j < N → p j = nI (K j)) → post 1 (nI N, f_count, a_from, a_to, p, a_least)) :
    ∀ v n, v < N → v < n → (∀ u, v < u → u < N → L u = fp_mx L u) → wY_nextParting_7 post (nI N) f_count a_from a_to a_part a_least n (nI v) := by
  intro v
  induction v with
  | zero =>
    intro n hv hn hu
    obtain ⟨n, rfl⟩ : ∃ m, n = m + 1 := ⟨n - 1, by omega⟩
    exact br_t (by decide) (h0 hu)
  | succ v ih =>
    intro n hv hn hu
    obtain ⟨n, rfl⟩ : ∃ m, n = m + 1 := ⟨n - 1, by omega⟩
    have hc : (nI (v + 1)).toNatClampNeg = v + 1 := nI_clamp (by omega)
    have hin : vp_in (nI (v + 1)) 7 := vp_in_nI (by omega) (by omega)
    have q1 := fp_mx_le g (v + 1) (by omega)
    have q2 := g (v + 1) (by omega)
    refine br_f (nI_nle (by omega) (by omega)) ⟨hin, ?_⟩
    refine fy_mb g hN hp (by omega) ?_
    rw [hc, hp (v + 1) hv]
    refine fp_if (fp_ltP (by omega) (by omega)) (fun q => nm_r (pk_m1 v) ?_) (fun q => ⟨hin, hin, nm_e (nm_r (nI_1 (v + 1)) ?_)⟩)
    · refine ih n (by omega) (by omega) (fun u hu1 hu2 => ?_)
      rcases Nat.lt_or_ge (v + 1) u with z | z
      · exact hu u z hu2
      · have e : u = v + 1 := by omega
        rw [e]; omega
    · obtain ⟨K, hK⟩ : ∃ K : Nat → Nat, ∀ u, K u = if u < v + 1 then L u else if u = v + 1 then L u + 1 else 0 := ⟨_, fun _ => rfl⟩
      have k1 : ∀ u, u < v + 1 → K u = L u := fun u hu => by rw [hK, if_pos hu]
      have k2 : K (v + 1) = L (v + 1) + 1 := by rw [hK, if_neg (by omega), if_pos rfl]
      have k3 : ∀ u, v + 1 < u → u < N → K u = 0 := fun u hu _ => by rw [hK, if_neg (by omega), if_neg (by omega)]
      have nx := fp_next g hv (by omega) hu k1 k2 k3
      refine ⟨N - (v + 2) + 1, fy_np39 (t := fun i => nI (K i)) hN (fun p hpp => h1 K p nx.1 nx.2 hpp) (N - (v + 2)) (v + 2) _ _ (by omega) (by omega) (fun i hi => ?_) (fun i i1 i2 => ?_)⟩
      · show upd _ _ _ i = nI (K i)
        rcases Nat.lt_or_ge i (v + 1) with z | z
        · rw [pk_un (by omega), k1 i z]; exact hp i (by omega)
        · have e : i = v + 1 := by omega
          rw [e, pk_us, k2, nI_1]
      · show nI (K i) = 0
        rw [k3 i (by omega) i2]; rfl
theorem fy_np {post : Int32 → SY → Prop} (g : fp_G N L) (hN2 : 2 ≤ N) (hN : N ≤ 7) (hp : ∀ j, j < N → a_part j = nI (L j))
    (h0 : (∀ u, 0 < u → u < N → L u = fp_mx L u) → post 0 (nI N, f_count, a_from, a_to, a_part, a_least))
    (h1 : ∀ (K : Nat → Nat) (p : Nat → Int32), fp_G N K → fp_rk K N 0 = fp_rk L N 0 + 1 → (∀ j, j < N → p j = nI (K j)) → post 1 (nI N, f_count, a_from, a_to, p, a_least)) :
    wpY_nextParting post (nI N, f_count, a_from, a_to, a_part, a_least) := by
  obtain ⟨m, rfl⟩ : ∃ m, N = m + 1 := ⟨N - 1, by omega⟩
  refine nm_r (nI_pred m) ⟨m + 1, fy_np7 g hN hp h0 h1 m (m + 1) (by omega) (by omega) (fun u q1 q2 => by omega)⟩
/-- the reference's cut -/
noncomputable def fy_cut (a b : Nat → Nat) (E : Nat) (x : Int32) (L : Nat → Nat) : Nat := fp_c (fun e => nI e ≠ x ∧ L (a e) ≠ L (b e)) E
theorem fy_ce0 {post : Int32 → Prop} {x : Int32} (g : fp_G N L) (hN : N ≤ 7) (hp : ∀ j, j < N → a_part j = nI (L j)) (hE : E ≤ 17)
    (hF : ∀ e, a_from e = nI (a e)) (hT : ∀ e, a_to e = nI (b e)) (ha : ∀ e, a e < N) (hb : ∀ e, b e < N) (h : post (nI (fy_cut a b E x L))) :
    ∀ d j n, j + d = E → d < n → wY_cutEdges_5 post (nI E) x f_n f_count a_from a_to a_part a_least n (nI (fy_cut a b j x L)) (nI j) := by
  intro d
  induction d with
  | zero =>
    intro j n hj hn
    obtain ⟨n, rfl⟩ : ∃ m, n = m + 1 := ⟨n - 1, by omega⟩
    have e : j = E := by omega
    subst e
    exact br_t (nI_le (Nat.le_refl _) (by omega)) h
  | succ d ih =>
    intro j n hj hn
    obtain ⟨n, rfl⟩ : ∃ m, n = m + 1 := ⟨n - 1, by omega⟩
    have hc : (nI j).toNatClampNeg = j := nI_clamp (by omega)
    have hin : vp_in (nI j) 17 := vp_in_nI (by omega) (by omega)
    have K := ih (j + 1) n (by omega) (by omega)
    have ja := ha j
    have jb := hb j
    have la := g (a j) ja
    have lb := g (b j) jb
    have ma := fp_mx_le g (a j) (by omega)
    have mb := fp_mx_le g (b j) (by omega)
    have e0 : fy_cut a b (j + 1) x L = fy_cut a b j x L + fp_b (nI j ≠ x ∧ L (a j) ≠ L (b j)) := rfl
    refine br_f (nI_ge (by omega) (by omega)) (br_c (fun q => nm_r (nI_1 j) ?_) (fun q => ⟨hin, ?_⟩))
    · rw [e0, fp_b0 (fun z => z.1 q)] at K; exact K
    · rw [hc, hF, hT, nI_clamp (n := a j) (by omega), nI_clamp (n := b j) (by omega), hp _ ja, hp _ jb]
      refine ⟨vp_in_nI (by omega) (by omega), hin, vp_in_nI (by omega) (by omega), fp_if (nI_eq (by omega) (by omega)) (fun z => nm_r (nI_1 j) ?_) (fun z => nm_r (nI_1 _) (nm_r (nI_1 j) ?_))⟩
      · rw [e0, fp_b0 (fun y => y.2 z)] at K; exact K
      · rw [e0, fp_b1 ⟨q, z⟩] at K; exact K
theorem fy_ce {post : Int32 → Prop} {x : Int32} (g : fp_G N L) (hN : N ≤ 7) (hp : ∀ j, j < N → a_part j = nI (L j)) (hE : E ≤ 17)
    (hF : ∀ e, a_from e = nI (a e)) (hT : ∀ e, a_to e = nI (b e)) (ha : ∀ e, a e < N) (hb : ∀ e, b e < N) (h : post (nI (fy_cut a b E x L))) :
    wpY_cutEdges post (f_n, f_count, a_from, a_to, a_part, a_least) (nI E) x :=
  ⟨_, fy_ce0 g hN hp hE hF hT ha hb h E 0 (E + 1) (by omega) (by omega)⟩
/-- the table of least cuts, over the partings of rank below i -/
def fy_LM (cut : (Nat → Nat) → Nat) (N i : Nat) (l : Nat → Int32) : Prop := ∃ m : Nat → Nat, (∀ j, j < 8 → l j = nI (m j)) ∧ (∀ j, j < 8 → m j ≤ 1000) ∧ (∀ K, fp_G N K → fp_rk K N 0 < i → m (fp_mx K N) ≤ cut K) ∧ (∀ j, j < 8 → m j = 1000 ∨ ∃ K, fp_G N K ∧ fp_mx K N = j ∧ cut K = m j)
theorem fy_LMu {cut : (Nat → Nat) → Nat} {i : Nat} {l : Nat → Int32} {z : Int32} (g : fp_G N L) (hN : N ≤ 7) (hr : fp_rk L N 0 = i) (h : fy_LM cut N i l)
    (hcg : ∀ K, (∀ u, u < N → L u = K u) → cut L = cut K) (hcl : cut L ≤ 1000)
    (hz : (z = l (fp_mx L N) ∧ l (fp_mx L N) ≤ nI (cut L)) ∨ (z = nI (cut L) ∧ ¬ l (fp_mx L N) ≤ nI (cut L))) : fy_LM cut N (i + 1) (upd l (fp_mx L N) z) := by
  obtain ⟨m, h1, h2, h3, h4⟩ := h
  have hm := fp_mx_le g N (Nat.le_refl _)
  have hm8 : fp_mx L N < 8 := by omega
  have hle := h2 _ hm8
  rw [h1 _ hm8, nI_leI (by omega) (by omega)] at hz
  obtain ⟨w, hw, hw1, hw2, hw3⟩ : ∃ w : Nat, z = nI w ∧ w ≤ m (fp_mx L N) ∧ w ≤ cut L ∧ (w = m (fp_mx L N) ∨ w = cut L) := by
    rcases hz with ⟨z1, z2⟩ | ⟨z1, z2⟩
    · exact ⟨_, z1, Nat.le_refl _, z2, Or.inl rfl⟩
    · exact ⟨_, z1, by omega, Nat.le_refl _, Or.inr rfl⟩
  obtain ⟨M, hM⟩ : ∃ M : Nat → Nat, ∀ j, M j = if j = fp_mx L N then w else m j := ⟨_, fun _ => rfl⟩
  have M1 : M (fp_mx L N) = w := by rw [hM, if_pos rfl]
  have M2 : ∀ j, j ≠ fp_mx L N → M j = m j := fun j hj => by rw [hM, if_neg hj]
  refine ⟨M, fun j hj => ?_, fun j hj => ?_, fun K gK rK => ?_, fun j hj => ?_⟩
  · rcases Classical.em (j = fp_mx L N) with q | q
    · rw [q, pk_us, M1]; exact hw
    · rw [pk_un q, M2 j q]; exact h1 j hj
  · rcases Classical.em (j = fp_mx L N) with q | q
    · rw [q, M1]; omega
    · rw [M2 j q]; exact h2 j hj
  · rcases Nat.lt_or_ge (fp_rk K N 0) i with q | q
    · have := h3 K gK q
      rcases Classical.em (fp_mx K N = fp_mx L N) with p | p
      · rw [p, M1]; rw [p] at this; omega
      · rw [M2 _ p]; exact this
    · have e := fp_rki g gK (by omega)
      rw [← fp_mx_cg N e, M1, ← hcg K e]
      exact hw2
  · rcases Classical.em (j = fp_mx L N) with q | q
    · rw [q, M1]
      rcases hw3 with p | p
      · rw [p, ← q]; exact h4 j hj
      · exact Or.inr ⟨L, g, rfl, p.symm⟩
    · rw [M2 j q]; exact h4 j hj
def fy_LO (cut : (Nat → Nat) → Nat) (N : Nat) (l : Nat → Int32) : Prop := fy_LM cut N (fp_W N 0) l
theorem fy_cutl (L : Nat → Nat) (x : Int32) (hE : E ≤ 17) : fy_cut a b E x L ≤ 17 := Nat.le_trans (fp_c_le _ E) hE
theorem fy_cutc {x : Int32} (ha : ∀ e, a e < N) (hb : ∀ e, b e < N) (K : Nat → Nat) (h : ∀ u, u < N → L u = K u) : fy_cut a b E x L = fy_cut a b E x K :=
  fp_c_cg E (fun e _ => by rw [h _ (ha e), h _ (hb e)])
theorem fy_fc49 {post : SY → Prop} {x : Int32} (hN2 : 2 ≤ N) (hN : N ≤ 7) (hE : E ≤ 17)
    (hF : ∀ e, a_from e = nI (a e)) (hT : ∀ e, a_to e = nI (b e)) (ha : ∀ e, a e < N) (hb : ∀ e, b e < N)
    (H : ∀ p l : Nat → Int32, fy_LO (fy_cut a b E x) N l → post (nI N, f_count, a_from, a_to, p, l)) :
    ∀ d i n (L : Nat → Nat) (p l : Nat → Int32), i + d = 877 → d < n → fp_G N L → (∀ j, j < N → p j = nI (L j)) → fp_rk L N 0 = i → fy_LM (fy_cut a b E x) N i l → wY_findCuts_49 post (nI E) x n 1 (nI i) (nI N) f_count a_from a_to p l := by
  intro d
  induction d with
  | zero =>
    intro i n L p l hi hn g hp hr hl
    have := fp_rkl g
    have := fp_W7 N hN
    omega
  | succ d ih =>
    intro i n L p l hi hn g hp hr hl
    obtain ⟨n, rfl⟩ : ∃ m, n = m + 2 := ⟨n - 2, by omega⟩
    have hm := fp_mx_le g N (Nat.le_refl _)
    have hc : (nI (fp_mx L N)).toNatClampNeg = fp_mx L N := nI_clamp (by omega)
    have hin : vp_in (nI (fp_mx L N)) 8 := vp_in_nI (by omega) (by omega)
    have hcl := fy_cutl (a := a) (b := b) (E := E) L x hE
    refine br_f (nI_ge (b := 877) (by omega) (by decide)) (br_f (by decide) ?_)
    refine fy_mb g hN hp (Nat.le_refl _) (nm_r (fp_1P _) ?_)
    refine fy_ce g hN hp hE hF hT ha hb ⟨hin, ?_⟩
    rw [hc]
    have step : ∀ z : Int32, ((z = l (fp_mx L N) ∧ l (fp_mx L N) ≤ nI (fy_cut a b E x L)) ∨ (z = nI (fy_cut a b E x L) ∧ ¬ l (fp_mx L N) ≤ nI (fy_cut a b E x L))) → wY_findCuts_111 post (wY_findCuts_49 post (nI E) x (n + 1)) (nI E) x (nI i) z (nI (fp_mx L N)) (nI N) f_count a_from a_to p l := by
      intro z hz
      refine ⟨hin, nm_e ?_⟩
      rw [hc]
      have hl' := fy_LMu g hN hr hl (fy_cutc ha hb) (by omega) hz
      refine fy_np g hN2 hN hp (fun hu => nm_r (nI_1 i) ?_) (fun K q gK rK hq => nm_r (nI_1 i) ?_)
      · have e : fp_W N 0 = i + 1 := by rw [← fp_last g hu, hr]
        have hLO : fy_LO (fy_cut a b E x) N (upd l (fp_mx L N) z) := by unfold fy_LO; rw [e]; exact hl'
        exact br_c (fun _ => H p _ hLO) (fun _ => br_t rfl (H p _ hLO))
      · exact ih (i + 1) (n + 1) K q _ (by omega) (by omega) gK hq (by omega) hl'
    exact br_c (fun q => ⟨hin, step _ (Or.inl ⟨rfl, q⟩)⟩) (fun q => step _ (Or.inr ⟨rfl, q⟩))
theorem fy_fc25 {post : SY → Prop} {x : Int32} {l : Nat → Int32} (hN : N ≤ 7)
    (H : ∀ p : Nat → Int32, (∀ j, j < 7 → p j = 0) → ∃ n, wY_findCuts_49 post (nI E) x n 1 0 (nI N) f_count a_from a_to p l) :
    ∀ d j n (p : Nat → Int32), j + d = 7 → d < n → (∀ i, i < j → p i = 0) → wY_findCuts_25 post (nI E) x (nI N) f_count n (nI j) a_from a_to p l := by
  intro d
  induction d with
  | zero =>
    intro j n p hj hn h1
    obtain ⟨n, rfl⟩ : ∃ m, n = m + 1 := ⟨n - 1, by omega⟩
    have e : j = 7 := by omega
    subst e
    exact br_t (by decide) (H p h1)
  | succ d ih =>
    intro j n p hj hn h1
    obtain ⟨n, rfl⟩ : ∃ m, n = m + 1 := ⟨n - 1, by omega⟩
    have hc : (nI j).toNatClampNeg = j := nI_clamp (by omega)
    have hin : vp_in (nI j) 7 := vp_in_nI (by omega) (by omega)
    refine br_f (nI_ge (b := 7) (by omega) (by decide)) ⟨hin, nm_e (nm_r (nI_1 j) ?_)⟩
    rw [hc]
    refine ih (j + 1) n _ (by omega) (by omega) (fun i hi => ?_)
    rcases Nat.lt_or_ge i j with q | q
    · rw [pk_un (by omega)]; exact h1 i q
    · have e : i = j := by omega
      rw [e, pk_us]
theorem fy_fc2 {post : SY → Prop} {x : Int32} {p : Nat → Int32} (hN : N ≤ 7)
    (H : ∀ l : Nat → Int32, (∀ j, j < 8 → l j = 1000) → ∃ n, wY_findCuts_25 post (nI E) x (nI N) f_count n 0 a_from a_to p l) :
    ∀ d j n (l : Nat → Int32), j + d = 8 → d < n → (∀ i, i < j → l i = 1000) → wY_findCuts_2 post (nI E) x (nI N) f_count n (nI j) a_from a_to p l := by
  intro d
  induction d with
  | zero =>
    intro j n p hj hn h1
    obtain ⟨n, rfl⟩ : ∃ m, n = m + 1 := ⟨n - 1, by omega⟩
    have e : j = 8 := by omega
    subst e
    exact br_t (by decide) (H p h1)
  | succ d ih =>
    intro j n p hj hn h1
    obtain ⟨n, rfl⟩ : ∃ m, n = m + 1 := ⟨n - 1, by omega⟩
    have hc : (nI j).toNatClampNeg = j := nI_clamp (by omega)
    have hin : vp_in (nI j) 8 := vp_in_nI (by omega) (by omega)
    refine br_f (nI_ge (b := 8) (by omega) (by decide)) ⟨hin, nm_e (nm_r (nI_1 j) ?_)⟩
    rw [hc]
    refine ih (j + 1) n _ (by omega) (by omega) (fun i hi => ?_)
    rcases Nat.lt_or_ge i j with q | q
    · rw [pk_un (by omega)]; exact h1 i q
    · have e : i = j := by omega
      rw [e, pk_us]
theorem fp_mx0 (v : Nat) : fp_mx (fun _ => 0) (v + 1) = 1 := by
  induction v with
  | zero => rfl
  | succ v ih => rw [fp_mxS, ih]; rfl
theorem fy_fc {post : SY → Prop} {x : Int32} (hN2 : 2 ≤ N) (hN : N ≤ 7) (hE : E ≤ 17)
    (hF : ∀ e, a_from e = nI (a e)) (hT : ∀ e, a_to e = nI (b e)) (ha : ∀ e, a e < N) (hb : ∀ e, b e < N)
    (H : ∀ p l : Nat → Int32, fy_LO (fy_cut a b E x) N l → post (nI N, f_count, a_from, a_to, p, l)) :
    wpY_findCuts post (nI N, f_count, a_from, a_to, a_part, a_least) (nI E) x := by
  refine ⟨_, fy_fc2 hN (fun l hl => ⟨_, fy_fc25 hN (fun p hp => ⟨_, fy_fc49 hN2 hN hE hF hT ha hb H 877 0 878 (fun _ => 0) p l (by omega) (by omega) ?_ ?_ ?_ ?_⟩) 7 0 8 a_part (by omega) (by omega) (fun i hi => by omega)⟩) 8 0 9 a_least (by omega) (by omega) (fun i hi => by omega)⟩
  · exact fun v _ => Nat.zero_le _
  · exact fun j hj => (hp j (by omega)).trans rfl
  · exact fp_rk0 N
  · refine ⟨fun _ => 1000, fun j hj => (hl j hj).trans rfl, fun _ _ => Nat.le_refl _, fun K _ h => by omega, fun _ _ => Or.inl rfl⟩
theorem fy_bd6 {post : Int32 → Prop} {m : Nat → Nat} {k : Nat} (hN : N ≤ 7) (hk : k ≤ 16) (hl : ∀ j, j < 8 → a_least j = nI (m j)) (hm : ∀ j, j < 8 → m j ≤ 1000)
    (H : ∀ r, r ≤ 1000 → (∀ j, 1 ≤ j → j ≤ N → r ≤ m j + k * (N - j)) → (r = 1000 ∨ ∃ j, 1 ≤ j ∧ j ≤ N ∧ r = m j + k * (N - j)) → post (nI r)) :
    ∀ d j n r, j + d = N + 1 → d < n → r ≤ 1000 → (∀ i, 1 ≤ i → i < j → r ≤ m i + k * (N - i)) → (r = 1000 ∨ ∃ i, 1 ≤ i ∧ i < j ∧ r = m i + k * (N - i)) → 1 ≤ j → wY_bound_6 post (nI k) (nI N) f_count a_from a_to a_part a_least n (nI r) (nI j) := by
  intro d
  induction d with
  | zero =>
    intro j n r hj hn hr h1 h2 h3
    obtain ⟨n, rfl⟩ : ∃ m, n = m + 1 := ⟨n - 1, by omega⟩
    refine br_t (nI_lt (by omega) (by omega)) (H r hr (fun i q1 q2 => h1 i q1 (by omega)) ?_)
    rcases h2 with h2 | ⟨i, q1, q2, q3⟩
    · exact Or.inl h2
    · exact Or.inr ⟨i, q1, by omega, q3⟩
  | succ d ih =>
    intro j n r hj hn hr h1 h2 h3
    obtain ⟨n, rfl⟩ : ∃ m, n = m + 1 := ⟨n - 1, by omega⟩
    have hc : (nI j).toNatClampNeg = j := nI_clamp (by omega)
    have hin : vp_in (nI j) 8 := vp_in_nI (by omega) (by omega)
    have hmj := hm j (by omega)
    have hkk : k * (N - j) ≤ 16 * 7 := Nat.mul_le_mul hk (by omega)
    have e : a_least (nI j).toNatClampNeg + nI k * (nI N - nI j) = nI (m j + k * (N - j)) := by
      rw [hc, hl j (by omega), pk_sub (by omega), pk_mul, nI_add]
    refine br_f (nI_nlt (by omega) (by omega)) ⟨hin, nm_r e (pk_le r (m j + k * (N - j)) (fun q => nm_r (nI_1 j) ?_) (fun q => nm_r (nI_1 j) ?_))⟩
    · refine ih (j + 1) n r (by omega) (by omega) hr (fun i q1 q2 => ?_) ?_ (by omega)
      · rcases Nat.lt_or_ge i j with p | p
        · exact h1 i q1 p
        · have e : i = j := by omega
          rw [e]; exact q
      · rcases h2 with h2 | ⟨i, q1, q2, q3⟩
        · exact Or.inl h2
        · exact Or.inr ⟨i, q1, by omega, q3⟩
    · refine ih (j + 1) n _ (by omega) (by omega) (by omega) (fun i q1 q2 => ?_) (Or.inr ⟨j, h3, by omega, rfl⟩) (by omega)
      rcases Nat.lt_or_ge i j with p | p
      · have := h1 i q1 p; omega
      · have e : i = j := by omega
        rw [e]; exact Nat.le_refl _
theorem fy_bd {post : Int32 → Prop} {cut : (Nat → Nat) → Nat} {k : Nat} (hN2 : 2 ≤ N) (hN : N ≤ 7) (hk : k ≤ 16) (hl : fy_LO cut N a_least) (hc : ∀ L, cut L ≤ 17)
    (H : ∀ r, fp_M cut N k r → post (nI r)) : wpY_bound post (nI N, f_count, a_from, a_to, a_part, a_least) (nI k) := by
  obtain ⟨m, h1, h2, h3, h4⟩ := hl
  refine ⟨_, fy_bd6 hN hk h1 h2 (fun r hr r1 r2 => H r ?_) N 1 (N + 1) 1000 (by omega) (by omega) (Nat.le_refl _) (fun i q1 q2 => by omega) (Or.inl rfl) (Nat.le_refl _)⟩
  have up : ∀ L, fp_G N L → r ≤ cut L + k * (N - fp_mx L N) := by
    intro L g
    have q1 := h3 L g (fp_rkl g)
    have q2 := fp_mx_le g N (Nat.le_refl _)
    have q3 : 1 ≤ fp_mx L N := by have := fp_mx_lt L N 0 (by omega); omega
    have := r1 _ q3 q2
    omega
  refine ⟨up, ?_⟩
  have r17 : r ≤ 17 := by
    have q := up (fun x => x) (fun v _ => by rw [fp_mxid]; exact Nat.le_refl _)
    rw [fp_mxid, Nat.sub_self, Nat.mul_zero] at q
    have := hc (fun x => x)
    omega
  rcases r2 with q | ⟨j, j1, j2, j3⟩
  · omega
  · rcases h4 j (by omega) with p | ⟨K, gK, k1, k2⟩
    · omega
    · exact ⟨K, gK, by rw [k1, k2, j3]; exact Nat.le_refl _⟩
end
end
section
section
variable {f_n f_count : Int32} {a_from a_to a_part a_least : Nat → Int32} {N c : Nat} {a b p q : Nat → Nat}
def fy_PI (a b : Nat → Nat) (c N : Nat) (p : Nat → Nat) : Prop := ∀ v, v < N → p v ≤ v ∧ fp_J a b (fun e => e < c) (p v) v
theorem fy_Rm {v x : Nat} {A : Nat → Prop} {y : Nat} (hR : fp_R a b A y) (h1 : fp_J a b A y v) (h2 : fp_J a b A x v) (h3 : x ≤ y) : x = y := by
  rcases Nat.lt_or_ge x y with h | h
  · exact absurd (fp_Jt h2 (fp_Js h1)) (hR x h)
  · omega
/-- one edge: both ends get the lesser label -/
theorem fy_ps {e w : Nat} (hI : fy_PI a b c N p) (he : e < c) (ha : a e < N) (hb : b e < N) (hw : (w = p (b e) ∧ p (b e) ≤ p (a e)) ∨ (w = p (a e) ∧ ¬ p (b e) ≤ p (a e)))
    (q1 : q (a e) = w) (q2 : q (b e) = w) (q3 : ∀ v, v ≠ a e → v ≠ b e → q v = p v) :
    fy_PI a b c N q ∧ (∀ v, v < N → fp_R a b (fun e => e < c) (p v) → q v = p v) ∧ (fp_R a b (fun e => e < c) (p (a e)) ∨ fp_R a b (fun e => e < c) (p (b e)) → fp_R a b (fun e => e < c) (q (a e)) ∧ fp_R a b (fun e => e < c) (q (b e))) := by
  have ja := hI _ ha
  have jb := hI _ hb
  have je : fp_J a b (fun e => e < c) (a e) (b e) := fp_Je he
  have wa : w ≤ p (a e) := by rcases hw with ⟨h, g⟩ | ⟨h, g⟩ <;> omega
  have wb : w ≤ p (b e) := by rcases hw with ⟨h, g⟩ | ⟨h, g⟩ <;> omega
  have wj : fp_J a b (fun e => e < c) w (a e) := by
    rcases hw with ⟨h, g⟩ | ⟨h, g⟩
    · rw [h]; exact fp_Jt jb.2 (fp_Js je)
    · rw [h]; exact ja.2
  have wk : fp_J a b (fun e => e < c) w (b e) := fp_Jt wj je
  have I2 : fy_PI a b c N q := by
    intro v hv
    rcases Classical.em (v = a e) with h | h
    · rw [h, q1]; exact ⟨by omega, wj⟩
    · rcases Classical.em (v = b e) with g | g
      · rw [g, q2]; exact ⟨by omega, wk⟩
      · rw [q3 v h g]; exact hI v hv
  have mo : ∀ v, v < N → fp_R a b (fun e => e < c) (p v) → q v = p v := by
    intro v hv hR
    rcases Classical.em (v = a e) with h | h
    · rw [h, q1]; rw [h] at hR; exact fy_Rm hR ja.2 wj wa
    · rcases Classical.em (v = b e) with g | g
      · rw [g, q2]; rw [g] at hR; exact fy_Rm hR jb.2 wk wb
      · exact q3 v h g
  refine ⟨I2, mo, fun h => ?_⟩
  rcases h with h | h
  · have e1 := mo _ ha h
    rw [q2, ← q1, e1]; exact ⟨h, h⟩
  · have e1 := mo _ hb h
    rw [q1, ← q2, e1]; exact ⟨h, h⟩
/-- a round makes one vertex more good, or all are -/
theorem fy_pr (hI : fy_PI a b c N p) (ha : ∀ e, a e < N) (hb : ∀ e, b e < N)
    (mo : ∀ v, v < N → fp_R a b (fun e => e < c) (p v) → q v = p v)
    (hr : ∀ e, e < c → fp_R a b (fun e => e < c) (p (a e)) ∨ fp_R a b (fun e => e < c) (p (b e)) → fp_R a b (fun e => e < c) (q (a e)) ∧ fp_R a b (fun e => e < c) (q (b e))) :
    (∀ v, v < N → fp_R a b (fun e => e < c) (q v)) ∨ fp_c (fun v => fp_R a b (fun e => e < c) (p v)) N + 1 ≤ fp_c (fun v => fp_R a b (fun e => e < c) (q v)) N := by
  have up : ∀ v, v < N → fp_R a b (fun e => e < c) (p v) → fp_R a b (fun e => e < c) (q v) := fun v hv h => by rw [mo v hv h]; exact h
  rcases Classical.em (∃ y, y < N ∧ ¬ fp_R a b (fun e => e < c) (p y) ∧ fp_R a b (fun e => e < c) (q y)) with ⟨y, hy, h1, h2⟩ | hn
  · refine Or.inr ?_
    rw [← fp_c_in (P := fun v => fp_R a b (fun e => e < c) (p v)) hy h1]
    exact fp_c_mo N (fun v hv h => h.elim (up v hv) (fun z => by rw [z]; exact h2))
  · refine Or.inl (fun v hv => up v hv ?_)
    have back : ∀ y, y < N → fp_R a b (fun e => e < c) (q y) → fp_R a b (fun e => e < c) (p y) := fun y hy h => Classical.byContradiction fun z => hn ⟨y, hy, z, h⟩
    obtain ⟨r, r1, r2, r3⟩ := fp_rpx (a := a) (b := b) (A := fun e => e < c) v
    have rN : r < N := by omega
    have hpr : p r = r := fy_Rm r3 (fp_Jr r) (hI r rN).2 (hI r rN).1
    refine r2 (fun w => fp_R a b (fun e => e < c) (p w)) (fun e he => ⟨fun h => back _ (hb e) (hr e he (Or.inl h)).2, fun h => back _ (ha e) (hr e he (Or.inr h)).1⟩) ?_
    show fp_R a b (fun e => e < c) (p r)
    rw [hpr]; exact r3
theorem fy_pn (hI : fy_PI a b c N p) (hg : ∀ v, v < N → fp_R a b (fun e => e < c) (p v)) : fp_c (fun v => p v = v) N = fp_K a b (fun e => e < c) N := by
  refine fp_c_cg N (fun v hv => ⟨fun h => ?_, fun h => ?_⟩)
  · have := hg v hv; rw [h] at this; exact this
  · exact fy_Rm h (fp_Jr v) (hI v hv).2 (hI v hv).1
theorem fy_pt132 {post : Int32 → SY → Prop} (hN : N ≤ 7) (hp : ∀ v, v < N → a_part v = nI (p v)) (hl : ∀ v, v < N → p v ≤ v) (h : post (nI (fp_c (fun v => p v = v) N)) (nI N, f_count, a_from, a_to, a_part, a_least)) :
    ∀ d j n, j + d = N → d < n → wY_parts_132 post (nI N) f_count a_from a_to a_part a_least n (nI (fp_c (fun v => p v = v) j)) (nI j) := by
  intro d
  induction d with
  | zero =>
    intro j n hj hn
    obtain ⟨n, rfl⟩ : ∃ m, n = m + 1 := ⟨n - 1, by omega⟩
    have e : j = N := by omega
    subst e
    exact br_t (nI_le (Nat.le_refl _) (by omega)) h
  | succ d ih =>
    intro j n hj hn
    obtain ⟨n, rfl⟩ : ∃ m, n = m + 1 := ⟨n - 1, by omega⟩
    have hc : (nI j).toNatClampNeg = j := nI_clamp (by omega)
    have hin : vp_in (nI j) 7 := vp_in_nI (by omega) (by omega)
    have K := ih (j + 1) n (by omega) (by omega)
    have hlj := hl j (by omega)
    refine br_f (nI_ge (by omega) (by omega)) ⟨hin, ?_⟩
    rw [hc, hp j (by omega)]
    rw [fp_cS] at K
    refine fp_if (nI_eq (by omega) (by omega)) (fun z => nm_r (nI_1 _) (nm_r (nI_1 j) ?_)) (fun z => nm_r (nI_1 j) ?_)
    · rw [fp_b1 z] at K; exact K
    · rw [fp_b0 z] at K; exact K
theorem fy_pt33 {post : Int32 → SY → Prop} {J25 : Int32 → (Nat → Int32) → (Nat → Int32) → (Nat → Int32) → (Nat → Int32) → Prop} {x1 : Int32} {p0 : Nat → Nat} (hN : N ≤ 7) (hc16 : c ≤ 16)
    (hF : ∀ e, a_from e = nI (a e)) (hT : ∀ e, a_to e = nI (b e)) (ha : ∀ e, a e < N) (hb : ∀ e, b e < N)
    (H : ∀ (q : Nat → Nat) (P : Nat → Int32), fy_PI a b c N q → (∀ v, v < N → P v = nI (q v)) → (∀ v, v < N → fp_R a b (fun e => e < c) (p0 v) → q v = p0 v) → (∀ e, e < c → fp_R a b (fun e => e < c) (p0 (a e)) ∨ fp_R a b (fun e => e < c) (p0 (b e)) → fp_R a b (fun e => e < c) (q (a e)) ∧ fp_R a b (fun e => e < c) (q (b e))) → J25 (x1 + 1) a_from a_to P a_least) :
    ∀ d j n (p : Nat → Nat) (P : Nat → Int32), j + d = c → d < n → fy_PI a b c N p → (∀ v, v < N → P v = nI (p v)) → (∀ v, v < N → fp_R a b (fun e => e < c) (p0 v) → p v = p0 v) → (∀ e, e < j → fp_R a b (fun e => e < c) (p0 (a e)) ∨ fp_R a b (fun e => e < c) (p0 (b e)) → fp_R a b (fun e => e < c) (p (a e)) ∧ fp_R a b (fun e => e < c) (p (b e))) → wY_parts_33 post J25 x1 (nI N) (nI c) n (nI j) a_from a_to P a_least := by
  intro d
  induction d with
  | zero =>
    intro j n p P hj hn h1 h2 h3 h4
    obtain ⟨n, rfl⟩ : ∃ m, n = m + 1 := ⟨n - 1, by omega⟩
    have e : j = c := by omega
    subst e
    exact br_t (nI_le (Nat.le_refl _) (by omega)) (nm_e (H p P h1 h2 h3 h4))
  | succ d ih =>
    intro j n p P hj hn h1 h2 h3 h4
    obtain ⟨n, rfl⟩ : ∃ m, n = m + 1 := ⟨n - 1, by omega⟩
    have hc : (nI j).toNatClampNeg = j := nI_clamp (by omega)
    have hin : vp_in (nI j) 17 := vp_in_nI (by omega) (by omega)
    have ja := ha j
    have jb := hb j
    have la := (h1 _ ja).1
    have lb := (h1 _ jb).1
    have ca : (nI (a j)).toNatClampNeg = a j := nI_clamp (by omega)
    have cb : (nI (b j)).toNatClampNeg = b j := nI_clamp (by omega)
    have ia : vp_in (nI (a j)) 7 := vp_in_nI (by omega) (by omega)
    have ib : vp_in (nI (b j)) 7 := vp_in_nI (by omega) (by omega)
    have step : ∀ w : Nat, ((w = p (b j) ∧ p (b j) ≤ p (a j)) ∨ (w = p (a j) ∧ ¬ p (b j) ≤ p (a j))) → wY_parts_91 post J25 (wY_parts_33 post J25 x1 (nI N) (nI c) n) x1 (nI j) (nI w) (nI N) (nI c) a_from a_to P a_least := by
      intro w hw
      unfold wY_parts_91
      rw [hc, hF, hT, ca, cb]
      refine ⟨hin, ia, nm_e ⟨hin, ib, nm_e (nm_r (nI_1 j) ?_)⟩⟩
      obtain ⟨q, hq⟩ : ∃ q : Nat → Nat, ∀ v, q v = if v = b j then w else if v = a j then w else p v := ⟨_, fun _ => rfl⟩
      have q1 : q (a j) = w := by
        rw [hq]
        rcases Classical.em (a j = b j) with z | z
        · rw [if_pos z]
        · rw [if_neg z, if_pos rfl]
      have q2 : q (b j) = w := by rw [hq, if_pos rfl]
      have q3 : ∀ v, v ≠ a j → v ≠ b j → q v = p v := fun v z1 z2 => by rw [hq, if_neg z2, if_neg z1]
      obtain ⟨k1, k2, k3⟩ := fy_ps h1 (by omega) ja jb hw q1 q2 q3
      refine ih (j + 1) n q _ (by omega) (by omega) k1 (fun v hv => ?_) (fun v hv hR => ?_) (fun e he hR => ?_)
      · rcases Classical.em (v = b j) with z | z
        · rw [z, pk_us, q2]
        · rw [pk_un z]
          rcases Classical.em (v = a j) with y | y
          · rw [y, pk_us, q1]
          · rw [pk_un y, q3 v y z]; exact h2 v hv
      · have e1 := h3 v hv hR
        rw [k2 v hv (by rw [e1]; exact hR), e1]
      · rcases Nat.lt_or_ge e j with z | z
        · have g := h4 e z hR
          rw [k2 _ (ha e) g.1, k2 _ (hb e) g.2]; exact g
        · have e1 : e = j := by omega
          rw [e1] at hR ⊢
          refine k3 ?_
          rcases hR with hR | hR
          · exact Or.inl (by rw [h3 _ ja hR]; exact hR)
          · exact Or.inr (by rw [h3 _ jb hR]; exact hR)
    refine br_f (nI_ge (by omega) (by omega)) ?_
    rw [hc, hF, hT, ca, cb, h2 _ ja, h2 _ jb]
    exact ⟨hin, ia, hin, ib, fp_if (nI_leI (by omega) (by omega)) (fun z => ⟨hin, ib, step _ (Or.inl ⟨rfl, z⟩)⟩) (fun z => ⟨hin, ia, step _ (Or.inr ⟨rfl, z⟩)⟩)⟩
theorem fy_pt25 {post : Int32 → SY → Prop} (hN : N ≤ 7) (hc16 : c ≤ 16)
    (hF : ∀ e, a_from e = nI (a e)) (hT : ∀ e, a_to e = nI (b e)) (ha : ∀ e, a e < N) (hb : ∀ e, b e < N)
    (H : ∀ P : Nat → Int32, post (nI (fp_K a b (fun e => e < c) N)) (nI N, nI c, a_from, a_to, P, a_least)) :
    ∀ d r n (p : Nat → Nat) (P : Nat → Int32), r + d = 7 → d < n → fy_PI a b c N p → (∀ v, v < N → P v = nI (p v)) → ((∀ v, v < N → fp_R a b (fun e => e < c) (p v)) ∨ r ≤ fp_c (fun v => fp_R a b (fun e => e < c) (p v)) N) → wY_parts_25 post (nI N) (nI c) n (nI r) a_from a_to P a_least := by
  intro d
  induction d with
  | zero =>
    intro r n p P hr hn h1 h2 h3
    obtain ⟨n, rfl⟩ : ∃ m, n = m + 1 := ⟨n - 1, by omega⟩
    have e : r = 7 := by omega
    subst e
    have all : ∀ v, v < N → fp_R a b (fun e => e < c) (p v) := by
      rcases h3 with h3 | h3
      · exact h3
      · have := fp_c_le (fun v => fp_R a b (fun e => e < c) (p v)) N
        exact fp_c_al (P := fun v => fp_R a b (fun e => e < c) (p v)) (by omega)
    refine br_t (by decide) ⟨N + 1, ?_⟩
    have K := fy_pt132 (post := post) (f_count := nI c) (a_from := a_from) (a_to := a_to) (a_part := P) (a_least := a_least) hN h2 (fun v hv => (h1 v hv).1) (by rw [fy_pn h1 all]; exact H P) N 0 (N + 1) (by omega) (by omega)
    exact K
  | succ d ih =>
    intro r n p P hr hn h1 h2 h3
    obtain ⟨n, rfl⟩ : ∃ m, n = m + 1 := ⟨n - 1, by omega⟩
    refine br_f (nI_ge (b := 7) (by omega) (by decide)) ⟨c + 1, ?_⟩
    refine fy_pt33 (p0 := p) hN hc16 hF hT ha hb (fun q Q k1 k2 k3 k4 => ?_) c 0 (c + 1) p P (by omega) (by omega) h1 h2 (fun _ _ _ => rfl) (fun e he => by omega)
    rw [nI_1]
    refine ih (r + 1) n q Q (by omega) (by omega) k1 k2 ?_
    rcases fy_pr h1 ha hb k3 k4 with z | z
    · exact Or.inl z
    · rcases h3 with h3 | h3
      · exact Or.inl (fun v hv => by rw [k3 v hv (h3 v hv)]; exact h3 v hv)
      · exact Or.inr (by omega)
theorem fy_pt2 {post : Int32 → SY → Prop} (hN : N ≤ 7) (H : ∀ P : Nat → Int32, (∀ v, v < N → P v = nI v) → ∃ n, wY_parts_25 post (nI N) (nI c) n 0 a_from a_to P a_least) :
    ∀ d j n (P : Nat → Int32), j + d = N → d < n → (∀ v, v < j → P v = nI v) → wY_parts_2 post (nI N) (nI c) n (nI j) a_from a_to P a_least := by
  intro d
  induction d with
  | zero =>
    intro j n P hj hn h1
    obtain ⟨n, rfl⟩ : ∃ m, n = m + 1 := ⟨n - 1, by omega⟩
    have e : j = N := by omega
    subst e
    exact br_t (nI_le (Nat.le_refl _) (by omega)) (H P h1)
  | succ d ih =>
    intro j n P hj hn h1
    obtain ⟨n, rfl⟩ : ∃ m, n = m + 1 := ⟨n - 1, by omega⟩
    have hc : (nI j).toNatClampNeg = j := nI_clamp (by omega)
    have hin : vp_in (nI j) 7 := vp_in_nI (by omega) (by omega)
    refine br_f (nI_ge (by omega) (by omega)) ⟨hin, nm_e (nm_r (nI_1 j) ?_)⟩
    rw [hc]
    refine ih (j + 1) n _ (by omega) (by omega) (fun v hv => ?_)
    rcases Nat.lt_or_ge v j with z | z
    · rw [pk_un (by omega)]; exact h1 v z
    · have e : v = j := by omega
      rw [e, pk_us]
theorem fy_pt {post : Int32 → SY → Prop} (hN : N ≤ 7) (hc16 : c ≤ 16)
    (hF : ∀ e, a_from e = nI (a e)) (hT : ∀ e, a_to e = nI (b e)) (ha : ∀ e, a e < N) (hb : ∀ e, b e < N)
    (H : ∀ P : Nat → Int32, post (nI (fp_K a b (fun e => e < c) N)) (nI N, nI c, a_from, a_to, P, a_least)) :
    wpY_parts post (nI N, nI c, a_from, a_to, a_part, a_least) :=
  ⟨_, fy_pt2 hN (fun P hP => ⟨_, fy_pt25 hN hc16 hF hT ha hb H 7 0 8 (fun v => v) P (by omega) (by omega) (fun v _ => ⟨Nat.le_refl _, fp_Jr v⟩) hP (Or.inr (Nat.zero_le _))⟩) N 0 (N + 1) a_part (by omega) (by omega) (fun v hv => by omega)⟩
end
end
section
theorem fx_01 (x : Int32) : x &&& 1 = 0 ∨ x &&& 1 = 1 := by
  obtain ⟨j, hj, e⟩ := pk_andE x (m := 1) 1 (by decide)
  rcases Nat.eq_zero_or_pos j with h | h
  · left; rw [e, h]; rfl
  · right
    have : j = 1 := by omega
    rw [e, this]; rfl
/-- edge e takes part -/
def fx_A (s : Int32) (e : Nat) : Prop := e < 17 ∧ (s >>> (nI e &&& 31)) &&& 1 = 1
/-- where the search is: the first g of the en vertices in line are done -/
def fx_I (a b : Nat → Nat) (F : Nat → Prop) (N u : Nat) (via seen line : Nat → Int32) (rk : Nat → Nat) (en g : Nat) : Prop :=
  (∀ w, w < N → seen w = 0 ∨ seen w = 1) ∧ fp_c (fun w => seen w = 1) N = en ∧ seen u = 1 ∧
  (∀ w, w < N → seen w = 1 → rk w < en ∧ line (rk w) = nI w ∧ ((w = u ∧ via w = -1) ∨ ∃ e x, via w = nI e ∧ F e ∧ x < N ∧ seen x = 1 ∧ rk x < rk w ∧ ((a e = x ∧ b e = w) ∨ (a e = w ∧ b e = x)))) ∧
  (∀ j, j < en → ∃ w, w < N ∧ seen w = 1 ∧ rk w = j) ∧
  (∀ w, w < N → seen w = 1 → rk w < g → ∀ e, F e → (a e = w → seen (b e) = 1) ∧ (b e = w → seen (a e) = 1))
/-- the ways back to u -/
def fx_TR (a b : Nat → Nat) (F : Nat → Prop) (N u v : Nat) (via : Nat → Int32) : Prop := ∃ (S : Nat → Prop) (rk : Nat → Nat), S v ∧ ∀ w, S w → w < N ∧ rk w < 7 ∧ ((w = u ∧ via w = -1) ∨ ∃ e x, via w = nI e ∧ F e ∧ S x ∧ rk x < rk w ∧ ((a e = x ∧ b e = w) ∨ (a e = w ∧ b e = x)))
section
variable {a b rk : Nat → Nat} {F : Nat → Prop} {N u v : Nat} {via seen line : Nat → Int32} {en g : Nat}
theorem fx_Iadd {e x y : Nat} {rj : Nat → Nat} (r1 : rj y = en) (r2 : ∀ w, w ≠ y → rj w = rk w) (h : fx_I a b F N u via seen line rk en g) (hy : y < N) (hs : seen y = 0) (hF : F e) (hx : x < N) (hsx : seen x = 1) (hxe : (a e = x ∧ b e = y) ∨ (a e = y ∧ b e = x)) (hg : g ≤ en) :
    fx_I a b F N u (upd via y (nI e)) (upd seen y 1) (upd line en (nI y)) rj (en + 1) g := by
  obtain ⟨h1, h2, h3, h4, h5, h6⟩ := h
  have ny : ∀ {w : Nat}, seen w = 1 → w ≠ y := by
    intro w hw e
    rw [e, hs] at hw
    exact absurd hw (by decide)
  have up : ∀ {w : Nat}, seen w = 1 → upd seen y 1 w = 1 := fun hw => by rw [pk_un (ny hw)]; exact hw
  have dn : ∀ {w : Nat}, w ≠ y → upd seen y 1 w = 1 → seen w = 1 := fun hn hw => by rw [pk_un hn] at hw; exact hw
  refine ⟨fun w hw => ?_, ?_, up h3, fun w hw hsw => ?_, fun j hj => ?_, fun w hw hsw hr e' he' => ?_⟩
  · rcases Classical.em (w = y) with q | q
    · rw [q, pk_us]; exact Or.inr rfl
    · rw [pk_un q]; exact h1 w hw
  · rw [← h2, ← fp_c_in (P := fun w => seen w = 1) hy (fun q => ny q rfl)]
    refine fp_c_cg N (fun w hw => ⟨fun q => ?_, fun q => q.elim up (fun z => by rw [z, pk_us])⟩)
    rcases Classical.em (w = y) with z | z
    · exact Or.inr z
    · exact Or.inl (dn z q)
  · rcases Classical.em (w = y) with q | q
    · rw [q, r1]
      refine ⟨by omega, by rw [pk_us], Or.inr ⟨e, x, by rw [pk_us], hF, hx, up hsx, ?_, hxe⟩⟩
      rw [r2 _ (ny hsx)]
      exact (h4 x hx hsx).1
    · rw [r2 _ q]
      obtain ⟨g1, g2, g3⟩ := h4 w hw (dn q hsw)
      refine ⟨by omega, by rw [pk_un (by omega)]; exact g2, ?_⟩
      rcases g3 with ⟨z1, z2⟩ | ⟨e1, x1, z1, z2, z3, z4, z5, z6⟩
      · exact Or.inl ⟨z1, by rw [pk_un q]; exact z2⟩
      · exact Or.inr ⟨e1, x1, by rw [pk_un q]; exact z1, z2, z3, up z4, by rw [r2 _ (ny z4)]; exact z5, z6⟩
  · rcases Nat.lt_or_ge j en with q | q
    · obtain ⟨w, w1, w2, w3⟩ := h5 j q
      exact ⟨w, w1, up w2, by rw [r2 _ (ny w2)]; exact w3⟩
    · exact ⟨y, hy, pk_us, by rw [r1]; omega⟩
  · rcases Classical.em (w = y) with q | q
    · rw [q, r1] at hr; omega
    · rw [r2 _ q] at hr
      have k := h6 w hw (dn q hsw) hr e' he'
      exact ⟨fun z => up (k.1 z), fun z => up (k.2 z)⟩
/-- all are done: what was seen is what is joined to u -/
theorem fx_Iend (h : fx_I a b F N u via seen line rk en g) (hu : u < N) (ha : ∀ e, a e < N) (hb : ∀ e, b e < N) (hg : en ≤ g) :
    (∀ w, w < N → (seen w = 1 ↔ fp_J a b F u w)) := by
  obtain ⟨h1, h2, h3, h4, h5, h6⟩ := h
  have back : ∀ r w, w < N → seen w = 1 → rk w < r → fp_J a b F u w := by
    intro r
    induction r with
    | zero => intro w _ _ hr; omega
    | succ r ih =>
      intro w hw hs hr
      obtain ⟨_, _, g3⟩ := h4 w hw hs
      rcases g3 with ⟨z1, _⟩ | ⟨e1, x1, _, z2, z3, z4, z5, z6⟩
      · rw [z1]; exact fp_Jr u
      · have k := ih x1 z3 z4 (by omega)
        have je := fp_Je (a := a) (b := b) z2
        rcases z6 with ⟨y1, y2⟩ | ⟨y1, y2⟩
        · rw [y1, y2] at je; exact fp_Jt k je
        · rw [y1, y2] at je; exact fp_Jt k (fp_Js je)
  intro w hw
  refine ⟨fun hs => back _ w hw hs (Nat.lt_succ_self _), fun j => ?_⟩
  refine j (fun x => seen x = 1) (fun e he => ⟨fun q => ?_, fun q => ?_⟩) h3
  · have r := (h4 _ (ha e) q).1
    exact (h6 _ (ha e) q (by omega) e he).1 rfl
  · have r := (h4 _ (hb e) q).1
    exact (h6 _ (hb e) q (by omega) e he).2 rfl
theorem fx_Itr (h : fx_I a b F N u via seen line rk en g) (hN : N ≤ 7) (hv : v < N) (hs : seen v = 1) : fx_TR a b F N u v via := by
  obtain ⟨h1, h2, h3, h4, h5, h6⟩ := h
  have hen : en ≤ N := by rw [← h2]; exact fp_c_le _ N
  refine ⟨fun w => w < N ∧ seen w = 1, rk, ⟨hv, hs⟩, fun w hw => ?_⟩
  obtain ⟨g1, _, g3⟩ := h4 w hw.1 hw.2
  refine ⟨hw.1, by omega, ?_⟩
  rcases g3 with z | ⟨e1, x1, z1, z2, z3, z4, z5, z6⟩
  · exact Or.inl z
  · exact Or.inr ⟨e1, x1, z1, z2, ⟨z3, z4⟩, z5, z6⟩
end
section
variable {f_n f_count f_taking f_put : Int32} {a_from a_to a_home a_reached a_before a_queue a_via a_seen a_line : Nat → Int32} {a b : Nat → Nat} {N : Nat}
theorem fx_ot {post : Int32 → Prop} {e x : Nat} (he : e < 17) (hx : x < N) (hN : N ≤ 7) (hF : ∀ e, a_from e = nI (a e)) (hT : ∀ e, a_to e = nI (b e)) (ha : ∀ e, a e < N) (hb : ∀ e, b e < N)
    (h1 : fx_A f_taking e → a e = x → post (nI (b e))) (h2 : fx_A f_taking e → a e ≠ x → b e = x → post (nI (a e))) (h3 : (fx_A f_taking e → a e ≠ x ∧ b e ≠ x) → post (-1)) :
    wpX_other post (f_n, f_count, f_taking, f_put, a_from, a_to, a_home, a_reached, a_before, a_queue, a_via, a_seen, a_line) (nI e) (nI x) := by
  have hc : (nI e).toNatClampNeg = e := nI_clamp (by omega)
  have hin : vp_in (nI e) 17 := vp_in_nI (by omega) (by omega)
  have ja := ha e
  have jb := hb e
  refine br_c (fun q => h3 (fun z => ?_)) (fun q => ⟨hin, ?_⟩)
  · have := z.2; rw [q] at this; exact absurd this (by decide)
  · have hA : fx_A f_taking e := ⟨he, (fx_01 _).resolve_left q⟩
    rw [hc, hF, hT]
    refine fp_if (nI_eq (by omega) (by omega)) (fun z => ⟨hin, h1 hA z⟩) (fun z => ⟨hin, fp_if (nI_eq (by omega) (by omega)) (fun y => ⟨hin, h2 hA z y⟩) (fun y => h3 (fun _ => ⟨z, y⟩))⟩)
theorem fx_s80 {post : Int32 → SX → Prop} {J54 : Int32 → Int32 → (Nat → Int32) → (Nat → Int32) → (Nat → Int32) → (Nat → Int32) → (Nat → Int32) → (Nat → Int32) → (Nat → Int32) → (Nat → Int32) → (Nat → Int32) → Prop} {f x3 : Int32} {u x g : Nat}
    (hN : N ≤ 7) (hF : ∀ e, a_from e = nI (a e)) (hT : ∀ e, a_to e = nI (b e)) (ha : ∀ e, a e < N) (hb : ∀ e, b e < N) (hx : x < N)
    (H : ∀ en via seen line rk, fx_I a b (fun e => fx_A f_taking e ∧ a_home e = f) N u via seen line rk en (g + 1) → g + 1 ≤ en → J54 (nI en) (nI (g + 1)) a_from a_to a_home a_reached a_before a_queue via seen line) :
    ∀ d e n en (via seen line : Nat → Int32) (rk : Nat → Nat), e + d = 17 → d < n → fx_I a b (fun e => fx_A f_taking e ∧ a_home e = f) N u via seen line rk en g → seen x = 1 → rk x = g →
      (∀ i, i < e → (fx_A f_taking i ∧ a_home i = f) → (a i = x → seen (b i) = 1) ∧ (b i = x → seen (a i) = 1)) →
      wX_search_80 post J54 f x3 (nI g) (nI x) f_n f_count f_taking f_put n (nI en) (nI e) a_from a_to a_home a_reached a_before a_queue via seen line := by
  intro d
  induction d with
  | zero =>
    intro e n en via seen line rk he hn hI hsx hrx hcl
    obtain ⟨n, rfl⟩ : ∃ m, n = m + 1 := ⟨n - 1, by omega⟩
    have e17 : e = 17 := by omega
    subst e17
    obtain ⟨h1, h2, h3, h4, h5, h6⟩ := hI
    have hx4 := h4 x hx hsx
    refine br_t (by decide) (nm_r (nI_1 g) (H en via seen line rk ⟨h1, h2, h3, h4, h5, fun w hw hs hr i hi => ?_⟩ (by omega)))
    rcases Nat.lt_or_ge (rk w) g with q | q
    · exact h6 w hw hs q i hi
    · have hw4 := h4 w hw hs
      have e1 : rk w = rk x := by omega
      have e2 : nI w = nI x := by rw [← hw4.2.1, ← hx4.2.1, e1]
      have e3 : w = x := (nI_eq (by omega) (by omega)).mp e2
      rw [e3]
      exact hcl i hi.1.1 hi
  | succ d ih =>
    intro e n en via seen line rk he hn hI hsx hrx hcl
    obtain ⟨n, rfl⟩ : ∃ m, n = m + 1 := ⟨n - 1, by omega⟩
    have hc : (nI e).toNatClampNeg = e := nI_clamp (by omega)
    have hin : vp_in (nI e) 17 := vp_in_nI (by omega) (by omega)
    have ja := ha e
    have jb := hb e
    have hxr := (hI.2.2.2.1 x hx hsx).1
    -- the step with nothing seen anew
    have stay : ((fx_A f_taking e ∧ a_home e = f) → (a e = x → seen (b e) = 1) ∧ (b e = x → seen (a e) = 1)) → wX_search_80 post J54 f x3 (nI g) (nI x) f_n f_count f_taking f_put n (nI en) (nI e + 1) a_from a_to a_home a_reached a_before a_queue via seen line := by
      intro hh
      rw [nI_1]
      refine ih (e + 1) n en via seen line rk (by omega) (by omega) hI hsx hrx (fun i hi hFi => ?_)
      rcases Nat.lt_or_ge i e with q | q
      · exact hcl i q hFi
      · have e1 : i = e := by omega
        rw [e1] at hFi ⊢
        exact hh hFi
    -- the other end y
    have go : ∀ y, y < N → fx_A f_taking e → ((a e = x ∧ b e = y) ∨ (a e = y ∧ b e = x)) → ((seen y = 1) → (a e = x → seen (b e) = 1) ∧ (b e = x → seen (a e) = 1)) →
        ((((nI y) < 0 → (∀ x7_31 : Int32, x7_31 = (nI e) + 1 → (wX_search_80 post J54 f x3 (nI g) (nI x) f_n f_count f_taking f_put n (nI en) x7_31 a_from a_to a_home a_reached a_before a_queue via seen line))) ∧ (¬ (nI y) < 0 → (vp_in (nI e) 17 ∧ ((((a_home (nI e).toNatClampNeg) = f → (vp_in (nI y) 7 ∧ ((((seen (nI y).toNatClampNeg) = 0 → (vp_in (nI y) 7 ∧ ∀ a_seen_39 : Nat → Int32, a_seen_39 = upd seen (nI y).toNatClampNeg (vp_nar .boolean 1) → (vp_in (nI y) 7 ∧ ∀ a_via_41 : Nat → Int32, a_via_41 = upd via (nI y).toNatClampNeg (nI e) → (vp_in (nI en) 7 ∧ ∀ a_line_43 : Nat → Int32, a_line_43 = upd line (nI en).toNatClampNeg (nI y) → (∀ x4_44 : Int32, x4_44 = (nI en) + 1 → (∀ x7_45 : Int32, x7_45 = (nI e) + 1 → (wX_search_80 post J54 f x3 (nI g) (nI x) f_n f_count f_taking f_put n x4_44 x7_45 a_from a_to a_home a_reached a_before a_queue a_via_41 a_seen_39 a_line_43))))))) ∧ (¬ (seen (nI y).toNatClampNeg) = 0 → (∀ x7_37 : Int32, x7_37 = (nI e) + 1 → (wX_search_80 post J54 f x3 (nI g) (nI x) f_n f_count f_taking f_put n (nI en) x7_37 a_from a_to a_home a_reached a_before a_queue via seen line))))))) ∧ (¬ (a_home (nI e).toNatClampNeg) = f → (∀ x7_34 : Int32, x7_34 = (nI e) + 1 → (wX_search_80 post J54 f x3 (nI g) (nI x) f_n f_count f_taking f_put n (nI en) x7_34 a_from a_to a_home a_reached a_before a_queue via seen line))))))))) := by
      intro y hy hA hends hsy
      have hcy : (nI y).toNatClampNeg = y := nI_clamp (by omega)
      have hiny : vp_in (nI y) 7 := vp_in_nI (by omega) (by omega)
      refine br_f (nI_pos (by omega)) ⟨hin, ?_⟩
      rw [hc, hcy]
      refine br_c (fun hf => ⟨hiny, br_c (fun hs => ?_) (fun hs => ?_)⟩) (fun hf => nm_e (stay (fun z => absurd z.2 hf)))
      · have hen : en < N := by
          rw [← hI.2.1]
          exact fp_c_lt hy (fun q => by rw [hs] at q; exact absurd q (by decide))
        have hcen : (nI en).toNatClampNeg = en := nI_clamp (by omega)
        obtain ⟨rj, hrj⟩ : ∃ rj : Nat → Nat, ∀ w, rj w = if w = y then en else rk w := ⟨_, fun _ => rfl⟩
        have r1 : rj y = en := by rw [hrj, if_pos rfl]
        have r2 : ∀ w, w ≠ y → rj w = rk w := fun w hw => by rw [hrj, if_neg hw]
        have hI' := fx_Iadd r1 r2 hI hy hs ⟨hA, hf⟩ hx hsx hends (by omega)
        have nyx : x ≠ y := fun q => by rw [q, hs] at hsx; exact absurd hsx (by decide)
        have upn : ∀ {w : Nat}, seen w = 1 → upd seen y 1 w = 1 := fun {w} hw => by
          rw [pk_un (fun q => by rw [q, hs] at hw; exact absurd hw (by decide))]; exact hw
        rw [hcen]
        refine ⟨hiny, nm_r (e' := upd seen y 1) rfl ⟨hiny, nm_e ⟨vp_in_nI (by omega) (by omega), nm_e (nm_r (nI_1 en) (nm_r (nI_1 e) ?_))⟩⟩⟩
        refine ih (e + 1) n (en + 1) _ _ _ _ (by omega) (by omega) hI' (upn hsx) (by rw [r2 _ nyx]; exact hrx) (fun i hi hFi => ?_)
        rcases Nat.lt_or_ge i e with q | q
        · have k := hcl i q hFi
          exact ⟨fun z => upn (k.1 z), fun z => upn (k.2 z)⟩
        · have e1 : i = e := by omega
          rw [e1]
          rcases hends with ⟨z1, z2⟩ | ⟨z1, z2⟩
          · rw [z1, z2]
            exact ⟨fun _ => pk_us, fun z => absurd z.symm nyx⟩
          · rw [z1, z2]
            exact ⟨fun z => absurd z.symm nyx, fun _ => pk_us⟩
      · exact nm_e (stay (fun _ => hsy ((hI.1 y hy).resolve_left hs)))
    refine br_f (nI_nlt (b := e) (a := 16) (by omega) (by decide)) ?_
    refine fx_ot (by omega) hx hN hF hT ha hb (fun hA z => ?_) (fun hA z1 z => ?_) (fun z => ?_)
    · exact go (b e) jb hA (Or.inl ⟨z, rfl⟩) (fun q => ⟨fun _ => q, fun y => by rw [z, ← y]; exact q⟩)
    · exact go (a e) ja hA (Or.inr ⟨rfl, z⟩) (fun q => ⟨fun y => absurd y z1, fun _ => q⟩)
    · exact br_t (by decide) (nm_e (stay (fun q => ⟨fun y => absurd y (z q.1).1, fun y => absurd y (z q.1).2⟩)))
theorem fx_s54 {post : Int32 → SX → Prop} {f : Int32} {u v : Nat}
    (hN : N ≤ 7) (hF : ∀ e, a_from e = nI (a e)) (hT : ∀ e, a_to e = nI (b e)) (ha : ∀ e, a e < N) (hb : ∀ e, b e < N) (hu : u < N) (hv : v < N)
    (H0 : ∀ via seen line, ¬ fp_J a b (fun e => fx_A f_taking e ∧ a_home e = f) u v → post 0 (f_n, f_count, f_taking, f_put, a_from, a_to, a_home, a_reached, a_before, a_queue, via, seen, line))
    (H1 : ∀ via seen line, fp_J a b (fun e => fx_A f_taking e ∧ a_home e = f) u v → fx_TR a b (fun e => fx_A f_taking e ∧ a_home e = f) N u v via → post 1 (f_n, f_count, f_taking, f_put, a_from, a_to, a_home, a_reached, a_before, a_queue, via, seen, line)) :
    ∀ d g n en (via seen line : Nat → Int32) (rk : Nat → Nat), g + d = 7 → d < n → fx_I a b (fun e => fx_A f_taking e ∧ a_home e = f) N u via seen line rk en g → g ≤ en →
      wX_search_54 post f (nI v) f_n f_count f_taking f_put n (nI en) (nI g) a_from a_to a_home a_reached a_before a_queue via seen line := by
  have fin : ∀ en g (via seen line : Nat → Int32) (rk : Nat → Nat), fx_I a b (fun e => fx_A f_taking e ∧ a_home e = f) N u via seen line rk en g → en ≤ g → (vp_in (nI v) 7 ∧ (narrow .boolean (.int (seen (nI v).toNatClampNeg)) = .int (seen (nI v).toNatClampNeg) ∧ (post (seen (nI v).toNatClampNeg) (f_n, f_count, f_taking, f_put, a_from, a_to, a_home, a_reached, a_before, a_queue, via, seen, line)))) := by
    intro en g via seen line rk hI hg
    have hcv : (nI v).toNatClampNeg = v := nI_clamp (by omega)
    have key := fx_Iend hI hu ha hb hg v hv
    rw [hcv]
    refine ⟨vp_in_nI (by omega) (by omega), ?_⟩
    rcases hI.1 v hv with q | q
    · rw [q]
      exact ⟨rfl, H0 via seen line (fun j => by have := key.mpr j; rw [q] at this; exact absurd this (by decide))⟩
    · have tr := fx_Itr hI hN hv q
      rw [q]
      exact ⟨rfl, H1 via seen line (key.mp q) tr⟩
  intro d
  induction d with
  | zero =>
    intro g n en via seen line rk hd hn hI hg
    obtain ⟨n, rfl⟩ : ∃ m, n = m + 1 := ⟨n - 1, by omega⟩
    have hen : en ≤ N := by rw [← hI.2.1]; exact fp_c_le _ N
    exact br_t (nI_le (by omega) (by omega)) (fin en g via seen line rk hI (by omega))
  | succ d ih =>
    intro g n en via seen line rk hd hn hI hg
    obtain ⟨n, rfl⟩ : ∃ m, n = m + 1 := ⟨n - 1, by omega⟩
    have hen : en ≤ N := by rw [← hI.2.1]; exact fp_c_le _ N
    rcases Nat.lt_or_ge g en with q | q
    · have hcg : (nI g).toNatClampNeg = g := nI_clamp (by omega)
      obtain ⟨x, hx, hsx, hrx⟩ := hI.2.2.2.2.1 g q
      have hlx := (hI.2.2.2.1 x hx hsx).2.1
      rw [hrx] at hlx
      refine br_f (nI_ge q (by omega)) (br_f (nI_ge (b := 7) (by omega) (by decide)) ⟨vp_in_nI (by omega) (by omega), nm_r (e' := nI x) (by rw [hcg]; exact hlx) ⟨18, ?_⟩⟩)
      refine fx_s80 hN hF hT ha hb hx (fun en' via' seen' line' rk' hI' hg' => ?_) 17 0 18 en via seen line rk (by omega) (by omega) hI hsx hrx (fun i hi => by omega)
      exact ih (g + 1) n en' via' seen' line' rk' (by omega) (by omega) hI' hg'
    · exact br_t (nI_le q (by omega)) (fin en g via seen line rk hI q)
theorem fx_s3 {post : Int32 → SX → Prop} {f : Int32} {u v : Nat} (hN : N ≤ 7) (hu : u < N)
    (H : ∀ via seen : Nat → Int32, (∀ w, w < N → seen w = 0 ∧ via w = -1) → ∃ n, wX_search_54 post f (nI v) (nI N) f_count f_taking f_put n 1 0 a_from a_to a_home a_reached a_before a_queue via (upd seen u 1) (upd a_line 0 (nI u))) :
    ∀ d j n (via seen : Nat → Int32), j + d = N → d < n → (∀ w, w < j → seen w = 0 ∧ via w = -1) →
      wX_search_3 post f (nI u) (nI v) (nI N) f_count f_taking f_put n (nI j) a_from a_to a_home a_reached a_before a_queue via seen a_line := by
  intro d
  induction d with
  | zero =>
    intro j n via seen hj hn h
    obtain ⟨n, rfl⟩ : ∃ m, n = m + 1 := ⟨n - 1, by omega⟩
    have e : j = N := by omega
    subst e
    have hcu : (nI u).toNatClampNeg = u := nI_clamp (by omega)
    refine br_t (nI_le (Nat.le_refl _) (by omega)) ⟨vp_in_nI (by omega) (by omega), ?_⟩
    rw [hcu]
    exact nm_r (e' := upd seen u 1) rfl (nm_e (H via seen h))
  | succ d ih =>
    intro j n via seen hj hn h
    obtain ⟨n, rfl⟩ : ∃ m, n = m + 1 := ⟨n - 1, by omega⟩
    have hc : (nI j).toNatClampNeg = j := nI_clamp (by omega)
    have hin : vp_in (nI j) 7 := vp_in_nI (by omega) (by omega)
    refine br_f (nI_ge (by omega) (by omega)) ⟨hin, ?_⟩
    rw [hc]
    refine nm_r (e' := upd seen j 0) rfl ⟨hin, nm_e (nm_r (nI_1 j) ?_)⟩
    refine ih (j + 1) n _ _ (by omega) (by omega) (fun w hw => ?_)
    rcases Nat.lt_or_ge w j with q | q
    · rw [pk_un (by omega), pk_un (by omega)]; exact h w q
    · have e : w = j := by omega
      rw [e, pk_us, pk_us]; exact ⟨rfl, rfl⟩
theorem fx_se {post : Int32 → SX → Prop} {f : Int32} {u v : Nat}
    (hN : N ≤ 7) (hF : ∀ e, a_from e = nI (a e)) (hT : ∀ e, a_to e = nI (b e)) (ha : ∀ e, a e < N) (hb : ∀ e, b e < N) (hu : u < N) (hv : v < N)
    (H0 : ∀ via seen line, ¬ fp_J a b (fun e => fx_A f_taking e ∧ a_home e = f) u v → post 0 (nI N, f_count, f_taking, f_put, a_from, a_to, a_home, a_reached, a_before, a_queue, via, seen, line))
    (H1 : ∀ via seen line, fp_J a b (fun e => fx_A f_taking e ∧ a_home e = f) u v → fx_TR a b (fun e => fx_A f_taking e ∧ a_home e = f) N u v via → post 1 (nI N, f_count, f_taking, f_put, a_from, a_to, a_home, a_reached, a_before, a_queue, via, seen, line)) :
    wpX_search post (nI N, f_count, f_taking, f_put, a_from, a_to, a_home, a_reached, a_before, a_queue, a_via, a_seen, a_line) f (nI u) (nI v) := by
  refine ⟨N + 1, fx_s3 hN hu (fun via seen h => ⟨8, ?_⟩) N 0 (N + 1) a_via a_seen (by omega) (by omega) (fun w hw => by omega)⟩
  refine fx_s54 hN hF hT ha hb hu hv H0 H1 7 0 8 1 via (upd seen u 1) (upd a_line 0 (nI u)) (fun _ => 0) (by omega) (by omega) ⟨fun w hw => ?_, ?_, pk_us, fun w hw hs => ?_, fun j hj => ⟨u, hu, pk_us, show 0 = j by omega⟩, fun w _ _ hr => absurd hr (Nat.not_lt_zero _)⟩ (by omega)
  · rcases Classical.em (w = u) with q | q
    · rw [q, pk_us]; exact Or.inr rfl
    · rw [pk_un q]; exact Or.inl (h w hw).1
  · rw [← fp_c_one hu]
    refine fp_c_cg N (fun w hw => ⟨fun q => ?_, fun q => by rw [q, pk_us]⟩)
    rcases Classical.em (w = u) with z | z
    · exact z
    · rw [pk_un z, (h w hw).1] at q; exact absurd q (by decide)
  · have e : w = u := by
      rcases Classical.em (w = u) with z | z
      · exact z
      · rw [pk_un z, (h w hw).1] at hs; exact absurd hs (by decide)
    rw [e]
    exact ⟨Nat.lt_succ_self 0, pk_us, Or.inl ⟨rfl, (h u hu).2⟩⟩
end
end
section
abbrev fx_F (A : Nat → Prop) (h : Nat → Int32) (f : Int32) : Nat → Prop := fun e => A e ∧ h e = f
/-- z is on the way of F between the ends of d -/
def fx_E (a b : Nat → Nat) (F : Nat → Prop) (d z : Nat) : Prop := F z ∧ ¬ fp_J a b (fun x => F x ∧ x ≠ z) (a d) (b d)
/-- z could make place for d -/
def fx_Lk (a b : Nat → Nat) (A : Nat → Prop) (h : Nat → Int32) (k d z : Nat) : Prop :=
  (∃ i, i < k ∧ h z = nI i) ∧ fx_E a b (fx_F A h (h z)) d z ∧ h d ≠ h z ∧ fp_J a b (fx_E a b (fx_F A h (h z)) d) (a d) (b d)
def fx_Q (a b : Nat → Nat) (A : Nat → Prop) (h : Nat → Int32) (k s : Nat) (rc bf q : Nat → Int32) (p : Nat) (par el : Nat → Nat) (got : Nat) : Prop :=
  (∀ e, e < 17 → rc e = 0 ∨ rc e = 1) ∧ fp_c (fun e => rc e = 1) 17 = p ∧ (∀ j, j < p → q j = nI (el j) ∧ A (el j) ∧ rc (el j) = 1) ∧
  (∀ e, e < 17 → rc e = 1 → ∃ j, j < p ∧ el j = e) ∧ (0 < p ∧ el 0 = s ∧ bf s = -1) ∧
  (∀ j, 0 < j → j < p → par j < j ∧ par j ≤ got ∧ bf (el j) = nI (el (par j)) ∧ fx_Lk a b A h k (el (par j)) (el j)) ∧
  (∀ j j', 0 < j → j < p → 0 < j' → j' < p → par j < par j' → ¬ fx_E a b (fx_F A h (h (el j))) (el (par j)) (el j')) ∧
  (∀ i j, i < p → j < p → el i = el j → i = j)
def fx_C (a b : Nat → Nat) (A : Nat → Prop) (h : Nat → Int32) (rc : Nat → Int32) (d i : Nat) : Prop := h d ≠ nI i → fp_J a b (fun x => fx_F A h (nI i) x ∧ rc x = 1) (a d) (b d)
/-- the search for a chain: edge e at place got is at work, its forests below f are done -/
def fx_B (a b : Nat → Nat) (A : Nat → Prop) (h : Nat → Int32) (k s : Nat) (rc bf q : Nat → Int32) (p got f e : Nat) : Prop := ∃ par el : Nat → Nat, fx_Q a b A h k s rc bf q p par el got ∧ (got < p ∧ el got = e) ∧ (∀ i, i < got → ∀ j, j < k → fx_C a b A h rc (el i) j) ∧ (∀ j, j < f → fx_C a b A h rc e j)
section
variable {a b : Nat → Nat} {A : Nat → Prop} {h : Nat → Int32} {k s : Nat} {rc bf q : Nat → Int32} {p got f e : Nat}
theorem fx_Cm {rc' : Nat → Int32} {d i : Nat} (hm : ∀ x, rc x = 1 → rc' x = 1) (hc : fx_C a b A h rc d i) : fx_C a b A h rc' d i :=
  fun hn => fp_Jm (fun x hx => ⟨hx.1, hm x hx.2⟩) (hc hn)
theorem fx_Qadd {par el qar fl : Nat → Nat} {z : Nat} (p1 : qar p = got) (p2 : ∀ j, j < p → qar j = par j) (e1 : fl p = z) (e2 : ∀ j, j < p → fl j = el j) (hQ : fx_Q a b A h k s rc bf q p par el got) (hg : got < p) (hz : A z) (h17 : z < 17) (hr : rc z = 0) (hL : fx_Lk a b A h k (el got) z)
    (hC : ∀ i, i < got → ∀ j, j < k → fx_C a b A h rc (el i) j) :
    fx_Q a b A h k s (upd rc z 1) (upd bf z (nI (el got))) (upd q p (nI z)) (p + 1) qar fl got := by
  obtain ⟨h1, h2, h3, h4, h5, h6, h7, h8⟩ := hQ
  have nz : ∀ {x : Nat}, rc x = 1 → x ≠ z := by
    intro x hx e
    rw [e, hr] at hx
    exact absurd hx (by decide)
  have up : ∀ {x : Nat}, rc x = 1 → upd rc z 1 x = 1 := fun hx => by rw [pk_un (nz hx)]; exact hx
  refine ⟨fun x hx => ?_, ?_, fun j hj => ?_, fun x hx hr1 => ?_, ⟨by omega, ?_, ?_⟩, fun j hj0 hj => ?_, fun j j' hj0 hj hj0' hj' hlt => ?_, fun i j hi hj he => ?_⟩
  · rcases Classical.em (x = z) with y | y
    · rw [y, pk_us]; exact Or.inr rfl
    · rw [pk_un y]; exact h1 x hx
  · rw [← h2, ← fp_c_in (P := fun x => rc x = 1) h17 (fun y => nz y rfl)]
    refine fp_c_cg 17 (fun x hx => ⟨fun y => ?_, fun y => y.elim up (fun w => by rw [w, pk_us])⟩)
    rcases Classical.em (x = z) with w | w
    · exact Or.inr w
    · rw [pk_un w] at y; exact Or.inl y
  · rcases Nat.lt_or_ge j p with y | y
    · rw [e2 j y, pk_un (by omega)]
      exact ⟨(h3 j y).1, (h3 j y).2.1, up (h3 j y).2.2⟩
    · have ej : j = p := by omega
      rw [ej, e1, pk_us, pk_us]
      exact ⟨rfl, hz, rfl⟩
  · rcases Classical.em (x = z) with y | y
    · exact ⟨p, by omega, by rw [e1, y]⟩
    · rw [pk_un y] at hr1
      obtain ⟨j, j1, j2⟩ := h4 x hx hr1
      exact ⟨j, by omega, by rw [e2 j j1, j2]⟩
  · rw [e2 _ h5.1]; exact h5.2.1
  · have := (h3 0 h5.1).2.2
    rw [h5.2.1] at this
    rw [pk_un (nz this)]; exact h5.2.2
  · rcases Nat.lt_or_ge j p with y | y
    · obtain ⟨g1, g2, g3, g4⟩ := h6 j hj0 y
      have hp : par j < p := by omega
      rw [p2 j y, e2 j y, e2 _ hp, pk_un (nz (h3 j y).2.2)]
      exact ⟨g1, g2, g3, g4⟩
    · have ej : j = p := by omega
      rw [ej, p1, e1, e2 _ hg, pk_us]
      exact ⟨hg, Nat.le_refl _, rfl, hL⟩
  · rcases Nat.lt_or_ge j p with y | y
    · have hp : par j < p := by have := (h6 j hj0 y).1; omega
      rw [p2 j y] at hlt
      rw [p2 j y, e2 j y, e2 _ hp]
      rcases Nat.lt_or_ge j' p with y' | y'
      · rw [p2 j' y'] at hlt
        rw [e2 j' y']
        exact h7 j j' hj0 y hj0' y' hlt
      · have ej : j' = p := by omega
        rw [ej, p1] at hlt
        rw [ej, e1]
        obtain ⟨_, _, _, ⟨i, i1, i2⟩, _, l3, _⟩ := h6 j hj0 y
        have c := hC (par j) hlt i i1 (by rw [← i2]; exact l3)
        intro hE
        refine hE.2 (fp_Jm (fun x hx => ⟨by rw [i2]; exact hx.1, nz hx.2⟩) c)
    · have ej : j = p := by omega
      rw [ej, p1] at hlt
      rcases Nat.lt_or_ge j' p with y' | y'
      · rw [p2 j' y'] at hlt
        have := (h6 j' hj0' y').2.1
        omega
      · have ej2 : j' = p := by omega
        rw [ej2, p1] at hlt
        omega
  · rcases Nat.lt_or_ge i p with y | y
    · rcases Nat.lt_or_ge j p with y' | y'
      · rw [e2 i y, e2 j y'] at he
        exact h8 i j y y' he
      · have ej : j = p := by omega
        rw [e2 i y, ej, e1] at he
        exact absurd he (nz (h3 i y).2.2)
    · have ei : i = p := by omega
      rcases Nat.lt_or_ge j p with y' | y'
      · rw [e2 j y', ei, e1] at he
        exact absurd he.symm (nz (h3 j y').2.2)
      · omega
theorem fx_Badd {z : Nat} (hB : fx_B a b A h k s rc bf q p got f e) (hz : A z) (h17 : z < 17) (hr : rc z = 0) (hL : fx_Lk a b A h k e z) :
    fx_B a b A h k s (upd rc z 1) (upd bf z (nI e)) (upd q p (nI z)) (p + 1) got f e := by
  obtain ⟨par, el, hQ, ⟨hg, he⟩, hC, hD⟩ := hB
  have hm : ∀ x, rc x = 1 → upd rc z 1 x = 1 := by
    intro x hx
    rw [pk_un (fun y => by rw [y, hr] at hx; exact absurd hx (by decide))]; exact hx
  obtain ⟨qar, hq⟩ : ∃ qar : Nat → Nat, ∀ j, qar j = if j = p then got else par j := ⟨_, fun _ => rfl⟩
  obtain ⟨fl, hfl⟩ : ∃ fl : Nat → Nat, ∀ j, fl j = if j = p then z else el j := ⟨_, fun _ => rfl⟩
  have e2 : ∀ j, j < p → fl j = el j := fun j hj => by rw [hfl, if_neg (by omega)]
  have hQ' := fx_Qadd (qar := qar) (fl := fl) (by rw [hq, if_pos rfl]) (fun j hj => by rw [hq, if_neg (by omega)]) (by rw [hfl, if_pos rfl]) e2 hQ hg hz h17 hr (by rw [he]; exact hL) hC
  rw [he] at hQ'
  refine ⟨qar, fl, hQ', ⟨by omega, by rw [e2 _ hg]; exact he⟩, fun i hi j hj => ?_, fun j hj => fx_Cm hm (hD j hj)⟩
  rw [e2 _ (by omega)]
  exact fx_Cm hm (hC i hi j hj)
theorem fx_Bp (hB : fx_B a b A h k s rc bf q p got f e) : p ≤ 17 ∧ (∀ z, z < 17 → rc z = 0 → p < 17) ∧ (∀ z, z < 17 → rc z = 0 ∨ rc z = 1) ∧ A e := by
  obtain ⟨par, el, hQ, ⟨hg, he⟩, hC, hD⟩ := hB
  refine ⟨by rw [← hQ.2.1]; exact fp_c_le _ 17, fun z hz hr => ?_, hQ.1, by rw [← he]; exact (hQ.2.2.1 got hg).2.1⟩
  rw [← hQ.2.1]
  exact fp_c_lt hz (fun y => by rw [hr] at y; exact absurd y (by decide))
/-- the next forest -/
theorem fx_Bf (hB : fx_B a b A h k s rc bf q p got f e) (hc : fx_C a b A h rc e f) : fx_B a b A h k s rc bf q p got (f + 1) e := by
  obtain ⟨par, el, hQ, hg, hC, hD⟩ := hB
  refine ⟨par, el, hQ, hg, hC, fun j hj => ?_⟩
  rcases Nat.lt_or_ge j f with y | y
  · exact hD j y
  · have e1 : j = f := by omega
    rw [e1]; exact hc
/-- the next edge of the queue -/
theorem fx_Bg (hA : ∀ e, A e → e < 17) (hB : fx_B a b A h k s rc bf q p got k e) (hg : got + 1 < p) : ∃ e', e' < 17 ∧ q (got + 1) = nI e' ∧ fx_B a b A h k s rc bf q p (got + 1) 0 e' := by
  obtain ⟨par, el, hQ, ⟨hg0, he⟩, hC, hD⟩ := hB
  obtain ⟨h1, h2, h3, h4, h5, h6, h7, h8⟩ := hQ
  refine ⟨el (got + 1), hA _ (h3 _ hg).2.1, (h3 _ hg).1, par, el, ⟨h1, h2, h3, h4, h5, fun j hj0 hj => ?_, h7, h8⟩, ⟨hg, rfl⟩, fun i hi j hj => ?_, fun j hj => by omega⟩
  · obtain ⟨g1, g2, g3, g4⟩ := h6 j hj0 hj
    exact ⟨g1, by omega, g3, g4⟩
  · rcases Nat.lt_or_ge i got with y | y
    · exact hC i y j hj
    · have e1 : i = got := by omega
      rw [e1, he]; exact hD j hj
/-- the queue is at its end: what was reached is closed -/
theorem fx_Be (hA : ∀ e, A e → e < 17) (hB : fx_B a b A h k s rc bf q p got k e) (hg : p ≤ got + 1) :
    ∃ R : Nat → Prop, R s ∧ (∀ x, R x → A x) ∧ ∀ i, i < k → ∀ d, R d → fp_J a b (fun x => R x ∧ h x = nI i) (a d) (b d) := by
  obtain ⟨par, el, hQ, ⟨hg0, he⟩, hC, hD⟩ := hB
  obtain ⟨h1, h2, h3, h4, h5, h6, h7, h8⟩ := hQ
  have h30 := h3 0 h5.1
  rw [h5.2.1] at h30
  refine ⟨fun x => x < 17 ∧ rc x = 1, ⟨hA _ h30.2.1, h30.2.2⟩, fun x hx => ?_, fun i hi d hd => ?_⟩
  · obtain ⟨j, j1, j2⟩ := h4 x hx.1 hx.2
    rw [← j2]; exact (h3 j j1).2.1
  · rcases Classical.em (h d = nI i) with y | y
    · exact fp_Je (A := fun x => (x < 17 ∧ rc x = 1) ∧ h x = nI i) ⟨hd, y⟩
    · obtain ⟨j, j1, j2⟩ := h4 d hd.1 hd.2
      have c : fx_C a b A h rc d i := by
        rw [← j2]
        rcases Nat.lt_or_ge j got with z | z
        · exact hC j z i hi
        · have e1 : j = got := by omega
          rw [e1, he]; exact hD i hi
      exact fp_Jm (fun x hx => ⟨⟨hA x hx.1.1, hx.2⟩, hx.1.2⟩) (c y)
/-- the start -/
theorem fx_B0 (hs : A s) (h17 : s < 17) (hz : ∀ x, x < 17 → rc x = 0) : fx_B a b A h k s (upd rc s 1) (upd bf s (-1)) (upd q 0 (nI s)) 1 0 0 s := by
  refine ⟨fun _ => 0, fun _ => s, ⟨fun x hx => ?_, ?_, fun j hj => ?_, fun x hx hr => ⟨0, by omega, ?_⟩, ⟨by omega, rfl, pk_us⟩, fun j h0 hj => by omega, fun j j' h0 hj => by omega, fun i j hi hj _ => by omega⟩, ⟨by omega, rfl⟩, fun i hi => by omega, fun j hj => by omega⟩
  · rcases Classical.em (x = s) with y | y
    · rw [y, pk_us]; exact Or.inr rfl
    · rw [pk_un y]; exact Or.inl (hz x hx)
  · rw [← fp_c_one h17]
    refine fp_c_cg 17 (fun x hx => ⟨fun y => ?_, fun y => by rw [y, pk_us]⟩)
    rcases Classical.em (x = s) with w | w
    · exact w
    · rw [pk_un w, hz x hx] at y; exact absurd y (by decide)
  · have e1 : j = 0 := by omega
    rw [e1, pk_us, pk_us]; exact ⟨rfl, hs, rfl⟩
  · rcases Classical.em (x = s) with w | w
    · exact w.symm
    · rw [pk_un w, hz x hx] at hr; exact absurd hr (by decide)
def fx_fin (a b : Nat → Nat) (A : Nat → Prop) (h : Nat → Int32) (k s : Nat) (D : Nat → Prop) (g : Nat → Int32) : Prop :=
  (∀ i, i < k → fp_Y a b (fx_F A g (nI i))) ∧ (∀ x, D x → g x = h x) ∧ (∃ i, i < k ∧ g s = nI i) ∧ (∀ x, A x → x ≠ s → (h x = -1 → g x = -1) ∧ (h x ≠ -1 → ∃ i, i < k ∧ g x = nI i))
/-- the shift has come to place c of the chain: the edge there is to go to a forest that it doesn't close a ring in -/
def fx_S (a b : Nat → Nat) (A : Nat → Prop) (h : Nat → Int32) (k : Nat) (D : Nat → Prop) (p : Nat) (par el : Nat → Nat) (g : Nat → Int32) (c : Nat) (goal : Int32) : Prop :=
  (∀ i, i < k → fp_Y a b (fx_F A g (nI i))) ∧ (c < p ∧ (∃ i, i < k ∧ goal = nI i) ∧ ¬ fp_J a b (fx_F A g goal) (a (el c)) (b (el c))) ∧
  (∀ x, g x ≠ h x → ∃ m, 0 < m ∧ m < p ∧ c ≤ par m ∧ el m = x) ∧ ((∀ x, D x → g x = h x) ∧ ¬ D (el c)) ∧
  (∀ x, A x → (h x = -1 → g x = -1) ∧ (h x ≠ -1 → ∃ i, i < k ∧ g x = nI i))
theorem fx_Seq {par el : Nat → Nat} {D : Nat → Prop} {g : Nat → Int32} {c : Nat} {goal : Int32} (hQ : fx_Q a b A h k s rc bf q p par el got) (hS : fx_S a b A h k D p par el g c goal) : g (el c) = h (el c) := by
  rcases Classical.em (g (el c) = h (el c)) with y | y
  · exact y
  · obtain ⟨m, m0, m1, m2, m3⟩ := hS.2.2.1 _ y
    have e1 := hQ.2.2.2.2.2.2.2 m c m1 hS.2.1.1 m3
    have := (hQ.2.2.2.2.2.1 m m0 m1).1
    omega
theorem fx_SY {D : Nat → Prop} {par el : Nat → Nat} {g : Nat → Int32} {c : Nat} {goal : Int32} (hS : fx_S a b A h k D p par el g c goal) : ∀ i, i < k → fp_Y a b (fx_F A (upd g (el c) goal) (nI i)) := by
  intro i hi
  rcases Classical.em (nI i = goal) with y | y
  · rw [y]
    have y1 := hS.1 i hi
    rw [y] at y1
    refine fp_Ym (fun x hx => ?_) (fp_Ya y1 hS.2.1.2.2)
    rcases Classical.em (x = el c) with z | z
    · exact Or.inr z
    · have := hx.2
      rw [pk_un z] at this
      exact Or.inl ⟨hx.1, this⟩
  · refine fp_Ym (fun x hx => ?_) (hS.1 i hi)
    have hx2 := hx.2
    rcases Classical.em (x = el c) with z | z
    · rw [z, pk_us] at hx2; exact absurd hx2.symm y
    · rw [pk_un z] at hx2; exact ⟨hx.1, hx2⟩
theorem fx_S0 {par el : Nat → Nat} {D : Nat → Prop} {g : Nat → Int32} {goal : Int32} (hQ : fx_Q a b A h k s rc bf q p par el got) (hS : fx_S a b A h k D p par el g 0 goal) : fx_fin a b A h k s D (upd g s goal) := by
  have e0 : el 0 = s := hQ.2.2.2.2.1.2.1
  have y := fx_SY hS
  rw [e0] at y
  obtain ⟨s1, ⟨s2, s3, s4⟩, s5, ⟨s6, s7⟩, s8⟩ := hS
  rw [e0] at s7
  refine ⟨y, fun x hx => ?_, ?_, fun x hx hn => ?_⟩
  · have nx : x ≠ s := fun z => s7 (z ▸ hx)
    rw [pk_un nx]; exact s6 x hx
  · rw [pk_us]; exact s3
  · rw [pk_un hn]; exact s8 x hx
theorem fx_S1 {par el : Nat → Nat} {D : Nat → Prop} {g : Nat → Int32} {c : Nat} {goal : Int32} (hQ : fx_Q a b A h k s rc bf q p par el got) (hS : fx_S a b A h k D p par el g c goal) (hc : 0 < c) (hk : k < 2 ^ 31)
    (hT : ∀ i, i < k → ∀ e, D e → fp_J a b (fun x => D x ∧ h x = nI i) (a e) (b e)) (hDA : ∀ x, D x → A x) :
    fx_S a b A h k D p par el (upd g (el c) goal) (par c) (h (el c)) := by
  have y := fx_SY hS
  have eq := fx_Seq hQ hS
  obtain ⟨h1, h2, h3, h4, h5, h6, h7, h8⟩ := hQ
  obtain ⟨s1, ⟨s2, s3, s4⟩, s5, ⟨s6, s7⟩, s8⟩ := hS
  obtain ⟨g1, g2, g3, ⟨i, i1, i2⟩, l2, l3, l4⟩ := h6 c hc s2
  have hAc : A (el c) := (h3 c s2).2.1
  have og : h (el c) ≠ goal := by
    intro z
    exact s4 (fp_Je (A := fx_F A g goal) ⟨hAc, by rw [eq]; exact z⟩)
  have nD : ¬ D (el (par c)) := by
    intro hd
    have j := hT i i1 _ hd
    refine l2.2 (fp_Jm (fun x hx => ⟨⟨hDA x hx.1, by rw [i2]; exact hx.2⟩, fun z => s7 (z ▸ hx.1)⟩) j)
  have nJ : ¬ fp_J a b (fun x => fx_F A g (h (el c)) x ∧ x ≠ el c) (a (el (par c))) (b (el (par c))) := by
    refine fp_Yx (P := fx_E a b (fx_F A h (h (el c))) (el (par c))) (fun x hx => ⟨hx.1.1, ?_⟩) l4 ⟨hAc, eq⟩ (by rw [i2]; exact s1 i i1) (fun j => l2.2 (fp_Jm (fun x hx => ⟨hx.1.1, hx.2⟩) j))
    rcases Classical.em (g x = h x) with z | z
    · rw [z]; exact hx.1.2
    · obtain ⟨m, m0, m1, m2, m3⟩ := s5 x z
      exact absurd (m3 ▸ hx) (h7 c m hc s2 m0 m1 (by omega))
  refine ⟨y, ⟨by omega, ⟨i, i1, i2⟩, fun j => nJ (fp_Jm (fun x hx => ?_) j)⟩, fun x hx => ?_, ⟨fun x hx => ?_, nD⟩, fun x hx => ?_⟩
  · have hx2 := hx.2
    rcases Classical.em (x = el c) with z | z
    · rw [z, pk_us] at hx2; exact absurd hx2.symm og
    · rw [pk_un z] at hx2; exact ⟨⟨hx.1, hx2⟩, z⟩
  · rcases Classical.em (x = el c) with z | z
    · exact ⟨c, hc, s2, Nat.le_refl _, z.symm⟩
    · rw [pk_un z] at hx
      obtain ⟨m, m0, m1, m2, m3⟩ := s5 x hx
      exact ⟨m, m0, m1, by omega, m3⟩
  · have nx : x ≠ el c := fun z => s7 (z ▸ hx)
    rw [pk_un nx]; exact s6 x hx
  · rcases Classical.em (x = el c) with z | z
    · rw [z, pk_us]
      refine ⟨fun w => ?_, fun _ => s3⟩
      rw [i2] at w
      exact absurd w (fp_nIm (by omega))
    · rw [pk_un z]; exact s8 x hx
/-- the ways of a forest: ranks above x, ranks below -/
theorem fx_dn {F S : Nat → Prop} {rk : Nat → Nat} {via : Nat → Int32} {N u : Nat} (hS : ∀ w, S w → w < N ∧ rk w < 7 ∧ ((w = u ∧ via w = -1) ∨ ∃ e x, via w = nI e ∧ F e ∧ S x ∧ rk x < rk w ∧ ((a e = x ∧ b e = w) ∨ (a e = w ∧ b e = x)))) :
    ∀ r w, S w → rk w < r → fp_J a b (fun z => F z ∧ rk (a z) ≤ rk w ∧ rk (b z) ≤ rk w) w u := by
  intro r
  induction r with
  | zero => intro w _ hr; omega
  | succ r ih =>
    intro w hw hr
    obtain ⟨_, _, g3⟩ := hS w hw
    rcases g3 with ⟨z1, _⟩ | ⟨e1, x1, _, z2, z3, z4, z6⟩
    · rw [z1]; exact fp_Jr u
    · have k1 := ih x1 z3 (by omega)
      have k2 : fp_J a b (fun z => F z ∧ rk (a z) ≤ rk w ∧ rk (b z) ≤ rk w) x1 u := fp_Jm (fun z hz => ⟨hz.1, by omega, by omega⟩) k1
      refine fp_Jt ?_ k2
      rcases z6 with ⟨y1, y2⟩ | ⟨y1, y2⟩
      · have je := fp_Je (a := a) (b := b) (A := fun z => F z ∧ rk (a z) ≤ rk w ∧ rk (b z) ≤ rk w) (e := e1) ⟨z2, by rw [y1]; omega, by rw [y2]; exact Nat.le_refl _⟩
        rw [y1, y2] at je; exact fp_Js je
      · have je := fp_Je (a := a) (b := b) (A := fun z => F z ∧ rk (a z) ≤ rk w ∧ rk (b z) ≤ rk w) (e := e1) ⟨z2, by rw [y1]; exact Nat.le_refl _, by rw [y2]; omega⟩
        rw [y1, y2] at je; exact je
/-- an edge of the way is on the way -/
theorem fx_es {F S : Nat → Prop} {rk : Nat → Nat} {via : Nat → Int32} {N d x z y : Nat} (hY : fp_Y a b F)
    (hS : ∀ w, S w → w < N ∧ rk w < 7 ∧ ((w = a d ∧ via w = -1) ∨ ∃ e x, via w = nI e ∧ F e ∧ S x ∧ rk x < rk w ∧ ((a e = x ∧ b e = w) ∨ (a e = w ∧ b e = x))))
    (hx : S x) (hz : F z) (hy : S y) (hr : rk y < rk x) (hzz : (a z = y ∧ b z = x) ∨ (a z = x ∧ b z = y))
    (hU : fp_J a b (fun w => F w ∧ (rk x < rk (a w) ∨ rk x < rk (b w))) (b d) x) : fx_E a b F d z := by
  refine ⟨hz, fun j => ?_⟩
  have u1 : fp_J a b (fun w => F w ∧ w ≠ z) (b d) x := by
    refine fp_Jm (fun w hw => ⟨hw.1, fun q => ?_⟩) hU
    have := hw.2
    rw [q] at this
    rcases hzz with ⟨y1, y2⟩ | ⟨y1, y2⟩ <;> rw [y1, y2] at this <;> omega
  have u2 : fp_J a b (fun w => F w ∧ w ≠ z) y (a d) := by
    refine fp_Jm (fun w hw => ⟨hw.1, fun q => ?_⟩) (fx_dn hS (rk y + 1) y hy (Nat.lt_succ_self _))
    have := hw.2
    rw [q] at this
    rcases hzz with ⟨y1, y2⟩ | ⟨y1, y2⟩ <;> rw [y1, y2] at this <;> omega
  have u3 : fp_J a b (fun w => F w ∧ w ≠ z) y x := fp_Jt u2 (fp_Jt j u1)
  rcases hzz with ⟨y1, y2⟩ | ⟨y1, y2⟩
  · exact hY z hz (by rw [y1, y2]; exact u3)
  · exact hY z hz (by rw [y1, y2]; exact fp_Js u3)
theorem fx_up {F : Nat → Prop} {rk : Nat → Nat} {d x z y : Nat} (hz : F z) (hr : rk y < rk x) (hzz : (a z = y ∧ b z = x) ∨ (a z = x ∧ b z = y))
    (hU : fp_J a b (fun w => F w ∧ (rk x < rk (a w) ∨ rk x < rk (b w))) (b d) x) : fp_J a b (fun w => F w ∧ (rk y < rk (a w) ∨ rk y < rk (b w))) (b d) y := by
  refine fp_Jt (fp_Jm (fun w hw => ⟨hw.1, by have := hw.2; omega⟩) hU) ?_
  rcases hzz with ⟨y1, y2⟩ | ⟨y1, y2⟩
  · have je := fp_Je (a := a) (b := b) (A := fun w => F w ∧ (rk y < rk (a w) ∨ rk y < rk (b w))) (e := z) ⟨hz, Or.inr (by rw [y2]; exact hr)⟩
    rw [y1, y2] at je; exact fp_Js je
  · have je := fp_Je (a := a) (b := b) (A := fun w => F w ∧ (rk y < rk (a w) ∨ rk y < rk (b w))) (e := z) ⟨hz, Or.inl (by rw [y1]; exact hr)⟩
    rw [y1, y2] at je; exact je
theorem fx_path {F S : Nat → Prop} {rk : Nat → Nat} {via : Nat → Int32} {N d : Nat} (hY : fp_Y a b F)
    (hS : ∀ w, S w → w < N ∧ rk w < 7 ∧ ((w = a d ∧ via w = -1) ∨ ∃ e x, via w = nI e ∧ F e ∧ S x ∧ rk x < rk w ∧ ((a e = x ∧ b e = w) ∨ (a e = w ∧ b e = x)))) :
    ∀ r x, S x → rk x < r → fp_J a b (fun w => F w ∧ (rk x < rk (a w) ∨ rk x < rk (b w))) (b d) x → fp_J a b (fx_E a b F d) x (a d) := by
  intro r
  induction r with
  | zero => intro x _ hr; omega
  | succ r ih =>
    intro x hx hr hU
    obtain ⟨_, _, g3⟩ := hS x hx
    rcases g3 with ⟨z1, _⟩ | ⟨z, y, _, z2, z3, z4, z6⟩
    · rw [z1]; exact fp_Jr _
    · have hE := fx_es hY hS hx z2 z3 z4 z6 hU
      have k1 := ih y z3 (by omega) (fx_up z2 z4 z6 hU)
      refine fp_Jt ?_ k1
      have je := fp_Je (a := a) (b := b) hE
      rcases z6 with ⟨y1, y2⟩ | ⟨y1, y2⟩
      · rw [y1, y2] at je; exact fp_Js je
      · rw [y1, y2] at je; exact je
end
end
section
section
variable {f_n f_count f_taking f_put : Int32} {a_from a_to a_home a_reached a_before a_queue a_via a_seen a_line : Nat → Int32} {a b : Nat → Nat} {N k s : Nat}
theorem fx_re {post : SX → Prop} {x : Int32} {z p : Nat} (hz : z < 17) (hp : p < 17)
    (H : post (f_n, f_count, f_taking, nI (p + 1), a_from, a_to, a_home, upd a_reached z 1, upd a_before z x, upd a_queue p (nI z), a_via, a_seen, a_line)) :
    wpX_reach post (f_n, f_count, f_taking, nI p, a_from, a_to, a_home, a_reached, a_before, a_queue, a_via, a_seen, a_line) (nI z) x := by
  have hc : (nI z).toNatClampNeg = z := nI_clamp (by omega)
  have hcp : (nI p).toNatClampNeg = p := nI_clamp (by omega)
  have hin : vp_in (nI z) 17 := vp_in_nI (by omega) (by omega)
  refine And.intro hin (nm_r (e' := upd a_reached z 1) (by rw [hc]; rfl) (And.intro hin (nm_r (e' := upd a_before z x) (by rw [hc]) (And.intro (vp_in_nI hp (by omega)) (nm_r (e' := upd a_queue p (nI z)) (by rw [hcp]) (nm_r (nI_1 p) H))))))
/-- the way back: every edge on it is reached -/
theorem fx_rw9 {post : SX → Prop} {S : Nat → Prop} {rk : Nat → Nat} {e got f0 f : Nat} (hN : N ≤ 7) (hk : k < 2 ^ 31) (hf : f < k)
    (hF : ∀ e, a_from e = nI (a e)) (hT : ∀ e, a_to e = nI (b e)) (ha : ∀ e, a e < N) (hb : ∀ e, b e < N)
    (hY : fp_Y a b (fx_F (fx_A f_taking) a_home (nI f))) (he : a_home e ≠ nI f)
    (hS : ∀ w, S w → w < N ∧ rk w < 7 ∧ ((w = a e ∧ a_via w = -1) ∨ ∃ i x, a_via w = nI i ∧ fx_F (fx_A f_taking) a_home (nI f) i ∧ S x ∧ rk x < rk w ∧ ((a i = x ∧ b i = w) ∨ (a i = w ∧ b i = x))))
    (hP : fp_J a b (fx_E a b (fx_F (fx_A f_taking) a_home (nI f)) e) (a e) (b e))
    (H : ∀ p rc bf q, fx_B a b (fx_A f_taking) a_home k s rc bf q p got f0 e → fp_J a b (fun x => fx_F (fx_A f_taking) a_home (nI f) x ∧ rc x = 1) (a e) (b e) →
      post (f_n, f_count, f_taking, nI p, a_from, a_to, a_home, rc, bf, q, a_via, a_seen, a_line)) :
    ∀ d x i n p (rc bf q : Nat → Int32), S x → rk x < d → d ≤ n → i + rk x ≤ 6 → fx_B a b (fx_A f_taking) a_home k s rc bf q p got f0 e →
      fp_J a b (fun w => fx_F (fx_A f_taking) a_home (nI f) w ∧ (rk x < rk (a w) ∨ rk x < rk (b w))) (b e) x →
      fp_J a b (fun w => fx_F (fx_A f_taking) a_home (nI f) w ∧ rc w = 1) (b e) x →
      wX_reachWay_9 post (nI e) n (nI x) (nI i) f_n f_count f_taking (nI p) a_from a_to a_home rc bf q a_via a_seen a_line := by
  intro d
  induction d with
  | zero => intro x i n p rc bf q _ hr; omega
  | succ d ih =>
    intro x i n p rc bf q hx hr hn hi hB hU hR
    obtain ⟨n, rfl⟩ : ∃ m, n = m + 1 := ⟨n - 1, by omega⟩
    obtain ⟨xN, _, g3⟩ := hS x hx
    have hc : (nI x).toNatClampNeg = x := nI_clamp (by omega)
    have hin : vp_in (nI x) 7 := vp_in_nI (by omega) (by omega)
    refine br_f (nI_ge (b := 7) (by omega) (by decide)) (And.intro hin ?_)
    rw [hc]
    rcases g3 with ⟨z1, z2⟩ | ⟨z, y, z1, z2, z3, z4, z6⟩
    · rw [z2]
      rw [z1] at hR
      exact br_t (by decide) (H p rc bf q hB (fp_Js hR))
    · have z17 : z < 17 := z2.1.1
      have hcz : (nI z).toNatClampNeg = z := nI_clamp (by omega)
      have hinz : vp_in (nI z) 17 := vp_in_nI (by omega) (by omega)
      have hE := fx_es hY hS hx z2 z3 z4 z6 hU
      have hU' := fx_up z2 z4 z6 hU
      have hLk : fx_Lk a b (fx_A f_taking) a_home k e z := by
        refine ⟨⟨f, hf, z2.2⟩, ?_, ?_, ?_⟩
        · rw [z2.2]; exact hE
        · rw [z2.2]; exact he
        · rw [z2.2]; exact hP
      rw [z1]
      refine br_f (nI_pos (by omega)) (And.intro hin (nm_e (And.intro hinz ?_)))
      rw [hcz]
      have next : ∀ p' (rc' bf' q' : Nat → Int32), fx_B a b (fx_A f_taking) a_home k s rc' bf' q' p' got f0 e → (∀ w, rc w = 1 → rc' w = 1) → rc' z = 1 →
          wX_reachWay_49 post (wX_reachWay_9 post (nI e) n) (nI e) (nI x) (nI i) (nI z) f_n f_count f_taking (nI p') a_from a_to a_home rc' bf' q' a_via a_seen a_line := by
        intro p' rc' bf' q' hB' hm hz'
        have hR' : fp_J a b (fun w => fx_F (fx_A f_taking) a_home (nI f) w ∧ rc' w = 1) (b e) y := by
          refine fp_Jt (fp_Jm (fun w hw => ⟨hw.1, hm w hw.2⟩) hR) ?_
          have je := fp_Je (a := a) (b := b) (A := fun w => fx_F (fx_A f_taking) a_home (nI f) w ∧ rc' w = 1) (e := z) ⟨z2, hz'⟩
          rcases z6 with ⟨y1, y2⟩ | ⟨y1, y2⟩
          · rw [y1, y2] at je; exact fp_Js je
          · rw [y1, y2] at je; exact je
        have K := ih y (i + 1) n p' rc' bf' q' z3 (by omega) (by omega) (by omega) hB' hU' hR'
        have yN := (hS y z3).1
        refine And.intro hinz ?_
        rw [hcz, hF, hT]
        rcases z6 with ⟨y1, y2⟩ | ⟨y1, y2⟩
        · have nxy : ¬ nI (a z) = nI x := by
            rw [nI_eq (by omega) (by omega), y1]
            intro w; rw [w] at z4; omega
          refine br_f nxy (And.intro hinz (nm_r (e' := nI y) (by rw [y1]) (nm_r (nI_1 i) K)))
        · refine br_t (by rw [y1]) (And.intro hinz (nm_r (e' := nI y) (by rw [y2]) (nm_r (nI_1 i) K)))
      rcases (fx_Bp hB).2.2.1 z z17 with w | w
      · refine br_t w (fx_re z17 ((fx_Bp hB).2.1 z z17 w) ?_)
        refine next (p + 1) _ _ _ (fx_Badd hB z2.1 z17 w hLk) (fun v hv => ?_) pk_us
        rw [pk_un (fun t => by rw [t, w] at hv; exact absurd hv (by decide))]; exact hv
      · exact br_f (by rw [w]; decide) (next p rc bf q hB (fun v hv => hv) w)
theorem fx_rw {post : SX → Prop} {e got f0 f p : Nat} {rc bf q : Nat → Int32} (hN : N ≤ 7) (hk : k < 2 ^ 31) (hf : f < k) (h17 : e < 17)
    (hF : ∀ e, a_from e = nI (a e)) (hT : ∀ e, a_to e = nI (b e)) (ha : ∀ e, a e < N) (hb : ∀ e, b e < N)
    (hY : fp_Y a b (fx_F (fx_A f_taking) a_home (nI f))) (he : a_home e ≠ nI f)
    (hTR : fx_TR a b (fx_F (fx_A f_taking) a_home (nI f)) N (a e) (b e) a_via)
    (hB : fx_B a b (fx_A f_taking) a_home k s rc bf q p got f0 e)
    (H : ∀ p rc bf q, fx_B a b (fx_A f_taking) a_home k s rc bf q p got f0 e → fp_J a b (fun x => fx_F (fx_A f_taking) a_home (nI f) x ∧ rc x = 1) (a e) (b e) →
      post (f_n, f_count, f_taking, nI p, a_from, a_to, a_home, rc, bf, q, a_via, a_seen, a_line)) :
    wpX_reachWay post (f_n, f_count, f_taking, nI p, a_from, a_to, a_home, rc, bf, q, a_via, a_seen, a_line) (nI e) := by
  obtain ⟨S, rk, hv, hS⟩ := hTR
  have hc : (nI e).toNatClampNeg = e := nI_clamp (by omega)
  have r7 := (hS _ hv).2.1
  have hP := fx_path hY hS 7 (b e) hv r7 (fp_Jr _)
  refine And.intro (vp_in_nI h17 (by omega)) (nm_r (e' := nI (b e)) (by rw [hc]; exact hT e) (Exists.intro 7 ?_))
  exact fx_rw9 hN hk hf hF hT ha hb hY he hS (fp_Js hP) H 7 (b e) 0 7 p rc bf q hv r7 (Nat.le_refl _) (by omega) hB (fp_Jr _) (fp_Jr _)
theorem fx_sh8 {post : SX → Prop} {h rc bf q : Nat → Int32} {p got : Nat} {par el : Nat → Nat} {D : Nat → Prop} (hk : k < 2 ^ 31) (hp : p ≤ 17) (hA : ∀ e, fx_A f_taking e → e < 17)
    (hQ : fx_Q a b (fx_A f_taking) h k s rc bf q p par el got)
    (hT : ∀ i, i < k → ∀ e, D e → fp_J a b (fun x => D x ∧ h x = nI i) (a e) (b e)) (hDA : ∀ x, D x → fx_A f_taking x)
    (H : ∀ g : Nat → Int32, fx_fin a b (fx_A f_taking) h k s D g → post (f_n, f_count, f_taking, f_put, a_from, a_to, g, rc, bf, q, a_via, a_seen, a_line)) :
    ∀ d c i n (g : Nat → Int32) (goal : Int32), c < d → d < n → i + c ≤ 16 → fx_S a b (fx_A f_taking) h k D p par el g c goal →
      wX_shift_8 post f_n f_count f_taking f_put n (nI (el c)) goal (nI i) a_from a_to g rc bf q a_via a_seen a_line := by
  intro d
  induction d with
  | zero => intro c i n g goal hc; omega
  | succ d ih =>
    intro c i n g goal hc hn hi hS
    obtain ⟨n, rfl⟩ : ∃ m, n = m + 2 := ⟨n - 2, by omega⟩
    have hcp := hS.2.1.1
    have h17 : el c < 17 := hA _ (hQ.2.2.1 c hcp).2.1
    have hcc : (nI (el c)).toNatClampNeg = el c := nI_clamp (by omega)
    have hin : vp_in (nI (el c)) 17 := vp_in_nI (by omega) (by omega)
    have eq := fx_Seq hQ hS
    refine br_f (nI_nlt (a := 16) (by omega) (by decide)) (br_f (nI_pos (by omega)) (And.intro hin ?_))
    rw [hcc]
    refine nm_e (And.intro hin (nm_e (And.intro hin ?_)))
    rcases Nat.eq_zero_or_pos c with z | z
    · subst z
      have e0 : el 0 = s := hQ.2.2.2.2.1.2.1
      have fin := fx_S0 hQ hS
      rw [e0, hQ.2.2.2.2.1.2.2]
      refine nm_e (nm_r (nI_1 i) ?_)
      exact br_c (fun _ => H _ fin) (fun _ => br_t (by decide) (H _ fin))
    · obtain ⟨g1, g2, g3, g4⟩ := hQ.2.2.2.2.2.1 c z hcp
      rw [g3, eq]
      refine nm_e (nm_r (nI_1 i) ?_)
      exact ih (par c) (i + 1) (n + 1) _ _ (by omega) (by omega) (by omega) (fx_S1 hQ hS z hk hT hDA)
theorem fx_sh {post : SX → Prop} {h rc bf q : Nat → Int32} {p got f0 e f : Nat} {D : Nat → Prop} (hk : k < 2 ^ 31) (hf : f < k) (hA : ∀ e, fx_A f_taking e → e < 17)
    (hB : fx_B a b (fx_A f_taking) h k s rc bf q p got f0 e)
    (hY : ∀ i, i < k → fp_Y a b (fx_F (fx_A f_taking) h (nI i)))
    (hR : ∀ x, fx_A f_taking x → h x = -1 ∨ ∃ i, i < k ∧ h x = nI i)
    (hT : ∀ i, i < k → ∀ e, D e → fp_J a b (fun x => D x ∧ h x = nI i) (a e) (b e)) (hDA : ∀ x, D x → fx_A f_taking x)
    (hn : ¬ fp_J a b (fx_F (fx_A f_taking) h (nI f)) (a e) (b e))
    (H : ∀ g : Nat → Int32, fx_fin a b (fx_A f_taking) h k s D g → post (f_n, f_count, f_taking, f_put, a_from, a_to, g, rc, bf, q, a_via, a_seen, a_line)) :
    wpX_shift post (f_n, f_count, f_taking, f_put, a_from, a_to, h, rc, bf, q, a_via, a_seen, a_line) (nI e) (nI f) := by
  have hp := (fx_Bp hB).1
  obtain ⟨par, el, hQ, ⟨hg, he⟩, _, _⟩ := hB
  refine Exists.intro 18 ?_
  rw [← he] at hn ⊢
  refine fx_sh8 hk hp hA hQ hT hDA H 17 got 0 18 h (nI f) (by omega) (by omega) (by omega) ⟨hY, ⟨hg, ⟨f, hf, rfl⟩, hn⟩, fun x hx => absurd rfl hx, ⟨fun _ _ => rfl, fun hd => ?_⟩, fun x hx => ⟨fun z => z, fun z => (hR x hx).resolve_left z⟩⟩
  exact hn (fp_Jm (fun x hx => ⟨hDA x hx.1, hx.2⟩) (hT f hf _ hd))
/-- what bringIn needs and keeps -/
def fx_H (a b : Nat → Nat) (A : Nat → Prop) (h : Nat → Int32) (k : Nat) (D : Nat → Prop) : Prop :=
  (∀ i, i < k → fp_Y a b (fx_F A h (nI i))) ∧ (∀ x, A x → h x = -1 ∨ ∃ i, i < k ∧ h x = nI i) ∧ (∀ x, D x → A x) ∧ (∀ i, i < k → ∀ e, D e → fp_J a b (fun x => D x ∧ h x = nI i) (a e) (b e))
def fx_cl (a b : Nat → Nat) (A : Nat → Prop) (h : Nat → Int32) (k s : Nat) : Prop := ∃ R : Nat → Prop, R s ∧ (∀ x, R x → A x) ∧ ∀ i, i < k → ∀ d, R d → fp_J a b (fun x => R x ∧ h x = nI i) (a d) (b d)
theorem fx_bi59 {post : Int32 → SX → Prop} {J34 : Int32 → Int32 → Int32 → Int32 → Int32 → (Nat → Int32) → (Nat → Int32) → (Nat → Int32) → (Nat → Int32) → (Nat → Int32) → (Nat → Int32) → (Nat → Int32) → (Nat → Int32) → (Nat → Int32) → Prop} {D : Nat → Prop} {got e : Nat}
    (hN : N ≤ 7) (hk : k < 2 ^ 31) (hg : got < 17) (h17 : e < 17) (hF : ∀ e, a_from e = nI (a e)) (hT : ∀ e, a_to e = nI (b e)) (ha : ∀ e, a e < N) (hb : ∀ e, b e < N)
    (hH : fx_H a b (fx_A f_taking) a_home k D)
    (H1 : ∀ p (g rc bf q via seen line : Nat → Int32), fx_fin a b (fx_A f_taking) a_home k s D g → post 1 (nI N, f_count, f_taking, nI p, a_from, a_to, g, rc, bf, q, via, seen, line))
    (HJ : ∀ p (rc bf q via seen line : Nat → Int32), fx_B a b (fx_A f_taking) a_home k s rc bf q p got k e → J34 (nI (got + 1)) (nI N) f_count f_taking (nI p) a_from a_to a_home rc bf q via seen line) :
    ∀ d f n p (rc bf q via seen line : Nat → Int32), f + d = k → d < n → fx_B a b (fx_A f_taking) a_home k s rc bf q p got f e →
      wX_bringIn_59 post J34 (nI k) (nI got) (nI e) n (nI f) (nI N) f_count f_taking (nI p) a_from a_to a_home rc bf q via seen line := by
  have hA : ∀ e, fx_A f_taking e → e < 17 := fun e h => h.1
  intro d
  induction d with
  | zero =>
    intro f n p rc bf q via seen line hf hn hB
    obtain ⟨n, rfl⟩ : ∃ m, n = m + 1 := ⟨n - 1, by omega⟩
    have e1 : f = k := by omega
    subst e1
    exact br_t (nI_le (Nat.le_refl _) (by omega)) (nm_r (nI_1 got) (HJ p rc bf q via seen line hB))
  | succ d ih =>
    intro f n p rc bf q via seen line hf hn hB
    obtain ⟨n, rfl⟩ : ∃ m, n = m + 1 := ⟨n - 1, by omega⟩
    have hc : (nI e).toNatClampNeg = e := nI_clamp (by omega)
    have hin : vp_in (nI e) 17 := vp_in_nI (by omega) (by omega)
    refine br_f (nI_ge (by omega) (by omega)) (And.intro hin ?_)
    rw [hc]
    refine br_c (fun y => nm_r (nI_1 f) (ih (f + 1) n p rc bf q via seen line (by omega) (by omega) (fx_Bf hB (fun z => absurd y z)))) (fun y => And.intro hin (And.intro hin ?_))
    rw [hF, hT]
    refine fx_se hN hF hT ha hb (ha e) (hb e) (fun via' seen' line' nj => ?_) (fun via' seen' line' j tr => ?_)
    · refine br_t rfl ?_
      exact fx_sh hk (by omega) hA hB hH.1 hH.2.1 hH.2.2.2 hH.2.2.1 nj (fun g hg => H1 p g rc bf q via' seen' line' hg)
    · refine br_f (by decide) ?_
      exact fx_rw hN hk (by omega) h17 hF hT ha hb (hH.1 f (by omega)) y tr hB (fun p' rc' bf' q' hB' j' => nm_r (nI_1 f) (ih (f + 1) n p' rc' bf' q' via' seen' line' (by omega) (by omega) (fx_Bf hB' (fun _ => j'))))
theorem fx_bi34 {post : Int32 → SX → Prop} {D : Nat → Prop}
    (hN : N ≤ 7) (hk : k < 2 ^ 31) (hF : ∀ e, a_from e = nI (a e)) (hT : ∀ e, a_to e = nI (b e)) (ha : ∀ e, a e < N) (hb : ∀ e, b e < N)
    (hH : fx_H a b (fx_A f_taking) a_home k D)
    (H0 : ∀ p (rc bf q via seen line : Nat → Int32), fx_cl a b (fx_A f_taking) a_home k s → post 0 (nI N, f_count, f_taking, nI p, a_from, a_to, a_home, rc, bf, q, via, seen, line))
    (H1 : ∀ p (g rc bf q via seen line : Nat → Int32), fx_fin a b (fx_A f_taking) a_home k s D g → post 1 (nI N, f_count, f_taking, nI p, a_from, a_to, g, rc, bf, q, via, seen, line)) :
    ∀ d got n p e (rc bf q via seen line : Nat → Int32), got + d = 17 → d < n → e < 17 → q got = nI e → fx_B a b (fx_A f_taking) a_home k s rc bf q p got 0 e →
      wX_bringIn_34 post (nI k) n (nI got) (nI N) f_count f_taking (nI p) a_from a_to a_home rc bf q via seen line := by
  have hA : ∀ e, fx_A f_taking e → e < 17 := fun e h => h.1
  have lt : ∀ {p got e f : Nat} {rc bf q : Nat → Int32}, fx_B a b (fx_A f_taking) a_home k s rc bf q p got f e → got < p := fun h => by
    obtain ⟨par, el, hQ, ⟨hg, he⟩, _, _⟩ := h
    exact hg
  intro d
  induction d with
  | zero =>
    intro got n p e rc bf q via seen line hg hn h17 hq hB
    have := lt hB
    have := (fx_Bp hB).1
    omega
  | succ d ih =>
    intro got n p e rc bf q via seen line hg hn h17 hq hB
    obtain ⟨n, rfl⟩ : ∃ m, n = m + 2 := ⟨n - 2, by omega⟩
    have h1 := lt hB
    have h2 := (fx_Bp hB).1
    have hcg : (nI got).toNatClampNeg = got := nI_clamp (by omega)
    refine br_f (nI_ge h1 (by omega)) (br_f (nI_nlt (a := 16) (by omega) (by decide)) (And.intro (vp_in_nI (by omega) (by omega)) (nm_r (e' := nI e) (by rw [hcg]; exact hq) (Exists.intro (k + 1) ?_))))
    refine fx_bi59 hN hk (by omega) h17 hF hT ha hb hH H1 (fun p' rc' bf' q' via' seen' line' hB' => ?_) k 0 (k + 1) p rc bf q via seen line (by omega) (by omega) hB
    rcases Nat.lt_or_ge (got + 1) p' with y | y
    · obtain ⟨e', e1, e2, e3⟩ := fx_Bg hA hB' y
      have := (fx_Bp hB').1
      exact ih (got + 1) (n + 1) p' e' rc' bf' q' via' seen' line' (by omega) (by omega) e1 e2 e3
    · exact br_t (nI_le y (by omega)) (H0 p' rc' bf' q' via' seen' line' (fx_Be hA hB' y))
theorem fx_bi2 {post : Int32 → SX → Prop}
    (H : ∀ rc : Nat → Int32, (∀ x, x < 17 → rc x = 0) → wX_bringIn_2 post (nI s) (nI k) f_n f_count f_taking f_put 1 17 a_from a_to a_home rc a_before a_queue a_via a_seen a_line) :
    ∀ d j (rc : Nat → Int32), j + d = 17 → (∀ x, x < j → rc x = 0) →
      wX_bringIn_2 post (nI s) (nI k) f_n f_count f_taking f_put (d + 1) (nI j) a_from a_to a_home rc a_before a_queue a_via a_seen a_line := by
  intro d
  induction d with
  | zero =>
    intro j rc hj h
    have e : j = 17 := by omega
    subst e
    exact H rc h
  | succ d ih =>
    intro j rc hj h
    have hc : (nI j).toNatClampNeg = j := nI_clamp (by omega)
    have hin : vp_in (nI j) 17 := vp_in_nI (by omega) (by omega)
    refine br_f (nI_nlt (a := 16) (by omega) (by decide)) (And.intro hin (nm_r (e' := upd rc j 0) (by rw [hc]; rfl) (nm_r (nI_1 j) ?_)))
    refine ih (j + 1) _ (by omega) (fun x hx => ?_)
    rcases Nat.lt_or_ge x j with y | y
    · rw [pk_un (by omega)]; exact h x y
    · have e : x = j := by omega
      rw [e, pk_us]
theorem fx_bi {post : Int32 → SX → Prop} {D : Nat → Prop}
    (hN : N ≤ 7) (hk : k < 2 ^ 31) (hs : fx_A f_taking s) (hF : ∀ e, a_from e = nI (a e)) (hT : ∀ e, a_to e = nI (b e)) (ha : ∀ e, a e < N) (hb : ∀ e, b e < N)
    (hH : fx_H a b (fx_A f_taking) a_home k D)
    (H0 : ∀ p (rc bf q via seen line : Nat → Int32), fx_cl a b (fx_A f_taking) a_home k s → post 0 (nI N, f_count, f_taking, nI p, a_from, a_to, a_home, rc, bf, q, via, seen, line))
    (H1 : ∀ p (g rc bf q via seen line : Nat → Int32), fx_fin a b (fx_A f_taking) a_home k s D g → post 1 (nI N, f_count, f_taking, nI p, a_from, a_to, g, rc, bf, q, via, seen, line)) :
    wpX_bringIn post (nI N, f_count, f_taking, f_put, a_from, a_to, a_home, a_reached, a_before, a_queue, a_via, a_seen, a_line) (nI s) (nI k) := by
  refine Exists.intro 18 (fx_bi2 (fun rc hrc => ?_) 17 0 a_reached (by omega) (fun x hx => by omega))
  refine br_t (by decide) ?_
  refine fx_re (p := 0) hs.1 (by omega) (Exists.intro 18 ?_)
  exact fx_bi34 hN hk hF hT ha hb hH H0 H1 17 0 18 1 s _ _ _ a_via a_seen a_line (by omega) (by omega) hs.1 pk_us (fx_B0 hs hs.1 hrc)
end
end
section
section
variable {f_n f_count s0 f_put : Int32} {a_from a_to a_home a_reached a_before a_queue a_via a_seen a_line : Nat → Int32} {a b : Nat → Nat} {N k : Nat}
theorem fx_bit {j : Nat} (hj : j < 17) : (s0 >>> (nI j &&& 31)) &&& 1 = nI (fp_b (fx_A s0 j)) := by
  rcases fx_01 (s0 >>> (nI j &&& 31)) with h | h
  · rw [h, fp_b0 (fun z => by rw [fx_A, h] at z; exact absurd z.2 (by decide))]; rfl
  · rw [h, fp_b1 ⟨hj, h⟩]; rfl
/-- where held is: the edges below j have been tried -/
def fx_HI (a b : Nat → Nat) (A : Nat → Prop) (h : Nat → Int32) (k : Nat) (D : Nat → Prop) (j : Nat) : Prop :=
  fx_H a b A h k D ∧ (∀ x, A x → x < j → h x = -1 → D x) ∧ (∀ x, A x → j ≤ x → h x = -1)
theorem fx_HIn {A D : Nat → Prop} {h : Nat → Int32} {j : Nat} (hI : fx_HI a b A h k D j) (hn : ¬ A j) : fx_HI a b A h k D (j + 1) := by
  obtain ⟨h1, h2, h3⟩ := hI
  refine ⟨h1, fun x hx hj hh => ?_, fun x hx hj => h3 x hx (by omega)⟩
  rcases Nat.lt_or_ge x j with y | y
  · exact h2 x hx y hh
  · have e : x = j := by omega
    exact absurd (e ▸ hx) hn
theorem fx_HIf {A D : Nat → Prop} {h : Nat → Int32} {j : Nat} (hI : fx_HI a b A h k D j) (hc : fx_cl a b A h k j) : ∃ D' : Nat → Prop, fx_HI a b A h k D' (j + 1) := by
  obtain ⟨⟨q1, q2, q3, q4⟩, h2, h3⟩ := hI
  obtain ⟨R, r1, r2, r3⟩ := hc
  refine ⟨fun x => D x ∨ R x, ⟨q1, q2, fun x hx => hx.elim (q3 x) (r2 x), fun i hi e he => ?_⟩, fun x hx hj hh => ?_, fun x hx hj => h3 x hx (by omega)⟩
  · rcases he with he | he
    · exact fp_Jm (fun x hx => ⟨Or.inl hx.1, hx.2⟩) (q4 i hi e he)
    · exact fp_Jm (fun x hx => ⟨Or.inr hx.1, hx.2⟩) (r3 i hi e he)
  · rcases Nat.lt_or_ge x j with y | y
    · exact Or.inl (h2 x hx y hh)
    · have e : x = j := by omega
      exact Or.inr (e ▸ r1)
theorem fx_HIs {A D : Nat → Prop} {h g : Nat → Int32} {j : Nat} (hk : k < 2 ^ 31) (hA : ∀ e, A e → e < 17) (hj : A j) (hI : fx_HI a b A h k D j) (hf : fx_fin a b A h k j D g) :
    fx_HI a b A g k D (j + 1) ∧ fp_c (fun e => A e ∧ g e ≠ -1) 17 = fp_c (fun e => A e ∧ h e ≠ -1) 17 + 1 := by
  obtain ⟨⟨q1, q2, q3, q4⟩, h2, h3⟩ := hI
  obtain ⟨f1, f2, ⟨i0, i1, i2⟩, f4⟩ := hf
  have gj : g j ≠ -1 := by rw [i2]; exact fp_nIm (by omega)
  refine ⟨⟨⟨f1, fun x hx => ?_, q3, fun i hi e he => ?_⟩, fun x hx hl hh => ?_, fun x hx hl => ?_⟩, ?_⟩
  · rcases Classical.em (x = j) with y | y
    · rw [y]; exact Or.inr ⟨i0, i1, i2⟩
    · rcases Classical.em (h x = -1) with z | z
      · exact Or.inl ((f4 x hx y).1 z)
      · exact Or.inr ((f4 x hx y).2 z)
  · exact fp_Jm (fun x hx => ⟨hx.1, by rw [f2 x hx.1]; exact hx.2⟩) (q4 i hi e he)
  · have y : x ≠ j := fun y => gj (y ▸ hh)
    rcases Classical.em (h x = -1) with z | z
    · exact h2 x hx (by omega) z
    · obtain ⟨i, i3, i4⟩ := (f4 x hx y).2 z
      rw [i4] at hh
      exact absurd hh (fp_nIm (by omega))
  · exact (f4 x hx (by omega)).1 (h3 x hx (by omega))
  · rw [← fp_c_in (P := fun e => A e ∧ h e ≠ -1) (hA j hj) (fun z => z.2 (h3 j hj (Nat.le_refl _)))]
    refine fp_c_cg 17 (fun x _ => ⟨fun z => ?_, fun z => ?_⟩)
    · rcases Classical.em (x = j) with y | y
      · exact Or.inr y
      · exact Or.inl ⟨z.1, fun w => z.2 ((f4 x z.1 y).1 w)⟩
    · rcases z with z | z
      · rcases Classical.em (x = j) with y | y
        · rw [y]; exact ⟨hj, gj⟩
        · obtain ⟨i, i3, i4⟩ := (f4 x z.1 y).2 z.2
          exact ⟨z.1, by rw [i4]; exact fp_nIm (by omega)⟩
      · rw [z]; exact ⟨hj, gj⟩
theorem fx_hd53 {post : Int32 → SX → Prop}
    (hN : N ≤ 7) (hk : k < 2 ^ 31) (hF : ∀ e, a_from e = nI (a e)) (hT : ∀ e, a_to e = nI (b e)) (ha : ∀ e, a e < N) (hb : ∀ e, b e < N)
    (H : ∀ r (put : Int32) (h rc bf q via seen line : Nat → Int32), fp_M (fp_cut a b (fx_A s0)) N k r → post (nI r) (nI N, f_count, s0, put, a_from, a_to, h, rc, bf, q, via, seen, line)) :
    ∀ d j n (put : Int32) (h rc bf q via seen line : Nat → Int32) (D : Nat → Prop), j + d = 17 → d < n → fx_HI a b (fx_A s0) h k D j →
      wX_held_53 post s0 (nI k) n (nI (fp_c (fun e => fx_A s0 e ∧ h e ≠ -1) 17)) (nI j) (nI N) f_count s0 put a_from a_to h rc bf q via seen line := by
  have hA : ∀ e, fx_A s0 e → e < 17 := fun e h => h.1
  intro d
  induction d with
  | zero =>
    intro j n put h rc bf q via seen line D hj hn hI
    obtain ⟨n, rfl⟩ : ∃ m, n = m + 1 := ⟨n - 1, by omega⟩
    have e : j = 17 := by omega
    subst e
    obtain ⟨⟨q1, q2, q3, q4⟩, h2, h3⟩ := hI
    exact br_t (by decide) (H _ put h rc bf q via seen line (fp_fin hk hA ha hb q1 q2 q3 (fun x hx hh => h2 x hx (hA x hx) hh) q4))
  | succ d ih =>
    intro j n put h rc bf q via seen line D hj hn hI
    obtain ⟨n, rfl⟩ : ∃ m, n = m + 1 := ⟨n - 1, by omega⟩
    refine br_f (nI_nlt (a := 16) (by omega) (by decide)) (br_c (fun y => ?_) (fun y => ?_))
    · have hAj : fx_A s0 j := ⟨by omega, y⟩
      refine fx_bi hN hk hAj hF hT ha hb hI.1 (fun p rc' bf' q' via' seen' line' hc => ?_) (fun p g rc' bf' q' via' seen' line' hf => ?_)
      · obtain ⟨D', hI'⟩ := fx_HIf hI hc
        exact br_t rfl (nm_r (nI_1 j) (ih (j + 1) n (nI p) h rc' bf' q' via' seen' line' D' (by omega) (by omega) hI'))
      · obtain ⟨hI', e1⟩ := fx_HIs hk hA hAj hI hf
        have K := ih (j + 1) n (nI p) g rc' bf' q' via' seen' line' D (by omega) (by omega) hI'
        rw [e1] at K
        exact br_f (by decide) (nm_r (nI_1 _) (nm_r (nI_1 j) K))
    · exact nm_r (nI_1 j) (ih (j + 1) n put h rc bf q via seen line D (by omega) (by omega) (fx_HIn hI (fun z => y z.2)))
theorem fx_hd10 {post : Int32 → SX → Prop} (hk : k < 2 ^ 31)
    (HA : ∀ h : Nat → Int32, (∀ x, x < 17 → h x = -1) → k < fp_c (fx_A s0) 17 → ∃ n, wX_held_53 post s0 (nI k) n 0 0 f_n f_count s0 f_put a_from a_to h a_reached a_before a_queue a_via a_seen a_line)
    (HB : ∀ h : Nat → Int32, fp_c (fx_A s0) 17 ≤ k → post (nI (fp_c (fx_A s0) 17)) (f_n, f_count, s0, f_put, a_from, a_to, h, a_reached, a_before, a_queue, a_via, a_seen, a_line)) :
    ∀ d j n (h : Nat → Int32), j + d = 17 → d < n → (∀ x, x < j → h x = -1) →
      wX_held_10 post s0 (nI k) f_n f_count s0 f_put n (nI (fp_c (fx_A s0) j)) (nI j) a_from a_to h a_reached a_before a_queue a_via a_seen a_line := by
  intro d
  induction d with
  | zero =>
    intro j n h hj hn hh
    obtain ⟨n, rfl⟩ : ∃ m, n = m + 1 := ⟨n - 1, by omega⟩
    have e : j = 17 := by omega
    subst e
    have hl := fp_c_le (fx_A s0) 17
    exact br_t (by decide) (fp_if (nI_ltI hk (by omega)) (fun z => HA h hh z) (fun z => HB h (by omega)))
  | succ d ih =>
    intro j n h hj hn hh
    obtain ⟨n, rfl⟩ : ∃ m, n = m + 1 := ⟨n - 1, by omega⟩
    have hc : (nI j).toNatClampNeg = j := nI_clamp (by omega)
    have hin : vp_in (nI j) 17 := vp_in_nI (by omega) (by omega)
    have e1 : nI (fp_c (fx_A s0) j) + ((s0 >>> (nI j &&& 31)) &&& 1) = nI (fp_c (fx_A s0) (j + 1)) := by
      rw [fx_bit (by omega), nI_add, fp_cS]
    refine br_f (nI_nlt (a := 16) (by omega) (by decide)) (And.intro hin (nm_r (e' := upd h j (-1)) (by rw [hc]) (nm_r e1 (nm_r (nI_1 j) ?_))))
    refine ih (j + 1) n _ (by omega) (by omega) (fun x hx => ?_)
    rcases Nat.lt_or_ge x j with y | y
    · rw [pk_un (by omega)]; exact hh x y
    · have e : x = j := by omega
      rw [e, pk_us]
/-- the component's answer is the least of the bounds -/
theorem fx_hd {post : Int32 → SX → Prop}
    (hN : N ≤ 7) (hk : k ≤ 16) (hF : ∀ e, a_from e = nI (a e)) (hT : ∀ e, a_to e = nI (b e)) (ha : ∀ e, a e < N) (hb : ∀ e, b e < N) (hne : ∀ e, fx_A s0 e → a e ≠ b e)
    (H : ∀ r (put : Int32) (h rc bf q via seen line : Nat → Int32), fp_M (fp_cut a b (fx_A s0)) N k r → post (nI r) (nI N, f_count, s0, put, a_from, a_to, h, rc, bf, q, via, seen, line)) {f_taking : Int32} :
    wpX_held post (nI N, f_count, f_taking, f_put, a_from, a_to, a_home, a_reached, a_before, a_queue, a_via, a_seen, a_line) s0 (nI k) := by
  refine Exists.intro 18 (fx_hd10 (by omega) (fun h hh hlt => ⟨18, ?_⟩) (fun h hle => H _ _ h _ _ _ _ _ _ (fp_big ha hb hne hle)) 17 0 18 a_home (by omega) (by omega) (fun x hx => by omega))
  have e0 : fp_c (fun e => fx_A s0 e ∧ h e ≠ -1) 17 = 0 := fp_c_0 17 (fun x hx z => z.2 (hh x hx))
  have K := fx_hd53 (f_count := f_count) hN (by omega) hF hT ha hb H 17 0 18 f_put h a_reached a_before a_queue a_via a_seen a_line (fun _ => False) (by omega) (by omega) ⟨⟨fun i hi e he => ?_, fun x hx => Or.inl (hh x hx.1), fun x hx => hx.elim, fun i hi e he => he.elim⟩, fun x _ hx => by omega, fun x hx _ => hh x hx.1⟩
  · rw [e0] at K; exact K
  · exact absurd (he.2.symm.trans (hh e he.1.1)) (fp_nIm (by omega))
end
theorem fp_Mle {cut : (Nat → Nat) → Nat} {N k r : Nat} (hc : ∀ L, cut L ≤ 17) (h : fp_M cut N k r) : r ≤ 17 := by
  have q := h.1 (fun x => x) (fun v _ => by rw [fp_mxid]; exact Nat.le_refl _)
  rw [fp_mxid, Nat.sub_self, Nat.mul_zero] at q
  have := hc (fun x => x)
  omega
theorem fp_cut17 (a b : Nat → Nat) (A : Nat → Prop) (L : Nat → Nat) : fp_cut a b A L ≤ 17 := fp_c_le _ 17
end
section
theorem fs_t0 : ∀ c, c < 17 → ∀ e, e < 17 → (((((1 : Int32) <<< (nI c &&& 31)) - 1) >>> (nI e &&& 31)) &&& 1 = 1 ↔ e < c) := by decide +kernel
theorem fs_t1 : ∀ c, c < 17 → ∀ i, i < 17 → ∀ e, e < 17 → ((((((1 : Int32) <<< (nI c &&& 31)) - 1) &&& (((1 : Int32) <<< (nI i &&& 31)) ^^^ (-1))) >>> (nI e &&& 31)) &&& 1 = 1 ↔ (e < c ∧ e ≠ i)) := by decide +kernel
theorem fs_t2 : ∀ c, c < 17 → ∀ e, e < 17 → ((((((1 : Int32) <<< (nI c &&& 31)) - 1) ||| 65536) >>> (nI e &&& 31)) &&& 1 = 1 ↔ (e < c ∨ e = 16)) := by decide +kernel
theorem fs_A0 {c : Nat} (hc : c ≤ 16) (e : Nat) : fx_A (((1 : Int32) <<< (nI c &&& 31)) - 1) e ↔ e < c := by
  constructor
  · intro h; exact (fs_t0 c (by omega) e h.1).mp h.2
  · intro h; exact ⟨by omega, (fs_t0 c (by omega) e (by omega)).mpr h⟩
theorem fs_A1 {c i : Nat} (hc : c ≤ 16) (hi : i < c) (e : Nat) : fx_A ((((1 : Int32) <<< (nI c &&& 31)) - 1) &&& (((1 : Int32) <<< (nI i &&& 31)) ^^^ (-1))) e ↔ (e < c ∧ e ≠ i) := by
  constructor
  · intro h; exact (fs_t1 c (by omega) i (by omega) e h.1).mp h.2
  · intro h; exact ⟨by omega, (fs_t1 c (by omega) i (by omega) e (by omega)).mpr h⟩
theorem fs_A2 {c : Nat} (hc : c ≤ 16) (e : Nat) : fx_A ((((1 : Int32) <<< (nI c &&& 31)) - 1) ||| 65536) e ↔ (e < c ∨ e = 16) := by
  constructor
  · intro h; exact (fs_t2 c (by omega) e h.1).mp h.2
  · intro h; exact ⟨by omega, (fs_t2 c (by omega) e (by omega)).mpr h⟩
theorem fp_c_rg (P : Nat → Prop) {c : Nat} (n : Nat) (h : c ≤ n) : fp_c (fun e => e < c ∧ P e) n = fp_c P c := by
  induction n with
  | zero =>
    have e : c = 0 := by omega
    rw [e]; rfl
  | succ n ih =>
    rcases Nat.lt_or_ge n c with y | y
    · have e : c = n + 1 := by omega
      rw [e]
      exact fp_c_cg (n + 1) (fun x hx => ⟨fun z => z.2, fun z => ⟨hx, z⟩⟩)
    · rw [fp_cS, ih y, fp_b0 (fun z => by omega), Nat.add_zero]
/-- the cuts, of the edges as they are, without one, with one more -/
noncomputable def fs_d0 (a b : Nat → Nat) (c : Nat) (L : Nat → Nat) : Nat := fp_c (fun e => L (a e) ≠ L (b e)) c
noncomputable def fs_d1 (a b : Nat → Nat) (c i : Nat) (L : Nat → Nat) : Nat := fp_c (fun e => e ≠ i ∧ L (a e) ≠ L (b e)) c
noncomputable def fs_d2 (a b : Nat → Nat) (c x y : Nat) (L : Nat → Nat) : Nat := fp_c (fun e => L (a e) ≠ L (b e)) c + fp_b (L x ≠ L y)
theorem fs_l0 (a b : Nat → Nat) {c : Nat} (hc : c ≤ 16) (L : Nat → Nat) : fs_d0 a b c L ≤ 17 := Nat.le_trans (fp_c_le _ c) (by omega)
theorem fs_l1 (a b : Nat → Nat) {c : Nat} (i : Nat) (hc : c ≤ 16) (L : Nat → Nat) : fs_d1 a b c i L ≤ 17 := Nat.le_trans (fp_c_le _ c) (by omega)
theorem fs_l2 (a b : Nat → Nat) {c : Nat} (x y : Nat) (hc : c ≤ 16) (L : Nat → Nat) : fs_d2 a b c x y L ≤ 17 := by
  have h1 := fp_c_le (fun e => L (a e) ≠ L (b e)) c
  have h2 := fp_ble (L x ≠ L y)
  unfold fs_d2
  omega
section
variable {a b a0 b0 : Nat → Nat} {c : Nat}
theorem fs_y0 (hc : c ≤ 16) (hab : ∀ e, e < c → a e = a0 e ∧ b e = b0 e) : fy_cut a b c (-1) = fs_d0 a0 b0 c := by
  funext L
  refine fp_c_cg c (fun e he => ?_)
  rw [(hab e he).1, (hab e he).2]
  exact ⟨fun z => z.2, fun z => ⟨fp_nIm (by omega), z⟩⟩
theorem fs_x0 (hc : c ≤ 16) (hab : ∀ e, e < c → a e = a0 e ∧ b e = b0 e) : fp_cut a b (fx_A (((1 : Int32) <<< (nI c &&& 31)) - 1)) = fs_d0 a0 b0 c := by
  funext L
  unfold fp_cut
  rw [fp_c_cg (Q := fun e => e < c ∧ L (a e) ≠ L (b e)) 17 (fun e _ => by rw [fs_A0 hc]), fp_c_rg _ 17 (by omega)]
  refine fp_c_cg c (fun e he => ?_)
  rw [(hab e he).1, (hab e he).2]
theorem fs_y1 {i : Nat} (hc : c ≤ 16) (hi : i < c) (hab : ∀ e, e < c → a e = a0 e ∧ b e = b0 e) : fy_cut a b c (nI i) = fs_d1 a0 b0 c i := by
  funext L
  refine fp_c_cg c (fun e he => ?_)
  rw [(hab e he).1, (hab e he).2]
  exact and_congr (not_congr (nI_eq (by omega) (by omega))) Iff.rfl
theorem fs_x1 {i : Nat} (hc : c ≤ 16) (hi : i < c) (hab : ∀ e, e < c → a e = a0 e ∧ b e = b0 e) : fp_cut a b (fx_A ((((1 : Int32) <<< (nI c &&& 31)) - 1) &&& (((1 : Int32) <<< (nI i &&& 31)) ^^^ (-1)))) = fs_d1 a0 b0 c i := by
  funext L
  unfold fp_cut
  rw [fp_c_cg (Q := fun e => e < c ∧ (e ≠ i ∧ L (a e) ≠ L (b e))) 17 (fun e _ => by rw [fs_A1 hc hi, and_assoc]), fp_c_rg _ 17 (by omega)]
  refine fp_c_cg c (fun e he => ?_)
  rw [(hab e he).1, (hab e he).2]
theorem fs_y2 {x y : Nat} (hc : c ≤ 16) (hab : ∀ e, e < c → a e = a0 e ∧ b e = b0 e) (g : a c = x ∧ b c = y) : fy_cut a b (c + 1) (-1) = fs_d2 a0 b0 c x y := by
  funext L
  unfold fy_cut fs_d2
  rw [fp_cS, g.1, g.2, fp_bc (q := L x ≠ L y) ⟨fun z => z.2, fun z => ⟨fp_nIm (by omega), z⟩⟩]
  refine congrArg (fun z => z + fp_b (L x ≠ L y)) (fp_c_cg c (fun e he => ?_))
  rw [(hab e he).1, (hab e he).2]
  exact ⟨fun z => z.2, fun z => ⟨fp_nIm (by omega), z⟩⟩
theorem fs_x2 {x y : Nat} (hc : c ≤ 16) (hab : ∀ e, e < c → a e = a0 e ∧ b e = b0 e) (g : a 16 = x ∧ b 16 = y) : fp_cut a b (fx_A ((((1 : Int32) <<< (nI c &&& 31)) - 1) ||| 65536)) = fs_d2 a0 b0 c x y := by
  funext L
  unfold fp_cut fs_d2
  rw [fp_cS _ 16, g.1, g.2, fp_bc (p := _ ∧ L x ≠ L y) (q := L x ≠ L y) ⟨fun z => z.2, fun z => ⟨(fs_A2 hc 16).mpr (Or.inr rfl), z⟩⟩]
  refine congrArg (fun z => z + fp_b (L x ≠ L y)) ?_
  rw [fp_c_cg (P := fun e => fx_A ((((1 : Int32) <<< (nI c &&& 31)) - 1) ||| 65536) e ∧ L (a e) ≠ L (b e)) (Q := fun e => e < c ∧ L (a e) ≠ L (b e)) 16 (fun e he => ?_), fp_c_rg _ 16 hc]
  · refine fp_c_cg c (fun e he => ?_)
    rw [(hab e he).1, (hab e he).2]
  · rw [fs_A2 hc]
    exact and_congr ⟨fun z => z.resolve_right (by omega), Or.inl⟩ Iff.rfl
theorem fs_K {A B : Nat → Prop} {N : Nat} (h : ∀ e, A e ↔ B e) (g : ∀ e, B e → a e = a0 e ∧ b e = b0 e) : fp_K a b A N = fp_K a0 b0 B N := by
  have key : ∀ u v, fp_J a b A u v ↔ fp_J a0 b0 B u v := by
    intro u v
    constructor
    · intro j S c
      exact j S (fun e he => by have hb := (h e).mp he; rw [(g e hb).1, (g e hb).2]; exact c e hb)
    · intro j S c
      exact j S (fun e hb => by have he := (h e).mpr hb; rw [← (g e hb).1, ← (g e hb).2]; exact c e he)
  exact fp_c_cg N (fun v _ => ⟨fun z u hu j => z u hu ((key u v).mpr j), fun z u hu j => z u hu ((key u v).mp j)⟩)
end
end
section
/-- N vertices, c edges with the ends a0, b0; an object holds them as a, b (and something above c) -/
def fr_H (N c : Nat) (a0 b0 a b : Nat → Nat) : Prop := (2 ≤ N ∧ N ≤ 7 ∧ c ≤ 16) ∧ (∀ e, a e < N) ∧ (∀ e, b e < N) ∧ (∀ e, e < c → a e = a0 e ∧ b e = b0 e) ∧ (∀ e, e < c → a0 e ≠ b0 e)
/-- both objects hold the same edges -/
def i_Rel (_ : Nat) (u : SX) (v : SY) : Prop := ∃ (N c : Nat) (tk pt : Int32) (a0 b0 a b a' b' : Nat → Nat) (home rc bf q via seen line part least : Nat → Int32), fr_H N c a0 b0 a b ∧ fr_H N c a0 b0 a' b' ∧
  u = (nI N, nI c, tk, pt, (fun e => nI (a e)), (fun e => nI (b e)), home, rc, bf, q, via, seen, line) ∧ v = (nI N, nI c, (fun e => nI (a' e)), (fun e => nI (b' e)), part, least)
theorem i_up {k : Nat} {u : SX} {v : SY} (h : i_Rel k u v) : i_Rel (k + 4) u v := h
theorem fr_in {k N c : Nat} {tk pt : Int32} {a0 b0 a b a' b' : Nat → Nat} {home rc bf q via seen line part least : Nat → Int32} (h : fr_H N c a0 b0 a b) (g : fr_H N c a0 b0 a' b') :
    i_Rel k (nI N, nI c, tk, pt, (fun e => nI (a e)), (fun e => nI (b e)), home, rc, bf, q, via, seen, line) (nI N, nI c, (fun e => nI (a' e)), (fun e => nI (b' e)), part, least) :=
  ⟨N, c, tk, pt, a0, b0, a, b, a', b', home, rc, bf, q, via, seen, line, part, least, h, g, rfl, rfl⟩
theorem fr_el {P : SX → SY → Prop} {k : Nat} {u : SX} {v : SY} (h : ∀ (N c : Nat) (tk pt : Int32) (a0 b0 a b a' b' : Nat → Nat) (home rc bf q via seen line part least : Nat → Int32), fr_H N c a0 b0 a b → fr_H N c a0 b0 a' b' →
    P (nI N, nI c, tk, pt, (fun e => nI (a e)), (fun e => nI (b e)), home, rc, bf, q, via, seen, line) (nI N, nI c, (fun e => nI (a' e)), (fun e => nI (b' e)), part, least)) (I : i_Rel k u v) : P u v := by
  obtain ⟨N, c, tk, pt, a0, b0, a, b, a', b', home, rc, bf, q, via, seen, line, part, least, h1, h2, rfl, rfl⟩ := I
  exact h N c tk pt a0 b0 a b a' b' home rc bf q via seen line part least h1 h2
def fr_u (a : Nat → Nat) (i x : Nat) : Nat → Nat := fun e => if e = i then x else a e
theorem fr_us (a : Nat → Nat) (i x : Nat) : fr_u a i x i = x := if_pos rfl
theorem fr_un (a : Nat → Nat) (i x : Nat) {e : Nat} (h : e ≠ i) : fr_u a i x e = a e := if_neg h
theorem fr_upd (a : Nat → Nat) (i x : Nat) : upd (fun e => nI (a e)) i (nI x) = fun e => nI (fr_u a i x e) := by
  funext e
  rcases Classical.em (e = i) with h | h
  · rw [h, pk_us, fr_us]
  · rw [pk_un h, fr_un a i x h]
theorem fr_ul {N : Nat} {a : Nat → Nat} (i : Nat) {x : Nat} (h : ∀ e, a e < N) (hx : x < N) : ∀ e, fr_u a i x e < N := by
  intro e
  rcases Classical.em (e = i) with q | q
  · rw [q, fr_us]; exact hx
  · rw [fr_un a i x q]; exact h e
theorem fr_Hhi {N c i x y : Nat} {a0 b0 a b : Nat → Nat} (h : fr_H N c a0 b0 a b) (hi : c ≤ i) (hx : x < N) (hy : y < N) : fr_H N c a0 b0 (fr_u a i x) (fr_u b i y) := by
  obtain ⟨h1, h2, h3, h4, h5⟩ := h
  refine ⟨h1, fr_ul i h2 hx, fr_ul i h3 hy, fun e he => ?_, h5⟩
  rw [fr_un _ _ _ (by omega), fr_un _ _ _ (by omega)]; exact h4 e he
theorem fr_Hnew {N c x y : Nat} {a0 b0 a b : Nat → Nat} (h : fr_H N c a0 b0 a b) (hc : c < 16) (hx : x < N) (hy : y < N) (hn : x ≠ y) : fr_H N (c + 1) (fr_u a0 c x) (fr_u b0 c y) (fr_u a c x) (fr_u b c y) := by
  obtain ⟨h1, h2, h3, h4, h5⟩ := h
  refine ⟨⟨h1.1, h1.2.1, by omega⟩, fr_ul c h2 hx, fr_ul c h3 hy, fun e he => ?_, fun e he => ?_⟩
  · rcases Classical.em (e = c) with q | q
    · rw [q, fr_us, fr_us, fr_us, fr_us]; exact ⟨rfl, rfl⟩
    · rw [fr_un _ _ _ q, fr_un _ _ _ q, fr_un _ _ _ q, fr_un _ _ _ q]; exact h4 e (by omega)
  · rcases Classical.em (e = c) with q | q
    · rw [q, fr_us, fr_us]; exact hn
    · rw [fr_un _ _ _ q, fr_un _ _ _ q]; exact h5 e (by omega)
theorem fr_Hset {N c i x y : Nat} {a0 b0 a b : Nat → Nat} (h : fr_H N c a0 b0 a b) (hx : x < N) (hy : y < N) (hn : x ≠ y) : fr_H N c (fr_u a0 i x) (fr_u b0 i y) (fr_u a i x) (fr_u b i y) := by
  obtain ⟨h1, h2, h3, h4, h5⟩ := h
  refine ⟨h1, fr_ul i h2 hx, fr_ul i h3 hy, fun e he => ?_, fun e he => ?_⟩
  · rcases Classical.em (e = i) with q | q
    · rw [q, fr_us, fr_us, fr_us, fr_us]; exact ⟨rfl, rfl⟩
    · rw [fr_un _ _ _ q, fr_un _ _ _ q, fr_un _ _ _ q, fr_un _ _ _ q]; exact h4 e he
  · rcases Classical.em (e = i) with q | q
    · rw [q, fr_us, fr_us]; exact hn
    · rw [fr_un _ _ _ q, fr_un _ _ _ q]; exact h5 e he
theorem fr_Hless {N c : Nat} {a0 b0 a b : Nat → Nat} (h : fr_H N (c + 1) a0 b0 a b) : fr_H N c a0 b0 a b := by
  obtain ⟨h1, h2, h3, h4, h5⟩ := h
  exact ⟨⟨h1.1, h1.2.1, by omega⟩, h2, h3, fun e he => h4 e (by omega), fun e he => h5 e (by omega)⟩
/-- two different vertices -/
def fr_P (N : Nat) (x y : Int32) : Prop := ∃ i j : Nat, i < N ∧ j < N ∧ i ≠ j ∧ x = nI i ∧ y = nI j
def fr_N (x : Int32) : Prop := ∃ k : Nat, k ≤ 16 ∧ x = nI k
theorem fr_Pi {N : Nat} {x y : Int32} (hN : N ≤ 7) (h1 : ¬ x < 0) (h2 : ¬ nI N ≤ x) (h3 : ¬ y < 0) (h4 : ¬ nI N ≤ y) (h5 : ¬ x = y) : fr_P N x y := by
  obtain ⟨i, hi, rfl⟩ := nI_of h1
  obtain ⟨j, hj, rfl⟩ := nI_of h3
  rw [nI_leI (by omega) hi] at h2
  rw [nI_leI (by omega) hj] at h4
  exact ⟨i, j, by omega, by omega, fun z => h5 (by rw [z]), rfl, rfl⟩
section
variable {f_count f_taking f_put : Int32} {a_from a_to a_home a_reached a_before a_queue a_via a_seen a_line a_part a_least : Nat → Int32} {N : Nat} {post : Int32 → Prop} {x y : Int32}
theorem fr_bpT (hN : N ≤ 7) (h : fr_P N x y) (hp : post 0) : wpX_badPair post (nI N, f_count, f_taking, f_put, a_from, a_to, a_home, a_reached, a_before, a_queue, a_via, a_seen, a_line) x y := by
  obtain ⟨i, j, hi, hj, hn, rfl, rfl⟩ := h
  exact br_f (nI_pos (by omega)) (br_f (nI_ge hi (by omega)) (br_f (nI_pos (by omega)) (br_f (nI_ge hj (by omega)) (br_f (by rw [nI_eq (by omega) (by omega)]; exact hn) hp))))
theorem fr_bpF (hN : N ≤ 7) (h : ¬ fr_P N x y) (hp : post 1) : wpX_badPair post (nI N, f_count, f_taking, f_put, a_from, a_to, a_home, a_reached, a_before, a_queue, a_via, a_seen, a_line) x y :=
  br_c (fun _ => hp) (fun h1 => br_c (fun _ => hp) (fun h2 => br_c (fun _ => hp) (fun h3 => br_c (fun _ => hp) (fun h4 => br_c (fun _ => hp) (fun h5 => absurd (fr_Pi hN h1 h2 h3 h4 h5) h)))))
theorem fr_ipT (hN : N ≤ 7) (h : fr_P N x y) (hp : post 1) : wpY_isPair post (nI N, f_count, a_from, a_to, a_part, a_least) x y := by
  obtain ⟨i, j, hi, hj, hn, rfl, rfl⟩ := h
  exact br_f (nI_pos (by omega)) (br_f (nI_ge hi (by omega)) (br_f (nI_pos (by omega)) (br_f (nI_ge hj (by omega)) (br_f (by rw [nI_eq (by omega) (by omega)]; exact hn) hp))))
theorem fr_ipF (hN : N ≤ 7) (h : ¬ fr_P N x y) (hp : post 0) : wpY_isPair post (nI N, f_count, a_from, a_to, a_part, a_least) x y :=
  br_c (fun _ => hp) (fun h1 => br_c (fun _ => hp) (fun h2 => br_c (fun _ => hp) (fun h3 => br_c (fun _ => hp) (fun h4 => br_c (fun _ => hp) (fun h5 => absurd (fr_Pi hN h1 h2 h3 h4 h5) h)))))
theorem fr_bcT {f_n : Int32} (h : fr_N x) (hp : post 0) : wpX_badCount post (f_n, f_count, f_taking, f_put, a_from, a_to, a_home, a_reached, a_before, a_queue, a_via, a_seen, a_line) x := by
  obtain ⟨k, hk, rfl⟩ := h
  exact br_f (nI_pos (by omega)) (br_t (nI_le (b := 16) hk (by decide)) hp)
theorem fr_bcF {f_n : Int32} (h : ¬ fr_N x) (hp : post 1) : wpX_badCount post (f_n, f_count, f_taking, f_put, a_from, a_to, a_home, a_reached, a_before, a_queue, a_via, a_seen, a_line) x := by
  refine br_c (fun _ => hp) (fun h1 => br_c (fun h2 => absurd ?_ h) (fun _ => hp))
  obtain ⟨k, hk, rfl⟩ := nI_of h1
  exact ⟨k, (nI_leI hk (by decide)).mp h2, rfl⟩
theorem fr_inT {f_n : Int32} (h : fr_N x) (hp : post 1) : wpY_isNumber post (f_n, f_count, a_from, a_to, a_part, a_least) x := by
  obtain ⟨k, hk, rfl⟩ := h
  exact br_f (nI_pos (by omega)) (br_f (nI_nlt (a := 16) hk (by decide)) hp)
theorem fr_inF {f_n : Int32} (h : ¬ fr_N x) (hp : post 0) : wpY_isNumber post (f_n, f_count, a_from, a_to, a_part, a_least) x := by
  refine br_c (fun _ => hp) (fun h1 => br_c (fun _ => hp) (fun h2 => absurd ?_ h))
  obtain ⟨k, hk, rfl⟩ := nI_of h1
  have h3 : ¬ 16 < k := fun z => h2 ((nI_ltI (by decide) hk).mpr z)
  exact ⟨k, by omega, rfl⟩
theorem fr_ae {f_n : Int32} (h : post (((1 : Int32) <<< (f_count &&& 31)) - 1)) : wpX_allEdges post (f_n, f_count, f_taking, f_put, a_from, a_to, a_home, a_reached, a_before, a_queue, a_via, a_seen, a_line) := h
end
/-- the edges between x and y -/
noncomputable def fr_bt (a b : Nat → Nat) (x y : Nat) (c : Nat) : Nat := fp_c (fun e => (a e = x ∧ b e = y) ∨ (a e = y ∧ b e = x)) c
section
variable {f_taking f_put : Int32} {a_home a_reached a_before a_queue a_via a_seen a_line a_part a_least : Nat → Int32} {N c x y : Nat} {a b : Nat → Nat} {post : Int32 → Prop}
theorem fr_xb (hN : N ≤ 7) (hc : c ≤ 16) (ha : ∀ e, a e < N) (hb : ∀ e, b e < N) (hx : x < N) (hy : y < N) (H : post (nI (fr_bt a b x y c))) :
    ∀ d j n, j + d = c → d < n → wX_between_16 post (nI x) (nI y) (nI N) (nI c) f_taking f_put (fun e => nI (a e)) (fun e => nI (b e)) a_home a_reached a_before a_queue a_via a_seen a_line n (nI (fr_bt a b x y j)) (nI j) := by
  intro d
  induction d with
  | zero =>
    intro j n hj hn
    obtain ⟨n, rfl⟩ : ∃ m, n = m + 1 := ⟨n - 1, by omega⟩
    have e : j = c := by omega
    subst e
    exact br_t (nI_le (Nat.le_refl _) (by omega)) H
  | succ d ih =>
    intro j n hj hn
    obtain ⟨n, rfl⟩ : ∃ m, n = m + 1 := ⟨n - 1, by omega⟩
    have hc' : (nI j).toNatClampNeg = j := nI_clamp (by omega)
    have hin : vp_in (nI j) 17 := vp_in_nI (by omega) (by omega)
    have K := ih (j + 1) n (by omega) (by omega)
    have ja := ha j
    have jb := hb j
    have e0 : fr_bt a b x y (j + 1) = fr_bt a b x y j + fp_b ((a j = x ∧ b j = y) ∨ (a j = y ∧ b j = x)) := rfl
    rw [e0] at K
    have s : ¬ (a j = x ∧ b j = y) → wX_between_47 post (wX_between_16 post (nI x) (nI y) (nI N) (nI c) f_taking f_put (fun e => nI (a e)) (fun e => nI (b e)) a_home a_reached a_before a_queue a_via a_seen a_line n) (nI x) (nI y) (nI (fr_bt a b x y j)) (nI j) (nI N) (nI c) f_taking f_put (fun e => nI (a e)) (fun e => nI (b e)) a_home a_reached a_before a_queue a_via a_seen a_line := by
      intro hn1
      refine And.intro hin ?_
      rw [hc']
      refine fp_if (nI_eq (by omega) (by omega)) (fun z => And.intro hin (fp_if (nI_eq (by omega) (by omega)) (fun w => nm_r (nI_1 _) (nm_r (nI_1 j) ?_)) (fun w => nm_r (nI_1 j) ?_))) (fun z => nm_r (nI_1 j) ?_)
      · rw [fp_b1 (Or.inr ⟨z, w⟩)] at K; exact K
      · rw [fp_b0 (fun t => t.elim hn1 (fun t => w t.2))] at K; exact K
      · rw [fp_b0 (fun t => t.elim hn1 (fun t => z t.1))] at K; exact K
    refine br_f (nI_ge (by omega) (by omega)) (And.intro hin ?_)
    rw [hc']
    refine fp_if (nI_eq (by omega) (by omega)) (fun z => And.intro hin (fp_if (nI_eq (by omega) (by omega)) (fun w => nm_r (nI_1 _) (nm_r (nI_1 j) ?_)) (fun w => s (fun t => w t.2)))) (fun z => s (fun t => z t.1))
    rw [fp_b1 (Or.inl ⟨z, w⟩)] at K; exact K
theorem fr_yb (hN : N ≤ 7) (hc : c ≤ 16) (ha : ∀ e, a e < N) (hb : ∀ e, b e < N) (hx : x < N) (hy : y < N) (hn : x ≠ y) (H : post (nI (fr_bt a b x y c))) :
    ∀ d j n, j + d = c → d < n → wY_between_5 post (nI x) (nI y) (nI N) (nI c) (fun e => nI (a e)) (fun e => nI (b e)) a_part a_least n (nI (fr_bt a b x y j)) (nI j) := by
  intro d
  induction d with
  | zero =>
    intro j n hj hn
    obtain ⟨n, rfl⟩ : ∃ m, n = m + 1 := ⟨n - 1, by omega⟩
    have e : j = c := by omega
    subst e
    exact br_t (nI_le (Nat.le_refl _) (by omega)) H
  | succ d ih =>
    intro j n hj hn'
    obtain ⟨n, rfl⟩ : ∃ m, n = m + 1 := ⟨n - 1, by omega⟩
    have hc' : (nI j).toNatClampNeg = j := nI_clamp (by omega)
    have hin : vp_in (nI j) 17 := vp_in_nI (by omega) (by omega)
    have K := ih (j + 1) n (by omega) (by omega)
    have ja := ha j
    have jb := hb j
    have e0 : fr_bt a b x y (j + 1) = fr_bt a b x y j + fp_b ((a j = x ∧ b j = y) ∨ (a j = y ∧ b j = x)) := rfl
    rw [e0] at K
    have s1 : ((a j = x ∧ b j = y) ∨ (a j = y ∧ b j = x)) → wY_between_67 post (wY_between_5 post (nI x) (nI y) (nI N) (nI c) (fun e => nI (a e)) (fun e => nI (b e)) a_part a_least n) (nI x) (nI y) (nI (fr_bt a b x y j)) (nI j) (nI N) (nI c) (fun e => nI (a e)) (fun e => nI (b e)) a_part a_least := by
      intro h
      rw [fp_b1 h] at K
      unfold wY_between_67 wY_between_72
      exact br_f (by decide) (nm_r (nI_1 _) (nm_r (nI_1 j) K))
    have s0 : ¬ ((a j = x ∧ b j = y) ∨ (a j = y ∧ b j = x)) → wY_between_71 post (wY_between_5 post (nI x) (nI y) (nI N) (nI c) (fun e => nI (a e)) (fun e => nI (b e)) a_part a_least n) (nI x) (nI y) (nI (fr_bt a b x y j)) (nI j) (nI N) (nI c) (fun e => nI (a e)) (fun e => nI (b e)) a_part a_least := by
      intro h
      rw [fp_b0 h] at K
      unfold wY_between_71 wY_between_72
      exact br_t rfl (nm_r (nI_1 j) K)
    have s : ¬ (a j = x ∧ b j = y) → wY_between_45 post (wY_between_5 post (nI x) (nI y) (nI N) (nI c) (fun e => nI (a e)) (fun e => nI (b e)) a_part a_least n) (nI x) (nI y) (nI (fr_bt a b x y j)) (nI j) (nI N) (nI c) (fun e => nI (a e)) (fun e => nI (b e)) a_part a_least := by
      intro hn1
      refine And.intro hin ?_
      rw [hc']
      exact fp_if (nI_eq (by omega) (by omega)) (fun z => And.intro hin (fp_if (nI_eq (by omega) (by omega)) (fun w => s1 (Or.inr ⟨z, w⟩)) (fun w => s0 (fun t => t.elim hn1 (fun t => w t.2))))) (fun z => s0 (fun t => t.elim hn1 (fun t => z t.1)))
    refine br_f (nI_ge (by omega) (by omega)) (fr_ipT hN ⟨x, y, hx, hy, hn, rfl, rfl⟩ (br_f (by decide) (And.intro hin ?_)))
    rw [hc']
    exact fp_if (nI_eq (by omega) (by omega)) (fun z => And.intro hin (fp_if (nI_eq (by omega) (by omega)) (fun w => s1 (Or.inl ⟨z, w⟩)) (fun w => s (fun t => w t.2)))) (fun z => s (fun t => z t.1))
end
end
section
theorem fr_H0 {N : Nat} (h2 : 2 ≤ N) (h7 : N ≤ 7) : fr_H N 0 (fun _ => 0) (fun _ => 0) (fun _ => 0) (fun _ => 0) :=
  ⟨⟨h2, h7, by omega⟩, fun _ => (by omega : 0 < N), fun _ => (by omega : 0 < N), fun e he => by omega, fun e he => by omega⟩
theorem fr_I0 {N : Nat} (h2 : 2 ≤ N) (h7 : N ≤ 7) : i_Rel 1 (nI N, 0, 0, 0, (fun _ => 0), (fun _ => 0), (fun _ => 0), (fun _ => 0), (fun _ => 0), (fun _ => 0), (fun _ => 0), (fun _ => 0), (fun _ => 0)) (nI N, 0, (fun _ => 0), (fun _ => 0), (fun _ => 0), (fun _ => 0)) :=
  fr_in (c := 0) (fr_H0 h2 h7) (fr_H0 h2 h7)
theorem i_vc0 (k0 : Int32) : wpX_init (fun u => wpY_init (fun v => i_Rel 1 u v) k0) k0 := by
  refine br_c (fun h => br_c (fun g => ?_) (fun g => ?_)) (fun h => br_t (by decide) ?_)
  · have hn : ¬ k0 < 0 := Int32.not_lt.mpr (Int32.le_trans (by decide) h)
    obtain ⟨j, hj, rfl⟩ := nI_of hn
    have h2 : 2 ≤ j := (nI_leI (a := 2) (by decide) hj).mp h
    have h7 : j ≤ 7 := (nI_leI (b := 7) hj (by decide)).mp g
    exact br_t h (br_t g (fr_I0 h2 h7))
  · exact br_t h (br_f g (fr_I0 (N := 7) (by decide) (by decide)))
  · exact br_f h (fr_I0 (N := 2) (by decide) (by decide))
theorem i_vc_vertices {k : Nat} {u : SX} {v : SY} (I : i_Rel k u v) (hk : k + 4 ≤ 2049) : wpX_vertices (fun r => wpY_vertices (fun r' => r' = r ∧ i_Rel (k + 4) u v) v) u := by
  refine fr_el (P := fun u v => wpX_vertices (fun r => wpY_vertices (fun r' => r' = r ∧ i_Rel (k + 4) u v) v) u) ?_ I
  intro N c tk pt a0 b0 a b a' b' home rc bf q via seen line part least h g
  exact And.intro rfl (fr_in h g)
theorem i_vc_edges {k : Nat} {u : SX} {v : SY} (I : i_Rel k u v) (hk : k + 4 ≤ 2049) : wpX_edges (fun r => wpY_edges (fun r' => r' = r ∧ i_Rel (k + 4) u v) v) u := by
  refine fr_el (P := fun u v => wpX_edges (fun r => wpY_edges (fun r' => r' = r ∧ i_Rel (k + 4) u v) v) u) ?_ I
  intro N c tk pt a0 b0 a b a' b' home rc bf q via seen line part least h g
  exact And.intro rfl (fr_in h g)
theorem i_vc_unedge {k : Nat} {u : SX} {v : SY} (I : i_Rel k u v) (hk : k + 4 ≤ 2049) : wpX_unedge (fun r u' => wpY_unedge (fun r' v' => r' = r ∧ i_Rel (k + 4) u' v') v) u := by
  refine fr_el (P := fun u v => wpX_unedge (fun r u' => wpY_unedge (fun r' v' => r' = r ∧ i_Rel (k + 4) u' v') v) u) ?_ I
  intro N c tk pt a0 b0 a b a' b' home rc bf q via seen line part least h g
  have hc := h.1.2.2
  cases c with
  | zero => exact br_t rfl (br_t rfl (And.intro rfl (fr_in h g)))
  | succ c =>
    have n0 : ¬ nI (c + 1) = 0 := nI_ne0 (by omega) (by omega)
    exact br_f n0 (nm_r (nI_pred c) (br_f n0 (nm_r (nI_pred c) (And.intro rfl (fr_in (fr_Hless h) (fr_Hless g))))))
theorem i_vc_edge {k : Nat} {u : SX} {v : SY} (I : i_Rel k u v) (hk : k + 4 ≤ 2049) (v1 : Int32) (v2 : Int32) : wpX_edge (fun r u' => wpY_edge (fun r' v' => r' = r ∧ i_Rel (k + 4) u' v') v v1 v2) u v1 v2 := by
  refine fr_el (P := fun u v => wpX_edge (fun r u' => wpY_edge (fun r' v' => r' = r ∧ i_Rel (k + 4) u' v') v v1 v2) u v1 v2) ?_ I
  intro N c tk pt a0 b0 a b a' b' home rc bf q via seen line part least h g
  have hN := h.1.2.1
  have hc := h.1.2.2
  unfold wpX_edge wpY_edge
  dsimp only
  rcases Classical.em (fr_P N v1 v2) with hP | hP
  · refine fr_bpT hN hP (br_t rfl ?_)
    refine pk_eq c 16 (fun e => ?_) (fun e => ?_)
    · refine fr_ipT hN hP (br_f (by decide) (br_t (by rw [e]; rfl) ?_))
      exact And.intro rfl (fr_in h g)
    · have ne : ¬ nI c = 16 := fun z => e ((nI_eq (b := 16) (by omega) (by decide)).mp z)
      have hin : vp_in (nI c) 17 := vp_in_nI (by omega) (by omega)
      have hcc : (nI c).toNatClampNeg = c := nI_clamp (by omega)
      have hP' := hP
      obtain ⟨i, j, hi, hj, hn, rfl, rfl⟩ := hP
      refine And.intro hin (nm_r (e' := fun e => nI (fr_u a c i e)) (by rw [hcc]; exact fr_upd a c i) (And.intro hin (nm_r (e' := fun e => nI (fr_u b c j e)) (by rw [hcc]; exact fr_upd b c j) (nm_r (nI_1 c) ?_))))
      refine fr_ipT hN hP' (br_f (by decide) (br_f ne ?_))
      refine And.intro hin (nm_r (e' := fun e => nI (fr_u a' c i e)) (by rw [hcc]; exact fr_upd a' c i) (And.intro hin (nm_r (e' := fun e => nI (fr_u b' c j e)) (by rw [hcc]; exact fr_upd b' c j) (nm_r (nI_1 c) ?_))))
      exact And.intro rfl (fr_in (fr_Hnew h (by omega) hi hj hn) (fr_Hnew g (by omega) hi hj hn))
  · refine fr_bpF hN hP (br_f (by decide) ?_)
    refine fr_ipF hN hP (br_t rfl ?_)
    exact And.intro rfl (fr_in h g)
theorem i_vc_rejoin {k : Nat} {u : SX} {v : SY} (I : i_Rel k u v) (hk : k + 4 ≤ 2049) (v1 : Int32) (v2 : Int32) (v3 : Int32) : wpX_rejoin (fun r u' => wpY_rejoin (fun r' v' => r' = r ∧ i_Rel (k + 4) u' v') v v1 v2 v3) u v1 v2 v3 := by
  refine fr_el (P := fun u v => wpX_rejoin (fun r u' => wpY_rejoin (fun r' v' => r' = r ∧ i_Rel (k + 4) u' v') v v1 v2 v3) u v1 v2 v3) ?_ I
  intro N c tk pt a0 b0 a b a' b' home rc bf q via seen line part least h g
  have hN := h.1.2.1
  have hc := h.1.2.2
  unfold wpX_rejoin wpY_rejoin
  dsimp only
  rcases pk_ix v1 (n := c) (by omega) with z | z | ⟨e, he, rfl⟩
  · exact br_t z (br_t z (And.intro rfl (fr_in h g)))
  · have nz : ¬ v1 < 0 := Int32.not_lt.mpr (Int32.le_trans (nI_pos' (n := c) (by omega)) z)
    exact br_f nz (br_t z (br_f nz (br_t z (And.intro rfl (fr_in h g)))))
  · have nz : ¬ nI e < 0 := nI_pos (by omega)
    have nc : ¬ nI c ≤ nI e := nI_ge he (by omega)
    refine br_f nz (br_f nc ?_)
    rcases Classical.em (fr_P N v2 v3) with hP | hP
    · refine fr_bpT hN hP (br_t rfl ?_)
      have hin : vp_in (nI e) 17 := vp_in_nI (by omega) (by omega)
      have hcc : (nI e).toNatClampNeg = e := nI_clamp (by omega)
      have hP' := hP
      obtain ⟨i, j, hi, hj, hn, rfl, rfl⟩ := hP
      refine And.intro hin (nm_r (e' := fun x => nI (fr_u a e i x)) (by rw [hcc]; exact fr_upd a e i) (And.intro hin (nm_r (e' := fun x => nI (fr_u b e j x)) (by rw [hcc]; exact fr_upd b e j) ?_)))
      refine br_f nz (br_f nc (fr_ipT hN hP' (br_f (by decide) ?_)))
      refine And.intro hin (nm_r (e' := fun x => nI (fr_u a' e i x)) (by rw [hcc]; exact fr_upd a' e i) (And.intro hin (nm_r (e' := fun x => nI (fr_u b' e j x)) (by rw [hcc]; exact fr_upd b' e j) ?_)))
      exact And.intro rfl (fr_in (fr_Hset h hi hj hn) (fr_Hset g hi hj hn))
    · refine fr_bpF hN hP (br_f (by decide) ?_)
      refine br_f nz (br_f nc (fr_ipF hN hP (br_t rfl ?_)))
      exact And.intro rfl (fr_in h g)
theorem i_vc_between {k : Nat} {u : SX} {v : SY} (I : i_Rel k u v) (hk : k + 4 ≤ 2049) (v1 : Int32) (v2 : Int32) : wpX_between (fun r => wpY_between (fun r' => r' = r ∧ i_Rel (k + 4) u v) v v1 v2) u v1 v2 := by
  refine fr_el (P := fun u v => wpX_between (fun r => wpY_between (fun r' => r' = r ∧ i_Rel (k + 4) u v) v v1 v2) u v1 v2) ?_ I
  intro N c tk pt a0 b0 a b a' b' home rc bf q via seen line part least h g
  have hN := h.1.2.1
  have hc := h.1.2.2
  unfold wpX_between wpY_between
  dsimp only
  rcases Classical.em (fr_P N v1 v2) with hP | hP
  · refine fr_bpT hN hP (br_t rfl (Exists.intro (c + 1) ?_))
    obtain ⟨i, j, hi, hj, hn, rfl, rfl⟩ := hP
    refine fr_xb hN hc h.2.1 h.2.2.1 hi hj ?_ c 0 (c + 1) (by omega) (by omega)
    refine Exists.intro (c + 1) (fr_yb hN hc g.2.1 g.2.2.1 hi hj hn ?_ c 0 (c + 1) (by omega) (by omega))
    refine And.intro (congrArg nI ?_) (fr_in h g)
    refine fp_c_cg c (fun e he => ?_)
    rw [(h.2.2.2.1 e he).1, (h.2.2.2.1 e he).2, (g.2.2.2.1 e he).1, (g.2.2.2.1 e he).2]
  · refine fr_bpF hN hP (br_f (by decide) (Exists.intro 1 ?_))
    refine br_c (fun _ => And.intro rfl (fr_in h g)) (fun _ => fr_ipF hN hP (br_t rfl (And.intro rfl (fr_in h g))))
end
section
section
variable {part least : Nat → Int32} {N c k i j : Nat} {a0 b0 a b : Nat → Nat}
theorem fr_fc0 {post : SY → Prop} (h : fr_H N c a0 b0 a b) (H : ∀ p l : Nat → Int32, fy_LO (fs_d0 a0 b0 c) N l → post (nI N, nI c, (fun e => nI (a e)), (fun e => nI (b e)), p, l)) :
    wpY_findCuts post (nI N, nI c, (fun e => nI (a e)), (fun e => nI (b e)), part, least) (nI c) (-1) := by
  have hc := h.1.2.2
  refine fy_fc (a := a) (b := b) h.1.1 h.1.2.1 (by omega) (fun _ => rfl) (fun _ => rfl) h.2.1 h.2.2.1 (fun p l hl => H p l ?_)
  rw [fs_y0 hc h.2.2.2.1] at hl; exact hl
theorem fr_fc1 {post : SY → Prop} (h : fr_H N c a0 b0 a b) (hi : i < c) (H : ∀ p l : Nat → Int32, fy_LO (fs_d1 a0 b0 c i) N l → post (nI N, nI c, (fun e => nI (a e)), (fun e => nI (b e)), p, l)) :
    wpY_findCuts post (nI N, nI c, (fun e => nI (a e)), (fun e => nI (b e)), part, least) (nI c) (nI i) := by
  have hc := h.1.2.2
  refine fy_fc (a := a) (b := b) h.1.1 h.1.2.1 (by omega) (fun _ => rfl) (fun _ => rfl) h.2.1 h.2.2.1 (fun p l hl => H p l ?_)
  rw [fs_y1 hc hi h.2.2.2.1] at hl; exact hl
theorem fr_fc2 {post : SY → Prop} (h : fr_H N c a0 b0 a b) (g : a c = i ∧ b c = j) (H : ∀ p l : Nat → Int32, fy_LO (fs_d2 a0 b0 c i j) N l → post (nI N, nI c, (fun e => nI (a e)), (fun e => nI (b e)), p, l)) :
    wpY_findCuts post (nI N, nI c, (fun e => nI (a e)), (fun e => nI (b e)), part, least) (nI c + 1) (-1) := by
  have hc := h.1.2.2
  rw [nI_1 c]
  refine fy_fc (a := a) (b := b) h.1.1 h.1.2.1 (by omega) (fun _ => rfl) (fun _ => rfl) h.2.1 h.2.2.1 (fun p l hl => H p l ?_)
  rw [fs_y2 hc h.2.2.2.1 g] at hl; exact hl
theorem fr_yh {post : Int32 → SY → Prop} (h : fr_H N c a0 b0 a b) (hk : k ≤ 16)
    (H : ∀ r (p l : Nat → Int32), fp_M (fs_d0 a0 b0 c) N k r → post (nI r) (nI N, nI c, (fun e => nI (a e)), (fun e => nI (b e)), p, l)) :
    wpY_hold post (nI N, nI c, (fun e => nI (a e)), (fun e => nI (b e)), part, least) (nI k) := by
  unfold wpY_hold
  dsimp only
  refine fr_inT ⟨k, hk, rfl⟩ (br_f (by decide) ?_)
  refine fr_fc0 h (fun p l hl => ?_)
  exact fy_bd h.1.1 h.1.2.1 hk hl (fs_l0 a0 b0 h.1.2.2) (fun r hM => H r p l hM)
theorem fr_yf {post : Int32 → SY → Prop} (h : fr_H N c a0 b0 a b) (hi : i < c) (hk : k ≤ 16)
    (H0 : ∀ w s (p l : Nat → Int32), fp_M (fs_d0 a0 b0 c) N k w → fp_M (fs_d1 a0 b0 c i) N k s → w ≤ s → post 0 (nI N, nI c, (fun e => nI (a e)), (fun e => nI (b e)), p, l))
    (H1 : ∀ w s (p l : Nat → Int32), fp_M (fs_d0 a0 b0 c) N k w → fp_M (fs_d1 a0 b0 c i) N k s → s < w → post 1 (nI N, nI c, (fun e => nI (a e)), (fun e => nI (b e)), p, l)) :
    wpY_isFirm post (nI N, nI c, (fun e => nI (a e)), (fun e => nI (b e)), part, least) (nI i) (nI k) := by
  have hc := h.1.2.2
  unfold wpY_isFirm
  dsimp only
  refine br_f (nI_pos (by omega)) (br_f (nI_ge hi (by omega)) (fr_inT ⟨k, hk, rfl⟩ (br_f (by decide) ?_)))
  refine fr_yh h hk (fun w p l hM => ?_)
  refine fr_fc1 h hi (fun p' l' hl => ?_)
  refine fy_bd h.1.1 h.1.2.1 hk hl (fs_l1 a0 b0 i hc) (fun s hM' => ?_)
  have w17 := fp_Mle (fs_l0 a0 b0 hc) hM
  have s17 := fp_Mle (fs_l1 a0 b0 i hc) hM'
  exact fp_if (nI_leI (by omega) (by omega)) (fun z => H0 w s p' l' hM hM' z) (fun z => H1 w s p' l' hM hM' (by omega))
theorem fr_yw {post : Int32 → SY → Prop} (h : fr_H N c a0 b0 a b) (hi : i < N) (hj : j < N) (hn : i ≠ j) (hk : k ≤ 16)
    (H0 : ∀ w s (p l : Nat → Int32), fp_M (fs_d0 a0 b0 c) N k w → fp_M (fs_d2 a0 b0 c i j) N k s → s ≤ w → post 0 (nI N, nI c, (fun e => nI (fr_u a c i e)), (fun e => nI (fr_u b c j e)), p, l))
    (H1 : ∀ w s (p l : Nat → Int32), fp_M (fs_d0 a0 b0 c) N k w → fp_M (fs_d2 a0 b0 c i j) N k s → w < s → post 1 (nI N, nI c, (fun e => nI (fr_u a c i e)), (fun e => nI (fr_u b c j e)), p, l)) :
    wpY_welcome post (nI N, nI c, (fun e => nI (a e)), (fun e => nI (b e)), part, least) (nI i) (nI j) (nI k) := by
  have hc := h.1.2.2
  have hin : vp_in (nI c) 17 := vp_in_nI (by omega) (by omega)
  have hcc : (nI c).toNatClampNeg = c := nI_clamp (by omega)
  unfold wpY_welcome
  dsimp only
  refine fr_ipT h.1.2.1 ⟨i, j, hi, hj, hn, rfl, rfl⟩ (br_f (by decide) (fr_inT ⟨k, hk, rfl⟩ (br_f (by decide) ?_)))
  refine fr_yh h hk (fun w p l hM => ?_)
  refine And.intro hin (nm_r (e' := fun e => nI (fr_u a c i e)) (by rw [hcc]; exact fr_upd a c i) (And.intro hin (nm_r (e' := fun e => nI (fr_u b c j e)) (by rw [hcc]; exact fr_upd b c j) ?_)))
  refine fr_fc2 (fr_Hhi h (Nat.le_refl c) hi hj) ⟨fr_us a c i, fr_us b c j⟩ (fun p' l' hl => ?_)
  refine fy_bd h.1.1 h.1.2.1 hk hl (fs_l2 a0 b0 i j hc) (fun s hM' => ?_)
  have w17 := fp_Mle (fs_l0 a0 b0 hc) hM
  have s17 := fp_Mle (fs_l2 a0 b0 i j hc) hM'
  exact fp_if (nI_leI (by omega) (by omega)) (fun z => H0 w s p' l' hM hM' z) (fun z => H1 w s p' l' hM hM' (by omega))
theorem fr_yn {post : Int32 → SY → Prop} {R : Nat → Nat} (h : fr_H N c a0 b0 a b) (hl : fy_LO (fs_d0 a0 b0 c) N least) (hR : ∀ k, fp_M (fs_d0 a0 b0 c) N k (R k))
    (H : ∀ m, m ≤ 16 → (∀ i, i < m → R i < c) → (m = 16 ∨ c ≤ R m) → post (nI m) (nI N, nI c, (fun e => nI (a e)), (fun e => nI (b e)), part, least)) :
    ∀ d m n, m + d = 16 → d < n → (∀ i, i < m → R i < c) → wY_needed_11 post (nI N) (nI c) (fun e => nI (a e)) (fun e => nI (b e)) part least n (nI m) := by
  have hc := h.1.2.2
  intro d
  induction d with
  | zero =>
    intro m n hm hn hi
    obtain ⟨n, rfl⟩ : ∃ m, n = m + 1 := ⟨n - 1, by omega⟩
    have e : m = 16 := by omega
    exact br_t (by rw [e]; decide) (H m (by omega) hi (Or.inl e))
  | succ d ih =>
    intro m n hm hn hi
    obtain ⟨n, rfl⟩ : ∃ m, n = m + 1 := ⟨n - 1, by omega⟩
    refine br_f (nI_ge (b := 16) (by omega) (by decide)) ?_
    refine fy_bd h.1.1 h.1.2.1 (by omega) hl (fs_l0 a0 b0 hc) (fun r hM => ?_)
    have e := fp_Mu hM (hR m)
    have r17 := fp_Mle (fs_l0 a0 b0 hc) hM
    refine fp_if (nI_leI (by omega) (by omega)) (fun z => H m (by omega) hi (Or.inr (by omega))) (fun z => nm_r (nI_1 m) (ih (m + 1) n (by omega) (by omega) (fun i hi' => ?_)))
    rcases Nat.lt_or_ge i m with y | y
    · exact hi i y
    · have e2 : i = m := by omega
      rw [e2]; omega
theorem fr_yt {post : Int32 → SY → Prop} {R : Nat → Nat} (h : fr_H N c a0 b0 a b) (hl : fy_LO (fs_d0 a0 b0 c) N least) (hR : ∀ k, fp_M (fs_d0 a0 b0 c) N k (R k))
    (H : ∀ m, m ≤ 16 → (∀ i, 1 ≤ i → i ≤ m → R i = i * (N - 1)) → (m = 16 ∨ R (m + 1) ≠ (m + 1) * (N - 1)) → post (nI m) (nI N, nI c, (fun e => nI (a e)), (fun e => nI (b e)), part, least)) :
    ∀ d m n, m + d = 16 → d < n → (∀ i, 1 ≤ i → i ≤ m → R i = i * (N - 1)) → wY_trees_11 post (nI N) (nI c) (fun e => nI (a e)) (fun e => nI (b e)) part least n (nI m) := by
  have hc := h.1.2.2
  have hN2 := h.1.1
  have hN7 := h.1.2.1
  intro d
  induction d with
  | zero =>
    intro m n hm hn hi
    obtain ⟨n, rfl⟩ : ∃ m, n = m + 1 := ⟨n - 1, by omega⟩
    have e : m = 16 := by omega
    exact br_t (by rw [e]; decide) (H m (by omega) hi (Or.inl e))
  | succ d ih =>
    intro m n hm hn hi
    obtain ⟨n, rfl⟩ : ∃ m, n = m + 1 := ⟨n - 1, by omega⟩
    refine br_f (nI_ge (b := 16) (by omega) (by decide)) ?_
    rw [nI_1 m]
    refine fy_bd hN2 hN7 (by omega) hl (fs_l0 a0 b0 hc) (fun r hM => ?_)
    have e := fp_Mu hM (hR (m + 1))
    have r17 := fp_Mle (fs_l0 a0 b0 hc) hM
    have e1 : nI (m + 1) * (nI N - 1) = nI ((m + 1) * (N - 1)) := by
      rw [show (1 : Int32) = nI 1 from rfl, pk_sub (by omega), pk_mul]
    have b1 : (m + 1) * (N - 1) ≤ 16 * 6 := Nat.mul_le_mul (by omega) (by omega)
    rw [e1]
    refine fp_if (nI_eq (by omega) (by omega)) (fun z => nm_e (ih (m + 1) n (by omega) (by omega) (fun i i1 i2 => ?_))) (fun z => H m (by omega) hi (Or.inr (by omega)))
    rcases Nat.lt_or_ge m i with y | y
    · have e2 : i = m + 1 := by omega
      rw [e2]; omega
    · exact hi i i1 y
theorem fr_yfl {post : Int32 → SY → Prop} {w : Nat} {σ : Nat → Nat} (h : fr_H N c a0 b0 a b) (hk : k ≤ 16) (hw : fp_M (fs_d0 a0 b0 c) N k w) (hs : ∀ i, fp_M (fs_d1 a0 b0 c i) N k (σ i))
    (H : ∀ p l : Nat → Int32, post (nI (fp_c (fun i => σ i < w) c)) (nI N, nI c, (fun e => nI (a e)), (fun e => nI (b e)), p, l)) :
    ∀ d m n (p l : Nat → Int32), m + d = c → d < n → wY_firm_14 post (nI k) n (nI (fp_c (fun i => σ i < w) m)) (nI m) (nI N) (nI c) (fun e => nI (a e)) (fun e => nI (b e)) p l := by
  have hc := h.1.2.2
  intro d
  induction d with
  | zero =>
    intro m n p l hm hn
    obtain ⟨n, rfl⟩ : ∃ m, n = m + 1 := ⟨n - 1, by omega⟩
    have e : m = c := by omega
    subst e
    exact br_t (nI_le (Nat.le_refl _) (by omega)) (H p l)
  | succ d ih =>
    intro m n p l hm hn
    obtain ⟨n, rfl⟩ : ∃ m, n = m + 1 := ⟨n - 1, by omega⟩
    refine br_f (nI_ge (by omega) (by omega)) ?_
    refine fr_yf h (by omega) hk (fun w' s' p' l' hM hM' hle => ?_) (fun w' s' p' l' hM hM' hlt => ?_)
    · have K := ih (m + 1) n p' l' (by omega) (by omega)
      have e1 := fp_Mu hM hw
      have e2 := fp_Mu hM' (hs m)
      rw [fp_cS, fp_b0 (by omega)] at K
      exact br_t rfl (nm_r (nI_1 m) K)
    · have K := ih (m + 1) n p' l' (by omega) (by omega)
      have e1 := fp_Mu hM hw
      have e2 := fp_Mu hM' (hs m)
      rw [fp_cS, fp_b1 (by omega)] at K
      exact br_f (by decide) (nm_r (nI_1 _) (nm_r (nI_1 m) K))
theorem fr_yr27 {post : Int32 → SY → Prop} {J14 : Int32 → Int32 → Int32 → Int32 → (Nat → Int32) → (Nat → Int32) → (Nat → Int32) → (Nat → Int32) → Prop} {w t : Nat} {τ : Nat → Nat → Nat} (hN : N ≤ 7) (hk : k ≤ 16) (hw : fp_M (fs_d0 a0 b0 c) N k w) (hs : ∀ i j, fp_M (fs_d2 a0 b0 c i j) N k (τ i j)) (hi : i < N)
    (H : ∀ (a b : Nat → Nat) (p l : Nat → Int32), fr_H N c a0 b0 a b → J14 (nI (t + fp_c (fun j => i < j ∧ w < τ i j) N)) (nI (i + 1)) (nI N) (nI c) (fun e => nI (a e)) (fun e => nI (b e)) p l) :
    ∀ d m n (a b : Nat → Nat) (p l : Nat → Int32), m + d = N → d < n → i < m → fr_H N c a0 b0 a b → wY_room_27 post J14 (nI k) (nI i) n (nI (t + fp_c (fun j => i < j ∧ w < τ i j) m)) (nI m) (nI N) (nI c) (fun e => nI (a e)) (fun e => nI (b e)) p l := by
  intro d
  induction d with
  | zero =>
    intro m n a b p l hm hn hl h
    obtain ⟨n, rfl⟩ : ∃ m, n = m + 1 := ⟨n - 1, by omega⟩
    have e : m = N := by omega
    subst e
    exact br_t (nI_le (Nat.le_refl _) (by omega)) (nm_r (nI_1 i) (H a b p l h))
  | succ d ih =>
    intro m n a b p l hm hn hl h
    obtain ⟨n, rfl⟩ : ∃ m, n = m + 1 := ⟨n - 1, by omega⟩
    refine br_f (nI_ge (by omega) (by omega)) ?_
    refine fr_yw h hi (by omega) (by omega) hk (fun w' s' p' l' hM hM' hle => ?_) (fun w' s' p' l' hM hM' hlt => ?_)
    · have K := ih (m + 1) n _ _ p' l' (by omega) (by omega) (by omega) (fr_Hhi h (Nat.le_refl c) hi (by omega : m < N))
      have e1 := fp_Mu hM hw
      have e2 := fp_Mu hM' (hs i m)
      rw [fp_cS, fp_b0 (by omega)] at K
      exact br_t rfl (nm_r (nI_1 m) K)
    · have K := ih (m + 1) n _ _ p' l' (by omega) (by omega) (by omega) (fr_Hhi h (Nat.le_refl c) hi (by omega : m < N))
      have e1 := fp_Mu hM hw
      have e2 := fp_Mu hM' (hs i m)
      rw [fp_cS, fp_b1 (by omega), ← Nat.add_assoc] at K
      exact br_f (by decide) (nm_r (nI_1 _) (nm_r (nI_1 m) K))
theorem fr_yr14 {post : Int32 → SY → Prop} {w : Nat} {τ : Nat → Nat → Nat} (hN : N ≤ 7) (hk : k ≤ 16) (hw : fp_M (fs_d0 a0 b0 c) N k w) (hs : ∀ i j, fp_M (fs_d2 a0 b0 c i j) N k (τ i j))
    (H : ∀ (a b : Nat → Nat) (p l : Nat → Int32), fr_H N c a0 b0 a b → post (nI (fp_s (fun i => fp_c (fun j => i < j ∧ w < τ i j) N) N)) (nI N, nI c, (fun e => nI (a e)), (fun e => nI (b e)), p, l)) :
    ∀ d m n (a b : Nat → Nat) (p l : Nat → Int32), m + d = N → d < n → fr_H N c a0 b0 a b → wY_room_14 post (nI k) n (nI (fp_s (fun i => fp_c (fun j => i < j ∧ w < τ i j) N) m)) (nI m) (nI N) (nI c) (fun e => nI (a e)) (fun e => nI (b e)) p l := by
  intro d
  induction d with
  | zero =>
    intro m n a b p l hm hn h
    obtain ⟨n, rfl⟩ : ∃ m, n = m + 1 := ⟨n - 1, by omega⟩
    have e : m = N := by omega
    subst e
    exact br_t (nI_le (Nat.le_refl _) (by omega)) (H a b p l h)
  | succ d ih =>
    intro m n a b p l hm hn h
    obtain ⟨n, rfl⟩ : ∃ m, n = m + 1 := ⟨n - 1, by omega⟩
    refine br_f (nI_ge (by omega) (by omega)) (nm_r (nI_1 m) (Exists.intro (N + 1) ?_))
    have K := fr_yr27 (post := post) (J14 := wY_room_14 post (nI k) n) (t := fp_s (fun i => fp_c (fun j => i < j ∧ w < τ i j) N) m) hN hk hw hs (by omega : m < N) (fun a b p l h' => ih (m + 1) n a b p l (by omega) (by omega) h') (N - (m + 1)) (m + 1) (N + 1) a b p l (by omega) (by omega) (by omega) h
    rw [fp_c_0 (m + 1) (fun j hj z => by omega), Nat.add_zero] at K
    exact K
end
end
section
section
variable {tk pt : Int32} {home rc bf q via seen line : Nat → Int32} {N c k i j : Nat} {a0 b0 a b : Nat → Nat}
theorem fr_h0 {post : Int32 → SX → Prop} (h : fr_H N c a0 b0 a b) (hk : k ≤ 16)
    (H : ∀ r (tk pt : Int32) (home rc bf q via seen line : Nat → Int32), fp_M (fs_d0 a0 b0 c) N k r → post (nI r) (nI N, nI c, tk, pt, (fun e => nI (a e)), (fun e => nI (b e)), home, rc, bf, q, via, seen, line)) :
    wpX_held post (nI N, nI c, tk, pt, (fun e => nI (a e)), (fun e => nI (b e)), home, rc, bf, q, via, seen, line) (((1 : Int32) <<< (nI c &&& 31)) - 1) (nI k) := by
  have hc := h.1.2.2
  refine fx_hd (a := a) (b := b) h.1.2.1 hk (fun _ => rfl) (fun _ => rfl) h.2.1 h.2.2.1 (fun e he => ?_) (fun r put h' rc' bf' q' via' seen' line' hM => ?_)
  · have he' := (fs_A0 hc e).mp he
    rw [(h.2.2.2.1 e he').1, (h.2.2.2.1 e he').2]; exact h.2.2.2.2 e he'
  · rw [fs_x0 hc h.2.2.2.1] at hM
    exact H r _ put h' rc' bf' q' via' seen' line' hM
theorem fr_h1 {post : Int32 → SX → Prop} (h : fr_H N c a0 b0 a b) (hi : i < c) (hk : k ≤ 16)
    (H : ∀ r (tk pt : Int32) (home rc bf q via seen line : Nat → Int32), fp_M (fs_d1 a0 b0 c i) N k r → post (nI r) (nI N, nI c, tk, pt, (fun e => nI (a e)), (fun e => nI (b e)), home, rc, bf, q, via, seen, line)) :
    wpX_held post (nI N, nI c, tk, pt, (fun e => nI (a e)), (fun e => nI (b e)), home, rc, bf, q, via, seen, line) ((((1 : Int32) <<< (nI c &&& 31)) - 1) &&& (((1 : Int32) <<< (nI i &&& 31)) ^^^ (-1))) (nI k) := by
  have hc := h.1.2.2
  refine fx_hd (a := a) (b := b) h.1.2.1 hk (fun _ => rfl) (fun _ => rfl) h.2.1 h.2.2.1 (fun e he => ?_) (fun r put h' rc' bf' q' via' seen' line' hM => ?_)
  · have he' := ((fs_A1 hc hi e).mp he).1
    rw [(h.2.2.2.1 e he').1, (h.2.2.2.1 e he').2]; exact h.2.2.2.2 e he'
  · rw [fs_x1 hc hi h.2.2.2.1] at hM
    exact H r _ put h' rc' bf' q' via' seen' line' hM
theorem fr_h2 {post : Int32 → SX → Prop} (h : fr_H N c a0 b0 a b) (g : a 16 = i ∧ b 16 = j) (hn : i ≠ j) (hk : k ≤ 16)
    (H : ∀ r (tk pt : Int32) (home rc bf q via seen line : Nat → Int32), fp_M (fs_d2 a0 b0 c i j) N k r → post (nI r) (nI N, nI c, tk, pt, (fun e => nI (a e)), (fun e => nI (b e)), home, rc, bf, q, via, seen, line)) :
    wpX_held post (nI N, nI c, tk, pt, (fun e => nI (a e)), (fun e => nI (b e)), home, rc, bf, q, via, seen, line) ((((1 : Int32) <<< (nI c &&& 31)) - 1) ||| 65536) (nI k) := by
  have hc := h.1.2.2
  refine fx_hd (a := a) (b := b) h.1.2.1 hk (fun _ => rfl) (fun _ => rfl) h.2.1 h.2.2.1 (fun e he => ?_) (fun r put h' rc' bf' q' via' seen' line' hM => ?_)
  · rcases (fs_A2 hc e).mp he with he' | he'
    · rw [(h.2.2.2.1 e he').1, (h.2.2.2.1 e he').2]; exact h.2.2.2.2 e he'
    · rw [he', g.1, g.2]; exact hn
  · rw [fs_x2 hc h.2.2.2.1 g] at hM
    exact H r _ put h' rc' bf' q' via' seen' line' hM
theorem fr_xw {post : Int32 → SX → Prop} (h : fr_H N c a0 b0 a b) (hi : i < N) (hj : j < N) (hn : i ≠ j) (hk : k ≤ 16)
    (H0 : ∀ w s (tk pt : Int32) (home rc bf q via seen line : Nat → Int32), fp_M (fs_d0 a0 b0 c) N k w → fp_M (fs_d2 a0 b0 c i j) N k s → s ≤ w → post 0 (nI N, nI c, tk, pt, (fun e => nI (fr_u a 16 i e)), (fun e => nI (fr_u b 16 j e)), home, rc, bf, q, via, seen, line))
    (H1 : ∀ w s (tk pt : Int32) (home rc bf q via seen line : Nat → Int32), fp_M (fs_d0 a0 b0 c) N k w → fp_M (fs_d2 a0 b0 c i j) N k s → w < s → post 1 (nI N, nI c, tk, pt, (fun e => nI (fr_u a 16 i e)), (fun e => nI (fr_u b 16 j e)), home, rc, bf, q, via, seen, line)) :
    wpX_welcome post (nI N, nI c, tk, pt, (fun e => nI (a e)), (fun e => nI (b e)), home, rc, bf, q, via, seen, line) (nI i) (nI j) (nI k) := by
  have hc := h.1.2.2
  have h' := fr_Hhi (i := 16) h hc hi hj
  unfold wpX_welcome
  dsimp only
  refine fr_bpT h.1.2.1 ⟨i, j, hi, hj, hn, rfl, rfl⟩ (br_t rfl (fr_bcT ⟨k, hk, rfl⟩ (br_t rfl ?_)))
  refine nm_r (fr_upd a 16 i) (nm_r (fr_upd b 16 j) (fr_ae ?_))
  refine fr_h0 h' hk (fun w tk pt home rc bf q via seen line hM => ?_)
  refine fr_h2 h' ⟨fr_us a 16 i, fr_us b 16 j⟩ hn hk (fun s tk pt home rc bf q via seen line hM' => ?_)
  have w17 := fp_Mle (fs_l0 a0 b0 hc) hM
  have s17 := fp_Mle (fs_l2 a0 b0 i j hc) hM'
  exact fp_if (nI_leI (by omega) (by omega)) (fun z => H0 w s tk pt home rc bf q via seen line hM hM' z) (fun z => H1 w s tk pt home rc bf q via seen line hM hM' (by omega))
theorem fr_xn {post : Int32 → SX → Prop} {R : Nat → Nat} (h : fr_H N c a0 b0 a b) (hR : ∀ k, fp_M (fs_d0 a0 b0 c) N k (R k))
    (H : ∀ m (tk pt : Int32) (home rc bf q via seen line : Nat → Int32), m ≤ 16 → (∀ i, i < m → R i ≠ c) → (m = 16 ∨ R m = c) → post (nI m) (nI N, nI c, tk, pt, (fun e => nI (a e)), (fun e => nI (b e)), home, rc, bf, q, via, seen, line)) :
    ∀ d m n (tk pt : Int32) (home rc bf q via seen line : Nat → Int32), m + d = 16 → d < n → (∀ i, i < m → R i ≠ c) → wX_needed_7 post (((1 : Int32) <<< (nI c &&& 31)) - 1) n (nI m) (nI N) (nI c) tk pt (fun e => nI (a e)) (fun e => nI (b e)) home rc bf q via seen line := by
  have hc := h.1.2.2
  intro d
  induction d with
  | zero =>
    intro m n tk pt home rc bf q via seen line hm hn hi
    obtain ⟨n, rfl⟩ : ∃ m, n = m + 1 := ⟨n - 1, by omega⟩
    have e : m = 16 := by omega
    subst e
    exact br_t (by decide) (H 16 tk pt home rc bf q via seen line (by omega) hi (Or.inl rfl))
  | succ d ih =>
    intro m n tk pt home rc bf q via seen line hm hn hi
    obtain ⟨n, rfl⟩ : ∃ m, n = m + 1 := ⟨n - 1, by omega⟩
    refine br_f (nI_ge (b := 16) (by omega) (by decide)) ?_
    refine fr_h0 h (by omega) (fun r tk pt home rc bf q via seen line hM => ?_)
    have e := fp_Mu hM (hR m)
    have r17 := fp_Mle (fs_l0 a0 b0 hc) hM
    refine fp_if (nI_eq (by omega) (by omega)) (fun z => H m tk pt home rc bf q via seen line (by omega) hi (Or.inr (by omega))) (fun z => nm_r (nI_1 m) (ih (m + 1) n tk pt home rc bf q via seen line (by omega) (by omega) (fun i hi' => ?_)))
    rcases Nat.lt_or_ge i m with y | y
    · exact hi i y
    · have e2 : i = m := by omega
      rw [e2]; omega
theorem fr_xt {post : Int32 → SX → Prop} {R : Nat → Nat} (h : fr_H N c a0 b0 a b) (hR : ∀ k, fp_M (fs_d0 a0 b0 c) N k (R k))
    (H : ∀ m (tk pt : Int32) (home rc bf q via seen line : Nat → Int32), m ≤ 16 → (∀ i, 1 ≤ i → i ≤ m → R i = i * (N - 1)) → (m = 16 ∨ R (m + 1) ≠ (m + 1) * (N - 1)) → post (nI m) (nI N, nI c, tk, pt, (fun e => nI (a e)), (fun e => nI (b e)), home, rc, bf, q, via, seen, line)) :
    ∀ d m n (tk pt : Int32) (home rc bf q via seen line : Nat → Int32), m + d = 16 → d + 1 < n → (∀ i, 1 ≤ i → i ≤ m → R i = i * (N - 1)) → wX_trees_12 post (((1 : Int32) <<< (nI c &&& 31)) - 1) n (nI m) 1 (nI (m + 1)) (nI N) (nI c) tk pt (fun e => nI (a e)) (fun e => nI (b e)) home rc bf q via seen line := by
  have hc := h.1.2.2
  have hN2 := h.1.1
  have hN7 := h.1.2.1
  intro d
  induction d with
  | zero =>
    intro m n tk pt home rc bf q via seen line hm hn hi
    obtain ⟨n, rfl⟩ : ∃ m, n = m + 1 := ⟨n - 1, by omega⟩
    have e : m = 16 := by omega
    subst e
    exact br_t (by decide) (H 16 tk pt home rc bf q via seen line (by omega) hi (Or.inl rfl))
  | succ d ih =>
    intro m n tk pt home rc bf q via seen line hm hn hi
    obtain ⟨n, rfl⟩ : ∃ m, n = m + 2 := ⟨n - 2, by omega⟩
    refine br_f (nI_nlt (a := 16) (by omega) (by decide)) (br_f (by decide) ?_)
    refine fr_h0 h (by omega) (fun r tk pt home rc bf q via seen line hM => ?_)
    have e := fp_Mu hM (hR (m + 1))
    have r17 := fp_Mle (fs_l0 a0 b0 hc) hM
    have e1 : nI (m + 1) * (nI N - 1) = nI ((m + 1) * (N - 1)) := by
      rw [show (1 : Int32) = nI 1 from rfl, pk_sub (by omega), pk_mul]
    have b1 : (m + 1) * (N - 1) ≤ 16 * 6 := Nat.mul_le_mul (by omega) (by omega)
    have cnd : nI r = nI (m + 1) * (nI N - 1) ↔ r = (m + 1) * (N - 1) := by
      rw [e1]; exact nI_eq (by omega) (by omega)
    refine fp_if cnd (fun z => ?_) (fun z => ?_)
    · unfold wX_trees_51
      refine br_f (by decide) (nm_r (nI_1 (m + 1)) (ih (m + 1) (n + 1) tk pt home rc bf q via seen line (by omega) (by omega) (fun i i1 i2 => ?_)))
      rcases Nat.lt_or_ge m i with y | y
      · have e2 : i = m + 1 := by omega
        rw [e2]; omega
      · exact hi i i1 y
    · unfold wX_trees_51
      have fin := H m tk pt home rc bf q via seen line (by omega) hi (Or.inr (by omega))
      exact br_t rfl (nm_r (nI_1 (m + 1)) (br_c (fun _ => fin) (fun _ => br_t rfl fin)))
theorem fr_xfl {post : Int32 → SX → Prop} {w : Nat} {σ : Nat → Nat} (h : fr_H N c a0 b0 a b) (hk : k ≤ 16) (hw : w ≤ 17) (hs : ∀ i, fp_M (fs_d1 a0 b0 c i) N k (σ i))
    (H : ∀ (tk pt : Int32) (home rc bf q via seen line : Nat → Int32), post (nI (fp_c (fun i => σ i < w) c)) (nI N, nI c, tk, pt, (fun e => nI (a e)), (fun e => nI (b e)), home, rc, bf, q, via, seen, line)) :
    ∀ d m n (tk pt : Int32) (home rc bf q via seen line : Nat → Int32), m + d = c → d < n → wX_firm_28 post (nI k) (((1 : Int32) <<< (nI c &&& 31)) - 1) (nI w) n (nI (fp_c (fun i => σ i < w) m)) (nI m) (nI N) (nI c) tk pt (fun e => nI (a e)) (fun e => nI (b e)) home rc bf q via seen line := by
  have hc := h.1.2.2
  intro d
  induction d with
  | zero =>
    intro m n tk pt home rc bf q via seen line hm hn
    obtain ⟨n, rfl⟩ : ∃ m, n = m + 1 := ⟨n - 1, by omega⟩
    have e : m = c := by omega
    subst e
    exact br_t (nI_le (Nat.le_refl _) (by omega)) (H tk pt home rc bf q via seen line)
  | succ d ih =>
    intro m n tk pt home rc bf q via seen line hm hn
    obtain ⟨n, rfl⟩ : ∃ m, n = m + 1 := ⟨n - 1, by omega⟩
    refine br_f (nI_ge (by omega) (by omega)) ?_
    refine fr_h1 h (by omega) hk (fun r tk pt home rc bf q via seen line hM => ?_)
    have K := ih (m + 1) n tk pt home rc bf q via seen line (by omega) (by omega)
    have e2 := fp_Mu hM (hs m)
    have r17 := fp_Mle (fs_l1 a0 b0 m hc) hM
    rw [fp_cS] at K
    refine fp_if (nI_leI (by omega) (by omega)) (fun z => nm_r (nI_1 m) ?_) (fun z => nm_r (nI_1 _) (nm_r (nI_1 m) ?_))
    · rw [fp_b0 (by omega)] at K; exact K
    · rw [fp_b1 (by omega)] at K; exact K
theorem fr_xr27 {post : Int32 → SX → Prop} {J14 : Int32 → Int32 → Int32 → Int32 → Int32 → Int32 → (Nat → Int32) → (Nat → Int32) → (Nat → Int32) → (Nat → Int32) → (Nat → Int32) → (Nat → Int32) → (Nat → Int32) → (Nat → Int32) → (Nat → Int32) → Prop} {w t : Nat} {τ : Nat → Nat → Nat} (hN : N ≤ 7) (hk : k ≤ 16) (hw : fp_M (fs_d0 a0 b0 c) N k w) (hs : ∀ i j, fp_M (fs_d2 a0 b0 c i j) N k (τ i j)) (hi : i < N)
    (H : ∀ (a b : Nat → Nat) (tk pt : Int32) (home rc bf q via seen line : Nat → Int32), fr_H N c a0 b0 a b → J14 (nI (t + fp_c (fun j => i < j ∧ w < τ i j) N)) (nI (i + 1)) (nI N) (nI c) tk pt (fun e => nI (a e)) (fun e => nI (b e)) home rc bf q via seen line) :
    ∀ d m n (a b : Nat → Nat) (tk pt : Int32) (home rc bf q via seen line : Nat → Int32), m + d = N → d < n → i < m → fr_H N c a0 b0 a b → wX_room_27 post J14 (nI k) (nI i) n (nI (t + fp_c (fun j => i < j ∧ w < τ i j) m)) (nI m) (nI N) (nI c) tk pt (fun e => nI (a e)) (fun e => nI (b e)) home rc bf q via seen line := by
  intro d
  induction d with
  | zero =>
    intro m n a b tk pt home rc bf q via seen line hm hn hl h
    obtain ⟨n, rfl⟩ : ∃ m, n = m + 1 := ⟨n - 1, by omega⟩
    have e : m = N := by omega
    subst e
    exact br_t (nI_le (Nat.le_refl _) (by omega)) (nm_r (nI_1 i) (H a b tk pt home rc bf q via seen line h))
  | succ d ih =>
    intro m n a b tk pt home rc bf q via seen line hm hn hl h
    obtain ⟨n, rfl⟩ : ∃ m, n = m + 1 := ⟨n - 1, by omega⟩
    have hc := h.1.2.2
    refine br_f (nI_ge (by omega) (by omega)) ?_
    refine fr_xw h hi (by omega) (by omega) hk (fun w' s' tk pt home rc bf q via seen line hM hM' hle => ?_) (fun w' s' tk pt home rc bf q via seen line hM hM' hlt => ?_)
    · have K := ih (m + 1) n _ _ tk pt home rc bf q via seen line (by omega) (by omega) (by omega) (fr_Hhi (i := 16) h hc hi (by omega : m < N))
      have e1 := fp_Mu hM hw
      have e2 := fp_Mu hM' (hs i m)
      rw [fp_cS, fp_b0 (by omega)] at K
      exact br_t rfl (nm_r (nI_1 m) K)
    · have K := ih (m + 1) n _ _ tk pt home rc bf q via seen line (by omega) (by omega) (by omega) (fr_Hhi (i := 16) h hc hi (by omega : m < N))
      have e1 := fp_Mu hM hw
      have e2 := fp_Mu hM' (hs i m)
      rw [fp_cS, fp_b1 (by omega), ← Nat.add_assoc] at K
      exact br_f (by decide) (nm_r (nI_1 _) (nm_r (nI_1 m) K))
theorem fr_xr14 {post : Int32 → SX → Prop} {w : Nat} {τ : Nat → Nat → Nat} (hN : N ≤ 7) (hk : k ≤ 16) (hw : fp_M (fs_d0 a0 b0 c) N k w) (hs : ∀ i j, fp_M (fs_d2 a0 b0 c i j) N k (τ i j))
    (H : ∀ (a b : Nat → Nat) (tk pt : Int32) (home rc bf q via seen line : Nat → Int32), fr_H N c a0 b0 a b → post (nI (fp_s (fun i => fp_c (fun j => i < j ∧ w < τ i j) N) N)) (nI N, nI c, tk, pt, (fun e => nI (a e)), (fun e => nI (b e)), home, rc, bf, q, via, seen, line)) :
    ∀ d m n (a b : Nat → Nat) (tk pt : Int32) (home rc bf q via seen line : Nat → Int32), m + d = N → d < n → fr_H N c a0 b0 a b → wX_room_14 post (nI k) n (nI (fp_s (fun i => fp_c (fun j => i < j ∧ w < τ i j) N) m)) (nI m) (nI N) (nI c) tk pt (fun e => nI (a e)) (fun e => nI (b e)) home rc bf q via seen line := by
  intro d
  induction d with
  | zero =>
    intro m n a b tk pt home rc bf q via seen line hm hn h
    obtain ⟨n, rfl⟩ : ∃ m, n = m + 1 := ⟨n - 1, by omega⟩
    have e : m = N := by omega
    subst e
    exact br_t (nI_le (Nat.le_refl _) (by omega)) (H a b tk pt home rc bf q via seen line h)
  | succ d ih =>
    intro m n a b tk pt home rc bf q via seen line hm hn h
    obtain ⟨n, rfl⟩ : ∃ m, n = m + 1 := ⟨n - 1, by omega⟩
    refine br_f (nI_ge (by omega) (by omega)) (nm_r (nI_1 m) (Exists.intro (N + 1) ?_))
    have K := fr_xr27 (post := post) (J14 := wX_room_14 post (nI k) n) (t := fp_s (fun i => fp_c (fun j => i < j ∧ w < τ i j) N) m) hN hk hw hs (by omega : m < N) (fun a b tk pt home rc bf q via seen line h' => ih (m + 1) n a b tk pt home rc bf q via seen line (by omega) (by omega) h') (N - (m + 1)) (m + 1) (N + 1) a b tk pt home rc bf q via seen line (by omega) (by omega) (by omega) h
    rw [fp_c_0 (m + 1) (fun j hj z => by omega), Nat.add_zero] at K
    exact K
end
end
section
theorem i_vc_hold {k : Nat} {u : SX} {v : SY} (I : i_Rel k u v) (hk : k + 4 ≤ 2049) (v1 : Int32) : wpX_hold (fun r u' => wpY_hold (fun r' v' => r' = r ∧ i_Rel (k + 4) u' v') v v1) u v1 := by
  refine fr_el (P := fun u v => wpX_hold (fun r u' => wpY_hold (fun r' v' => r' = r ∧ i_Rel (k + 4) u' v') v v1) u v1) ?_ I
  intro N c tk pt a0 b0 a b a' b' home rc bf q via seen line part least h g
  have hN := h.1.2.1
  have hc := h.1.2.2
  unfold wpX_hold
  dsimp only
  rcases Classical.em (fr_N v1) with hK | hK
  · refine fr_bcT hK (br_t rfl (fr_ae ?_))
    obtain ⟨m, hm, rfl⟩ := hK
    refine fr_h0 h hm (fun r tk pt home rc bf q via seen line hM => ?_)
    exact fr_yh g hm (fun r' p l hM' => And.intro (congrArg nI (fp_Mu hM' hM)) (fr_in h g))
  · refine fr_bcF hK (br_f (by decide) ?_)
    unfold wpY_hold
    dsimp only
    exact fr_inF hK (br_t rfl (And.intro rfl (fr_in h g)))
theorem i_vc_needed {k : Nat} {u : SX} {v : SY} (I : i_Rel k u v) (hk : k + 4 ≤ 2049) : wpX_needed (fun r u' => wpY_needed (fun r' v' => r' = r ∧ i_Rel (k + 4) u' v') v) u := by
  refine fr_el (P := fun u v => wpX_needed (fun r u' => wpY_needed (fun r' v' => r' = r ∧ i_Rel (k + 4) u' v') v) u) ?_ I
  intro N c tk pt a0 b0 a b a' b' home rc bf q via seen line part least h g
  have hN := h.1.2.1
  have hc := h.1.2.2
  unfold wpX_needed
  dsimp only
  obtain ⟨R, hR⟩ : ∃ R : Nat → Nat, ∀ k, fp_M (fs_d0 a0 b0 c) N k (R k) := ⟨fun k => Classical.choose (fp_Mx _ N k), fun k => Classical.choose_spec (fp_Mx _ N k)⟩
  have hle : ∀ m, R m ≤ c := by
    intro m
    have z := (hR m).1 (fun x => x) (fun v _ => by rw [fp_mxid]; exact Nat.le_refl _)
    rw [fp_mxid, Nat.sub_self, Nat.mul_zero] at z
    have z2 : fs_d0 a0 b0 c (fun x => x) ≤ c := fp_c_le _ c
    omega
  refine fr_ae (Exists.intro 17 ?_)
  refine fr_xn h hR (fun m tk pt home rc bf q via seen line m1 m2 m3 => ?_) 16 0 17 tk pt home rc bf q via seen line (by omega) (by omega) (fun i hi => by omega)
  unfold wpY_needed
  dsimp only
  refine fr_fc0 g (fun p l hl => Exists.intro 17 ?_)
  refine fr_yn g hl hR (fun m' n1 n2 n3 => ?_) 16 0 17 (by omega) (by omega) (fun i hi => by omega)
  have e : m' = m := by
    rcases Nat.lt_trichotomy m' m with y | y | y
    · have y1 := m2 m' y
      have y2 := hle m'
      omega
    · exact y
    · have y1 := n2 m y
      omega
  exact And.intro (by rw [e]) (fr_in h g)
theorem i_vc_trees {k : Nat} {u : SX} {v : SY} (I : i_Rel k u v) (hk : k + 4 ≤ 2049) : wpX_trees (fun r u' => wpY_trees (fun r' v' => r' = r ∧ i_Rel (k + 4) u' v') v) u := by
  refine fr_el (P := fun u v => wpX_trees (fun r u' => wpY_trees (fun r' v' => r' = r ∧ i_Rel (k + 4) u' v') v) u) ?_ I
  intro N c tk pt a0 b0 a b a' b' home rc bf q via seen line part least h g
  have hN := h.1.2.1
  have hc := h.1.2.2
  unfold wpX_trees
  dsimp only
  obtain ⟨R, hR⟩ : ∃ R : Nat → Nat, ∀ k, fp_M (fs_d0 a0 b0 c) N k (R k) := ⟨fun k => Classical.choose (fp_Mx _ N k), fun k => Classical.choose_spec (fp_Mx _ N k)⟩
  refine fr_ae (Exists.intro 18 ?_)
  refine fr_xt h hR (fun m tk pt home rc bf q via seen line m1 m2 m3 => ?_) 16 0 18 tk pt home rc bf q via seen line (by omega) (by omega) (fun i hi => by omega)
  unfold wpY_trees
  dsimp only
  refine fr_fc0 g (fun p l hl => Exists.intro 17 ?_)
  refine fr_yt g hl hR (fun m' n1 n2 n3 => ?_) 16 0 17 (by omega) (by omega) (fun i hi => by omega)
  have e : m' = m := by
    rcases Nat.lt_trichotomy m' m with y | y | y
    · rcases n3 with z | z
      · omega
      · exact absurd (m2 (m' + 1) (by omega) (by omega)) z
    · exact y
    · rcases m3 with z | z
      · omega
      · exact absurd (n2 (m + 1) (by omega) (by omega)) z
  exact And.intro (by rw [e]) (fr_in h g)
theorem i_vc_firm {k : Nat} {u : SX} {v : SY} (I : i_Rel k u v) (hk : k + 4 ≤ 2049) (v1 : Int32) : wpX_firm (fun r u' => wpY_firm (fun r' v' => r' = r ∧ i_Rel (k + 4) u' v') v v1) u v1 := by
  refine fr_el (P := fun u v => wpX_firm (fun r u' => wpY_firm (fun r' v' => r' = r ∧ i_Rel (k + 4) u' v') v v1) u v1) ?_ I
  intro N c tk pt a0 b0 a b a' b' home rc bf q via seen line part least h g
  have hN := h.1.2.1
  have hc := h.1.2.2
  unfold wpX_firm
  dsimp only
  rcases Classical.em (fr_N v1) with hK | hK
  · refine fr_bcT hK (br_t rfl (fr_ae ?_))
    have hK' := hK
    obtain ⟨m, hm, rfl⟩ := hK
    obtain ⟨σ, hs⟩ : ∃ σ : Nat → Nat, ∀ i, fp_M (fs_d1 a0 b0 c i) N m (σ i) := ⟨fun i => Classical.choose (fp_Mx _ N m), fun i => Classical.choose_spec (fp_Mx _ N m)⟩
    refine fr_h0 h hm (fun w tk pt home rc bf q via seen line hM => ?_)
    have w17 := fp_Mle (fs_l0 a0 b0 hc) hM
    refine Exists.intro (c + 1) (fr_xfl h hm w17 hs (fun tk pt home rc bf q via seen line => ?_) c 0 (c + 1) tk pt home rc bf q via seen line (by omega) (by omega))
    unfold wpY_firm
    dsimp only
    refine fr_inT hK' (br_f (by decide) (Exists.intro (c + 1) ?_))
    exact fr_yfl g hm hM hs (fun p l => And.intro rfl (fr_in h g)) c 0 (c + 1) part least (by omega) (by omega)
  · refine fr_bcF hK (br_f (by decide) ?_)
    unfold wpY_firm
    dsimp only
    exact fr_inF hK (br_t rfl (And.intro rfl (fr_in h g)))
theorem i_vc_isFirm {k : Nat} {u : SX} {v : SY} (I : i_Rel k u v) (hk : k + 4 ≤ 2049) (v1 : Int32) (v2 : Int32) : wpX_isFirm (fun r u' => wpY_isFirm (fun r' v' => r' = r ∧ i_Rel (k + 4) u' v') v v1 v2) u v1 v2 := by
  refine fr_el (P := fun u v => wpX_isFirm (fun r u' => wpY_isFirm (fun r' v' => r' = r ∧ i_Rel (k + 4) u' v') v v1 v2) u v1 v2) ?_ I
  intro N c tk pt a0 b0 a b a' b' home rc bf q via seen line part least h g
  have hN := h.1.2.1
  have hc := h.1.2.2
  unfold wpX_isFirm
  dsimp only
  rcases pk_ix v1 (n := c) (by omega) with z | z | ⟨e, he, rfl⟩
  · refine br_t z ?_
    unfold wpY_isFirm
    dsimp only
    exact br_t z (And.intro rfl (fr_in h g))
  · have nz : ¬ v1 < 0 := Int32.not_lt.mpr (Int32.le_trans (nI_pos' (n := c) (by omega)) z)
    refine br_f nz (br_t z ?_)
    unfold wpY_isFirm
    dsimp only
    exact br_f nz (br_t z (And.intro rfl (fr_in h g)))
  · have nz : ¬ nI e < 0 := nI_pos (by omega)
    have nc : ¬ nI c ≤ nI e := nI_ge he (by omega)
    refine br_f nz (br_f nc ?_)
    rcases Classical.em (fr_N v2) with hK | hK
    · refine fr_bcT hK (br_t rfl (fr_ae ?_))
      obtain ⟨m, hm, rfl⟩ := hK
      refine fr_h0 h hm (fun w tk pt home rc bf q via seen line hM => ?_)
      refine fr_h1 h he hm (fun s tk pt home rc bf q via seen line hM' => ?_)
      have w17 := fp_Mle (fs_l0 a0 b0 hc) hM
      have s17 := fp_Mle (fs_l1 a0 b0 e hc) hM'
      refine fp_if (nI_leI (by omega) (by omega)) (fun z => ?_) (fun z => ?_)
      · refine fr_yf g he hm (fun w' s' p l hW hS _ => And.intro rfl (fr_in h g)) (fun w' s' p l hW hS y => ?_)
        have e1 := fp_Mu hW hM
        have e2 := fp_Mu hS hM'
        omega
      · refine fr_yf g he hm (fun w' s' p l hW hS y => ?_) (fun w' s' p l hW hS _ => And.intro rfl (fr_in h g))
        have e1 := fp_Mu hW hM
        have e2 := fp_Mu hS hM'
        omega
    · refine fr_bcF hK (br_f (by decide) ?_)
      unfold wpY_isFirm
      dsimp only
      exact br_f nz (br_f nc (fr_inF hK (br_t rfl (And.intro rfl (fr_in h g)))))
theorem i_vc_welcome {k : Nat} {u : SX} {v : SY} (I : i_Rel k u v) (hk : k + 4 ≤ 2049) (v1 : Int32) (v2 : Int32) (v3 : Int32) : wpX_welcome (fun r u' => wpY_welcome (fun r' v' => r' = r ∧ i_Rel (k + 4) u' v') v v1 v2 v3) u v1 v2 v3 := by
  refine fr_el (P := fun u v => wpX_welcome (fun r u' => wpY_welcome (fun r' v' => r' = r ∧ i_Rel (k + 4) u' v') v v1 v2 v3) u v1 v2 v3) ?_ I
  intro N c tk pt a0 b0 a b a' b' home rc bf q via seen line part least h g
  have hN := h.1.2.1
  have hc := h.1.2.2
  rcases Classical.em (fr_P N v1 v2) with hP | hP
  · rcases Classical.em (fr_N v3) with hK | hK
    · obtain ⟨i, j, hi, hj, hn, rfl, rfl⟩ := hP
      obtain ⟨m, hm, rfl⟩ := hK
      have h' := fr_Hhi (i := 16) h hc hi hj
      have g' := fr_Hhi g (Nat.le_refl c) hi hj
      refine fr_xw h hi hj hn hm (fun w s tk pt home rc bf q via seen line hM hM' hle => ?_) (fun w s tk pt home rc bf q via seen line hM hM' hlt => ?_)
      · refine fr_yw g hi hj hn hm (fun w' s' p l hW hS _ => And.intro rfl (fr_in h' g')) (fun w' s' p l hW hS y => ?_)
        have e1 := fp_Mu hW hM
        have e2 := fp_Mu hS hM'
        omega
      · refine fr_yw g hi hj hn hm (fun w' s' p l hW hS y => ?_) (fun w' s' p l hW hS _ => And.intro rfl (fr_in h' g'))
        have e1 := fp_Mu hW hM
        have e2 := fp_Mu hS hM'
        omega
    · unfold wpX_welcome wpY_welcome
      dsimp only
      refine fr_bpT hN hP (br_t rfl (fr_bcF hK (br_f (by decide) ?_)))
      exact fr_ipT hN hP (br_f (by decide) (fr_inF hK (br_t rfl (And.intro rfl (fr_in h g)))))
  · unfold wpX_welcome wpY_welcome
    dsimp only
    refine fr_bpF hN hP (br_f (by decide) ?_)
    exact fr_ipF hN hP (br_t rfl (And.intro rfl (fr_in h g)))
theorem i_vc_room {k : Nat} {u : SX} {v : SY} (I : i_Rel k u v) (hk : k + 4 ≤ 2049) (v1 : Int32) : wpX_room (fun r u' => wpY_room (fun r' v' => r' = r ∧ i_Rel (k + 4) u' v') v v1) u v1 := by
  refine fr_el (P := fun u v => wpX_room (fun r u' => wpY_room (fun r' v' => r' = r ∧ i_Rel (k + 4) u' v') v v1) u v1) ?_ I
  intro N c tk pt a0 b0 a b a' b' home rc bf q via seen line part least h g
  have hN := h.1.2.1
  have hc := h.1.2.2
  unfold wpX_room
  dsimp only
  rcases Classical.em (fr_N v1) with hK | hK
  · refine fr_bcT hK (br_t rfl (Exists.intro (N + 1) ?_))
    have hK' := hK
    obtain ⟨m, hm, rfl⟩ := hK
    obtain ⟨w, hw⟩ := fp_Mx (fs_d0 a0 b0 c) N m
    obtain ⟨τ, hs⟩ : ∃ τ : Nat → Nat → Nat, ∀ i j, fp_M (fs_d2 a0 b0 c i j) N m (τ i j) := ⟨fun i j => Classical.choose (fp_Mx _ N m), fun i j => Classical.choose_spec (fp_Mx _ N m)⟩
    refine fr_xr14 hN hm hw hs (fun a b tk pt home rc bf q via seen line h' => ?_) N 0 (N + 1) a b tk pt home rc bf q via seen line (by omega) (by omega) h
    unfold wpY_room
    dsimp only
    refine fr_inT hK' (br_f (by decide) (Exists.intro (N + 1) ?_))
    exact fr_yr14 hN hm hw hs (fun a' b' p l g' => And.intro rfl (fr_in h' g')) N 0 (N + 1) a' b' part least (by omega) (by omega) g
  · refine fr_bcF hK (br_f (by decide) ?_)
    unfold wpY_room
    dsimp only
    exact fr_inF hK (br_t rfl (And.intro rfl (fr_in h g)))
theorem i_vc_parts {k : Nat} {u : SX} {v : SY} (I : i_Rel k u v) (hk : k + 4 ≤ 2049) : wpX_parts (fun r u' => wpY_parts (fun r' v' => r' = r ∧ i_Rel (k + 4) u' v') v) u := by
  refine fr_el (P := fun u v => wpX_parts (fun r u' => wpY_parts (fun r' v' => r' = r ∧ i_Rel (k + 4) u' v') v) u) ?_ I
  intro N c tk pt a0 b0 a b a' b' home rc bf q via seen line part least h g
  have hN := h.1.2.1
  have hc := h.1.2.2
  unfold wpX_parts
  dsimp only
  refine fr_ae ?_
  refine fx_hd (a := a) (b := b) (k := 1) hN (by omega) (fun _ => rfl) (fun _ => rfl) h.2.1 h.2.2.1 (fun e he => ?_) (fun r put h' rc' bf' q' via' seen' line' hM => ?_)
  · have he' := (fs_A0 hc e).mp he
    rw [(h.2.2.2.1 e he').1, (h.2.2.2.1 e he').2]; exact h.2.2.2.2 e he'
  · have e1 := fp_Mu hM (fp_one (fun e he => he.1) h.2.1 h.2.2.1)
    have e2 : fp_K a b (fx_A (((1 : Int32) <<< (nI c &&& 31)) - 1)) N = fp_K a' b' (fun e => e < c) N := by
      refine fs_K (fun e => fs_A0 hc e) (fun e he => ?_)
      rw [(h.2.2.2.1 e he).1, (h.2.2.2.1 e he).2, (g.2.2.2.1 e he).1, (g.2.2.2.1 e he).2]
      exact ⟨rfl, rfl⟩
    have e3 : fp_K a' b' (fun e => e < c) N ≤ N := fp_c_le _ N
    refine fy_pt (a := a') (b := b') hN hc (fun _ => rfl) (fun _ => rfl) g.2.1 g.2.2.1 (fun P => And.intro ?_ (fr_in h g))
    rw [e1, e2, pk_sub (by omega)]
    exact congrArg nI (by omega)
end
