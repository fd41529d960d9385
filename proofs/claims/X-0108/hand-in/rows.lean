section
theorem pk_us {f : Nat → Int32} {k : Nat} {x : Int32} : upd f k x k = x := if_pos rfl
theorem pk_un {f : Nat → Int32} {k j : Nat} {x : Int32} (h : j ≠ k) : upd f k x j = f j := if_neg h
theorem pk_sub {a b : Nat} (h : b ≤ a) : nI a - nI b = nI (a - b) := by
  obtain ⟨c, rfl⟩ : ∃ c, a = c + b := ⟨a - b, by omega⟩
  rw [← nI_add, Int32.add_sub_cancel, Nat.add_sub_cancel]
theorem pk_m1 (n : Nat) : nI (n + 1) + (-1) = nI n := by
  rw [← nI_1, Int32.add_assoc, show (1 : Int32) + (-1) = 0 from rfl, Int32.add_zero]
theorem pk_mul (a b : Nat) : nI a * nI b = nI (a * b) := (Int32.ofNat_mul a b).symm
theorem pk_div {a d : Nat} (ha : a < 2 ^ 31) (h0 : 0 < d) (hd : d < 2 ^ 31) : nI a / nI d = nI (a / d) := by
  apply Int32.toInt_inj.mp
  rw [lg_idiv_nonneg (by rw [nI_toInt ha]; omega) (by rw [nI_toInt hd]; omega), nI_toInt ha, nI_toInt hd, nI_toInt (Nat.lt_of_le_of_lt (Nat.div_le_self a d) ha)]
  first | rfl | exact (Int.natCast_ediv _ _).symm
theorem pk_rem {a d : Nat} (ha : a < 2 ^ 31) (h0 : 0 < d) (hd : d < 2 ^ 31) : nI a - nI a / nI d * nI d = nI (a % d) := by
  rw [pk_div ha h0 hd, pk_mul, pk_sub (Nat.div_mul_le_self a d)]
  exact congrArg nI (by have := Nat.div_add_mod' a d; omega)
theorem pk_ix (x : Int32) {n : Nat} (hn : n < 2 ^ 31) : x < 0 ∨ nI n ≤ x ∨ ∃ j : Nat, j < n ∧ x = nI j := by
  by_cases h : x < 0
  · exact Or.inl h
  · obtain ⟨j, hj, rfl⟩ := nI_of h
    by_cases h2 : j < n
    · exact Or.inr (Or.inr ⟨j, h2, rfl⟩)
    · exact Or.inr (Or.inl (nI_le (by omega) hj))
theorem pk_le {x y : Int32} {A B : Prop} (a b : Nat) (f : a ≤ b → A) (g : b < a → B) (hx : x = nI a := by rfl) (hy : y = nI b := by rfl) (ha : a < 2 ^ 31 := by omega) (hb : b < 2 ^ 31 := by omega) : (x ≤ y → A) ∧ (¬ x ≤ y → B) := by
  subst hx hy
  rw [nI_leI ha hb]
  exact ⟨f, fun z => g (by omega)⟩
theorem pk_lt {x y : Int32} {A B : Prop} (a b : Nat) (f : a < b → A) (g : b ≤ a → B) (hx : x = nI a := by rfl) (hy : y = nI b := by rfl) (ha : a < 2 ^ 31 := by omega) (hb : b < 2 ^ 31 := by omega) : (x < y → A) ∧ (¬ x < y → B) := by
  subst hx hy
  rw [nI_ltI ha hb]
  exact ⟨f, fun z => g (by omega)⟩
theorem pk_eq {x y : Int32} {A B : Prop} (a b : Nat) (f : a = b → A) (g : a ≠ b → B) (hx : x = nI a := by rfl) (hy : y = nI b := by rfl) (ha : a < 2 ^ 31 := by omega) (hb : b < 2 ^ 31 := by omega) : (x = y → A) ∧ (¬ x = y → B) := by
  subst hx hy
  rw [nI_eq ha hb]
  exact ⟨f, g⟩
theorem pk_in {x : Int32} (n N : Nat) (h : n < N) (hx : x = nI n := by rfl) (hN : N < 2 ^ 31 := by omega) : vp_in x N := by
  subst hx
  exact vp_in_nI h hN
theorem pk_cl {x : Int32} (n : Nat) (hx : x = nI n := by rfl) (h : n < 2 ^ 31 := by omega) : x.toNatClampNeg = n := by
  subst hx
  exact nI_clamp h
theorem pk_tn {n : Nat} (h : n < 2 ^ 32) : (nI n).toBitVec.toNat = n := Nat.mod_eq_of_lt h
theorem pk_loop {σ : Type} (W : Nat → Nat → σ → Prop) (I : Nat → σ → Prop) (e i0 : Nat) (s : σ) (hi : i0 ≤ e) (h0 : I i0 s) (hx : ∀ n s, I e s → W (n + 1) e s)
    (hs : ∀ n i s, i < e → I i s → (∀ s', I (i + 1) s' → W n (i + 1) s') → W (n + 1) i s) : ∃ n, W n i0 s :=
  ⟨e + 1, loop_i W I e hx hs (e + 1) i0 s hi (by omega) h0⟩
theorem wb_of32 (x : Int32) : ∃ n, n < 2 ^ 32 ∧ x = nI n := ⟨x.toBitVec.toNat, x.toBitVec.isLt, Int32.toBitVec_inj.mp (by show _ = BitVec.ofNat 32 _; simp)⟩
theorem sb_m1 {p : Nat} (h : 0 < p) : nI p + (-1) = nI (p - 1) := by
  obtain ⟨q, rfl⟩ : ∃ q, p = q + 1 := ⟨p - 1, by omega⟩
  exact pk_m1 q
/-- an array of ints by naturals -/
def jm_a (g : Nat → Nat) : Nat → Int32 := fun i => nI (g i)
def nu_a (g : Nat → Nat) (k x : Nat) : Nat → Nat := fun i => if i = k then x else g i
theorem nu_s {g : Nat → Nat} {k x : Nat} : nu_a g k x k = x := if_pos rfl
theorem nu_n {g : Nat → Nat} {k x j : Nat} (h : j ≠ k) : nu_a g k x j = g j := if_neg h
theorem nu_c (g : Nat → Nat) (k x j : Nat) : nu_a g k x j = if j = k then x else g j := rfl
theorem jm_u (g : Nat → Nat) (k x : Nat) : upd (jm_a g) k (nI x) = jm_a (nu_a g k x) := by
  funext i
  unfold upd jm_a nu_a
  by_cases h : i = k
  · rw [if_pos h, if_pos h]
  · rw [if_neg h, if_neg h]
theorem jm_c {g : Nat → Nat} {k : Nat} (h : k < 2 ^ 31) : jm_a g (nI k).toNatClampNeg = nI (g k) := by
  unfold jm_a
  rw [nI_clamp h]
theorem jm_i {g : Nat → Nat} {i : Int32} (k : Nat) (hi : i = nI k := by rfl) (h : k < 2 ^ 31 := by omega) : jm_a g i.toNatClampNeg = nI (g k) := by
  subst hi
  exact jm_c h
theorem jm_ex (f : Nat → Int32) : ∃ g : Nat → Nat, f = jm_a g := by
  refine ⟨fun i => (f i).toBitVec.toNat, ?_⟩
  funext i
  obtain ⟨m, hm, e⟩ := wb_of32 (f i)
  show f i = nI (f i).toBitVec.toNat
  rw [e, pk_tn hm]
theorem jm_0 : (fun _ => 0 : Nat → Int32) = jm_a (fun _ => 0) := rfl
/-- read a cell and branch on its value -/
theorem jr_eq {i : Int32} {N : Nat} {g : Nat → Nat} {y : Int32} {A B : Prop} (k c : Nat) (hk : k < N) (hg : g k < 2 ^ 31) (f : g k = c → A) (h : g k ≠ c → B) (hi : i = nI k := by rfl) (hy : y = nI c := by rfl) (hc : c < 2 ^ 31 := by omega) (hN : N < 2 ^ 31 := by omega) : vp_in i N ∧ ((jm_a g i.toNatClampNeg = y → A) ∧ (¬ jm_a g i.toNatClampNeg = y → B)) :=
  ⟨pk_in k N hk hi hN, pk_eq (g k) c f h (jm_i k hi (by omega)) hy hg hc⟩
/-- store a cell -/
theorem jw_u {i v : Int32} {N : Nat} {g : Nat → Nat} {P : (Nat → Int32) → Prop} (k x : Nat) (hk : k < N) (h : P (jm_a (nu_a g k x))) (hi : i = nI k := by rfl) (hv : v = nI x := by rfl) (hN : N < 2 ^ 31 := by omega) : vp_in i N ∧ ∀ y, y = upd (jm_a g) i.toNatClampNeg v → P y := by
  refine ⟨pk_in k N hk hi hN, fun y e => ?_⟩
  subst hi
  rw [e, hv, nI_clamp (by omega), jm_u]
  exact h
theorem ja_p1 (a : Nat) : nI a + 1 = nI (a + 1) := nI_1 a
theorem ja_s1 {a : Nat} (h : 0 < a) : nI a - 1 = nI (a - 1) := pk_sub (b := 1) h
theorem ja_as {a b c : Nat} (h : c ≤ a + b) : nI a + nI b - nI c = nI (a + b - c) := by rw [nI_add, pk_sub h]
theorem ja_ma (a b c : Nat) : nI a + nI b * nI c = nI (a + b * c) := by rw [pk_mul, nI_add]
theorem ja_mb (a b c d : Nat) : nI a + nI b * nI c + nI d = nI (a + b * c + d) := by rw [pk_mul, nI_add, nI_add]
theorem ja_lt0 {m : Int32} {A B : Prop} (k : Nat) (b : B) (hm : m = nI k := by rfl) (hk : k < 2 ^ 31 := by omega) : (m < 0 → A) ∧ (¬ m < 0 → B) := by
  subst hm
  exact br_f (nI_pos hk) b
theorem ja_ge0 {m : Int32} {A B : Prop} (k : Nat) (a : A) (hm : m = nI k := by rfl) (hk : k < 2 ^ 31 := by omega) : (0 ≤ m → A) ∧ (¬ 0 ≤ m → B) := by
  subst hm
  exact br_t (nI_pos' hk) a
/-- an induction from above -/
theorem ja_dn {P : Nat → Prop} (n : Nat) (h : ∀ i, (∀ j, i < j → j ≤ n → P j) → P i) : ∀ i, P i := by
  have key : ∀ k i, n - i < k → P i := by
    intro k
    induction k with
    | zero => intro i hi; omega
    | succ k ih => intro i hi; exact h i (fun j h1 h2 => ih j (by omega))
  exact fun i => key _ i (Nat.lt_succ_self _)
end
section
noncomputable def b0_1 (P : Prop) : Nat := @ite Nat P (Classical.propDecidable P) 1 0
theorem b0_t {P : Prop} (h : P) : b0_1 P = 1 := by unfold b0_1; rw [if_pos h]
theorem b0_f {P : Prop} (h : ¬ P) : b0_1 P = 0 := by unfold b0_1; rw [if_neg h]
theorem b0_c {P Q : Prop} (h : P ↔ Q) : b0_1 P = b0_1 Q := by
  rcases Classical.em P with p | p
  · rw [b0_t p, b0_t (h.mp p)]
  · rw [b0_f p, b0_f (fun q => p (h.mpr q))]
noncomputable def cn_p (P : Nat → Prop) : Nat → Nat
  | 0 => 0
  | k + 1 => cn_p P k + b0_1 (P k)
theorem cn_c {P Q : Nat → Prop} : ∀ {N : Nat}, (∀ k, k < N → (P k ↔ Q k)) → cn_p P N = cn_p Q N
  | 0, _ => rfl
  | N + 1, h => by
    show cn_p P N + b0_1 (P N) = cn_p Q N + b0_1 (Q N)
    rw [cn_c (N := N) (fun k hk => h k (by omega)), b0_c (h N (by omega))]
theorem cn_z {P : Nat → Prop} : ∀ {N : Nat}, (∀ k, k < N → ¬ P k) → cn_p P N = 0
  | 0, _ => rfl
  | N + 1, h => by
    show cn_p P N + b0_1 (P N) = 0
    rw [cn_z (N := N) (fun k hk => h k (by omega)), b0_f (h N (by omega))]
theorem cn_le (P : Nat → Prop) : ∀ N, cn_p P N ≤ N
  | 0 => Nat.le_refl _
  | N + 1 => by
    have h := cn_le P N
    show cn_p P N + b0_1 (P N) ≤ N + 1
    rcases Classical.em (P N) with p | p
    · rw [b0_t p]; omega
    · rw [b0_f p]; omega
theorem cn_all {P : Nat → Prop} : ∀ {N : Nat}, (∀ k, k < N → P k) → cn_p P N = N
  | 0, _ => rfl
  | N + 1, h => by
    show cn_p P N + b0_1 (P N) = N + 1
    rw [cn_all (N := N) (fun k hk => h k (by omega)), b0_t (h N (by omega))]
theorem cn_ex {P : Nat → Prop} : ∀ {N : Nat}, cn_p P N ≠ 0 → ∃ k, k < N ∧ P k
  | 0, h => absurd rfl h
  | N + 1, h => by
    rcases Classical.em (P N) with p | p
    · exact ⟨N, by omega, p⟩
    · have e : cn_p P (N + 1) = cn_p P N + b0_1 (P N) := rfl
      rw [b0_f p] at e
      obtain ⟨k, hk, q⟩ := cn_ex (P := P) (N := N) (by omega)
      exact ⟨k, by omega, q⟩
theorem cn_rem {Q : Nat → Prop} {a : Nat} (hq : Q a) : ∀ {M : Nat}, a < M → cn_p Q M = cn_p (fun y => Q y ∧ y ≠ a) M + 1
  | 0, h => by omega
  | M + 1, h => by
    show cn_p Q M + b0_1 (Q M) = cn_p (fun y => Q y ∧ y ≠ a) M + b0_1 (Q M ∧ M ≠ a) + 1
    rcases Nat.lt_or_ge a M with z | z
    · rw [cn_rem hq z, b0_c (P := Q M ∧ M ≠ a) (Q := Q M) ⟨fun x => x.1, fun x => ⟨x, by omega⟩⟩]
      omega
    · have e : a = M := by omega
      subst e
      rw [b0_t hq, b0_f (P := Q a ∧ a ≠ a) (fun x => x.2 rfl), cn_c (P := Q) (Q := fun y => Q y ∧ y ≠ a) (N := a) (fun k hk => ⟨fun x => ⟨x, by omega⟩, fun x => x.1⟩)]
theorem cn_pos {P : Nat → Prop} {N k : Nat} (hk : k < N) (h : P k) : 0 < cn_p P N := by
  rw [cn_rem h hk]; omega
theorem cn_none {P : Nat → Prop} {N : Nat} (h : cn_p P N = 0) {k : Nat} (hk : k < N) : ¬ P k := fun p => by
  have := cn_pos hk p
  omega
theorem cn_two {P : Nat → Prop} {N i j : Nat} (hi : i < N) (hj : j < N) (pi : P i) (pj : P j) (h : i ≠ j) : 2 ≤ cn_p P N := by
  rw [cn_rem pi hi]
  have := cn_pos (P := fun y => P y ∧ y ≠ i) hj ⟨pj, fun e => h e.symm⟩
  omega
theorem cn_uni {P : Nat → Prop} {N i j : Nat} (h1 : cn_p P N ≤ 1) (hi : i < N) (hj : j < N) (pi : P i) (pj : P j) : i = j := by
  rcases Classical.em (i = j) with e | e
  · exact e
  · have := cn_two hi hj pi pj e
    omega
theorem cn_one {P : Nat → Prop} {N a : Nat} (ha : a < N) (pa : P a) (h : ∀ k, k < N → P k → k = a) : cn_p P N = 1 := by
  rw [cn_rem pa ha, cn_z]
  intro k hk x
  exact x.2 (h k hk x.1)
/-- two counts that differ in one place -/
theorem cn_add {P Q : Nat → Prop} {N a : Nat} (ha : a < N) (hp : ¬ P a) (hq : Q a) (h : ∀ k, k < N → k ≠ a → (P k ↔ Q k)) : cn_p Q N = cn_p P N + 1 := by
  rw [cn_rem hq ha]
  refine congrArg (· + 1) (cn_c fun k hk => ?_)
  rcases Classical.em (k = a) with e | e
  · exact ⟨fun x => absurd e x.2, fun x => absurd (e ▸ x) hp⟩
  · exact ⟨fun x => (h k hk e).mpr x.1, fun x => ⟨(h k hk e).mp x, e⟩⟩
theorem cn_spl (P D : Nat → Prop) : ∀ N, cn_p P N = cn_p (fun k => P k ∧ D k) N + cn_p (fun k => P k ∧ ¬ D k) N
  | 0 => rfl
  | N + 1 => by
    show cn_p P N + b0_1 (P N) = (cn_p (fun k => P k ∧ D k) N + b0_1 (P N ∧ D N)) + (cn_p (fun k => P k ∧ ¬ D k) N + b0_1 (P N ∧ ¬ D N))
    rw [cn_spl P D N]
    rcases Classical.em (P N) with p | p
    · rcases Classical.em (D N) with d | d
      · rw [b0_t p, b0_t (P := P N ∧ D N) ⟨p, d⟩, b0_f (P := P N ∧ ¬ D N) (fun x => x.2 d)]; omega
      · rw [b0_t p, b0_f (P := P N ∧ D N) (fun x => d x.2), b0_t (P := P N ∧ ¬ D N) ⟨p, d⟩]; omega
    · rw [b0_f p, b0_f (P := P N ∧ D N) (fun x => p x.1), b0_f (P := P N ∧ ¬ D N) (fun x => p x.1)]; omega
theorem cn_mono {P Q : Nat → Prop} {N : Nat} (h : ∀ k, k < N → P k → Q k) : cn_p P N ≤ cn_p Q N := by
  rw [cn_spl Q P N, cn_c (P := P) (Q := fun k => Q k ∧ P k) (fun k hk => ⟨fun x => ⟨h k hk x, x⟩, fun x => x.2⟩)]
  omega
theorem cn_inj {P : Nat → Prop} {M : Nat} (g : Nat → Nat) : ∀ {N : Nat} {Q : Nat → Prop}, (∀ k, k < N → P k → g k < M ∧ Q (g k)) → (∀ i j, i < N → j < N → P i → P j → g i = g j → i = j) → cn_p P N ≤ cn_p Q M
  | 0, _, _, _ => Nat.zero_le _
  | N + 1, Q, h, inj => by
    show cn_p P N + b0_1 (P N) ≤ cn_p Q M
    rcases Classical.em (P N) with p | p
    · obtain ⟨h1, h2⟩ := h N (by omega) p
      have IH := cn_inj g (P := P) (M := M) (N := N) (Q := fun y => Q y ∧ y ≠ g N) (fun k hk pk => ⟨(h k (by omega) pk).1, (h k (by omega) pk).2, fun e => by
        have := inj k N (by omega) (by omega) pk p e
        omega⟩) (fun i j hi hj => inj i j (by omega) (by omega))
      rw [cn_rem h2 h1, b0_t p]
      omega
    · rw [b0_f p]
      exact cn_inj g (fun k hk => h k (by omega)) (fun i j hi hj => inj i j (by omega) (by omega))
/-- n different numbers below M -/
theorem cn_pig {A : Nat → Nat} {w M : Nat} (h : ∀ j, j < w → A j < M) (inj : ∀ i j, i < w → j < w → A i = A j → i = j) : w ≤ M := by
  have := cn_inj (P := fun _ => True) (Q := fun _ => True) (N := w) (M := M) A (fun k hk _ => ⟨h k hk, trivial⟩) (fun i j hi hj _ _ => inj i j hi hj)
  rw [cn_all (fun _ _ => trivial), cn_all (fun _ _ => trivial)] at this
  exact this
/-- sums -/
def sm_f (g : Nat → Nat) : Nat → Nat
  | 0 => 0
  | k + 1 => sm_f g k + g k
theorem sm_c {g h : Nat → Nat} : ∀ {N : Nat}, (∀ k, k < N → g k = h k) → sm_f g N = sm_f h N
  | 0, _ => rfl
  | N + 1, e => by
    show sm_f g N + g N = sm_f h N + h N
    rw [sm_c (N := N) (fun k hk => e k (by omega)), e N (by omega)]
theorem sm_a {g h l : Nat → Nat} : ∀ {N : Nat}, (∀ k, k < N → g k = h k + l k) → sm_f g N = sm_f h N + sm_f l N
  | 0, _ => rfl
  | N + 1, e => by
    show sm_f g N + g N = sm_f h N + h N + (sm_f l N + l N)
    rw [sm_a (N := N) (fun k hk => e k (by omega)), e N (by omega)]
    omega
theorem sm_z {g : Nat → Nat} : ∀ {N : Nat}, (∀ k, k < N → g k = 0) → sm_f g N = 0
  | 0, _ => rfl
  | N + 1, e => by
    show sm_f g N + g N = 0
    rw [sm_z (N := N) (fun k hk => e k (by omega)), e N (by omega)]
theorem sm_ge {g : Nat → Nat} {k : Nat} : ∀ {N : Nat}, k < N → g k ≤ sm_f g N
  | 0, h => by omega
  | N + 1, h => by
    show g k ≤ sm_f g N + g N
    rcases Nat.lt_or_ge k N with z | z
    · have := sm_ge (g := g) z; omega
    · have e : k = N := by omega
      subst e; omega
theorem cn_apx (P : Nat → Prop) (m : Nat) : ∀ k, cn_p P (m + k) = cn_p P m + cn_p (fun e => P (m + e)) k
  | 0 => rfl
  | k + 1 => by
    show cn_p P (m + k) + b0_1 (P (m + k)) = cn_p P m + (cn_p (fun e => P (m + e)) k + b0_1 (P (m + k)))
    rw [cn_apx P m k]; omega
theorem cn_blk (P : Nat → Prop) : ∀ N, cn_p P (4 * N) = sm_f (fun a => cn_p (fun e => P (4 * a + e)) 4) N
  | 0 => rfl
  | N + 1 => by
    show cn_p P (4 * N + 4) = sm_f (fun a => cn_p (fun e => P (4 * a + e)) 4) N + cn_p (fun e => P (4 * N + e)) 4
    rw [cn_apx P (4 * N) 4, cn_blk P N]
/-- A lists the numbers with P, each once -/
def en_m (P : Nat → Prop) (A : Nat → Nat) (w : Nat) : Prop := (∀ j, j < w → P (A j)) ∧ (∀ i j, i < w → j < w → A i = A j → i = j) ∧ (∀ a, P a → ∃ j, j < w ∧ A j = a)
theorem en_0 {P : Nat → Prop} {A : Nat → Nat} (h : ∀ a, ¬ P a) : en_m P A 0 :=
  ⟨fun j hj => absurd hj (by omega), fun i j hi => absurd hi (by omega), fun a p => absurd p (h a)⟩
theorem en_s {P : Nat → Prop} {A : Nat → Nat} {w : Nat} (E : en_m P A (w + 1)) : en_m (fun a => P a ∧ a ≠ A w) A w := by
  obtain ⟨h1, h2, h3⟩ := E
  refine ⟨fun j hj => ⟨h1 j (by omega), fun e => ?_⟩, fun i j hi hj => h2 i j (by omega) (by omega), fun a p => ?_⟩
  · have := h2 j w (by omega) (by omega) e
    omega
  · obtain ⟨j, hj, e⟩ := h3 a p.1
    rcases Nat.lt_or_ge j w with z | z
    · exact ⟨j, z, e⟩
    · have : j = w := by omega
      subst this
      exact absurd e.symm p.2
theorem en_cn {A : Nat → Nat} {N : Nat} : ∀ {w : Nat} {P : Nat → Prop}, en_m P A w → (∀ a, P a → a < N) → w = cn_p P N
  | 0, P, E, _ => by
    rw [cn_z]
    intro k _ p
    obtain ⟨j, hj, _⟩ := E.2.2 k p
    omega
  | w + 1, P, E, hb => by
    have p := E.1 w (by omega)
    rw [cn_rem p (hb _ p), ← en_cn (en_s E) (fun a x => hb a x.1)]
theorem sm_rem {P : Nat → Prop} (g : Nat → Nat) {x : Nat} (p : P x) : ∀ {N : Nat}, x < N → sm_f (fun a => b0_1 (P a) * g a) N = sm_f (fun a => b0_1 (P a ∧ a ≠ x) * g a) N + g x
  | 0, h => by omega
  | N + 1, h => by
    show sm_f (fun a => b0_1 (P a) * g a) N + b0_1 (P N) * g N = sm_f (fun a => b0_1 (P a ∧ a ≠ x) * g a) N + b0_1 (P N ∧ N ≠ x) * g N + g x
    rcases Nat.lt_or_ge x N with z | z
    · rw [sm_rem g p z, b0_c (P := P N ∧ N ≠ x) (Q := P N) ⟨fun y => y.1, fun y => ⟨y, by omega⟩⟩]
      omega
    · have e : x = N := by omega
      subst e
      rw [b0_t p, b0_f (P := P x ∧ x ≠ x) (fun y => y.2 rfl)]
      rw [sm_c (g := fun a => b0_1 (P a) * g a) (h := fun a => b0_1 (P a ∧ a ≠ x) * g a) (N := x) (fun k hk => by
        show b0_1 (P k) * g k = b0_1 (P k ∧ k ≠ x) * g k
        rw [b0_c (P := P k ∧ k ≠ x) (Q := P k) ⟨fun y => y.1, fun y => ⟨y, by omega⟩⟩])]
      omega
theorem en_sm {A : Nat → Nat} {N : Nat} (g : Nat → Nat) : ∀ {w : Nat} {P : Nat → Prop}, en_m P A w → (∀ a, P a → a < N) → sm_f (fun j => g (A j)) w = sm_f (fun a => b0_1 (P a) * g a) N
  | 0, P, E, _ => by
    rw [sm_z (N := N)]
    · rfl
    · intro k _
      rw [b0_f (fun p => by
        obtain ⟨j, hj, _⟩ := E.2.2 k p
        omega), Nat.zero_mul]
  | w + 1, P, E, hb => by
    have p := E.1 w (by omega)
    show sm_f (fun j => g (A j)) w + g (A w) = _
    rw [sm_rem g p (hb _ p), ← en_sm g (en_s E) (fun a x => hb a x.1)]
end
section
/-- the slot of X that stands for box b of Y; f: array of Y -> node of X -/
def sg_f (f : Nat → Nat) (b : Nat) : Nat := if b < 8 then b else if b < 20 then b + 128 else if b < 148 then 8 + 4 * f (b / 4) + b % 4 else b
theorem sg_a {f : Nat → Nat} {b : Nat} (h : b < 8) : sg_f f b = b := by unfold sg_f; rw [if_pos h]
theorem sg_b {f : Nat → Nat} {b : Nat} (h : 8 ≤ b) (h2 : b < 20) : sg_f f b = b + 128 := by unfold sg_f; rw [if_neg (by omega), if_pos h2]
theorem sg_e {f : Nat → Nat} {b : Nat} (h : 20 ≤ b) (h2 : b < 148) : sg_f f b = 8 + 4 * f (b / 4) + b % 4 := by unfold sg_f; rw [if_neg (by omega), if_neg (by omega), if_pos h2]
theorem sg_c {f : Nat → Nat} {b : Nat} (h : 148 ≤ b) : sg_f f b = b := by unfold sg_f; rw [if_neg (by omega), if_neg (by omega), if_neg (by omega)]
/-- box b is an element of an array -/
def el_b (b : Nat) : Prop := 20 ≤ b ∧ b < 148
/-- array a is in some box -/
def al_v (t n : Nat → Nat) (a : Nat) : Prop := ∃ b, b < 216 ∧ t b = 2 ∧ n b = 4 * a
/-- box b is in use: a root, or an element of a live array -/
def ib_v (t n : Nat → Nat) (b : Nat) : Prop := b < 216 ∧ (el_b b → al_v t n (b / 4))
/-- what X holds for box b -/
def xv_f (f t n : Nat → Nat) (b : Nat) : Nat := if t b = 2 then f (n b / 4) else if t b = 3 then n b - 148 else n b
/-- Y is well formed -/
def yw_f (w : Nat) (t n : Nat → Nat) : Prop :=
  (∀ b, b < 216 → t b ≤ 3) ∧
  (∀ b, b < 216 → t b = 2 → ∃ a, 5 ≤ a ∧ a < 37 ∧ n b = 4 * a) ∧
  (∀ b, b < 216 → t b = 3 → (∃ c, c < 68 ∧ n b = 148 + c) ∧ b < 148 ∧ ¬ (8 ≤ b ∧ b < 20)) ∧
  (∀ b b', b < 216 → b' < 216 → t b = 2 → t b' = 2 → n b = n b' → b = b') ∧
  (∀ b, el_b b → t b ≠ 0 → b % 4 < w ∧ al_v t n (b / 4))
/-- X stands for Y by f -/
def xr_f (f t n tx q : Nat → Nat) : Prop :=
  (∀ b, ib_v t n b → tx (sg_f f b) = t b ∧ (t b ≠ 0 → q (sg_f f b) = xv_f f t n b)) ∧
  (∀ a, al_v t n a → f a < 32) ∧
  (∀ s, s < 216 → tx s ≠ 0 → ∃ b, b < 216 ∧ t b ≠ 0 ∧ sg_f f b = s)
/-- ranks fall from an array to its elements -/
def rk_f (f t n r : Nat → Nat) : Prop := ∀ b, el_b b → t b = 2 → r (f (n b / 4)) < r (f (b / 4))
/-- no holder under a cell -/
def kk_f (K : Nat → Prop) (t n : Nat → Nat) : Prop :=
  (∀ c, c < 68 → t (148 + c) = 2 → K (n (148 + c) / 4)) ∧ (∀ b, el_b b → K (b / 4) → t b = 2 → K (n b / 4)) ∧ (∀ b, el_b b → K (b / 4) → t b ≠ 3)
/-- counts of references and the list of free nodes -/
def rf_f (tx q rf : Nat → Nat) : Prop := ∀ m, m < 32 → rf m = cn_p (fun s => tx s = 2 ∧ q s = m) 216
def fr_f (rf fn : Nat → Nat) (ft : Nat) : Prop :=
  ft ≤ 32 ∧ (∀ i, i < ft → fn i < 32 ∧ rf (fn i) = 0) ∧ (∀ i j, i < ft → j < ft → fn i = fn j → i = j) ∧ (∀ m, m < 32 → rf m = 0 → ∃ i, i < ft ∧ fn i = m)
noncomputable def hc_f (t n : Nat → Nat) (c : Nat) : Nat := cn_p (fun b => t b = 3 ∧ n b = 148 + c) 216
noncomputable def li_f (t n : Nat → Nat) : Nat := cn_p (al_v t n) 37
/-- the core of the relation -/
def r0_f (w : Nat) (f r t n tx q rf fn ho : Nat → Nat) (ft li : Nat) : Prop :=
  yw_f w t n ∧ xr_f f t n tx q ∧ rk_f f t n r ∧ (∃ K, kk_f K t n) ∧ rf_f tx q rf ∧ fr_f rf fn ft ∧ (∀ c, c < 68 → ho c = hc_f t n c) ∧ li = li_f t n
/-- the cells: their number; each holder's cell has a value -/
def ce_f (t n : Nat → Nat) (ce : Nat) : Prop := ce = cn_p (fun c => t (148 + c) ≠ 0) 68 ∧ (∀ b, b < 148 → t b = 3 → t (n b) ≠ 0)
/-- only box b stands at its slot -/
def sn_f (f t n : Nat → Nat) (b : Nat) : Prop := ∀ b', ib_v t n b' → sg_f f b' = sg_f f b → b' = b
/-- array a lies under box b -/
def sb_f (t n : Nat → Nat) (b a : Nat) : Prop := ∀ S : Nat → Prop, (t b = 2 → ∀ a', n b = 4 * a' → S a') → (∀ b' a', el_b b' → S (b' / 4) → t b' = 2 → n b' = 4 * a' → S a') → S a
theorem sb_0 {t n : Nat → Nat} {b a : Nat} (h : t b = 2) (e : n b = 4 * a) : sb_f t n b a := fun _ h0 _ => h0 h a e
theorem sb_s {t n : Nat → Nat} {b b' a : Nat} (he : el_b b') (h : sb_f t n b (b' / 4)) (h2 : t b' = 2) (e : n b' = 4 * a) : sb_f t n b a := fun S h0 hs => hs b' a he (h S h0 hs) h2 e
theorem sb_i {t n : Nat → Nat} {b a : Nat} (h : sb_f t n b a) : (t b = 2 ∧ n b = 4 * a) ∨ ∃ b', el_b b' ∧ sb_f t n b (b' / 4) ∧ t b' = 2 ∧ n b' = 4 * a := by
  refine (h (fun a => sb_f t n b a ∧ ((t b = 2 ∧ n b = 4 * a) ∨ ∃ b', el_b b' ∧ sb_f t n b (b' / 4) ∧ t b' = 2 ∧ n b' = 4 * a)) ?_ ?_).2
  · exact fun h2 a' e => ⟨sb_0 h2 e, Or.inl ⟨h2, e⟩⟩
  · exact fun b' a' he hs h2 e => ⟨sb_s he hs.1 h2 e, Or.inr ⟨b', he, hs.1, h2, e⟩⟩
theorem sb_n {t n : Nat → Nat} {b a : Nat} (h : t b ≠ 2) : ¬ sb_f t n b a := fun s => s (fun _ => False) (fun h2 => absurd h2 h) (fun _ _ _ x _ _ => x)
theorem el_lt {b : Nat} (h : el_b b) : b < 216 := by unfold el_b at h; omega
theorem sb_al {t n : Nat → Nat} {b a : Nat} (hb : b < 216) (h : sb_f t n b a) : al_v t n a := by
  rcases sb_i h with ⟨h2, e⟩ | ⟨b', he, _, h2, e⟩
  · exact ⟨b, hb, h2, e⟩
  · exact ⟨b', el_lt he, h2, e⟩
noncomputable def wt_f (t n : Nat → Nat) (b : Nat) : Nat := cn_p (sb_f t n b) 37
theorem al_r {w : Nat} {t n : Nat → Nat} (Y : yw_f w t n) {a : Nat} (h : al_v t n a) : 5 ≤ a ∧ a < 37 := by
  obtain ⟨b, hb, h2, e⟩ := h
  obtain ⟨a', h5, h37, e'⟩ := Y.2.1 b hb h2
  omega
/-- one pointer to an array -/
theorem al_u {w : Nat} {t n : Nat → Nat} (Y : yw_f w t n) {a b b' : Nat} (hb : b < 216) (hb' : b' < 216) (h : t b = 2) (h' : t b' = 2) (e : n b = 4 * a) (e' : n b' = 4 * a) : b = b' :=
  Y.2.2.2.1 b b' hb hb' h h' (e.trans e'.symm)
/-- the number of boxes with an array is the number of arrays -/
theorem li_b {w : Nat} {t n : Nat → Nat} (Y : yw_f w t n) : cn_p (fun b => t b = 2) 216 = li_f t n := by
  apply Nat.le_antisymm
  · refine cn_inj (fun b => n b / 4) ?_ ?_
    · intro b hb h2
      obtain ⟨a, h5, h37, e⟩ := Y.2.1 b hb h2
      have e2 : n b / 4 = a := by omega
      show n b / 4 < 37 ∧ al_v t n (n b / 4)
      rw [e2]
      exact ⟨h37, b, hb, h2, e⟩
    · intro i j hi hj h2 h2' e
      obtain ⟨a, h5, h37, e1⟩ := Y.2.1 i hi h2
      obtain ⟨a', _, _, e1'⟩ := Y.2.1 j hj h2'
      exact Y.2.2.2.1 i j hi hj h2 h2' (by have e : n i / 4 = n j / 4 := e; omega)
  · have ch : ∀ a, ∃ b, al_v t n a → b < 216 ∧ t b = 2 ∧ n b = 4 * a := fun a => by
      rcases Classical.em (al_v t n a) with h | h
      · obtain ⟨b, hb⟩ := h
        exact ⟨b, fun _ => hb⟩
      · exact ⟨0, fun x => absurd x h⟩
    refine cn_inj (fun a => (ch a).choose) (fun a _ ha => ⟨((ch a).choose_spec ha).1, ((ch a).choose_spec ha).2.1⟩) ?_
    intro i j _ _ hi hj e
    have a1 := ((ch i).choose_spec hi).2.2
    have a2 := ((ch j).choose_spec hj).2.2
    have e : (ch i).choose = (ch j).choose := e
    rw [e] at a1
    omega
theorem ib_r {t n : Nat → Nat} {b : Nat} (hb : b < 216) (h : ¬ el_b b) : ib_v t n b := ⟨hb, fun e => absurd e h⟩
theorem ib_t {w : Nat} {t n : Nat → Nat} (Y : yw_f w t n) {b : Nat} (hb : b < 216) (h : t b ≠ 0) : ib_v t n b := ⟨hb, fun e => (Y.2.2.2.2 b e h).2⟩
theorem sg_lt {f t n tx q : Nat → Nat} (X : xr_f f t n tx q) {b : Nat} (h : ib_v t n b) : sg_f f b < 216 := by
  have hb := h.1
  rcases Classical.em (el_b b) with e | e
  · have := X.2.1 _ (h.2 e)
    rw [sg_e e.1 e.2]
    omega
  · unfold el_b at e
    unfold sg_f
    split
    · omega
    · split
      · omega
      · split <;> omega
/-- roots stand alone -/
theorem sn_r {f t n tx q : Nat → Nat} (X : xr_f f t n tx q) {b : Nat} (hb : b < 216) (h : ¬ el_b b) : sn_f f t n b := by
  intro b' hb' e
  have h1 := hb'.1
  rcases Classical.em (el_b b') with e' | e'
  · have hf := X.2.1 _ (hb'.2 e')
    rw [sg_e e'.1 e'.2] at e
    unfold el_b at h e'
    unfold sg_f at e
    split at e
    · omega
    · split at e
      · omega
      · split at e <;> omega
  · unfold el_b at h e'
    unfold sg_f at e
    split at e <;> split at e <;> (try split at e) <;> (try split at e) <;> (try split at e) <;> (try split at e) <;> omega
/-- an array whose node is its own: its elements stand alone -/
theorem sn_e {f t n : Nat → Nat} {b : Nat} (he : el_b b) (hf : ∀ a, al_v t n a → f a < 32) (hl : al_v t n (b / 4)) (h : ∀ a, al_v t n a → f a = f (b / 4) → a = b / 4) : sn_f f t n b := by
  intro b' hb' e
  have h1 := hb'.1
  have h2 := hf _ hl
  rw [sg_e he.1 he.2] at e
  rcases Classical.em (el_b b') with e' | e'
  · have h3 := hf _ (hb'.2 e')
    rw [sg_e e'.1 e'.2] at e
    have := h (b' / 4) (hb'.2 e') (by omega)
    unfold el_b at he e'
    omega
  · unfold el_b at he e'
    unfold sg_f at e
    split at e
    · omega
    · split at e
      · omega
      · split at e <;> omega
/-- arrays under b have a smaller rank than b's own array -/
theorem sb_rk {f t n r : Nat → Nat} (R : rk_f f t n r) {b a : Nat} (he : el_b b) (h : sb_f t n b a) : r (f a) < r (f (b / 4)) := by
  refine h (fun a => r (f a) < r (f (b / 4))) ?_ ?_
  · intro h2 a' e
    have := R b he h2
    rw [e, Nat.mul_div_cancel_left _ (by decide)] at this
    exact this
  · intro b' a' he' hs h2 e
    have := R b' he' h2
    rw [e, Nat.mul_div_cancel_left _ (by decide)] at this
    exact Nat.lt_trans this hs
/-- b isn't below itself -/
theorem sb_ne {f t n r : Nat → Nat} (R : rk_f f t n r) {b : Nat} (he : el_b b) : ¬ sb_f t n b (b / 4) := fun h => Nat.lt_irrefl _ (sb_rk R he h)
/-- the least K -/
theorem kk_m {K : Nat → Prop} {t n : Nat → Nat} (Y2 : ∀ b, b < 216 → t b = 2 → ∃ a, 5 ≤ a ∧ a < 37 ∧ n b = 4 * a) (h : kk_f K t n) : kk_f (fun a => ∃ c, c < 68 ∧ sb_f t n (148 + c) a) t n := by
  have sub : ∀ c a, c < 68 → sb_f t n (148 + c) a → K a := by
    intro c a hc s
    refine s K ?_ ?_
    · intro h2 a' e
      have := h.1 c hc h2
      rw [e, Nat.mul_div_cancel_left _ (by decide)] at this
      exact this
    · intro b' a' he hs h2 e
      have := h.2.1 b' he hs h2
      rw [e, Nat.mul_div_cancel_left _ (by decide)] at this
      exact this
  refine ⟨fun c hc h2 => ?_, fun b he hk h2 => ?_, fun b he hk => ?_⟩
  · obtain ⟨a, _, _, e⟩ := Y2 (148 + c) (by omega) h2
    exact ⟨c, hc, by rw [e, Nat.mul_div_cancel_left _ (by decide)]; exact sb_0 h2 e⟩
  · obtain ⟨c, hc, s⟩ := hk
    obtain ⟨a, _, _, e⟩ := Y2 b (el_lt he) h2
    exact ⟨c, hc, by rw [e, Nat.mul_div_cancel_left _ (by decide)]; exact sb_s he s h2 e⟩
  · obtain ⟨c, hc, s⟩ := hk
    exact h.2.2 b he (sub c _ hc s)
/-- no holder under a cell -/
theorem kk_n {t n : Nat → Nat} (Y2 : ∀ b, b < 216 → t b = 2 → ∃ a, 5 ≤ a ∧ a < 37 ∧ n b = 4 * a) (h : ∃ K, kk_f K t n) {c b : Nat} (hc : c < 68) (he : el_b b) (s : sb_f t n (148 + c) (b / 4)) : t b ≠ 3 := by
  obtain ⟨K, h⟩ := h
  exact (kk_m Y2 h).2.2 b he ⟨c, hc, s⟩
end
section
abbrev mk_X (K : Nat → Int32) (G : Nat → Nat) (ft ce li de lo : Nat) (tx q rf fn ho po wk : Nat → Nat) : SX :=
  (K 0, K 1, K 2, K 3, K 4, K 5, K 6, K 7, nI (G 0), nI (G 1), nI (G 2), nI (G 3), nI ft, nI ce, nI li, nI de, nI lo, jm_a tx, jm_a q, jm_a rf, jm_a fn, jm_a ho, jm_a po, jm_a wk)
abbrev mk_Y (G : Nat → Nat) (sp lp ls he : Nat) (t n l cp yp : Nat → Nat) : SY :=
  (nI (G 0), nI (G 1), nI (G 2), nI (G 3), nI sp, nI lp, nI ls, nI he, jm_a t, jm_a n, jm_a l, jm_a cp, jm_a yp)
/-- the search of the arrays under b0: A lists w of them, those below h have been looked through, of the h-th the elements below e -/
def ci_f (t n : Nat → Nat) (b0 h e w : Nat) (A : Nat → Nat) : Prop :=
  (0 < w ∧ t b0 = 2 ∧ n b0 = 4 * A 0) ∧ (∀ j, j < w → sb_f t n b0 (A j)) ∧ (∀ i j, i < w → j < w → A i = A j → i = j) ∧
  (∀ j, j < w → j ≠ 0 → ∃ b, el_b b ∧ t b = 2 ∧ n b = 4 * A j ∧ ((∃ i, i < h ∧ A i = b / 4) ∨ (A h = b / 4 ∧ b % 4 < e))) ∧
  (∀ b, el_b b → ((∃ i, i < h ∧ A i = b / 4) ∨ (A h = b / 4 ∧ b % 4 < e)) → t b = 2 → ∃ j, j < w ∧ n b = 4 * A j)
theorem ci_0 {t n : Nat → Nat} {b0 : Nat} (A : Nat → Nat) (h2 : t b0 = 2) (e : n b0 = 4 * A 0) : ci_f t n b0 0 0 1 A := by
  refine ⟨⟨by omega, h2, e⟩, fun j hj => ?_, fun i j hi hj _ => by omega, fun j hj h0 => absurd h0 (by omega), fun b _ hv _ => ?_⟩
  · have : j = 0 := by omega
    subst this
    exact sb_0 h2 e
  · rcases hv with ⟨i, hi, _⟩ | ⟨_, h⟩ <;> omega
theorem ci_rg {w0 : Nat} {t n : Nat → Nat} (Y : yw_f w0 t n) {b0 h e w : Nat} {A : Nat → Nat} (hb : b0 < 216) (I : ci_f t n b0 h e w A) {j : Nat} (hj : j < w) : 5 ≤ A j ∧ A j < 37 :=
  al_r Y (sb_al hb (I.2.1 j hj))
theorem ci_le {w0 : Nat} {t n : Nat → Nat} (Y : yw_f w0 t n) {b0 h e w : Nat} {A : Nat → Nat} (hb : b0 < 216) (I : ci_f t n b0 h e w A) : w ≤ 32 := by
  refine cn_pig (A := fun j => A j - 5) (fun j hj => ?_) (fun i j hi hj e => ?_)
  · have := ci_rg Y hb I hj
    show A j - 5 < 32
    omega
  · have h1 := ci_rg Y hb I hi
    have h2 := ci_rg Y hb I hj
    have e : A i - 5 = A j - 5 := e
    exact I.2.2.1 i j hi hj (by omega)
theorem ci_add {w0 : Nat} {f r t n : Nat → Nat} (Y : yw_f w0 t n) (R : rk_f f t n r) {b0 h e w a : Nat} {A : Nat → Nat} (hb : b0 < 216) (I : ci_f t n b0 h e w A) (hw : h < w) (he : e < 4) (h2 : t (4 * A h + e) = 2) (ea : n (4 * A h + e) = 4 * a) : ci_f t n b0 h (e + 1) (w + 1) (nu_a A w a) := by
  have rg := ci_rg Y hb I hw
  have I0 := I
  obtain ⟨⟨i1, i2, i3⟩, i4, i5, i6, i7⟩ := I
  have hd : (4 * A h + e) / 4 = A h := by omega
  have hm : (4 * A h + e) % 4 = e := by omega
  have hE : el_b (4 * A h + e) := ⟨by omega, by omega⟩
  have same : ∀ j, j < w → nu_a A w a j = A j := fun j hj => nu_n (by omega)
  have fresh : ∀ j, j < w → A j ≠ a := by
    intro j hj ej
    rcases Classical.em (j = 0) with z | z
    · subst z
      have := al_u Y hb (el_lt hE) i2 h2 (i3.trans (by rw [ej])) ea
      have s := i4 h hw
      rw [← hd, ← this] at s
      exact sb_ne R (this ▸ hE) s
    · obtain ⟨b, hE', h2', e', v⟩ := i6 j hj z
      have := al_u Y (el_lt hE') (el_lt hE) h2' h2 (e'.trans (by rw [ej])) ea
      subst this
      rcases v with ⟨i, hi, e1⟩ | ⟨_, v⟩
      · have := i5 i h (by omega) hw (by omega)
        omega
      · omega
  refine ⟨⟨by omega, i2, by rw [same 0 i1]; exact i3⟩, fun j hj => ?_, fun i j hi hj eij => ?_, fun j hj h0 => ?_, fun b hE' v h2' => ?_⟩
  · rcases Nat.lt_or_ge j w with z | z
    · rw [same j z]; exact i4 j z
    · have : j = w := by omega
      subst this
      rw [nu_s]
      exact sb_s hE (by rw [hd]; exact i4 h hw) h2 ea
  · rcases Nat.lt_or_ge i w with z | z
    · rcases Nat.lt_or_ge j w with z' | z'
      · rw [same i z, same j z'] at eij
        exact i5 i j z z' eij
      · have : j = w := by omega
        subst this
        rw [same i z, nu_s] at eij
        exact absurd eij (fresh i z)
    · have : i = w := by omega
      subst this
      rcases Nat.lt_or_ge j i with z' | z'
      · rw [same j z', nu_s] at eij
        exact absurd eij.symm (fresh j z')
      · omega
  · rcases Nat.lt_or_ge j w with z | z
    · obtain ⟨b, q1, q2, q3, v⟩ := i6 j z h0
      refine ⟨b, q1, q2, by rw [same j z]; exact q3, ?_⟩
      rcases v with ⟨i, hi, e1⟩ | ⟨e1, v⟩
      · exact Or.inl ⟨i, hi, by rw [same i (by omega)]; exact e1⟩
      · exact Or.inr ⟨by rw [same h hw]; exact e1, by omega⟩
    · have : j = w := by omega
      subst this
      exact ⟨_, hE, h2, by rw [nu_s]; exact ea, Or.inr ⟨by rw [same h hw]; exact hd.symm, by omega⟩⟩
  · rcases v with ⟨i, hi, e1⟩ | ⟨e1, v⟩
    · rw [same i (by omega)] at e1
      obtain ⟨j, hj, ej⟩ := i7 b hE' (Or.inl ⟨i, hi, e1⟩) h2'
      exact ⟨j, by omega, by rw [same j hj]; exact ej⟩
    · rw [same h hw] at e1
      rcases Nat.lt_or_ge (b % 4) e with z | z
      · obtain ⟨j, hj, ej⟩ := i7 b hE' (Or.inr ⟨e1, z⟩) h2'
        exact ⟨j, by omega, by rw [same j hj]; exact ej⟩
      · have : b = 4 * A h + e := by omega
        subst this
        exact ⟨w, by omega, by rw [nu_s]; exact ea⟩
theorem ci_skip {t n : Nat → Nat} {b0 h e w : Nat} {A : Nat → Nat} (I : ci_f t n b0 h e w A) (h2 : t (4 * A h + e) ≠ 2) : ci_f t n b0 h (e + 1) w A := by
  obtain ⟨i1, i4, i5, i6, i7⟩ := I
  refine ⟨i1, i4, i5, fun j hj h0 => ?_, fun b hE v h2' => ?_⟩
  · obtain ⟨b, q1, q2, q3, v⟩ := i6 j hj h0
    refine ⟨b, q1, q2, q3, ?_⟩
    rcases v with v | ⟨e1, v⟩
    · exact Or.inl v
    · exact Or.inr ⟨e1, by omega⟩
  · rcases v with v | ⟨e1, v⟩
    · exact i7 b hE (Or.inl v) h2'
    · rcases Nat.lt_or_ge (b % 4) e with z | z
      · exact i7 b hE (Or.inr ⟨e1, z⟩) h2'
      · have : b = 4 * A h + e := by omega
        subst this
        exact absurd h2' h2
theorem ci_next {t n : Nat → Nat} {b0 h e w : Nat} {A : Nat → Nat} (I : ci_f t n b0 h e w A) (hz : ∀ e', e ≤ e' → e' < 4 → t (4 * A h + e') ≠ 2) : ci_f t n b0 (h + 1) 0 w A := by
  obtain ⟨i1, i4, i5, i6, i7⟩ := I
  refine ⟨i1, i4, i5, fun j hj h0 => ?_, fun b hE v h2' => ?_⟩
  · obtain ⟨b, q1, q2, q3, v⟩ := i6 j hj h0
    refine ⟨b, q1, q2, q3, Or.inl ?_⟩
    rcases v with ⟨i, hi, e1⟩ | ⟨e1, v⟩
    · exact ⟨i, by omega, e1⟩
    · exact ⟨h, by omega, e1⟩
  · rcases v with ⟨i, hi, e1⟩ | ⟨e1, v⟩
    · rcases Nat.lt_or_ge i h with z | z
      · exact i7 b hE (Or.inl ⟨i, z, e1⟩) h2'
      · have : i = h := by omega
        subst this
        rcases Nat.lt_or_ge (b % 4) e with z' | z'
        · exact i7 b hE (Or.inr ⟨e1, z'⟩) h2'
        · have := hz (b % 4) z' (by omega)
          rw [e1, show 4 * (b / 4) + b % 4 = b by omega] at this
          exact absurd h2' this
    · omega
theorem ci_end {t n : Nat → Nat} {b0 h w : Nat} {A : Nat → Nat} (I : ci_f t n b0 h 0 w A) (hw : w ≤ h) : en_m (sb_f t n b0) A w := by
  obtain ⟨⟨i1, i2, i3⟩, i4, i5, i6, i7⟩ := I
  refine ⟨i4, i5, fun a s => ?_⟩
  refine s (fun a => ∃ j, j < w ∧ A j = a) ?_ ?_
  · exact fun _ a' e => ⟨0, i1, by omega⟩
  · rintro b' a' hE ⟨j, hj, ej⟩ h2 e
    obtain ⟨j', hj', e'⟩ := i7 b' hE (Or.inl ⟨j, by omega, ej⟩) h2
    exact ⟨j', hj', by omega⟩
section
variable {K : Nat → Int32} {G : Nat → Nat} {ft ce li de lo : Nat} {tx q rf fn ho po : Nat → Nat} {f r t n : Nat → Nat}
/-- an element's slot -/
theorem xe_s (Y : yw_f (G 1) t n) (X : xr_f f t n tx q) {a e : Nat} (hl : al_v t n a) (he : e < 4) : 8 + 4 * f a + e < 216 ∧ tx (8 + 4 * f a + e) = t (4 * a + e) ∧ (t (4 * a + e) ≠ 0 → q (8 + 4 * f a + e) = xv_f f t n (4 * a + e)) := by
  have ra := al_r Y hl
  have hE : el_b (4 * a + e) := ⟨by omega, by omega⟩
  have hd : (4 * a + e) / 4 = a := by omega
  have hm : (4 * a + e) % 4 = e := by omega
  have hf := X.2.1 a hl
  have h := X.1 (4 * a + e) ⟨by omega, fun _ => by rw [hd]; exact hl⟩
  rw [sg_e hE.1 hE.2, hd, hm] at h
  exact ⟨by omega, h⟩
theorem xw_col55 (Y : yw_f (G 1) t n) (X : xr_f f t n tx q) (R : rk_f f t n r) (hG : G 1 ≤ 4) {b0 h ah : Nat} (hb : b0 < 216) {post : Int32 → SX → Prop} {J : Int32 → Int32 → (Nat → Int32) → (Nat → Int32) → (Nat → Int32) → (Nat → Int32) → (Nat → Int32) → (Nat → Int32) → (Nat → Int32) → Prop}
    (HJ : ∀ w A wk, ci_f t n b0 h (G 1) w A → h < w → A h = ah → (∀ j, j < w → wk j = f (A j)) → J (nI w) (nI (h + 1)) (jm_a tx) (jm_a q) (jm_a rf) (jm_a fn) (jm_a ho) (jm_a po) (jm_a wk)) :
    ∀ m e w A wk, G 1 - e < m → e ≤ G 1 → ci_f t n b0 h e w A → h < w → A h = ah → (∀ j, j < w → wk j = f (A j)) → wX_collect_55 post J (nI h) (nI (8 + 4 * f ah)) (K 0) (K 1) (K 2) (K 3) (K 4) (K 5) (K 6) (K 7) (nI (G 0)) (nI (G 1)) (nI (G 2)) (nI (G 3)) (nI ft) (nI ce) (nI li) (nI de) (nI lo) m (nI w) (nI e) (jm_a tx) (jm_a q) (jm_a rf) (jm_a fn) (jm_a ho) (jm_a po) (jm_a wk) := by
  intro m
  induction m with
  | zero => intro e w A wk hm; omega
  | succ m ih =>
    intro e w A wk hm heG I hw ha hwk
    have lw := ci_le Y hb I
    refine pk_le (G 1) e (fun hx => nm_r (ja_p1 h) (HJ w A wk (by rw [show G 1 = e by omega]; exact I) hw ha hwk)) (fun hx => ?_)
    obtain ⟨s1, s2, s3⟩ := xe_s Y X (e := e) (sb_al hb (I.2.1 h hw)) (by omega)
    rw [ha] at s1 s2 s3
    have ht := Y.1 (4 * ah + e) (by have := ci_rg Y hb I hw; omega)
    refine jr_eq (8 + 4 * f ah + e) 2 s1 (by omega) (fun h2 => ?_) (fun h2 => ?_) (nI_add _ _)
    · rw [s2] at h2
      obtain ⟨a, a5, a37, ea⟩ := Y.2.1 (4 * ah + e) (by have := ci_rg Y hb I hw; omega) h2
      have I' := ci_add Y R hb I hw (by omega) (by rw [ha]; exact h2) (by rw [ha]; exact ea)
      have lw' := ci_le Y hb I'
      have hq := s3 (by omega)
      unfold xv_f at hq
      rw [if_pos h2, ea, Nat.mul_div_cancel_left _ (by decide)] at hq
      refine pk_le 32 w (fun z => absurd z (by omega)) (fun _ => ⟨pk_in (8 + 4 * f ah + e) 216 s1 (nI_add _ _), jw_u w (f a) (by omega) (nm_r (ja_p1 w) (nm_r (ja_p1 e) ?_)) rfl ?_⟩)
      · refine ih (e + 1) (w + 1) (nu_a A w a) _ (by omega) (by omega) I' (by omega) (by rw [nu_n (by omega)]; exact ha) (fun j hj => ?_)
        rcases Nat.lt_or_ge j w with z | z
        · rw [nu_n (by omega), nu_n (by omega)]; exact hwk j z
        · have : j = w := by omega
          subst this
          rw [nu_s, nu_s]
      · rw [jm_i (8 + 4 * f ah + e) (nI_add _ _), hq]
    · rw [s2] at h2
      exact nm_r (ja_p1 e) (ih (e + 1) w A wk (by omega) (by omega) (ci_skip I (by rw [ha]; exact h2)) hw ha hwk)
/-- elements from the width on are empty -/
theorem xe_w (Y : yw_f (G 1) t n) {a e : Nat} (ha : 5 ≤ a) (ha2 : a < 37) (h : G 1 ≤ e) (he : e < 4) : t (4 * a + e) = 0 := by
  rcases Classical.em (t (4 * a + e) = 0) with z | z
  · exact z
  · have := (Y.2.2.2.2 (4 * a + e) ⟨by omega, by omega⟩ z).1
    omega
theorem xw_col28 (Y : yw_f (G 1) t n) (X : xr_f f t n tx q) (R : rk_f f t n r) (hG : G 1 ≤ 4) {b0 : Nat} (hb : b0 < 216) {post : Int32 → SX → Prop}
    (H : ∀ w A wk, en_m (sb_f t n b0) A w → w ≤ 32 → (∀ j, j < w → wk j = f (A j)) → post (nI w) (mk_X K G ft ce li de lo tx q rf fn ho po wk)) :
    ∀ m h w A wk, 33 - h < m → h ≤ w → ci_f t n b0 h 0 w A → (∀ j, j < w → wk j = f (A j)) → wX_collect_28 post (K 0) (K 1) (K 2) (K 3) (K 4) (K 5) (K 6) (K 7) (nI (G 0)) (nI (G 1)) (nI (G 2)) (nI (G 3)) (nI ft) (nI ce) (nI li) (nI de) (nI lo) m (nI w) (nI h) (jm_a tx) (jm_a q) (jm_a rf) (jm_a fn) (jm_a ho) (jm_a po) (jm_a wk) := by
  intro m
  induction m with
  | zero => intro h w A wk hm; omega
  | succ m ih =>
    intro h w A wk hm hw I hwk
    have lw := ci_le Y hb I
    refine pk_le w h (fun hx => H w A wk (ci_end I hx) lw hwk) (fun hx => ?_)
    refine pk_le 32 h (fun z => absurd z (by omega)) (fun _ => ⟨pk_in h 32 (by omega) rfl, nm_r (e' := nI (8 + 4 * f (A h))) ?_ ⟨G 1 + 1, ?_⟩⟩)
    · rw [jm_c (by omega), hwk h hx]
      exact ja_ma 8 4 _
    · refine xw_col55 Y X R hG hb (ah := A h) (fun w' A' wk' I' hw' ha' hwk' => ?_) (G 1 + 1) 0 w A wk (by omega) (by omega) I hx rfl hwk
      have rg := ci_rg Y hb I' hw'
      exact ih (h + 1) w' A' wk' (by omega) hw' (ci_next I' (fun e' h1 h2 => by rw [xe_w Y rg.1 rg.2 h1 h2]; decide)) hwk'
/-- collect lists the arrays under a box -/
theorem xw_collect (Y : yw_f (G 1) t n) (X : xr_f f t n tx q) (R : rk_f f t n r) (hG : G 1 ≤ 4) {b0 : Nat} (hb : ib_v t n b0) {wk : Nat → Nat} {post : Int32 → SX → Prop}
    (H : ∀ w A wk, en_m (sb_f t n b0) A w → w ≤ 32 → (∀ j, j < w → wk j = f (A j)) → post (nI w) (mk_X K G ft ce li de lo tx q rf fn ho po wk)) : wpX_collect post (mk_X K G ft ce li de lo tx q rf fn ho po wk) (nI (sg_f f b0)) := by
  have h1 := sg_lt X hb
  obtain ⟨x1, x2⟩ := X.1 b0 hb
  have ht := Y.1 b0 hb.1
  refine jr_eq (sg_f f b0) 2 h1 (by omega) (fun h2 => ?_) (fun h2 => ?_) rfl
  · rw [x1] at h2
    obtain ⟨a, a5, a37, ea⟩ := Y.2.1 b0 hb.1 h2
    have hq := x2 (by omega)
    unfold xv_f at hq
    rw [if_pos h2, ea, Nat.mul_div_cancel_left _ (by decide)] at hq
    refine ⟨pk_in _ 216 h1 rfl, nm_r (e' := jm_a (nu_a wk 0 (f a))) ?_ ⟨34, ?_⟩⟩
    · rw [jm_c (by omega), hq]
      exact jm_u wk 0 (f a)
    · refine xw_col28 Y X R hG hb.1 H 34 0 1 (fun _ => a) _ (by omega) (by omega) (ci_0 _ h2 ea) (fun j hj => ?_)
      have : j = 0 := by omega
      subst this
      rw [nu_s]
  · rw [x1] at h2
    exact H 0 (fun _ => 0) wk (en_0 fun a => sb_n h2) (by omega) (fun j hj => absurd hj (by omega))
end
end
section
theorem sm_mono {g : Nat → Nat} {k : Nat} : ∀ {w : Nat}, k ≤ w → sm_f g k ≤ sm_f g w
  | 0, h => by
    have : k = 0 := by omega
    subst this; exact Nat.le_refl _
  | w + 1, h => by
    rcases Nat.lt_or_ge w k with z | z
    · have : k = w + 1 := by omega
      subst this; exact Nat.le_refl _
    · have := sm_mono (g := g) z
      show sm_f g k ≤ sm_f g w + g w
      omega
theorem cn_up (P : Nat → Prop) {i j : Nat} (h : i ≤ j) : cn_p P i ≤ cn_p P j := by
  obtain ⟨k, rfl⟩ : ∃ k, j = i + k := ⟨j - i, by omega⟩
  rw [cn_apx]; omega
theorem cn_tl {P : Nat → Prop} {i j : Nat} (h : i ≤ j) (hz : ∀ k, i ≤ k → k < j → ¬ P k) : cn_p P i = cn_p P j := by
  obtain ⟨k, rfl⟩ : ∃ k, j = i + k := ⟨j - i, by omega⟩
  rw [cn_apx, cn_z (N := k) (fun e he => hz (i + e) (by omega) (by omega))]
  rfl
/-- the holders of cell c among the elements of array a -/
noncomputable def hb_f (t n : Nat → Nat) (c a : Nat) : Nat := cn_p (fun e => t (4 * a + e) = 3 ∧ n (4 * a + e) = 148 + c) 4
/-- the box that has the value of box b -/
def th_f (t n : Nat → Nat) (b : Nat) : Nat := if t b = 3 then n b else b
/-- a holder among the arrays under b -/
def hd_f (t n : Nat → Nat) (b : Nat) : Prop := ∃ b', el_b b' ∧ sb_f t n b (b' / 4) ∧ t b' = 3
section
variable {K : Nat → Int32} {G : Nat → Nat} {ft ce li de lo : Nat} {tx q rf fn ho po wk : Nat → Nat} {f r t n : Nat → Nat}
theorem xv_3 {f t n : Nat → Nat} {b c : Nat} (h : t b = 3) (e : n b = 148 + c) : xv_f f t n b = c := by
  unfold xv_f
  rw [if_neg (by omega), if_pos h]
  omega
theorem xv_2 {f t n : Nat → Nat} {b a : Nat} (h : t b = 2) (e : n b = 4 * a) : xv_f f t n b = f a := by
  unfold xv_f
  rw [if_pos h, e, Nat.mul_div_cancel_left _ (by decide)]
theorem xw_tal37 (Y : yw_f (G 1) t n) (X : xr_f f t n tx q) (hG : G 1 ≤ 4) {a w k : Nat} {d : Int32} {hv : Nat → Nat → Nat} {tot pre : Nat → Nat} (ha : al_v t n a)
    (hst : ∀ c x, c < 68 → x < tot c → nI (hv c x) + d = nI (hv c (x + 1))) (htot : ∀ c, pre c + hb_f t n c a ≤ tot c) {post : SX → Prop} {J : Int32 → (Nat → Int32) → (Nat → Int32) → (Nat → Int32) → (Nat → Int32) → (Nat → Int32) → (Nat → Int32) → (Nat → Int32) → Prop}
    (HJ : ∀ ho, (∀ c, c < 68 → ho c = hv c (pre c + hb_f t n c a)) → J (nI (k + 1)) (jm_a tx) (jm_a q) (jm_a rf) (jm_a fn) (jm_a ho) (jm_a po) (jm_a wk)) :
    ∀ m e ho, G 1 - e < m → e ≤ G 1 → (∀ c, c < 68 → ho c = hv c (pre c + cn_p (fun e => t (4 * a + e) = 3 ∧ n (4 * a + e) = 148 + c) e)) → wX_tally_37 post J (nI w) d (nI k) (nI (8 + 4 * f a)) (K 0) (K 1) (K 2) (K 3) (K 4) (K 5) (K 6) (K 7) (nI (G 0)) (nI (G 1)) (nI (G 2)) (nI (G 3)) (nI ft) (nI ce) (nI li) (nI de) (nI lo) m (nI e) (jm_a tx) (jm_a q) (jm_a rf) (jm_a fn) (jm_a ho) (jm_a po) (jm_a wk) := by
  intro m
  induction m with
  | zero => intro e ho hm; omega
  | succ m ih =>
    intro e ho hm heG hI
    have ra := al_r Y ha
    refine pk_le (G 1) e (fun hx => nm_r (ja_p1 k) (HJ ho fun c hc => ?_)) (fun hx => ?_)
    · rw [hI c hc]
      refine congrArg (fun z => hv c (pre c + z)) ?_
      have e1 : e = G 1 := by omega
      subst e1
      exact cn_tl hG fun i h1 h2 x => by
        rw [xe_w Y ra.1 ra.2 h1 h2] at x
        exact absurd x.1 (by decide)
    · obtain ⟨s1, s2, s3⟩ := xe_s Y X (e := e) ha (by omega)
      have ht := Y.1 (4 * a + e) (by omega)
      refine jr_eq (8 + 4 * f a + e) 3 s1 (by omega) (fun h2 => ?_) (fun h2 => ?_) (nI_add _ _)
      · rw [s2] at h2
        obtain ⟨⟨c, hc, ec⟩, _⟩ := Y.2.2.1 (4 * a + e) (by omega) h2
        have hq := s3 (by omega)
        rw [xv_3 h2 ec] at hq
        have hi : jm_a q (nI (8 + 4 * f a) + nI e).toNatClampNeg = nI c := by rw [jm_i (8 + 4 * f a + e) (nI_add _ _), hq]
        refine ⟨pk_in _ 216 s1 (nI_add _ _), pk_in c 68 hc hi, jw_u c (hv c (pre c + cn_p (fun e => t (4 * a + e) = 3 ∧ n (4 * a + e) = 148 + c) e + 1)) hc (nm_r (ja_p1 e) (ih (e + 1) _ (by omega) (by omega) fun c' hc' => ?_)) hi ?_⟩
        · rcases Classical.em (c' = c) with z | z
          · subst z
            rw [nu_s]
            show _ = hv c' (pre c' + (cn_p (fun e => t (4 * a + e) = 3 ∧ n (4 * a + e) = 148 + c') e + b0_1 _))
            rw [b0_t ⟨h2, ec⟩]
            rfl
          · rw [nu_n z, hI c' hc']
            show _ = hv c' (pre c' + (cn_p (fun e => t (4 * a + e) = 3 ∧ n (4 * a + e) = 148 + c') e + b0_1 _))
            rw [b0_f (fun x => by omega)]
            rfl
        · rw [jm_i c hi, hI c hc]
          refine hst c _ hc ?_
          have h1 := htot c
          have h3 : cn_p (fun e => t (4 * a + e) = 3 ∧ n (4 * a + e) = 148 + c) (e + 1) ≤ hb_f t n c a := cn_up _ (by omega)
          have h4 : cn_p (fun e => t (4 * a + e) = 3 ∧ n (4 * a + e) = 148 + c) (e + 1) = cn_p (fun e => t (4 * a + e) = 3 ∧ n (4 * a + e) = 148 + c) e + b0_1 (t (4 * a + e) = 3 ∧ n (4 * a + e) = 148 + c) := rfl
          rw [b0_t ⟨h2, ec⟩] at h4
          omega
      · rw [s2] at h2
        refine nm_r (ja_p1 e) (ih (e + 1) ho (by omega) (by omega) fun c' hc' => ?_)
        rw [hI c' hc']
        show _ = hv c' (pre c' + (cn_p (fun e => t (4 * a + e) = 3 ∧ n (4 * a + e) = 148 + c') e + b0_1 _))
        rw [b0_f (fun x => h2 x.1)]
        rfl
theorem xw_tal10 (Y : yw_f (G 1) t n) (X : xr_f f t n tx q) (hG : G 1 ≤ 4) {w : Nat} {A : Nat → Nat} {d : Int32} {hv : Nat → Nat → Nat} (hA : ∀ j, j < w → al_v t n (A j)) (hw : w ≤ 32) (hwk : ∀ j, j < w → wk j = f (A j))
    (hst : ∀ c x, c < 68 → x < sm_f (fun j => hb_f t n c (A j)) w → nI (hv c x) + d = nI (hv c (x + 1))) {post : SX → Prop}
    (H : ∀ ho, (∀ c, c < 68 → ho c = hv c (sm_f (fun j => hb_f t n c (A j)) w)) → post (mk_X K G ft ce li de lo tx q rf fn ho po wk)) :
    ∀ m k ho, w - k < m → k ≤ w → (∀ c, c < 68 → ho c = hv c (sm_f (fun j => hb_f t n c (A j)) k)) → wX_tally_10 post (nI w) d (K 0) (K 1) (K 2) (K 3) (K 4) (K 5) (K 6) (K 7) (nI (G 0)) (nI (G 1)) (nI (G 2)) (nI (G 3)) (nI ft) (nI ce) (nI li) (nI de) (nI lo) m (nI k) (jm_a tx) (jm_a q) (jm_a rf) (jm_a fn) (jm_a ho) (jm_a po) (jm_a wk) := by
  intro m
  induction m with
  | zero => intro k ho hm; omega
  | succ m ih =>
    intro k ho hm hk hI
    refine pk_le w k (fun hx => H ho (by rw [show w = k by omega]; exact hI)) (fun hx => ?_)
    refine pk_le 32 k (fun z => absurd z (by omega)) (fun _ => ⟨pk_in k 32 (by omega) rfl, nm_r (e' := nI (8 + 4 * f (A k))) ?_ ⟨G 1 + 1, ?_⟩⟩)
    · rw [jm_c (by omega), hwk k hx]
      exact ja_ma 8 4 _
    · refine xw_tal37 Y X hG (hA k hx) (tot := fun c => sm_f (fun j => hb_f t n c (A j)) w) (pre := fun c => sm_f (fun j => hb_f t n c (A j)) k) hst (fun c => ?_) (fun ho' hI' => ?_) (G 1 + 1) 0 ho (by omega) (by omega) hI
      · exact sm_mono (g := fun j => hb_f t n c (A j)) (k := k + 1) (w := w) hx
      · exact ih (k + 1) ho' (by omega) hx hI'
theorem xw_tally (Y : yw_f (G 1) t n) (X : xr_f f t n tx q) (hG : G 1 ≤ 4) {w : Nat} {A : Nat → Nat} {d : Int32} {hv : Nat → Nat → Nat} (hA : ∀ j, j < w → al_v t n (A j)) (hw : w ≤ 32) (hwk : ∀ j, j < w → wk j = f (A j)) (h0 : ∀ c, c < 68 → hv c 0 = ho c)
    (hce : ce = 0 → ∀ b, b < 216 → t b ≠ 3) (hc31 : ce < 2 ^ 31)
    (hst : ∀ c x, c < 68 → x < sm_f (fun j => hb_f t n c (A j)) w → nI (hv c x) + d = nI (hv c (x + 1))) {post : SX → Prop}
    (H : ∀ ho, (∀ c, c < 68 → ho c = hv c (sm_f (fun j => hb_f t n c (A j)) w)) → post (mk_X K G ft ce li de lo tx q rf fn ho po wk)) : wpX_tally post (mk_X K G ft ce li de lo tx q rf fn ho po wk) (nI w) d := by
  refine pk_eq ce 0 (fun hz => H ho fun c hc => ?_) (fun _ => ⟨w + 1, ?_⟩)
  · rw [← h0 c hc, sm_z (N := w)]
    intro k hk
    refine cn_z fun e he x => hce hz (4 * A k + e) ?_ x.1
    have := al_r Y (hA k hk)
    omega
  · exact xw_tal10 Y X hG hA hw hwk hst H (w + 1) 0 ho (by omega) (by omega) (fun c hc => (h0 c hc).symm)
theorem th_ib (Y : yw_f (G 1) t n) {b : Nat} (hb : ib_v t n b) : ib_v t n (th_f t n b) := by
  unfold th_f
  split
  · rename_i h
    obtain ⟨⟨c, hc, e⟩, _⟩ := Y.2.2.1 b hb.1 h
    exact ib_r (by omega) (by unfold el_b; omega)
  · exact hb
theorem th_n3 (Y : yw_f (G 1) t n) {b : Nat} (hb : b < 216) : t (th_f t n b) ≠ 3 := by
  unfold th_f
  split
  · rename_i h
    obtain ⟨⟨c, hc, e⟩, _⟩ := Y.2.2.1 b hb h
    intro z
    have := (Y.2.2.1 (n b) (by omega) z).2.1
    omega
  · assumption
theorem xw_value (Y : yw_f (G 1) t n) (X : xr_f f t n tx q) {b : Nat} (hb : ib_v t n b) {post : Int32 → Prop} (H : post (nI (sg_f f (th_f t n b)))) : wpX_valueSlot post (mk_X K G ft ce li de lo tx q rf fn ho po wk) (nI (sg_f f b)) := by
  have h1 := sg_lt X hb
  obtain ⟨x1, x2⟩ := X.1 b hb
  have ht := Y.1 b hb.1
  unfold th_f at H
  refine jr_eq (sg_f f b) 3 h1 (by omega) (fun h => ?_) (fun h => ?_) rfl
  · rw [x1] at h
    obtain ⟨⟨c, hc, e⟩, _⟩ := Y.2.2.1 b hb.1 h
    rw [if_pos h, e, sg_c (by omega)] at H
    refine ⟨pk_in _ 216 h1 rfl, ?_⟩
    have e2 : (148 : Int32) + jm_a q (nI (sg_f f b)).toNatClampNeg = nI (148 + c) := by
      rw [jm_c (by omega), x2 (by omega), xv_3 h e]
      exact nI_add 148 c
    exact e2.symm ▸ H
  · rw [x1] at h
    rw [if_neg h] at H
    exact H
theorem xw_hc54 (Y : yw_f (G 1) t n) (X : xr_f f t n tx q) (hG : G 1 ≤ 4) {a w k : Nat} (ha : al_v t n a) {post : Int32 → SX → Prop} {J : Int32 → Prop}
    (H1 : (∃ e, e < 4 ∧ t (4 * a + e) = 3) → post 1 (mk_X K G ft ce li de lo tx q rf fn ho po wk)) (HJ : (∀ e, e < 4 → t (4 * a + e) ≠ 3) → J (nI (k + 1))) :
    ∀ m e, G 1 - e < m → e ≤ G 1 → (∀ e', e' < e → t (4 * a + e') ≠ 3) → wX_holdsCells_54 post J (nI w) (nI k) (nI (8 + 4 * f a)) (K 0) (K 1) (K 2) (K 3) (K 4) (K 5) (K 6) (K 7) (nI (G 0)) (nI (G 1)) (nI (G 2)) (nI (G 3)) (nI ft) (nI ce) (nI li) (nI de) (nI lo) (jm_a tx) (jm_a q) (jm_a rf) (jm_a fn) (jm_a ho) (jm_a po) (jm_a wk) m (nI e) := by
  intro m
  induction m with
  | zero => intro e hm; omega
  | succ m ih =>
    intro e hm heG hI
    have ra := al_r Y ha
    refine pk_le (G 1) e (fun hx => nm_r (ja_p1 k) (HJ fun e' he' => ?_)) (fun hx => ?_)
    · rcases Nat.lt_or_ge e' e with z | z
      · exact hI e' z
      · rw [xe_w Y ra.1 ra.2 (by omega) he']; decide
    · obtain ⟨s1, s2, s3⟩ := xe_s Y X (e := e) ha (by omega)
      have ht := Y.1 (4 * a + e) (by omega)
      refine jr_eq (8 + 4 * f a + e) 3 s1 (by omega) (fun h2 => ?_) (fun h2 => ?_) (nI_add _ _)
      · exact H1 ⟨e, by omega, by rw [← s2]; exact h2⟩
      · refine nm_r (ja_p1 e) (ih (e + 1) (by omega) (by omega) fun e' he' => ?_)
        rcases Nat.lt_or_ge e' e with z | z
        · exact hI e' z
        · have : e' = e := by omega
          subst this
          rw [← s2]; exact h2
theorem xw_hc24 (Y : yw_f (G 1) t n) (X : xr_f f t n tx q) (hG : G 1 ≤ 4) {w : Nat} {A : Nat → Nat} (hA : ∀ j, j < w → al_v t n (A j)) (hw : w ≤ 32) (hwk : ∀ j, j < w → wk j = f (A j)) {post : Int32 → SX → Prop}
    (H1 : (∃ k e, k < w ∧ e < 4 ∧ t (4 * A k + e) = 3) → post 1 (mk_X K G ft ce li de lo tx q rf fn ho po wk)) (H0 : (∀ k e, k < w → e < 4 → t (4 * A k + e) ≠ 3) → post 0 (mk_X K G ft ce li de lo tx q rf fn ho po wk)) :
    ∀ m k, w - k < m → k ≤ w → (∀ k' e, k' < k → e < 4 → t (4 * A k' + e) ≠ 3) → wX_holdsCells_24 post (nI w) (K 0) (K 1) (K 2) (K 3) (K 4) (K 5) (K 6) (K 7) (nI (G 0)) (nI (G 1)) (nI (G 2)) (nI (G 3)) (nI ft) (nI ce) (nI li) (nI de) (nI lo) (jm_a tx) (jm_a q) (jm_a rf) (jm_a fn) (jm_a ho) (jm_a po) (jm_a wk) m (nI k) := by
  intro m
  induction m with
  | zero => intro k hm; omega
  | succ m ih =>
    intro k hm hk hI
    refine pk_le w k (fun hx => H0 fun k' e hk' => hI k' e (by omega)) (fun hx => ?_)
    refine pk_le 32 k (fun z => absurd z (by omega)) (fun _ => ⟨pk_in k 32 (by omega) rfl, nm_r (e' := nI (8 + 4 * f (A k))) ?_ ⟨G 1 + 1, ?_⟩⟩)
    · rw [jm_c (by omega), hwk k hx]
      exact ja_ma 8 4 _
    · refine xw_hc54 Y X hG (hA k hx) (fun ⟨e, he, h⟩ => H1 ⟨k, e, hx, he, h⟩) (fun hn => ?_) (G 1 + 1) 0 (by omega) (by omega) (fun e' he' => absurd he' (by omega))
      refine ih (k + 1) (by omega) hx fun k' e hk' he => ?_
      rcases Nat.lt_or_ge k' k with z | z
      · exact hI k' e z he
      · have : k' = k := by omega
        subst this
        exact hn e he
/-- is there a holder among the arrays of the value of box b -/
theorem xw_holds (Y : yw_f (G 1) t n) (X : xr_f f t n tx q) (R : rk_f f t n r) (hG : G 1 ≤ 4) {b : Nat} (hb : ib_v t n b) (hce : ce = 0 → ∀ b, b < 216 → t b ≠ 3) (hc31 : ce < 2 ^ 31) {post : Int32 → SX → Prop}
    (H1 : hd_f t n (th_f t n b) → ∀ wk, post 1 (mk_X K G ft ce li de lo tx q rf fn ho po wk)) (H0 : ¬ hd_f t n (th_f t n b) → ∀ wk, post 0 (mk_X K G ft ce li de lo tx q rf fn ho po wk)) : wpX_holdsCells post (mk_X K G ft ce li de lo tx q rf fn ho po wk) (nI (sg_f f b)) := by
  refine pk_eq ce 0 (fun hz => H0 (fun ⟨b', he, _, h3⟩ => hce hz b' (el_lt he) h3) wk) (fun _ => ?_)
  refine xw_value Y X hb ?_
  refine xw_collect Y X R hG (th_ib Y hb) fun w A wk E hw hwk => ⟨w + 1, ?_⟩
  have hA : ∀ j, j < w → al_v t n (A j) := fun j hj => sb_al (th_ib Y hb).1 (E.1 j hj)
  refine xw_hc24 Y X hG hA hw hwk ?_ ?_ (w + 1) 0 (by omega) (by omega) (fun k' e hk' => absurd hk' (by omega))
  · rintro ⟨k, e, hk, he, h3⟩
    have ra := al_r Y (hA k hk)
    have hd : (4 * A k + e) / 4 = A k := by omega
    exact H1 ⟨4 * A k + e, ⟨by omega, by omega⟩, by rw [hd]; exact E.1 k hk, h3⟩ wk
  · intro hn
    refine H0 ?_ wk
    rintro ⟨b', he, s, h3⟩
    obtain ⟨k, hk, ek⟩ := E.2.2 _ s
    refine hn k (b' % 4) hk (by omega) ?_
    rw [ek, show 4 * (b' / 4) + b' % 4 = b' by omega]
    exact h3
end
end
section
abbrev jt_9 : Type := Int32 → Int32 → Int32 → Int32 → Int32 → Int32 → Int32 → Int32 → Int32 → Int32 → Int32 → Int32 → Int32 → Int32 → Int32 → Int32 → Int32 → Int32 → Int32 → (Nat → Int32) → (Nat → Int32) → (Nat → Int32) → (Nat → Int32) → (Nat → Int32) → (Nat → Int32) → (Nat → Int32) → Prop
/-- the state of release: the queue wk has w nodes, those below h are emptied and given, of the h-th the elements below e are emptied; s0 is the slot whose reference goes -/
def rl_f (tx q rf fn : Nat → Nat) (ft s0 : Nat) (Kp : Nat → Prop) (h e w : Nat) (tx1 rf1 fn1 wk1 : Nat → Nat) : Prop :=
  (∀ s, s < 216 → (s < 8 ∨ 136 ≤ s) → tx1 s = tx s) ∧
  (∀ m, m < 32 → (∃ i, i < h ∧ wk1 i = m) → ∀ e', e' < 4 → tx1 (8 + 4 * m + e') = 0) ∧
  (∀ m, m < 32 → (∀ i, i < h → wk1 i ≠ m) → ∀ e', e' < 4 → (h < w → wk1 h = m → e ≤ e') → tx1 (8 + 4 * m + e') = tx (8 + 4 * m + e')) ∧
  (h < w → ∀ e', e' < e → e' < 4 → tx1 (8 + 4 * wk1 h + e') = 0) ∧
  (∀ m, m < 32 → rf1 m = cn_p (fun s => s ≠ s0 ∧ tx1 s = 2 ∧ q s = m) 216) ∧
  (∀ i, i < w → wk1 i < 32 ∧ rf1 (wk1 i) = 0 ∧ ¬ Kp (wk1 i) ∧ rf (wk1 i) ≠ 0) ∧ (∀ i j, i < w → j < w → wk1 i = wk1 j → i = j) ∧
  (∀ i, i < ft → fn1 i = fn i) ∧ (∀ i, i < h → fn1 (ft + i) = wk1 i) ∧
  (∀ m, m < 32 → rf1 m = 0 → rf m = 0 ∨ ∃ i, i < w ∧ wk1 i = m)
/-- what release rests on -/
def rh_f (wd : Nat) (tx q rf fn : Nat → Nat) (ft s0 : Nat) (Kp : Nat → Prop) : Prop :=
  rf_f tx q rf ∧ fr_f rf fn ft ∧ (∀ s, s < 216 → tx s = 2 → q s < 32) ∧ (s0 < 216 ∧ tx s0 = 2) ∧ (∀ m e, m < 32 → wd ≤ e → e < 4 → tx (8 + 4 * m + e) = 0) ∧
  (∀ m, Kp m → m < 32 ∧ ∃ s, s < 216 ∧ s ≠ s0 ∧ tx s = 2 ∧ q s = m ∧ (8 ≤ s → s < 136 → Kp ((s - 8) / 4))) ∧ (8 ≤ s0 → s0 < 136 → Kp ((s0 - 8) / 4)) ∧ (∀ s, s < 216 → tx s ≤ 3)
section
variable {wd ft s0 : Nat} {tx q rf fn : Nat → Nat} {Kp : Nat → Prop}
theorem rl_pig (B : rh_f wd tx q rf fn ft s0 Kp) {h e w : Nat} {tx1 rf1 fn1 wk1 : Nat → Nat} (I : rl_f tx q rf fn ft s0 Kp h e w tx1 rf1 fn1 wk1) : ft + w ≤ 32 := by
  obtain ⟨b1, ⟨f1, f2, f3, f4⟩, _⟩ := B
  obtain ⟨_, _, _, _, _, i6, i7, _⟩ := I
  refine cn_pig (A := fun i => if i < ft then fn i else wk1 (i - ft)) (fun j hj => ?_) (fun i j hi hj e => ?_)
  · show (if j < ft then fn j else wk1 (j - ft)) < 32
    split
    · exact (f2 j (by assumption)).1
    · exact (i6 (j - ft) (by omega)).1
  · have e : (if i < ft then fn i else wk1 (i - ft)) = (if j < ft then fn j else wk1 (j - ft)) := e
    rcases Nat.lt_or_ge i ft with z | z
    · rcases Nat.lt_or_ge j ft with z' | z'
      · rw [if_pos z, if_pos z'] at e
        exact f3 i j z z' e
      · rw [if_pos z, if_neg (by omega)] at e
        have := (i6 (j - ft) (by omega)).2.2.2
        rw [← e] at this
        exact absurd (f2 i z).2 this
    · rcases Nat.lt_or_ge j ft with z' | z'
      · rw [if_neg (by omega), if_pos z'] at e
        have := (i6 (i - ft) (by omega)).2.2.2
        rw [e] at this
        exact absurd (f2 j z').2 this
      · rw [if_neg (by omega), if_neg (by omega)] at e
        have := i7 _ _ (by omega) (by omega) e
        omega
/-- a kept node is still pointed to -/
theorem rl_kp (B : rh_f wd tx q rf fn ft s0 Kp) {h e w : Nat} {tx1 rf1 fn1 wk1 : Nat → Nat} (I : rl_f tx q rf fn ft s0 Kp h e w tx1 rf1 fn1 wk1) {m : Nat} (k : Kp m) (hh : h ≤ w) : ∃ s, s < 216 ∧ s ≠ s0 ∧ tx1 s = 2 ∧ tx s = 2 ∧ q s = m ∧ (8 ≤ s → s < 136 → Kp ((s - 8) / 4)) := by
  obtain ⟨_, _, _, _, _, b6, _, _⟩ := B
  obtain ⟨i1, _, i3, _, _, i6, _⟩ := I
  obtain ⟨hm, s, hs, hs0, h2, hq, hk⟩ := b6 m k
  refine ⟨s, hs, hs0, ?_, h2, hq, hk⟩
  rcases Classical.em (s < 8 ∨ 136 ≤ s) with z | z
  · rw [i1 s hs z]; exact h2
  · have kk := hk (by omega) (by omega)
    have e1 : s = 8 + 4 * ((s - 8) / 4) + (s - 8) % 4 := by omega
    rw [e1, i3 ((s - 8) / 4) (by omega) (fun i hi e => ?_) ((s - 8) % 4) (by omega) (fun hw e => ?_), ← e1]
    · exact h2
    · exact absurd kk (e ▸ (i6 i (by omega)).2.2.1)
    · exact absurd kk (e ▸ (i6 h hw).2.2.1)
theorem rl_0 (B : rh_f wd tx q rf fn ft s0 Kp) : (∀ m, m < 32 → nu_a rf (q s0) (rf (q s0) - 1) m = cn_p (fun s => s ≠ s0 ∧ tx s = 2 ∧ q s = m) 216) ∧ 0 < rf (q s0) := by
  obtain ⟨b1, _, b3, ⟨h0, h2⟩, _⟩ := B
  have e0 := b1 (q s0) (b3 s0 h0 h2)
  rw [cn_rem (Q := fun s => tx s = 2 ∧ q s = q s0) (a := s0) ⟨h2, rfl⟩ h0] at e0
  refine ⟨fun m hm => ?_, by omega⟩
  rcases Classical.em (m = q s0) with z | z
  · subst z
    rw [nu_s, e0, Nat.add_sub_cancel]
    exact cn_c fun k hk => ⟨fun x => ⟨x.2, x.1⟩, fun x => ⟨x.2, x.1⟩⟩
  · rw [nu_n z, b1 m hm]
    exact cn_c fun k hk => ⟨fun x => ⟨fun e => z (by rw [← x.2, e]), x⟩, fun x => x.2⟩
theorem rl_01 (B : rh_f wd tx q rf fn ft s0 Kp) (wk : Nat → Nat) (hz : rf (q s0) - 1 = 0) : rl_f tx q rf fn ft s0 Kp 0 0 1 tx (nu_a rf (q s0) (rf (q s0) - 1)) fn (nu_a wk 0 (q s0)) := by
  obtain ⟨e1, e2⟩ := rl_0 B
  have B0 := B
  obtain ⟨b1, _, b3, ⟨h0, h2⟩, _, b6, _, _⟩ := B
  have h32 := b3 s0 h0 h2
  have nk : ¬ Kp (q s0) := fun k => by
    obtain ⟨hm, s, hs, hs0, h2', hq, _⟩ := b6 _ k
    have := e1 _ h32
    rw [nu_s, hz] at this
    exact cn_none this.symm hs ⟨hs0, h2', hq⟩
  refine ⟨fun _ _ _ => rfl, fun m hm ⟨i, hi, _⟩ => absurd hi (by omega), fun _ _ _ _ _ _ => rfl, fun _ e' he' => absurd he' (by omega), e1, fun i hi => ?_, fun i j hi hj _ => by omega, fun _ _ => rfl, fun i hi => absurd hi (by omega), fun m hm hr => ?_⟩
  · have : i = 0 := by omega
    subst this
    rw [nu_s]
    exact ⟨h32, by rw [nu_s]; exact hz, nk, by omega⟩
  · rcases Classical.em (m = q s0) with z | z
    · exact Or.inr ⟨0, by omega, by rw [nu_s]; exact z.symm⟩
    · rw [nu_n z] at hr
      exact Or.inl hr
theorem rl_00 (B : rh_f wd tx q rf fn ft s0 Kp) (wk : Nat → Nat) (hz : rf (q s0) - 1 ≠ 0) : rl_f tx q rf fn ft s0 Kp 0 0 0 tx (nu_a rf (q s0) (rf (q s0) - 1)) fn wk := by
  obtain ⟨e1, e2⟩ := rl_0 B
  refine ⟨fun _ _ _ => rfl, fun m hm ⟨i, hi, _⟩ => absurd hi (by omega), fun _ _ _ _ _ _ => rfl, fun h => absurd h (by omega), e1, fun i hi => absurd hi (by omega), fun i j hi => absurd hi (by omega), fun _ _ => rfl, fun i hi => absurd hi (by omega), fun m hm hr => ?_⟩
  rcases Classical.em (m = q s0) with z | z
  · subst z
    rw [nu_s] at hr
    exact absurd hr hz
  · rw [nu_n z] at hr
    exact Or.inl hr
/-- the places of a step -/
theorem rl_pl (B : rh_f wd tx q rf fn ft s0 Kp) {h e w : Nat} {tx1 rf1 fn1 wk1 : Nat → Nat} (I : rl_f tx q rf fn ft s0 Kp h e w tx1 rf1 fn1 wk1) (hw : h < w) (he : e < 4) : wk1 h < 32 ∧ tx1 (8 + 4 * wk1 h + e) = tx (8 + 4 * wk1 h + e) ∧ 8 + 4 * wk1 h + e ≠ s0 := by
  obtain ⟨_, _, _, _, _, _, b7, _⟩ := B
  obtain ⟨_, _, i3, _, _, i6, i7, _⟩ := I
  obtain ⟨a1, a2, a3, a4⟩ := i6 h hw
  refine ⟨a1, i3 _ a1 (fun i hi e => ?_) e he (fun _ _ => Nat.le_refl _), fun z => ?_⟩
  · have := i7 i h (by omega) hw e
    omega
  · have := b7 (by omega) (by omega)
    rw [← z, show (8 + 4 * wk1 h + e - 8) / 4 = wk1 h by omega] at this
    exact a3 this
/-- an element that has no array is emptied -/
theorem rl_clr (B : rh_f wd tx q rf fn ft s0 Kp) {h e w : Nat} {tx1 rf1 fn1 wk1 : Nat → Nat} (I : rl_f tx q rf fn ft s0 Kp h e w tx1 rf1 fn1 wk1) (hw : h < w) (he : e < 4) (h2 : tx (8 + 4 * wk1 h + e) ≠ 2) : rl_f tx q rf fn ft s0 Kp h (e + 1) w (nu_a tx1 (8 + 4 * wk1 h + e) 0) rf1 fn1 wk1 := by
  obtain ⟨p1, p2, p3⟩ := rl_pl B I hw he
  obtain ⟨i1, i2, i3, i4, i5, i6, i7, i8, i9, i10⟩ := I
  refine ⟨fun s hs z => ?_, fun m hm hx e' he' => ?_, fun m hm hx e' he' hz => ?_, fun _ e' he' h4 => ?_, fun m hm => ?_, i6, i7, i8, i9, i10⟩
  · rw [nu_n (by omega)]; exact i1 s hs z
  · rcases Classical.em (8 + 4 * m + e' = 8 + 4 * wk1 h + e) with z | z
    · rw [z, nu_s]
    · rw [nu_n z]; exact i2 m hm hx e' he'
  · rcases Classical.em (m = wk1 h) with z | z
    · have := hz hw z.symm
      rw [nu_n (by omega)]
      exact i3 m hm hx e' he' (fun _ _ => by omega)
    · rw [nu_n (by omega)]
      exact i3 m hm hx e' he' (fun _ y => absurd y.symm z)
  · rcases Classical.em (e' = e) with z | z
    · rw [z, nu_s]
    · rw [nu_n (by omega)]; exact i4 hw e' (by omega) h4
  · rw [i5 m hm]
    refine cn_c fun s hs => ?_
    rcases Classical.em (s = 8 + 4 * wk1 h + e) with z | z
    · subst z
      rw [nu_s, p2]
      exact ⟨fun x => absurd x.2.1 h2, fun x => absurd x.2.1 (by decide)⟩
    · rw [nu_n z]
/-- an element with an array is emptied: one reference less -/
theorem rl_unr (B : rh_f wd tx q rf fn ft s0 Kp) {h e w : Nat} {tx1 rf1 fn1 wk1 : Nat → Nat} (I : rl_f tx q rf fn ft s0 Kp h e w tx1 rf1 fn1 wk1) (hw : h < w) (he : e < 4) (h2 : tx (8 + 4 * wk1 h + e) = 2) :
    q (8 + 4 * wk1 h + e) < 32 ∧ 0 < rf1 (q (8 + 4 * wk1 h + e)) ∧
    (rf1 (q (8 + 4 * wk1 h + e)) - 1 = 0 → rl_f tx q rf fn ft s0 Kp h (e + 1) (w + 1) (nu_a tx1 (8 + 4 * wk1 h + e) 0) (nu_a rf1 (q (8 + 4 * wk1 h + e)) (rf1 (q (8 + 4 * wk1 h + e)) - 1)) fn1 (nu_a wk1 w (q (8 + 4 * wk1 h + e)))) ∧
    (rf1 (q (8 + 4 * wk1 h + e)) - 1 ≠ 0 → rl_f tx q rf fn ft s0 Kp h (e + 1) w (nu_a tx1 (8 + 4 * wk1 h + e) 0) (nu_a rf1 (q (8 + 4 * wk1 h + e)) (rf1 (q (8 + 4 * wk1 h + e)) - 1)) fn1 wk1) := by
  obtain ⟨p1, p2, p3⟩ := rl_pl B I hw he
  have I0 := I
  obtain ⟨i1, i2, i3, i4, i5, i6, i7, i8, i9, i10⟩ := I
  obtain ⟨b1, b2, b3, b4, b5, b6, b7, b8⟩ := B
  have hs : 8 + 4 * wk1 h + e < 216 := by omega
  have hc := b3 _ hs h2
  generalize es : 8 + 4 * wk1 h + e = s at *
  generalize ec : q s = c at *
  have e0 := i5 c hc
  rw [cn_rem (Q := fun s' => s' ≠ s0 ∧ tx1 s' = 2 ∧ q s' = c) (a := s) ⟨p3, p2.trans h2, ec⟩ hs] at e0
  have hp : 0 < rf1 c := by omega
  have i5' : ∀ m, m < 32 → nu_a rf1 c (rf1 c - 1) m = cn_p (fun s' => s' ≠ s0 ∧ nu_a tx1 s 0 s' = 2 ∧ q s' = m) 216 := by
    intro m hm
    rcases Classical.em (m = c) with z | z
    · rw [z, nu_s, e0, Nat.add_sub_cancel]
      refine cn_c fun k hk => ?_
      rcases Classical.em (k = s) with y | y
      · rw [y, nu_s]
        exact ⟨fun x => absurd rfl x.2, fun x => absurd x.2.1 (by decide)⟩
      · rw [nu_n y]
        exact ⟨fun x => x.1, fun x => ⟨x, y⟩⟩
    · rw [nu_n z, i5 m hm]
      refine cn_c fun k hk => ?_
      rcases Classical.em (k = s) with y | y
      · rw [y, nu_s]
        exact ⟨fun x => absurd (x.2.2.symm.trans ec) z, fun x => absurd x.2.1 (by decide)⟩
      · rw [nu_n y]
  have old : ∀ i, i < w → wk1 i ≠ c := fun i hi e1 => by
    have := (i6 i hi).2.1
    rw [e1] at this
    omega
  have r2 : ∀ i, i < w → nu_a rf1 c (rf1 c - 1) (wk1 i) = 0 := fun i hi => by
    rw [nu_n (old i hi)]; exact (i6 i hi).2.1
  have c2 : ∀ m, m < 32 → (∃ i, i < h ∧ wk1 i = m) → ∀ e', e' < 4 → nu_a tx1 s 0 (8 + 4 * m + e') = 0 := fun m hm hx e' he' => by
    rcases Classical.em (8 + 4 * m + e' = s) with z | z
    · rw [z, nu_s]
    · rw [nu_n z]; exact i2 m hm hx e' he'
  have c3 : ∀ m, m < 32 → (∀ i, i < h → wk1 i ≠ m) → ∀ e', e' < 4 → (wk1 h = m → e + 1 ≤ e') → nu_a tx1 s 0 (8 + 4 * m + e') = tx (8 + 4 * m + e') := fun m hm hx e' he' hz => by
    rcases Classical.em (m = wk1 h) with z | z
    · have := hz z.symm
      rw [nu_n (by omega)]
      exact i3 m hm hx e' he' (fun _ _ => by omega)
    · rw [nu_n (by omega)]
      exact i3 m hm hx e' he' (fun _ y => absurd y.symm z)
  have c4 : ∀ e', e' < e + 1 → e' < 4 → nu_a tx1 s 0 (8 + 4 * wk1 h + e') = 0 := fun e' he' h4 => by
    rcases Classical.em (e' = e) with z | z
    · rw [z, es, nu_s]
    · rw [nu_n (by omega)]; exact i4 hw e' (by omega) h4
  refine ⟨hc, hp, fun hz => ?_, fun hz => ?_⟩
  · have same : ∀ i, i < w → nu_a wk1 w c i = wk1 i := fun i hi => nu_n (by omega)
    have nk : ¬ Kp c := fun k => by
      obtain ⟨s', q1, q2, q3, q4, q5, q6⟩ := rl_kp ⟨b1, b2, b3, b4, b5, b6, b7, b8⟩ I0 k (by omega)
      have := i5' c hc
      rw [nu_s, hz] at this
      refine cn_none this.symm q1 ⟨q2, ?_, q5⟩
      rw [nu_n]
      · exact q3
      · intro z
        have := q6 (by omega) (by omega)
        rw [z, ← es, show (8 + 4 * wk1 h + e - 8) / 4 = wk1 h by omega] at this
        exact (i6 h hw).2.2.1 this
    have rc : rf c ≠ 0 := fun z => by
      have := b1 c hc
      rw [z] at this
      exact cn_none this.symm hs ⟨h2, ec⟩
    refine ⟨fun s' hs' z => ?_, fun m hm ⟨i, hi, ei⟩ => ?_, fun m hm hx e' he' hz' => ?_, fun _ e' he' h4 => ?_, i5', fun i hi => ?_, fun i j hi hj eij => ?_, i8, fun i hi => ?_, fun m hm hr => ?_⟩
    · rw [nu_n (by omega)]; exact i1 s' hs' z
    · rw [same i (by omega)] at ei
      exact c2 m hm ⟨i, hi, ei⟩
    · refine c3 m hm (fun i hi e1 => hx i hi (by rw [same i (by omega)]; exact e1)) e' he' (fun y => hz' (by omega) (by rw [same h hw]; exact y))
    · rw [same h hw]; exact c4 e' he' h4
    · rcases Nat.lt_or_ge i w with z | z
      · rw [same i z]
        exact ⟨(i6 i z).1, r2 i z, (i6 i z).2.2⟩
      · have : i = w := by omega
        subst this
        rw [nu_s]
        exact ⟨hc, by rw [nu_s]; exact hz, nk, rc⟩
    · rcases Nat.lt_or_ge i w with z | z
      · rcases Nat.lt_or_ge j w with z' | z'
        · rw [same i z, same j z'] at eij
          exact i7 i j z z' eij
        · have : j = w := by omega
          subst this
          rw [same i z, nu_s] at eij
          exact absurd eij (old i z)
      · have : i = w := by omega
        subst this
        rcases Nat.lt_or_ge j i with z' | z'
        · rw [same j z', nu_s] at eij
          exact absurd eij.symm (old j z')
        · omega
    · rw [same i (by omega)]; exact i9 i hi
    · rcases Classical.em (m = c) with z | z
      · exact Or.inr ⟨w, by omega, by rw [nu_s]; exact z.symm⟩
      · rw [nu_n z] at hr
        rcases i10 m hm hr with y | ⟨i, hi, y⟩
        · exact Or.inl y
        · exact Or.inr ⟨i, by omega, by rw [same i hi]; exact y⟩
  · refine ⟨fun s' hs' z => ?_, c2, fun m hm hx e' he' hz' => c3 m hm hx e' he' (hz' hw), fun _ => c4, i5', fun i hi => ⟨(i6 i hi).1, r2 i hi, (i6 i hi).2.2⟩, i7, i8, i9, fun m hm hr => ?_⟩
    · rw [nu_n (by omega)]; exact i1 s' hs' z
    · rcases Classical.em (m = c) with z | z
      · rw [z, nu_s] at hr
        exact absurd hr hz
      · rw [nu_n z] at hr
        exact i10 m hm hr
/-- the h-th node is given to the free ones -/
theorem rl_nxt (B : rh_f wd tx q rf fn ft s0 Kp) {h e w : Nat} {tx1 rf1 fn1 wk1 : Nat → Nat} (I : rl_f tx q rf fn ft s0 Kp h e w tx1 rf1 fn1 wk1) (hw : h < w) (he : wd ≤ e) : rl_f tx q rf fn ft s0 Kp (h + 1) 0 w tx1 rf1 (nu_a fn1 (ft + h) (wk1 h)) wk1 := by
  obtain ⟨i1, i2, i3, i4, i5, i6, i7, i8, i9, i10⟩ := I
  obtain ⟨b1, b2, b3, b4, b5, b6, b7, b8⟩ := B
  refine ⟨i1, fun m hm ⟨i, hi, ei⟩ e' he' => ?_, fun m hm hx e' he' _ => ?_, fun _ e' he' => absurd he' (by omega), i5, i6, i7, fun i hi => ?_, fun i hi => ?_, i10⟩
  · rcases Nat.lt_or_ge i h with z | z
    · exact i2 m hm ⟨i, z, ei⟩ e' he'
    · have : i = h := by omega
      subst this
      rw [← ei]
      rcases Nat.lt_or_ge e' e with y | y
      · exact i4 hw e' y he'
      · rw [i3 _ (i6 i hw).1 (fun j hj e1 => by
          have := i7 j i (by omega) hw e1
          omega) e' he' (fun _ _ => y)]
        exact b5 _ _ (i6 i hw).1 (by omega) he'
  · exact i3 m hm (fun i hi => hx i (by omega)) e' he' (fun _ z => absurd z (hx h (by omega)))
  · rw [nu_n (by omega)]; exact i8 i hi
  · rcases Nat.lt_or_ge i h with z | z
    · rw [nu_n (by omega)]; exact i9 i z
    · have : i = h := by omega
      subst this
      rw [nu_s]
/-- what release leaves -/
def rz_f (tx q rf : Nat → Nat) (s0 : Nat) (Kp : Nat → Prop) (tx1 rf1 fn1 : Nat → Nat) (ft1 : Nat) : Prop :=
  (∀ s, s < 216 → (s < 8 ∨ 136 ≤ s) → tx1 s = tx s) ∧
  (∀ m, m < 32 → (rf1 m = 0 ∧ ∀ e, e < 4 → tx1 (8 + 4 * m + e) = 0) ∨ (rf1 m ≠ 0 ∧ ∀ e, e < 4 → tx1 (8 + 4 * m + e) = tx (8 + 4 * m + e))) ∧
  (∀ m, m < 32 → rf1 m = cn_p (fun s => s ≠ s0 ∧ tx1 s = 2 ∧ q s = m) 216) ∧ fr_f rf1 fn1 ft1 ∧ (∀ m, Kp m → rf1 m ≠ 0)
theorem rl_end (B : rh_f wd tx q rf fn ft s0 Kp) (hz : ∀ m, m < 32 → rf m = 0 → ∀ e, e < 4 → tx (8 + 4 * m + e) = 0) {w : Nat} {tx1 rf1 fn1 wk1 : Nat → Nat} (I : rl_f tx q rf fn ft s0 Kp w 0 w tx1 rf1 fn1 wk1) : rz_f tx q rf s0 Kp tx1 rf1 fn1 (ft + w) := by
  have pg := rl_pig B I
  have kp := fun m k => rl_kp B I (m := m) k (Nat.le_refl _)
  obtain ⟨i1, i2, i3, i4, i5, i6, i7, i8, i9, i10⟩ := I
  obtain ⟨b1, ⟨f1, f2, f3, f4⟩, b3, b4, b5, b6, b7, b8⟩ := B
  have nz : ∀ m, m < 32 → rf m = 0 → rf1 m = 0 ∧ ∀ i, i < w → wk1 i ≠ m := fun m hm hr => by
    have nw : ∀ i, i < w → wk1 i ≠ m := fun i hi e => by
      have := (i6 i hi).2.2.2
      rw [e] at this
      exact this hr
    refine ⟨?_, nw⟩
    rw [i5 m hm]
    refine cn_z fun s hs x => ?_
    have h0 := b1 m hm
    rw [hr] at h0
    refine cn_none h0.symm hs ⟨?_, x.2.2⟩
    rcases Classical.em (s < 8 ∨ 136 ≤ s) with z | z
    · rw [← i1 s hs z]; exact x.2.1
    · have e1 : s = 8 + 4 * ((s - 8) / 4) + (s - 8) % 4 := by omega
      rcases Classical.em (∃ i, i < w ∧ wk1 i = (s - 8) / 4) with y | y
      · have := i2 _ (by omega) y ((s - 8) % 4) (by omega)
        rw [← e1, x.2.1] at this
        exact absurd this (by decide)
      · have := i3 ((s - 8) / 4) (by omega) (fun i hi e => y ⟨i, hi, e⟩) ((s - 8) % 4) (by omega) (fun h => absurd h (by omega))
        rw [← e1, x.2.1] at this
        exact this.symm
  refine ⟨i1, fun m hm => ?_, i5, ⟨pg, fun i hi => ?_, fun i j hi hj e => ?_, fun m hm hr => ?_⟩, fun m k => ?_⟩
  · rcases Classical.em (∃ i, i < w ∧ wk1 i = m) with y | y
    · refine Or.inl ⟨?_, i2 m hm y⟩
      obtain ⟨i, hi, e⟩ := y
      rw [← e]; exact (i6 i hi).2.1
    · have same := i3 m hm (fun i hi e => y ⟨i, hi, e⟩)
      rcases Classical.em (rf1 m = 0) with z | z
      · rcases i10 m hm z with u | u
        · refine Or.inl ⟨z, fun e he => ?_⟩
          rw [same e he (fun h => absurd h (by omega))]
          exact hz m hm u e he
        · exact absurd u y
      · exact Or.inr ⟨z, fun e he => same e he (fun h => absurd h (by omega))⟩
  · rcases Nat.lt_or_ge i ft with z | z
    · rw [i8 i z]
      exact ⟨(f2 i z).1, (nz _ (f2 i z).1 (f2 i z).2).1⟩
    · have := i9 (i - ft) (by omega)
      rw [show ft + (i - ft) = i by omega] at this
      rw [this]
      exact ⟨(i6 _ (by omega)).1, (i6 _ (by omega)).2.1⟩
  · rcases Nat.lt_or_ge i ft with z | z
    · rcases Nat.lt_or_ge j ft with z' | z'
      · rw [i8 i z, i8 j z'] at e
        exact f3 i j z z' e
      · have := i9 (j - ft) (by omega)
        rw [show ft + (j - ft) = j by omega] at this
        rw [i8 i z, this] at e
        exact absurd e.symm ((nz _ (f2 i z).1 (f2 i z).2).2 _ (by omega))
    · have h1 := i9 (i - ft) (by omega)
      rw [show ft + (i - ft) = i by omega] at h1
      rcases Nat.lt_or_ge j ft with z' | z'
      · rw [h1, i8 j z'] at e
        exact absurd e ((nz _ (f2 j z').1 (f2 j z').2).2 _ (by omega))
      · have h2 := i9 (j - ft) (by omega)
        rw [show ft + (j - ft) = j by omega] at h2
        rw [h1, h2] at e
        have := i7 _ _ (by omega) (by omega) e
        omega
  · rcases i10 m hm hr with u | ⟨i, hi, e⟩
    · obtain ⟨i, hi, e⟩ := f4 m hm u
      exact ⟨i, by omega, by rw [i8 i hi]; exact e⟩
    · exact ⟨ft + i, by omega, by rw [i9 i hi]; exact e⟩
  · obtain ⟨s, h1, h2, h3, h4, h5, _⟩ := kp m k
    rw [i5 m (b6 m k).1]
    intro z
    exact cn_none z h1 ⟨h2, h3, h5⟩
end
end
section
section
variable {K : Nat → Int32} {G : Nat → Nat} {ft ce li de lo s0 : Nat} {tx q rf fn ho po wk : Nat → Nat} {Kp : Nat → Prop}
theorem xw_unref {m w : Nat} (hm : m < 32) (hp : 0 < rf m) (hr : rf m < 2 ^ 31) (hw : w < 2 ^ 31) {post : Int32 → SX → Prop}
    (h1 : rf m - 1 = 0 → w < 32 ∧ post (nI (w + 1)) (mk_X K G ft ce li de lo tx q (nu_a rf m (rf m - 1)) fn ho po (nu_a wk w m))) (h2 : rf m - 1 ≠ 0 → post (nI w) (mk_X K G ft ce li de lo tx q (nu_a rf m (rf m - 1)) fn ho po wk)) : wpX_unrefer post (mk_X K G ft ce li de lo tx q rf fn ho po wk) (nI m) (nI w) := by
  refine ⟨pk_in m 32 hm rfl, jw_u m (rf m - 1) hm ?_ rfl ?_⟩
  · refine jr_eq m 0 hm (by rw [nu_s]; omega) (fun z => ?_) (fun z => ?_) rfl
    · rw [nu_s] at z
      obtain ⟨a1, a2⟩ := h1 z
      refine pk_le 32 w (fun y => absurd y (by omega)) (fun _ => jw_u w m a1 ?_ rfl rfl)
      exact (ja_p1 w).symm ▸ a2
    · rw [nu_s] at z
      exact h2 z
  · rw [jm_c (by omega)]
    exact ja_s1 hp
theorem xw_give {m : Nat} (hf : ft < 32) {post : SX → Prop} (H : post (mk_X K G (ft + 1) ce li de lo tx q rf (nu_a fn ft m) ho po wk)) : wpX_giveNode post (mk_X K G ft ce li de lo tx q rf fn ho po wk) (nI m) := by
  refine pk_le 32 ft (fun y => absurd y (by omega)) (fun _ => jw_u ft m hf (nm_r (ja_p1 ft) H) rfl rfl)
theorem xw_rel36 (B : rh_f (G 1) tx q rf fn ft s0 Kp) (hG : G 1 ≤ 4) {h mh : Nat} {post : SX → Prop} {J : jt_9} {fn1 : Nat → Nat}
    (HJ : ∀ w tx1 rf1 fn1 wk1, rl_f tx q rf fn ft s0 Kp (h + 1) 0 w tx1 rf1 fn1 wk1 → h + 1 ≤ w → J (nI w) (nI (h + 1)) (K 0) (K 1) (K 2) (K 3) (K 4) (K 5) (K 6) (K 7) (nI (G 0)) (nI (G 1)) (nI (G 2)) (nI (G 3)) (nI (ft + h + 1)) (nI ce) (nI li) (nI de) (nI lo) (jm_a tx1) (jm_a q) (jm_a rf1) (jm_a fn1) (jm_a ho) (jm_a po) (jm_a wk1)) :
    ∀ m e w tx1 rf1 wk1, G 1 - e < m → e ≤ G 1 → rl_f tx q rf fn ft s0 Kp h e w tx1 rf1 fn1 wk1 → h < w → wk1 h = mh → wX_release_36 post J (nI h) (nI (8 + 4 * mh)) m (nI w) (nI e) (K 0) (K 1) (K 2) (K 3) (K 4) (K 5) (K 6) (K 7) (nI (G 0)) (nI (G 1)) (nI (G 2)) (nI (G 3)) (nI (ft + h)) (nI ce) (nI li) (nI de) (nI lo) (jm_a tx1) (jm_a q) (jm_a rf1) (jm_a fn1) (jm_a ho) (jm_a po) (jm_a wk1) := by
  intro m
  induction m with
  | zero => intro e w tx1 rf1 wk1 hm; omega
  | succ m ih =>
    intro e w tx1 rf1 wk1 hm heG I hw hmh
    have pg := rl_pig B I
    refine pk_le (G 1) e (fun hx => ⟨pk_in h 32 (by omega) rfl, ?_⟩) (fun hx => ?_)
    · have e1 : jm_a wk1 (nI h).toNatClampNeg = nI (wk1 h) := jm_c (by omega)
      rw [e1]
      refine xw_give (by omega) (nm_r (ja_p1 h) ?_)
      exact HJ w tx1 rf1 _ wk1 (rl_nxt B I hw (by omega)) hw
    · obtain ⟨p1, p2, p3⟩ := rl_pl B I hw (e := e) (by omega)
      subst hmh
      have hs : 8 + 4 * wk1 h + e < 216 := by omega
      have ht := B.2.2.2.2.2.2.2 _ hs
      refine jr_eq (8 + 4 * wk1 h + e) 2 hs (by rw [p2]; omega) (fun h2 => ?_) (fun h2 => ?_) (nI_add _ _)
      · rw [p2] at h2
        obtain ⟨u1, u2, u3, u4⟩ := rl_unr B I hw (by omega) h2
        refine ⟨pk_in _ 216 hs (nI_add _ _), ?_⟩
        have e1 : jm_a q (nI (8 + 4 * wk1 h) + nI e).toNatClampNeg = nI (q (8 + 4 * wk1 h + e)) := jm_i _ (nI_add _ _)
        rw [e1]
        have hr : rf1 (q (8 + 4 * wk1 h + e)) ≤ 216 := by
          rw [I.2.2.2.2.1 _ u1]; exact cn_le _ _
        refine xw_unref u1 u2 (by omega) (by omega) (fun z => ?_) (fun z => ?_)
        · have I' := u3 z
          have pg' := rl_pig B I'
          refine ⟨by omega, jw_u (8 + 4 * wk1 h + e) 0 hs (nm_r (ja_p1 e) ?_) (nI_add _ _) rfl⟩
          exact ih (e + 1) (w + 1) _ _ _ (by omega) (by omega) I' (by omega) (by rw [nu_n (by omega)])
        · refine jw_u (8 + 4 * wk1 h + e) 0 hs (nm_r (ja_p1 e) ?_) (nI_add _ _) rfl
          exact ih (e + 1) w _ _ _ (by omega) (by omega) (u4 z) hw rfl
      · rw [p2] at h2
        refine jw_u (8 + 4 * wk1 h + e) 0 hs (nm_r (ja_p1 e) ?_) (nI_add _ _) rfl
        exact ih (e + 1) w _ _ _ (by omega) (by omega) (rl_clr B I hw (by omega) h2) hw rfl
theorem xw_rel9 (B : rh_f (G 1) tx q rf fn ft s0 Kp) (hG : G 1 ≤ 4) (hz : ∀ m, m < 32 → rf m = 0 → ∀ e, e < 4 → tx (8 + 4 * m + e) = 0) {post : SX → Prop}
    (H : ∀ ft1 tx1 rf1 fn1 wk1, rz_f tx q rf s0 Kp tx1 rf1 fn1 ft1 → post (mk_X K G ft1 ce li de lo tx1 q rf1 fn1 ho po wk1)) :
    ∀ m h w tx1 rf1 fn1 wk1, 33 - h < m → h ≤ w → rl_f tx q rf fn ft s0 Kp h 0 w tx1 rf1 fn1 wk1 → wX_release_9 post m (nI w) (nI h) (K 0) (K 1) (K 2) (K 3) (K 4) (K 5) (K 6) (K 7) (nI (G 0)) (nI (G 1)) (nI (G 2)) (nI (G 3)) (nI (ft + h)) (nI ce) (nI li) (nI de) (nI lo) (jm_a tx1) (jm_a q) (jm_a rf1) (jm_a fn1) (jm_a ho) (jm_a po) (jm_a wk1) := by
  intro m
  induction m with
  | zero => intro h w tx1 rf1 fn1 wk1 hm; omega
  | succ m ih =>
    intro h w tx1 rf1 fn1 wk1 hm hw I
    have pg := rl_pig B I
    refine pk_le w h (fun hx => ?_) (fun hx => ?_)
    · have : h = w := by omega
      subst this
      exact H _ _ _ _ _ (rl_end B hz I)
    · refine pk_le 32 h (fun z => absurd z (by omega)) (fun _ => ⟨pk_in h 32 (by omega) rfl, nm_r (e' := nI (8 + 4 * wk1 h)) ?_ ⟨G 1 + 1, ?_⟩⟩)
      · rw [jm_c (by omega)]
        exact ja_ma 8 4 _
      · exact xw_rel36 B hG (fun w' tx2 rf2 fn2 wk2 I2 hw2 => ih (h + 1) w' tx2 rf2 fn2 wk2 (by omega) hw2 I2) (G 1 + 1) 0 w tx1 rf1 wk1 (by omega) (by omega) I hx rfl
/-- release of the node of slot s0 -/
theorem xw_release (B : rh_f (G 1) tx q rf fn ft s0 Kp) (hG : G 1 ≤ 4) (hz : ∀ m, m < 32 → rf m = 0 → ∀ e, e < 4 → tx (8 + 4 * m + e) = 0) {post : SX → Prop}
    (H : ∀ ft1 tx1 rf1 fn1 wk1, rz_f tx q rf s0 Kp tx1 rf1 fn1 ft1 → post (mk_X K G ft1 ce li de lo tx1 q rf1 fn1 ho po wk1)) : wpX_release post (mk_X K G ft ce li de lo tx q rf fn ho po wk) (nI (q s0)) := by
  have h32 := B.2.2.1 s0 B.2.2.2.1.1 B.2.2.2.1.2
  have h0 := (rl_0 B).2
  have hr : rf (q s0) ≤ 216 := by
    rw [B.1 _ h32]; exact cn_le _ _
  unfold wpX_release
  dsimp only
  refine xw_unref (K := K) (G := G) (w := 0) h32 h0 (by omega) (by omega) (fun z => ⟨by omega, 34, ?_⟩) (fun z => ⟨34, ?_⟩)
  · exact xw_rel9 B hG hz H 34 0 1 _ _ _ _ (by omega) (by omega) (rl_01 B wk z)
  · exact xw_rel9 B hG hz H 34 0 0 _ _ _ _ (by omega) (by omega) (rl_00 B wk z)
end
end
section
/-- t with box b0 and all that lies under it emptied -/
noncomputable def dz_f (t n : Nat → Nat) (b0 : Nat) : Nat → Nat := fun b => @ite Nat (b = b0 ∨ (el_b b ∧ sb_f t n b0 (b / 4))) (Classical.propDecidable _) 0 (t b)
theorem dz_z {t n : Nat → Nat} {b0 b : Nat} (h : b = b0 ∨ (el_b b ∧ sb_f t n b0 (b / 4))) : dz_f t n b0 b = 0 := by unfold dz_f; rw [if_pos h]
theorem dz_k {t n : Nat → Nat} {b0 b : Nat} (h : ¬ (b = b0 ∨ (el_b b ∧ sb_f t n b0 (b / 4)))) : dz_f t n b0 b = t b := by unfold dz_f; rw [if_neg h]
theorem dz_i {t n : Nat → Nat} {b0 b : Nat} (h : dz_f t n b0 b ≠ 0) : dz_f t n b0 b = t b ∧ b ≠ b0 ∧ ¬ (el_b b ∧ sb_f t n b0 (b / 4)) := by
  rcases Classical.em (b = b0 ∨ (el_b b ∧ sb_f t n b0 (b / 4))) with z | z
  · exact absurd (dz_z z) h
  · exact ⟨dz_k z, fun e => z (Or.inl e), fun e => z (Or.inr e)⟩
theorem dz_v {t n : Nat → Nat} {b0 b k : Nat} (e : dz_f t n b0 b = k) (hk : k ≠ 0) : t b = k := by
  have h : dz_f t n b0 b ≠ 0 := by omega
  rw [← (dz_i h).1]
  exact e
theorem dz_0 {t n : Nat → Nat} {b0 : Nat} (h : t b0 ≠ 2) : dz_f t n b0 = nu_a t b0 0 := by
  funext b
  rcases Classical.em (b = b0) with z | z
  · rw [dz_z (Or.inl z), z, nu_s]
  · rw [nu_n z, dz_k]
    rintro (y | ⟨_, y⟩)
    · exact z y
    · exact sb_n h y
section
variable {w : Nat} {f r t n tx q rf fn ho : Nat → Nat} {ft li : Nat}
/-- the box of a slot in a node -/
theorem xs_el (X : xr_f f t n tx q) {b m e : Nat} (hb : ib_v t n b) (hm : m < 32) (he : e < 4) (h : sg_f f b = 8 + 4 * m + e) : el_b b ∧ f (b / 4) = m ∧ b % 4 = e := by
  rcases Classical.em (el_b b) with z | z
  · have := X.2.1 _ (hb.2 z)
    rw [sg_e z.1 z.2] at h
    exact ⟨z, by omega, by omega⟩
  · have hb1 := hb.1
    unfold el_b at z
    unfold sg_f at h
    split at h
    · omega
    · split at h
      · omega
      · split at h <;> omega
theorem xs_nel {b : Nat} (h : ¬ el_b b) : sg_f f b < 8 ∨ 136 ≤ sg_f f b := by
  unfold el_b at h
  unfold sg_f
  split
  · omega
  · split
    · omega
    · split <;> omega
/-- a slot that isn't empty: its box -/
theorem xs_b (Y : yw_f w t n) (X : xr_f f t n tx q) {s : Nat} (hs : s < 216) (h : tx s ≠ 0) : ∃ b, ib_v t n b ∧ sg_f f b = s ∧ t b = tx s ∧ q s = xv_f f t n b := by
  obtain ⟨b, hb, ht, e⟩ := X.2.2 s hs h
  have ib := ib_t Y hb ht
  obtain ⟨x1, x2⟩ := X.1 b ib
  rw [e] at x1 x2
  exact ⟨b, ib, e, x1.symm, x2 ht⟩
theorem xs_2 (Y : yw_f w t n) (X : xr_f f t n tx q) {s : Nat} (hs : s < 216) (h : tx s = 2) : ∃ b a, ib_v t n b ∧ sg_f f b = s ∧ t b = 2 ∧ n b = 4 * a ∧ al_v t n a ∧ q s = f a := by
  obtain ⟨b, ib, e, ht, hq⟩ := xs_b Y X hs (by omega)
  obtain ⟨a, _, _, ea⟩ := Y.2.1 b ib.1 (ht.trans h)
  exact ⟨b, a, ib, e, ht.trans h, ea, ⟨b, ib.1, ht.trans h, ea⟩, hq.trans (xv_2 (ht.trans h) ea)⟩
/-- the slot of the pointer to an array -/
theorem xs_p (X : xr_f f t n tx q) (Y : yw_f w t n) {b a : Nat} (hb : b < 216) (h2 : t b = 2) (e : n b = 4 * a) : sg_f f b < 216 ∧ tx (sg_f f b) = 2 ∧ q (sg_f f b) = f a := by
  have ib := ib_t Y hb (by omega)
  obtain ⟨x1, x2⟩ := X.1 b ib
  exact ⟨sg_lt X ib, x1.trans h2, (x2 (by omega)).trans (xv_2 h2 e)⟩
/-- a node without references is empty -/
theorem xs_0 (Y : yw_f w t n) (X : xr_f f t n tx q) (F : rf_f tx q rf) : ∀ m, m < 32 → rf m = 0 → ∀ e, e < 4 → tx (8 + 4 * m + e) = 0 := by
  intro m hm hr e he
  rcases Classical.em (tx (8 + 4 * m + e) = 0) with z | z
  · exact z
  · obtain ⟨b, ib, es, ht, _⟩ := xs_b Y X (by omega) z
    obtain ⟨hE, hf, _⟩ := xs_el X ib hm he es
    obtain ⟨b', hb', h2, e'⟩ := ib.2 hE
    obtain ⟨p1, p2, p3⟩ := xs_p X Y hb' h2 e'
    have := F m hm
    rw [hr] at this
    exact absurd ⟨p2, p3.trans hf⟩ (cn_none this.symm p1)
/-- nodes that stay -/
def kp_f (f t n : Nat → Nat) (b0 m : Nat) : Prop := ∃ a, al_v t n a ∧ ¬ sb_f t n b0 a ∧ f a = m
theorem op_rh (R : r0_f w f r t n tx q rf fn ho ft li) {b0 : Nat} (hb : ib_v t n b0) (hs : sn_f f t n b0) (h2 : t b0 = 2) : rh_f w tx q rf fn ft (sg_f f b0) (kp_f f t n b0) := by
  obtain ⟨Y, X, RK, KK, F, FR, HO, LI⟩ := R
  refine ⟨F, FR, fun s hs h => ?_, ⟨sg_lt X hb, (X.1 b0 hb).1.trans h2⟩, fun m e hm hw he => ?_, ?_, ?_, fun s hs => ?_⟩
  · obtain ⟨b, a, _, _, _, _, ha, e⟩ := xs_2 Y X hs h
    rw [e]; exact X.2.1 a ha
  · rcases Classical.em (tx (8 + 4 * m + e) = 0) with z | z
    · exact z
    · obtain ⟨b, ib, es, ht, _⟩ := xs_b Y X (by omega) z
      obtain ⟨hE, hf, hm4⟩ := xs_el X ib hm he es
      have := (Y.2.2.2.2 b hE (by omega)).1
      omega
  · rintro m ⟨a, ha, na, e⟩
    refine ⟨e ▸ X.2.1 a ha, ?_⟩
    obtain ⟨b', hb', h2', e'⟩ := ha
    obtain ⟨p1, p2, p3⟩ := xs_p X Y hb' h2' e'
    have ib' := ib_t Y hb' (by omega)
    refine ⟨sg_f f b', p1, fun z => ?_, p2, p3.trans e, fun g1 g2 => ?_⟩
    · have := hs b' ib' z
      subst this
      exact na (sb_0 h2' e')
    · have e4 : sg_f f b' = 8 + 4 * ((sg_f f b' - 8) / 4) + (sg_f f b' - 8) % 4 := by omega
      obtain ⟨hE, hf, _⟩ := xs_el X ib' (by omega) (by omega) e4
      exact ⟨b' / 4, ib'.2 hE, fun s => na (sb_s hE s h2' e'), hf⟩
  · intro g1 g2
    have e4 : sg_f f b0 = 8 + 4 * ((sg_f f b0 - 8) / 4) + (sg_f f b0 - 8) % 4 := by omega
    obtain ⟨hE, hf, _⟩ := xs_el X hb (by omega) (by omega) e4
    exact ⟨b0 / 4, hb.2 hE, sb_ne RK hE, hf⟩
  · rcases Classical.em (tx s = 0) with z | z
    · omega
    · obtain ⟨b, ib, _, e, _⟩ := xs_b Y X hs z
      rw [← e]; exact Y.1 b ib.1
theorem al_dz (Y : yw_f w t n) {b0 : Nat} (hb : b0 < 216) (a : Nat) : al_v (dz_f t n b0) n a ↔ al_v t n a ∧ ¬ sb_f t n b0 a := by
  constructor
  · rintro ⟨b, hb', h2, e⟩
    obtain ⟨d1, d2, d3⟩ := dz_i (t := t) (n := n) (b0 := b0) (b := b) (by omega)
    have h2' : t b = 2 := d1 ▸ h2
    refine ⟨⟨b, hb', h2', e⟩, fun s => ?_⟩
    rcases sb_i s with ⟨g1, g2⟩ | ⟨b', hE, s', g1, g2⟩
    · exact d2 (al_u Y hb' hb h2' g1 e g2)
    · have := al_u Y hb' (el_lt hE) h2' g1 e g2
      subst this
      exact d3 ⟨hE, s'⟩
  · rintro ⟨⟨b, hb', h2, e⟩, ns⟩
    refine ⟨b, hb', ?_, e⟩
    rw [dz_k]
    · exact h2
    · rintro (z | ⟨hE, s⟩)
      · subst z
        exact ns (sb_0 h2 e)
      · exact ns (sb_s hE s h2 e)
/-- a bound on the ranks of the nodes -/
theorem rk_b (r : Nat → Nat) : ∀ k, ∃ M, ∀ m, m < k → r m ≤ M
  | 0 => ⟨0, fun m hm => absurd hm (by omega)⟩
  | k + 1 => by
    obtain ⟨M, h⟩ := rk_b r k
    refine ⟨M + r k, fun m hm => ?_⟩
    rcases Nat.lt_or_ge m k with z | z
    · have := h m z; omega
    · have : m = k := by omega
      subst this; omega
theorem op_kp (R : r0_f w f r t n tx q rf fn ho ft li) {b0 : Nat} (hb : ib_v t n b0) {tx1 rf1 fn1 : Nat → Nat} {ft1 : Nat}
    (Z : rz_f tx q rf (sg_f f b0) (kp_f f t n b0) tx1 rf1 fn1 ft1) : ∀ m, m < 32 → rf1 m ≠ 0 → kp_f f t n b0 m := by
  obtain ⟨Y, X, RK, KK, F, FR, HO, LI⟩ := R
  obtain ⟨z1, z2, z3, z4, z5⟩ := Z
  obtain ⟨M, hM⟩ := rk_b r 32
  have key : ∀ i m, m < 32 → r m = i → rf1 m ≠ 0 → kp_f f t n b0 m := by
    refine ja_dn M (P := fun i => ∀ m, m < 32 → r m = i → rf1 m ≠ 0 → kp_f f t n b0 m) ?_
    intro i ih m hm hr h0
    rw [z3 m hm] at h0
    obtain ⟨s, hs, hs0, h2, hq⟩ := cn_ex h0
    have tx2 : tx s = 2 := by
      rcases Classical.em (s < 8 ∨ 136 ≤ s) with z | z
      · rw [← z1 s hs z]; exact h2
      · have e1 : s = 8 + 4 * ((s - 8) / 4) + (s - 8) % 4 := by omega
        rcases z2 ((s - 8) / 4) (by omega) with ⟨_, y⟩ | ⟨_, y⟩
        · have := y ((s - 8) % 4) (by omega)
          rw [← e1, h2] at this
          exact absurd this (by decide)
        · have := y ((s - 8) % 4) (by omega)
          rw [← e1, h2] at this
          exact this.symm
    obtain ⟨b, a, ib, es, bt, bn, ba, bq⟩ := xs_2 Y X hs tx2
    have fm : f a = m := bq.symm.trans hq
    rcases Classical.em (el_b b) with hE | hE
    · have e4 : s = 8 + 4 * f (b / 4) + b % 4 := by rw [← es, sg_e hE.1 hE.2]
      have f32 := X.2.1 _ (ib.2 hE)
      have rk := RK b hE bt
      rw [bn, Nat.mul_div_cancel_left _ (by decide), fm] at rk
      have h1 : rf1 (f (b / 4)) ≠ 0 := by
        rcases z2 (f (b / 4)) f32 with ⟨_, y⟩ | ⟨y, _⟩
        · have := y (b % 4) (by omega)
          rw [← e4, h2] at this
          exact absurd this (by decide)
        · exact y
      obtain ⟨a2, al2, ns2, ef2⟩ := ih (r (f (b / 4))) (by omega) (hM _ f32) (f (b / 4)) f32 rfl h1
      have r2 := al_r Y al2
      have hE2 : el_b (4 * a2 + b % 4) := ⟨by omega, by omega⟩
      have d2 : (4 * a2 + b % 4) / 4 = a2 := by omega
      have m2 : (4 * a2 + b % 4) % 4 = b % 4 := by omega
      have ib2 : ib_v t n (4 * a2 + b % 4) := ⟨by omega, fun _ => by rw [d2]; exact al2⟩
      have es2 : sg_f f (4 * a2 + b % 4) = s := by rw [sg_e hE2.1 hE2.2, d2, m2, ef2, e4]
      obtain ⟨x1, x2⟩ := X.1 _ ib2
      rw [es2, tx2] at x1
      obtain ⟨a3, _, _, e3⟩ := Y.2.1 _ ib2.1 x1.symm
      have x3 := x2 (by omega)
      rw [es2, xv_2 x1.symm e3] at x3
      refine ⟨a3, ⟨_, ib2.1, x1.symm, e3⟩, fun sb => ?_, x3.symm.trans hq⟩
      rcases sb_i sb with ⟨g1, g2⟩ | ⟨b', hE', s', g1, g2⟩
      · have := al_u Y ib2.1 hb.1 x1.symm g1 e3 g2
        exact hs0 (by rw [← es2, this])
      · have := al_u Y ib2.1 (el_lt hE') x1.symm g1 e3 g2
        rw [← this, d2] at s'
        exact ns2 s'
    · refine ⟨a, ba, fun sb => ?_, fm⟩
      rcases sb_i sb with ⟨g1, g2⟩ | ⟨b', hE', s', g1, g2⟩
      · have := al_u Y ib.1 hb.1 bt g1 bn g2
        exact hs0 (by rw [← es, this])
      · have := al_u Y ib.1 (el_lt hE') bt g1 bn g2
        exact hE (this ▸ hE')
  exact fun m hm h => key _ m hm rfl h
theorem hb_dz (Y : yw_f w t n) {b0 : Nat} (hb : b0 < 216) (h3 : t b0 ≠ 3) (c : Nat) : hc_f t n c = hc_f (dz_f t n b0) n c + sm_f (fun a => b0_1 (sb_f t n b0 a) * hb_f t n c a) 54 := by
  unfold hc_f
  rw [show (216 : Nat) = 4 * 54 from rfl, cn_blk, cn_blk]
  refine sm_a fun a ha => ?_
  show hb_f t n c a = cn_p (fun e => dz_f t n b0 (4 * a + e) = 3 ∧ n (4 * a + e) = 148 + c) 4 + b0_1 (sb_f t n b0 a) * hb_f t n c a
  rcases Classical.em (sb_f t n b0 a) with s | s
  · have ra := al_r Y (sb_al hb s)
    rw [b0_t s, cn_z (N := 4)]
    · omega
    · intro e he x
      have hd : (4 * a + e) / 4 = a := by omega
      rw [dz_z (Or.inr ⟨⟨by omega, by omega⟩, by rw [hd]; exact s⟩)] at x
      exact absurd x.1 (by decide)
  · rw [b0_f s, Nat.zero_mul, Nat.add_zero]
    unfold hb_f
    refine cn_c fun e he => ?_
    have hd : (4 * a + e) / 4 = a := by omega
    rcases Classical.em (4 * a + e = b0) with z | z
    · rw [dz_z (Or.inl z), z]
      exact ⟨fun x => absurd x.1 h3, fun x => absurd x.1 (by decide)⟩
    · rw [dz_k]
      rintro (y | ⟨_, y⟩)
      · exact z y
      · rw [hd] at y
        exact s y
theorem li_dz (Y : yw_f w t n) {b0 : Nat} (hb : b0 < 216) : li_f t n = li_f (dz_f t n b0) n + wt_f t n b0 := by
  unfold li_f wt_f
  rw [cn_spl (al_v t n) (sb_f t n b0) 37, Nat.add_comm]
  refine congr (congrArg HAdd.hAdd (cn_c fun k _ => (al_dz Y hb k).symm)) (cn_c fun k _ => ⟨fun x => x.2, fun x => ⟨sb_al hb x, x⟩⟩)
theorem yw_dz (Y : yw_f w t n) {b0 : Nat} (hb : b0 < 216) : yw_f w (dz_f t n b0) n := by
  have inv : ∀ b k, dz_f t n b0 b = k → k ≠ 0 → t b = k := fun b k e hk => dz_v e hk
  refine ⟨fun b hb' => ?_, fun b hb' h => Y.2.1 b hb' (inv b 2 h (by decide)), fun b hb' h => Y.2.2.1 b hb' (inv b 3 h (by decide)), fun b b' h1 h2 h3 h4 => Y.2.2.2.1 b b' h1 h2 (inv b 2 h3 (by decide)) (inv b' 2 h4 (by decide)), fun b hE h => ?_⟩
  · rcases Classical.em (dz_f t n b0 b = 0) with z | z
    · omega
    · rw [(dz_i z).1]; exact Y.1 b hb'
  · obtain ⟨d1, d2, d3⟩ := dz_i h
    obtain ⟨y1, y2⟩ := Y.2.2.2.2 b hE (d1 ▸ h)
    exact ⟨y1, (al_dz Y hb _).mpr ⟨y2, fun s => d3 ⟨hE, s⟩⟩⟩
/-- X stands for Y with the box emptied, after release -/
theorem op_drop (R : r0_f w f r t n tx q rf fn ho ft li) {b0 : Nat} (hb : ib_v t n b0) (hs : sn_f f t n b0) {tx1 rf1 fn1 : Nat → Nat} {ft1 : Nat}
    (Z : rz_f tx q rf (sg_f f b0) (kp_f f t n b0) tx1 rf1 fn1 ft1) {ho1 : Nat → Nat} {li1 : Nat} (hh : ∀ c, c < 68 → ho1 c = hc_f (dz_f t n b0) n c) (hl : li1 = li_f (dz_f t n b0) n) :
    r0_f w f r (dz_f t n b0) n (nu_a tx1 (sg_f f b0) 0) q rf1 fn1 ho1 ft1 li1 := by
  have kp := op_kp R hb Z
  obtain ⟨Y, X, RK, KK, F, FR, HO, LI⟩ := R
  obtain ⟨z1, z2, z3, z4, z5⟩ := Z
  have inv : ∀ b k, dz_f t n b0 b = k → k ≠ 0 → t b = k := fun b k e hk => dz_v e hk
  refine ⟨yw_dz Y hb.1, ⟨fun b ib' => ?_, fun a ha => X.2.1 a ((al_dz Y hb.1 a).mp ha).1, fun s hs' h => ?_⟩, fun b hE h => RK b hE (inv b 2 h (by decide)), ?_, fun m hm => ?_, z4, hh, hl⟩
  · have ib : ib_v t n b := ⟨ib'.1, fun hE => ((al_dz Y hb.1 _).mp (ib'.2 hE)).1⟩
    rcases Classical.em (b = b0) with z | z
    · subst z
      rw [nu_s, dz_z (Or.inl rfl)]
      exact ⟨rfl, fun x => absurd rfl x⟩
    · have ne : sg_f f b ≠ sg_f f b0 := fun e => z (hs b ib e)
      have keep : dz_f t n b0 b = t b := dz_k (by
        rintro (y | ⟨hE, y⟩)
        · exact z y
        · exact ((al_dz Y hb.1 _).mp (ib'.2 hE)).2 y)
      have txs : tx1 (sg_f f b) = tx (sg_f f b) := by
        rcases Classical.em (el_b b) with hE | hE
        · obtain ⟨a1, a2⟩ := (al_dz Y hb.1 _).mp (ib'.2 hE)
          rw [sg_e hE.1 hE.2]
          rcases z2 _ (X.2.1 _ a1) with ⟨y, _⟩ | ⟨_, y⟩
          · exact absurd y (z5 _ ⟨_, a1, a2, rfl⟩)
          · exact y _ (by omega)
        · exact z1 _ (sg_lt X ib) (xs_nel hE)
      obtain ⟨x1, x2⟩ := X.1 b ib
      rw [nu_n ne, txs, keep]
      refine ⟨x1, fun h => ?_⟩
      rw [x2 h]
      unfold xv_f
      rw [keep]
  · rcases Classical.em (s = sg_f f b0) with z | z
    · rw [z, nu_s] at h
      exact absurd rfl h
    · rw [nu_n z] at h
      rcases Classical.em (s < 8 ∨ 136 ≤ s) with y | y
      · rw [z1 s hs' y] at h
        obtain ⟨b, ib, es, ht, _⟩ := xs_b Y X hs' h
        refine ⟨b, ib.1, ?_, es⟩
        rw [dz_k, ht]
        · exact h
        · rintro (u | ⟨hE, _⟩)
          · exact z (by rw [← es, u])
          · have f32 := X.2.1 _ (ib.2 hE)
            rw [sg_e hE.1 hE.2] at es
            omega
      · have e1 : s = 8 + 4 * ((s - 8) / 4) + (s - 8) % 4 := by omega
        rcases z2 ((s - 8) / 4) (by omega) with ⟨_, u⟩ | ⟨u0, u⟩
        · have := u ((s - 8) % 4) (by omega)
          rw [← e1] at this
          exact absurd this h
        · have us := u ((s - 8) % 4) (by omega)
          rw [← e1] at us
          obtain ⟨a, al, ns, ef⟩ := kp _ (by omega) u0
          have ra := al_r Y al
          have hd : (4 * a + (s - 8) % 4) / 4 = a := by omega
          have hm : (4 * a + (s - 8) % 4) % 4 = (s - 8) % 4 := by omega
          have hE : el_b (4 * a + (s - 8) % 4) := ⟨by omega, by omega⟩
          have es : sg_f f (4 * a + (s - 8) % 4) = s := by rw [sg_e hE.1 hE.2, hd, hm, ef]; exact e1.symm
          have ib : ib_v t n (4 * a + (s - 8) % 4) := ⟨by omega, fun _ => by rw [hd]; exact al⟩
          refine ⟨_, ib.1, ?_, es⟩
          rw [dz_k]
          · have := (X.1 _ ib).1
            rw [es] at this
            rw [← this, ← us]
            exact h
          · rintro (v | ⟨_, v⟩)
            · exact z (by rw [← es, v])
            · rw [hd] at v
              exact ns v
  · obtain ⟨K, k1, k2, k3⟩ := KK
    exact ⟨K, fun c hc h => k1 c hc (inv _ 2 h (by decide)), fun b hE hk h => k2 b hE hk (inv b 2 h (by decide)), fun b hE hk h => k3 b hE hk (inv b 3 h (by decide))⟩
  · rw [z3 m hm]
    refine cn_c fun s hs' => ?_
    rcases Classical.em (s = sg_f f b0) with z | z
    · rw [z, nu_s]
      exact ⟨fun x => absurd rfl x.1, fun x => absurd x.1 (by decide)⟩
    · rw [nu_n z]
      exact ⟨fun x => x.2, fun x => ⟨z, x⟩⟩
/-- a box without an array is emptied -/
theorem op_zero (R : r0_f w f r t n tx q rf fn ho ft li) {b0 : Nat} (hb : ib_v t n b0) (hs : sn_f f t n b0) (h2 : t b0 ≠ 2) {ho1 : Nat → Nat} (hh : ∀ c, c < 68 → ho1 c = hc_f (nu_a t b0 0) n c) :
    r0_f w f r (nu_a t b0 0) n (nu_a tx (sg_f f b0) 0) q rf fn ho1 ft li := by
  obtain ⟨Y, X, RK, KK, F, FR, HO, LI⟩ := R
  have inv : ∀ b k, nu_a t b0 0 b = k → k ≠ 0 → t b = k ∧ b ≠ b0 := fun b k e hk => by
    rcases Classical.em (b = b0) with z | z
    · rw [z, nu_s] at e; omega
    · rw [nu_n z] at e; exact ⟨e, z⟩
  have al : ∀ a, al_v (nu_a t b0 0) n a ↔ al_v t n a := fun a => by
    constructor
    · rintro ⟨b, h1, h3, e⟩
      exact ⟨b, h1, (inv b 2 h3 (by decide)).1, e⟩
    · rintro ⟨b, h1, h3, e⟩
      exact ⟨b, h1, by rw [nu_n (k := b0) (fun z => by rw [z] at h3; exact h2 h3)]; exact h3, e⟩
  refine ⟨⟨fun b hb' => ?_, fun b hb' h => Y.2.1 b hb' (inv b 2 h (by decide)).1, fun b hb' h => Y.2.2.1 b hb' (inv b 3 h (by decide)).1, fun b b' h1 h2 h3 h4 => Y.2.2.2.1 b b' h1 h2 (inv b 2 h3 (by decide)).1 (inv b' 2 h4 (by decide)).1, fun b hE h => ?_⟩, ⟨fun b ib' => ?_, fun a ha => X.2.1 a ((al a).mp ha), fun s hs' h => ?_⟩, fun b hE h => RK b hE (inv b 2 h (by decide)).1, ?_, fun m hm => ?_, FR, hh, ?_⟩
  · rw [nu_c]; split
    · omega
    · exact Y.1 b hb'
  · obtain ⟨d1, d2⟩ := inv b _ rfl h
    obtain ⟨y1, y2⟩ := Y.2.2.2.2 b hE (d1 ▸ h)
    exact ⟨y1, (al _).mpr y2⟩
  · have ib : ib_v t n b := ⟨ib'.1, fun hE => (al _).mp (ib'.2 hE)⟩
    rcases Classical.em (b = b0) with z | z
    · subst z
      rw [nu_s, nu_s]
      exact ⟨rfl, fun x => absurd rfl x⟩
    · have ne : sg_f f b ≠ sg_f f b0 := fun e => z (hs b ib e)
      obtain ⟨x1, x2⟩ := X.1 b ib
      rw [nu_n ne, nu_n z]
      refine ⟨x1, fun h => ?_⟩
      rw [x2 h]
      unfold xv_f
      rw [nu_n z]
  · rcases Classical.em (s = sg_f f b0) with z | z
    · rw [z, nu_s] at h
      exact absurd rfl h
    · rw [nu_n z] at h
      obtain ⟨b, hb', ht, es⟩ := X.2.2 s hs' h
      exact ⟨b, hb', by rw [nu_n (fun y => z (by rw [← es, y]))]; exact ht, es⟩
  · obtain ⟨K, k1, k2, k3⟩ := KK
    exact ⟨K, fun c hc h => k1 c hc (inv _ 2 h (by decide)).1, fun b hE hk h => k2 b hE hk (inv b 2 h (by decide)).1, fun b hE hk h => k3 b hE hk (inv b 3 h (by decide)).1⟩
  · rw [F m hm]
    refine cn_c fun s hs' => ?_
    rcases Classical.em (s = sg_f f b0) with z | z
    · rw [z, nu_s, (X.1 b0 hb).1]
      exact ⟨fun x => absurd x.1 h2, fun x => absurd x.1 (by decide)⟩
    · rw [nu_n z]
  · rw [LI]
    exact cn_c fun a _ => (al a).symm
end
end
section
section
variable {K : Nat → Int32} {G : Nat → Nat} {ft ce li de lo : Nat} {tx q rf fn ho po wk : Nat → Nat} {f r t n : Nat → Nat}
theorem hc_le (t n : Nat → Nat) (c : Nat) : hc_f t n c ≤ 216 := cn_le _ _
theorem li_le (t n : Nat → Nat) : li_f t n ≤ 37 := cn_le _ _
/-- dropValue empties a box that stands alone, and all under it -/
theorem xw_drop (R : r0_f (G 1) f r t n tx q rf fn ho ft li) (hG : G 1 ≤ 4) {b0 : Nat} (hb : ib_v t n b0) (hs : sn_f f t n b0) (h3 : t b0 ≠ 3) (hce : ce = 0 → ∀ b, b < 216 → t b ≠ 3) (hc31 : ce < 2 ^ 31) {post : SX → Prop}
    (H : ∀ ft li tx rf fn ho wk, r0_f (G 1) f r (dz_f t n b0) n tx q rf fn ho ft li → post (mk_X K G ft ce li de lo tx q rf fn ho po wk)) : wpX_dropValue post (mk_X K G ft ce li de lo tx q rf fn ho po wk) (nI (sg_f f b0)) := by
  have R0 := R
  obtain ⟨Y, X, RK, KK, F, FR, HO, LI⟩ := R
  have h1 := sg_lt X hb
  obtain ⟨x1, x2⟩ := X.1 b0 hb
  have ht := Y.1 b0 hb.1
  refine jr_eq (sg_f f b0) 2 h1 (by omega) (fun h2 => ?_) (fun h2 => ?_) rfl
  · rw [x1] at h2
    refine xw_collect Y X RK hG hb fun w A wk1 E hw hwk => ?_
    have hA : ∀ j, j < w → al_v t n (A j) := fun j hj => sb_al hb.1 (E.1 j hj)
    have rg : ∀ a, sb_f t n b0 a → a < 37 := fun a s => (al_r Y (sb_al hb.1 s)).2
    have tot : ∀ c, sm_f (fun j => hb_f t n c (A j)) w + hc_f (dz_f t n b0) n c = hc_f t n c := fun c => by
      rw [hb_dz Y hb.1 h3 c, en_sm (N := 54) (hb_f t n c) E (fun a s => by have := rg a s; omega)]
      omega
    refine xw_tally Y X hG (hv := fun c x => ho c - x) hA hw hwk (fun c _ => rfl) hce hc31 (fun c x hc hx => ?_) (fun ho1 hho => ?_)
    · have h4 := tot c
      rw [← HO c hc] at h4
      have hx' : x < sm_f (fun j => hb_f t n c (A j)) w := hx
      show nI (ho c - x) + (-1) = nI (ho c - (x + 1))
      rw [sb_m1 (by omega)]
      rfl
    · have wE : w = wt_f t n b0 := en_cn E rg
      have lE := li_dz Y hb.1
      rw [← LI] at lE
      refine nm_r (e' := nI (li - w)) (pk_sub (by omega)) ⟨pk_in _ 216 h1 rfl, ?_⟩
      have e1 : jm_a q (nI (sg_f f b0)).toNatClampNeg = nI (q (sg_f f b0)) := jm_c (by omega)
      rw [e1]
      refine xw_release (op_rh R0 hb hs h2) hG (xs_0 Y X F) fun ft1 tx1 rf1 fn1 wk2 Z => ?_
      refine jw_u (sg_f f b0) 0 h1 ?_ rfl rfl
      refine H _ _ _ _ _ _ _ (op_drop R0 hb hs Z (fun c hc => ?_) (by omega))
      have h4 := tot c
      have h5 : ho1 c = ho c - sm_f (fun j => hb_f t n c (A j)) w := hho c hc
      rw [h5, HO c hc]
      omega
  · rw [x1] at h2
    refine jw_u (sg_f f b0) 0 h1 ?_ rfl rfl
    refine H ft li _ rf fn ho wk ?_
    rw [dz_0 h2]
    refine op_zero R0 hb hs h2 fun c hc => ?_
    rw [HO c hc]
    refine cn_c fun b _ => ?_
    rcases Classical.em (b = b0) with z | z
    · rw [z, nu_s]
      exact ⟨fun x => absurd x.1 h3, fun x => absurd x.1 (by decide)⟩
    · rw [nu_n z]
end
section
variable {w : Nat} {f r t n tx q rf fn ho : Nat → Nat} {ft li : Nat}
/-- an array under b0 gets a smaller rank than all others -/
noncomputable def rr_f (f r t n : Nat → Nat) (b0 : Nat) : Nat → Nat := fun m => @ite Nat (∃ a, sb_f t n b0 a ∧ f a = m) (Classical.propDecidable _) (r m) (r m + r (f (n b0 / 4)) + 1)
theorem rr_k (Y : yw_f w t n) (X : xr_f f t n tx q) (RK : rk_f f t n r) {b0 : Nat} (hb : b0 < 216) : rk_f f t n (rr_f f r t n b0) := by
  intro b hE h2
  have h := RK b hE h2
  obtain ⟨a, _, _, e⟩ := Y.2.1 b (el_lt hE) h2
  rw [e, Nat.mul_div_cancel_left _ (by decide)] at h ⊢
  have al := (Y.2.2.2.2 b hE (by omega)).2
  unfold rr_f
  rcases Classical.em (∃ a, sb_f t n b0 a ∧ f a = f (b / 4)) with z | z
  · rw [if_pos z]
    obtain ⟨a2, s2, e2⟩ := z
    have al2 := sb_al hb s2
    have r2 := al_r Y al2
    have hE2 : el_b (4 * a2 + b % 4) := ⟨by omega, by omega⟩
    have d2 : (4 * a2 + b % 4) / 4 = a2 := by omega
    have m2 : (4 * a2 + b % 4) % 4 = b % 4 := by omega
    have ib2 : ib_v t n (4 * a2 + b % 4) := ⟨by omega, fun _ => by rw [d2]; exact al2⟩
    have es : sg_f f (4 * a2 + b % 4) = sg_f f b := by rw [sg_e hE2.1 hE2.2, sg_e hE.1 hE.2, d2, m2, e2]
    obtain ⟨x1, x2⟩ := X.1 _ ib2
    obtain ⟨y1, y2⟩ := X.1 b (ib_t Y (el_lt hE) (by omega))
    rw [es, y1, h2] at x1
    obtain ⟨a3, _, _, e3⟩ := Y.2.1 _ ib2.1 x1.symm
    have x3 := x2 (by omega)
    have y3 := y2 (by omega)
    rw [es, y3, xv_2 x1.symm e3, xv_2 h2 e] at x3
    rw [if_pos ⟨a3, sb_s hE2 (by rw [d2]; exact s2) x1.symm e3, x3.symm⟩]
    exact h
  · rw [if_neg z]
    split <;> omega
/-- the value of box b0 moves to box b1 -/
theorem op_mv (R : r0_f w f r t n tx q rf fn ho ft li) {b0 b1 : Nat} (ib0 : ib_v t n b0) (s0 : sn_f f t n b0) (ib1 : ib_v t n b1) (s1 : sn_f f t n b1) (ne : b0 ≠ b1) (h0 : t b0 ≠ 0) (h03 : t b0 ≠ 3) (h12 : t b1 ≠ 2)
    (hw : el_b b1 → b1 % 4 < w) (hnd : el_b b1 → ∀ a, sb_f t n b0 a → f a ≠ f (b1 / 4)) (KK' : ∃ K, kk_f K (nu_a (nu_a t b1 (t b0)) b0 0) (nu_a n b1 (n b0))) {ho1 : Nat → Nat}
    (hh : ∀ c, c < 68 → ho1 c = hc_f (nu_a (nu_a t b1 (t b0)) b0 0) (nu_a n b1 (n b0)) c) :
    ∃ r', r0_f w f r' (nu_a (nu_a t b1 (t b0)) b0 0) (nu_a n b1 (n b0)) (nu_a (nu_a tx (sg_f f b1) (tx (sg_f f b0))) (sg_f f b0) 0) (nu_a q (sg_f f b1) (q (sg_f f b0))) rf fn ho1 ft li := by
  obtain ⟨Y, X, RK, KK, F, FR, HO, LI⟩ := R
  have sne : sg_f f b0 ≠ sg_f f b1 := fun e => ne (s1 b0 ib0 e)
  have v1 : nu_a (nu_a t b1 (t b0)) b0 0 b1 = t b0 := by rw [nu_n (fun e => ne e.symm), nu_s]
  have v0 : nu_a (nu_a t b1 (t b0)) b0 0 b0 = 0 := nu_s
  have vo : ∀ b, b ≠ b0 → b ≠ b1 → nu_a (nu_a t b1 (t b0)) b0 0 b = t b := fun b e0 e1 => by rw [nu_n e0, nu_n e1]
  have m1 : nu_a n b1 (n b0) b1 = n b0 := nu_s
  have mo : ∀ b, b ≠ b1 → nu_a n b1 (n b0) b = n b := fun b e1 => nu_n e1
  generalize ht' : nu_a (nu_a t b1 (t b0)) b0 0 = t' at *
  generalize hn' : nu_a n b1 (n b0) = n' at *
  have inv : ∀ b, t' b ≠ 0 → b ≠ b0 ∧ ((b = b1 ∧ t' b = t b0 ∧ n' b = n b0) ∨ (b ≠ b1 ∧ t' b = t b ∧ n' b = n b)) := fun b h => by
    rcases Classical.em (b = b0) with z | z
    · rw [z, v0] at h; exact absurd rfl h
    · rcases Classical.em (b = b1) with y | y
      · exact ⟨z, Or.inl ⟨y, by rw [y]; exact v1, by rw [y]; exact m1⟩⟩
      · exact ⟨z, Or.inr ⟨y, vo b z y, mo b y⟩⟩
  have al : ∀ a, al_v t' n' a ↔ al_v t n a := fun a => by
    constructor
    · rintro ⟨b, hb, h2, e⟩
      rcases (inv b (by omega)).2 with ⟨y, q1, q2⟩ | ⟨y, q1, q2⟩
      · exact ⟨b0, ib0.1, by rw [← q1]; exact h2, by rw [← q2]; exact e⟩
      · exact ⟨b, hb, by rw [← q1]; exact h2, by rw [← q2]; exact e⟩
    · rintro ⟨b, hb, h2, e⟩
      rcases Classical.em (b = b0) with z | z
      · subst z
        exact ⟨b1, ib1.1, by rw [v1]; exact h2, by rw [m1]; exact e⟩
      · have z1 : b ≠ b1 := fun y => h12 (by rw [← y]; exact h2)
        exact ⟨b, hb, by rw [vo b z z1]; exact h2, by rw [mo b z1]; exact e⟩
  have Y' : yw_f w t' n' := by
    refine ⟨fun b hb => ?_, fun b hb h => ?_, fun b hb h => ?_, fun b b' hb hb' h h' e => ?_, fun b hE h => ?_⟩
    · rcases Classical.em (t' b = 0) with z | z
      · omega
      · rcases (inv b z).2 with ⟨y, q1, q2⟩ | ⟨y, q1, q2⟩
        · rw [q1]; exact Y.1 b0 ib0.1
        · rw [q1]; exact Y.1 b hb
    · rcases (inv b (by omega)).2 with ⟨y, q1, q2⟩ | ⟨y, q1, q2⟩
      · rw [q2]; exact Y.2.1 b0 ib0.1 (by rw [← q1]; exact h)
      · rw [q2]; exact Y.2.1 b hb (by rw [← q1]; exact h)
    · rcases (inv b (by omega)).2 with ⟨y, q1, q2⟩ | ⟨y, q1, q2⟩
      · exact absurd (q1.symm.trans h) h03
      · rw [q2]; exact Y.2.2.1 b hb (by rw [← q1]; exact h)
    · rcases (inv b (by omega)) with ⟨z, ⟨y, q1, q2⟩ | ⟨y, q1, q2⟩⟩
      · rcases (inv b' (by omega)) with ⟨z', ⟨y', q1', q2'⟩ | ⟨y', q1', q2'⟩⟩
        · omega
        · have := Y.2.2.2.1 b0 b' ib0.1 hb' (by omega) (by omega) (by omega)
          omega
      · rcases (inv b' (by omega)) with ⟨z', ⟨y', q1', q2'⟩ | ⟨y', q1', q2'⟩⟩
        · have := Y.2.2.2.1 b b0 hb ib0.1 (by omega) (by omega) (by omega)
          omega
        · exact Y.2.2.2.1 b b' hb hb' (by omega) (by omega) (by omega)
    · rcases (inv b h).2 with ⟨y, q1, q2⟩ | ⟨y, q1, q2⟩
      · subst y
        exact ⟨hw hE, (al _).mpr (ib1.2 hE)⟩
      · obtain ⟨y1, y2⟩ := Y.2.2.2.2 b hE (by omega)
        exact ⟨y1, (al _).mpr y2⟩
  refine ⟨rr_f f r t n b0, Y', ⟨fun b ib' => ?_, fun a ha => X.2.1 a ((al a).mp ha), fun s hs h => ?_⟩, ?_, KK', fun m hm => ?_, FR, hh, ?_⟩
  · have ib : ib_v t n b := ⟨ib'.1, fun hE => (al _).mp (ib'.2 hE)⟩
    obtain ⟨x1, x2⟩ := X.1 b ib
    rcases Classical.em (b = b0) with z | z
    · subst z
      rw [nu_s, v0]
      exact ⟨rfl, fun x => absurd rfl x⟩
    · rcases Classical.em (b = b1) with y | y
      · subst y
        obtain ⟨y1, y2⟩ := X.1 b0 ib0
        rw [nu_n (fun e => sne e.symm), nu_s, nu_s, v1, y1]
        refine ⟨rfl, fun h => ?_⟩
        rw [y2 h]
        unfold xv_f
        rw [v1, m1]
      · have e0 : sg_f f b ≠ sg_f f b0 := fun e => z (s0 b ib e)
        have e1 : sg_f f b ≠ sg_f f b1 := fun e => y (s1 b ib e)
        rw [nu_n e0, nu_n e1, nu_n e1, vo b z y]
        refine ⟨x1, fun h => ?_⟩
        rw [x2 h]
        unfold xv_f
        rw [vo b z y, mo b y]
  · rcases Classical.em (s = sg_f f b0) with z | z
    · rw [z, nu_s] at h
      exact absurd rfl h
    · rw [nu_n z] at h
      rcases Classical.em (s = sg_f f b1) with y | y
      · exact ⟨b1, ib1.1, by rw [v1]; exact h0, y.symm⟩
      · rw [nu_n y] at h
        obtain ⟨b, hb, hb0, es⟩ := X.2.2 s hs h
        exact ⟨b, hb, by rw [vo b (fun e => z (by rw [← es, e])) (fun e => y (by rw [← es, e]))]; exact hb0, es⟩
  · intro b hE h2
    rcases inv b (by omega) with ⟨z, ⟨y, q1, q2⟩ | ⟨y, q1, q2⟩⟩
    · subst y
      have h2' : t b0 = 2 := q1.symm.trans h2
      obtain ⟨a, _, _, e⟩ := Y.2.1 b0 ib0.1 h2'
      rw [q2, e, Nat.mul_div_cancel_left _ (by decide)]
      unfold rr_f
      rw [if_pos ⟨a, sb_0 h2' e, rfl⟩, if_neg (fun ⟨a', s', e'⟩ => hnd hE a' s' e'), e, Nat.mul_div_cancel_left _ (by decide)]
      omega
    · rw [q2]
      exact rr_k Y X RK ib0.1 b hE (by omega)
  · rw [F m hm]
    have p1 : ¬ (tx (sg_f f b1) = 2 ∧ q (sg_f f b1) = m) := fun x => h12 ((X.1 b1 ib1).1.symm.trans x.1)
    rcases Classical.em (tx (sg_f f b0) = 2 ∧ q (sg_f f b0) = m) with z | z
    · rw [cn_rem (Q := fun s => tx s = 2 ∧ q s = m) z (sg_lt X ib0)]
      refine (Eq.trans (cn_rem (a := sg_f f b1) (Q := fun s => nu_a (nu_a tx (sg_f f b1) (tx (sg_f f b0))) (sg_f f b0) 0 s = 2 ∧ nu_a q (sg_f f b1) (q (sg_f f b0)) s = m) ?_ (sg_lt X ib1)) ?_).symm
      · show nu_a (nu_a tx (sg_f f b1) (tx (sg_f f b0))) (sg_f f b0) 0 (sg_f f b1) = 2 ∧ nu_a q (sg_f f b1) (q (sg_f f b0)) (sg_f f b1) = m
        rw [nu_n (fun e => sne e.symm), nu_s, nu_s]
        exact z
      · refine congrArg (· + 1) (cn_c fun s hs => ?_)
        show (nu_a (nu_a tx (sg_f f b1) (tx (sg_f f b0))) (sg_f f b0) 0 s = 2 ∧ nu_a q (sg_f f b1) (q (sg_f f b0)) s = m) ∧ s ≠ sg_f f b1 ↔ (tx s = 2 ∧ q s = m) ∧ s ≠ sg_f f b0
        rcases Classical.em (s = sg_f f b0) with u | u
        · rw [u, nu_s]
          exact ⟨fun x => absurd x.1.1 (by decide), fun x => absurd rfl x.2⟩
        · rcases Classical.em (s = sg_f f b1) with v | v
          · rw [v]
            exact ⟨fun x => absurd rfl x.2, fun x => absurd x.1 p1⟩
          · rw [nu_n u, nu_n v, nu_n v]
            exact ⟨fun x => ⟨x.1, u⟩, fun x => ⟨x.1, v⟩⟩
    · refine cn_c fun s hs => ?_
      show (tx s = 2 ∧ q s = m) ↔ (nu_a (nu_a tx (sg_f f b1) (tx (sg_f f b0))) (sg_f f b0) 0 s = 2 ∧ nu_a q (sg_f f b1) (q (sg_f f b0)) s = m)
      rcases Classical.em (s = sg_f f b0) with u | u
      · rw [u, nu_s]
        exact ⟨fun x => absurd x z, fun x => absurd x.1 (by decide)⟩
      · rcases Classical.em (s = sg_f f b1) with v | v
        · rw [v, nu_n (fun e => sne e.symm), nu_s, nu_s]
          exact ⟨fun x => absurd x p1, fun x => absurd x z⟩
        · rw [nu_n u, nu_n v, nu_n v]
  · rw [LI]
    exact cn_c fun a _ => (al a).symm
/-- a box becomes a holder -/
theorem op_hold (R : r0_f w f r t n tx q rf fn ho ft li) {b1 c : Nat} (ib1 : ib_v t n b1) (s1 : sn_f f t n b1) (h1 : t b1 = 0) (hb : b1 < 148) (hb2 : ¬ (8 ≤ b1 ∧ b1 < 20)) (hc : c < 68)
    (hw : el_b b1 → b1 % 4 < w) (KK' : ∃ K, kk_f K (nu_a t b1 3) (nu_a n b1 (148 + c))) {ho1 : Nat → Nat} (hh : ∀ c', c' < 68 → ho1 c' = hc_f (nu_a t b1 3) (nu_a n b1 (148 + c)) c') :
    r0_f w f r (nu_a t b1 3) (nu_a n b1 (148 + c)) (nu_a tx (sg_f f b1) 3) (nu_a q (sg_f f b1) c) rf fn ho1 ft li := by
  obtain ⟨Y, X, RK, KK, F, FR, HO, LI⟩ := R
  have inv : ∀ b, nu_a t b1 3 b = 2 → b ≠ b1 ∧ t b = 2 ∧ nu_a n b1 (148 + c) b = n b := fun b h => by
    rcases Classical.em (b = b1) with z | z
    · rw [z, nu_s] at h; omega
    · rw [nu_n z] at h; exact ⟨z, h, nu_n z⟩
  have al : ∀ a, al_v (nu_a t b1 3) (nu_a n b1 (148 + c)) a ↔ al_v t n a := fun a => by
    constructor
    · rintro ⟨b, g1, h3, e⟩
      obtain ⟨i1, i2, i3⟩ := inv b h3
      exact ⟨b, g1, i2, by rw [← i3]; exact e⟩
    · rintro ⟨b, g1, h3, e⟩
      have z : b ≠ b1 := fun z => by rw [z] at h3; omega
      exact ⟨b, g1, by rw [nu_n z]; exact h3, by rw [nu_n z]; exact e⟩
  refine ⟨⟨fun b hb' => ?_, fun b hb' h => ?_, fun b hb' h => ?_, fun b b' g1 g2 g3 g4 e => ?_, fun b hE h => ?_⟩, ⟨fun b ib' => ?_, fun a ha => X.2.1 a ((al a).mp ha), fun s hs' h => ?_⟩, fun b hE h => ?_, KK', fun m hm => ?_, FR, hh, ?_⟩
  · rw [nu_c]; split
    · omega
    · exact Y.1 b hb'
  · obtain ⟨i1, i2, i3⟩ := inv b h
    rw [i3]; exact Y.2.1 b hb' i2
  · rcases Classical.em (b = b1) with z | z
    · subst z
      rw [nu_s]
      exact ⟨⟨c, hc, rfl⟩, hb, hb2⟩
    · rw [nu_n z] at h ⊢
      exact Y.2.2.1 b hb' h
  · obtain ⟨i1, i2, i3⟩ := inv b g3
    obtain ⟨j1, j2, j3⟩ := inv b' g4
    exact Y.2.2.2.1 b b' g1 g2 i2 j2 (by rw [← i3, ← j3]; exact e)
  · rcases Classical.em (b = b1) with z | z
    · subst z
      exact ⟨hw hE, (al _).mpr (ib1.2 hE)⟩
    · rw [nu_n z] at h
      obtain ⟨y1, y2⟩ := Y.2.2.2.2 b hE h
      exact ⟨y1, (al _).mpr y2⟩
  · have ib : ib_v t n b := ⟨ib'.1, fun hE => (al _).mp (ib'.2 hE)⟩
    rcases Classical.em (b = b1) with z | z
    · subst z
      rw [nu_s, nu_s, nu_s]
      refine ⟨rfl, fun _ => ?_⟩
      exact (xv_3 nu_s nu_s).symm
    · have e1 : sg_f f b ≠ sg_f f b1 := fun e => z (s1 b ib e)
      obtain ⟨x1, x2⟩ := X.1 b ib
      rw [nu_n e1, nu_n e1, nu_n z]
      refine ⟨x1, fun h => ?_⟩
      rw [x2 h]
      unfold xv_f
      rw [nu_n z, nu_n z]
  · rcases Classical.em (s = sg_f f b1) with z | z
    · exact ⟨b1, ib1.1, by rw [nu_s]; decide, z.symm⟩
    · rw [nu_n z] at h
      obtain ⟨b, hb', ht, es⟩ := X.2.2 s hs' h
      exact ⟨b, hb', by rw [nu_n (fun y => z (by rw [← es, y]))]; exact ht, es⟩
  · obtain ⟨i1, i2, i3⟩ := inv b h
    rw [i3]; exact RK b hE i2
  · rw [F m hm]
    refine cn_c fun s hs' => ?_
    rcases Classical.em (s = sg_f f b1) with z | z
    · rw [z, nu_s, (X.1 b1 ib1).1, h1]
      exact ⟨fun x => absurd x.1 (by decide), fun x => absurd x.1 (by decide)⟩
    · rw [nu_n z, nu_n z]
  · rw [LI]
    exact cn_c fun a _ => (al a).symm
end
section
variable {K : Nat → Int32} {G : Nat → Nat} {ft ce li de lo : Nat} {tx q rf fn ho po wk : Nat → Nat} {f r t n : Nat → Nat}
theorem xw_move {s0 s1 : Nat} (h0 : s0 < 216) (h1 : s1 < 216) {post : SX → Prop} (H : post (mk_X K G ft ce li de lo (nu_a (nu_a tx s1 (tx s0)) s0 0) (nu_a q s1 (q s0)) rf fn ho po wk)) : wpX_move post (mk_X K G ft ce li de lo tx q rf fn ho po wk) (nI s0) (nI s1) :=
  ⟨pk_in s0 216 h0 rfl, jw_u s1 (tx s0) h1 ⟨pk_in s0 216 h0 rfl, jw_u s1 (q s0) h1 (jw_u s0 0 h0 H rfl rfl) rfl (jm_c (by omega))⟩ rfl (jm_c (by omega))⟩
theorem xw_find2 (Y : yw_f (G 1) t n) (X : xr_f f t n tx q) {c : Nat} (hc : c < 68) {post : Int32 → Prop} (H : ∀ s, s < 136 → tx s = 3 → q s = c → post (nI s)) :
    ∀ m s, 136 - s < m → s ≤ 136 → (∃ s', s ≤ s' ∧ s' < 136 ∧ tx s' = 3 ∧ q s' = c) → wX_findHolder_2 post (nI c) (K 0) (K 1) (K 2) (K 3) (K 4) (K 5) (K 6) (K 7) (nI (G 0)) (nI (G 1)) (nI (G 2)) (nI (G 3)) (nI ft) (nI ce) (nI li) (nI de) (nI lo) (jm_a tx) (jm_a q) (jm_a rf) (jm_a fn) (jm_a ho) (jm_a po) (jm_a wk) m (nI s) := by
  intro m
  induction m with
  | zero => intro s hm; omega
  | succ m ih =>
    intro s hm hs ⟨s', e1, e2, e3, e4⟩
    refine pk_le 136 s (fun z => absurd z (by omega)) (fun _ => ?_)
    have txs : tx s ≤ 3 := by
      rcases Classical.em (tx s = 0) with z | z
      · omega
      · obtain ⟨b, ib, _, e, _⟩ := xs_b Y X (by omega) z
        rw [← e]; exact Y.1 b ib.1
    refine jr_eq s 3 (by omega) (by omega) (fun h => ?_) (fun h => ?_) rfl
    · obtain ⟨b, ib, _, e, eq⟩ := xs_b Y X (s := s) (by omega) (by omega)
      have bt : t b = 3 := e.trans h
      obtain ⟨⟨c', hc', ec⟩, _⟩ := Y.2.2.1 b ib.1 bt
      rw [xv_3 bt ec] at eq
      refine jr_eq s c (by omega) (by omega) (fun h' => H s (by omega) h h') (fun h' => nm_r (ja_p1 s) (ih (s + 1) (by omega) (by omega) ⟨s', ?_, e2, e3, e4⟩)) rfl
      rcases Nat.lt_or_ge s s' with z | z
      · exact z
      · have : s' = s := by omega
        subst this
        exact absurd e4 h'
    · refine nm_r (ja_p1 s) (ih (s + 1) (by omega) (by omega) ⟨s', ?_, e2, e3, e4⟩)
      rcases Nat.lt_or_ge s s' with z | z
      · exact z
      · have : s' = s := by omega
        subst this
        exact absurd e3 h
theorem xw_find (Y : yw_f (G 1) t n) (X : xr_f f t n tx q) {c : Nat} (hc : c < 68) (he : ∃ s, s < 136 ∧ tx s = 3 ∧ q s = c) {post : Int32 → Prop} (H : ∀ s, s < 136 → tx s = 3 → q s = c → post (nI s)) : wpX_findHolder post (mk_X K G ft ce li de lo tx q rf fn ho po wk) (nI c) := by
  obtain ⟨s, e1, e2, e3⟩ := he
  exact ⟨137, xw_find2 Y X hc H 137 0 (by omega) (by omega) ⟨s, by omega, e1, e2, e3⟩⟩
end
end
section
/-- the cases of a settle that has done the cells below c -/
def sA_f (t n : Nat → Nat) (c b : Nat) : Prop := 148 ≤ b ∧ b < 148 + c ∧ hc_f t n (b - 148) < 2
def sB_f (t n : Nat → Nat) (c b : Nat) : Prop := b < 148 ∧ t b = 3 ∧ n b < 148 + c ∧ hc_f t n (n b - 148) = 1
def sC_f (t n : Nat → Nat) (c b : Nat) : Prop := el_b b ∧ ∃ c', c' < c ∧ c' < 68 ∧ hc_f t n c' = 0 ∧ sb_f t n (148 + c') (b / 4)
noncomputable def sT_f (t n : Nat → Nat) (c : Nat) : Nat → Nat := fun b =>
  @ite Nat (sB_f t n c b) (Classical.propDecidable _) (t (n b)) (@ite Nat (sA_f t n c b ∨ sC_f t n c b) (Classical.propDecidable _) 0 (t b))
noncomputable def sN_f (t n : Nat → Nat) (c : Nat) : Nat → Nat := fun b => @ite Nat (sB_f t n c b) (Classical.propDecidable _) (n (n b)) (n b)
section
variable {t n : Nat → Nat} {c b : Nat}
theorem sT_B (h : sB_f t n c b) : sT_f t n c b = t (n b) := by unfold sT_f; rw [if_pos h]
theorem sT_Z (h : ¬ sB_f t n c b) (h2 : sA_f t n c b ∨ sC_f t n c b) : sT_f t n c b = 0 := by unfold sT_f; rw [if_neg h, if_pos h2]
theorem sT_D (h : ¬ sB_f t n c b) (h1 : ¬ sA_f t n c b) (h2 : ¬ sC_f t n c b) : sT_f t n c b = t b := by unfold sT_f; rw [if_neg h, if_neg (fun x => x.elim h1 h2)]
theorem sN_B (h : sB_f t n c b) : sN_f t n c b = n (n b) := by unfold sN_f; rw [if_pos h]
theorem sN_D (h : ¬ sB_f t n c b) : sN_f t n c b = n b := by unfold sN_f; rw [if_neg h]
theorem sT_A (h : sA_f t n c b) : sT_f t n c b = 0 := sT_Z (fun x => by have := x.1; have := h.1; omega) (Or.inl h)
/-- equal cases, equal values -/
theorem sT_e {c' : Nat} (hA : sA_f t n c b ↔ sA_f t n c' b) (hB : sB_f t n c b ↔ sB_f t n c' b) (hC : sC_f t n c b ↔ sC_f t n c' b) : sT_f t n c b = sT_f t n c' b ∧ sN_f t n c b = sN_f t n c' b := by
  rcases Classical.em (sB_f t n c b) with z | z
  · exact ⟨by rw [sT_B z, sT_B (hB.mp z)], by rw [sN_B z, sN_B (hB.mp z)]⟩
  · have z' : ¬ sB_f t n c' b := fun x => z (hB.mpr x)
    refine ⟨?_, by rw [sN_D z, sN_D z']⟩
    rcases Classical.em (sA_f t n c b ∨ sC_f t n c b) with y | y
    · rw [sT_Z z y, sT_Z z' (y.elim (fun x => Or.inl (hA.mp x)) (fun x => Or.inr (hC.mp x)))]
    · rw [sT_D z (fun x => y (Or.inl x)) (fun x => y (Or.inr x)), sT_D z' (fun x => y (Or.inl (hA.mpr x))) (fun x => y (Or.inr (hC.mpr x)))]
theorem sT_0 (t n : Nat → Nat) : (∀ b, b < 216 → t b = 3 → 148 ≤ n b) → (∀ b, sT_f t n 0 b = t b ∧ sN_f t n 0 b = n b) := by
  intro h b
  have nB : ¬ sB_f t n 0 b := fun x => by
    have := h b (by have := x.1; omega) x.2.1
    have := x.2.2.1
    omega
  exact ⟨sT_D nB (fun x => by have := x.2.1; have := x.1; omega) (fun ⟨_, c', x, _⟩ => by omega), sN_D nB⟩
end
section
variable {w : Nat} {f r t n : Nat → Nat}
/-- what the closed form rests on: (t, n) is well formed, its cells hold no holders -/
def sh_f (w : Nat) (f r t n : Nat → Nat) : Prop := yw_f w t n ∧ rk_f f t n r ∧ (∃ K, kk_f K t n) ∧ (∀ b, b < 148 → t b = 3 → t (n b) ≠ 0)
theorem sh_3 (S : sh_f w f r t n) {c b : Nat} (hc : c < 68) (hE : el_b b) (s : sb_f t n (148 + c) (b / 4)) : t b ≠ 3 := kk_n S.1.2.1 S.2.2.1 hc hE s
theorem sh_c (S : sh_f w f r t n) {b : Nat} (h : 148 ≤ b) (h2 : b < 216) : t b ≠ 3 := fun z => by
  have := (S.1.2.2.1 b h2 z).2.1
  omega
/-- trees of two cells don't meet -/
theorem sb_dj (S : sh_f w f r t n) {c c' a : Nat} (hc : c < 68) (hc' : c' < 68) (s : sb_f t n (148 + c) a) (s' : sb_f t n (148 + c') a) : c = c' := by
  rcases Classical.em (c = c') with e | e
  · exact e
  · refine absurd s' (s (fun a => ¬ sb_f t n (148 + c') a) ?_ ?_)
    · intro h2 a' ea x
      rcases sb_i x with ⟨g1, g2⟩ | ⟨b', hE, _, g1, g2⟩
      · have := al_u S.1 (b := 148 + c) (b' := 148 + c') (by omega) (by omega) h2 g1 ea g2
        omega
      · have := al_u S.1 (b := 148 + c) (b' := b') (by omega) (el_lt hE) h2 g1 ea g2
        have := hE.2
        omega
    · intro b' a' hE hn h2 ea x
      rcases sb_i x with ⟨g1, g2⟩ | ⟨b2, hE2, s2, g1, g2⟩
      · have := al_u S.1 (b := 148 + c') (b' := b') (by omega) (el_lt hE) g1 h2 g2 ea
        have := hE.2
        omega
      · have := al_u S.1 (el_lt hE2) (el_lt hE) g1 h2 g2 ea
        subst this
        exact hn s2
/-- a holder of the closed form is an old one -/
theorem sT_3 (S : sh_f w f r t n) {c b : Nat} (hb : b < 216) (h : sT_f t n c b = 3) : ¬ sB_f t n c b ∧ t b = 3 ∧ sN_f t n c b = n b := by
  have nB : ¬ sB_f t n c b := fun x => by
    rw [sT_B x] at h
    obtain ⟨⟨c', hc', e⟩, _⟩ := S.1.2.2.1 b hb x.2.1
    exact sh_c S (by omega) (by omega) h
  refine ⟨nB, ?_, sN_D nB⟩
  rcases Classical.em (sA_f t n c b ∨ sC_f t n c b) with y | y
  · rw [sT_Z nB y] at h; omega
  · rw [sT_D nB (fun x => y (Or.inl x)) (fun x => y (Or.inr x))] at h; exact h
/-- a holder that isn't dissolved stays -/
theorem sT_h (S : sh_f w f r t n) {c b : Nat} (hb : b < 216) (h : t b = 3) (nB : ¬ sB_f t n c b) : sT_f t n c b = 3 ∧ sN_f t n c b = n b := by
  have h148 := (S.1.2.2.1 b hb h).2.1
  exact ⟨(sT_D nB (fun x => by have := x.1; omega) (fun ⟨hE, c', _, hc', _, s⟩ => sh_3 S hc' hE s h)).trans h, sN_D nB⟩
theorem hc_sT (S : sh_f w f r t n) {c c' : Nat} (hc' : c' < 68) (h : c ≤ c' ∨ hc_f t n c' ≠ 1) : hc_f (sT_f t n c) (sN_f t n c) c' = hc_f t n c' := by
  refine cn_c fun b hb => ⟨fun ⟨x, y⟩ => ?_, fun ⟨x, y⟩ => ?_⟩
  · obtain ⟨_, x2, x3⟩ := sT_3 S hb x
    exact ⟨x2, x3.symm.trans y⟩
  · have nB : ¬ sB_f t n c b := fun z => by
      have z1 := z.2.2.1
      have z2 := z.2.2.2
      rw [y, Nat.add_sub_cancel_left] at z2
      omega
    obtain ⟨x1, x2⟩ := sT_h S hb x nB
    exact ⟨x1, x2.trans y⟩
theorem sT_ce (S : sh_f w f r t n) (c : Nat) : ∀ b, b < 148 → sT_f t n c b = 3 → sT_f t n c (sN_f t n c b) ≠ 0 := by
  intro b hb h
  obtain ⟨nB, h3, e⟩ := sT_3 S (by omega) h
  obtain ⟨⟨c', hc', ec⟩, _⟩ := S.1.2.2.1 b (by omega) h3
  rw [e, sT_D]
  · exact S.2.2.2 b hb h3
  · intro x
    have := x.1
    omega
  · intro x
    have x2 := x.2.2
    have x3 := x.2.1
    refine nB ⟨hb, h3, x3, ?_⟩
    have : 0 < hc_f t n (n b - 148) := cn_pos (P := fun b' => t b' = 3 ∧ n b' = 148 + (n b - 148)) (k := b) (by omega) ⟨h3, by omega⟩
    omega
  · rintro ⟨hE, _⟩
    have := hE.2
    omega
/-- nothing is done for a cell without a value, or with two holders -/
theorem sT_s2 (S : sh_f w f r t n) {c : Nat} (hc : c < 68) (h : t (148 + c) = 0 ∨ 2 ≤ hc_f t n c) : ∀ b, sT_f t n (c + 1) b = sT_f t n c b ∧ sN_f t n (c + 1) b = sN_f t n c b := by
  intro b
  have eB : sB_f t n (c + 1) b ↔ sB_f t n c b := by
    refine ⟨fun x => ⟨x.1, x.2.1, ?_, x.2.2.2⟩, fun x => ⟨x.1, x.2.1, by have := x.2.2.1; omega, x.2.2.2⟩⟩
    obtain ⟨x1, x2, x3, x4⟩ := x
    rcases Classical.em (n b = 148 + c) with z | z
    · rw [z, Nat.add_sub_cancel_left] at x4
      rcases h with h | h
      · exact absurd h (z ▸ S.2.2.2 b x1 x2)
      · omega
    · omega
  have eC : sC_f t n (c + 1) b ↔ sC_f t n c b := by
    constructor
    · rintro ⟨hE, c', h1, h2, h3, s⟩
      refine ⟨hE, c', ?_, h2, h3, s⟩
      rcases Classical.em (c' = c) with z | z
      · subst z
        rcases h with h | h
        · exact absurd s (sb_n (by rw [h]; decide))
        · omega
      · omega
    · rintro ⟨hE, c', h1, h2, h3, s⟩
      exact ⟨hE, c', by omega, h2, h3, s⟩
  rcases h with h | h
  · rcases Classical.em (b = 148 + c) with z | z
    · subst z
      have nB : ∀ k, ¬ sB_f t n k (148 + c) := fun k x => by have := x.1; omega
      have nC : ∀ k, ¬ sC_f t n k (148 + c) := fun k x => by have := x.1.2; omega
      refine ⟨?_, by rw [sN_D (nB _), sN_D (nB _)]⟩
      rw [sT_D (c := c) (nB _) (fun x => by have := x.2.1; omega) (nC _), h]
      rcases Classical.em (sA_f t n (c + 1) (148 + c)) with y | y
      · exact sT_A y
      · rw [sT_D (nB _) y (nC _), h]
    · refine sT_e ⟨fun x => ⟨x.1, ?_, x.2.2⟩, fun x => ⟨x.1, by have := x.2.1; omega, x.2.2⟩⟩ eB eC
      have := x.2.1
      omega
  · refine sT_e ⟨fun x => ⟨x.1, ?_, x.2.2⟩, fun x => ⟨x.1, by have := x.2.1; omega, x.2.2⟩⟩ eB eC
    obtain ⟨x1, x2, x3⟩ := x
    rcases Classical.em (b = 148 + c) with z | z
    · rw [z, Nat.add_sub_cancel_left] at x3
      omega
    · omega
/-- the only holder of a cell takes its value -/
theorem sT_s1 (S : sh_f w f r t n) {c h : Nat} (hc : c < 68) (h1 : hc_f t n c = 1) (hh : h < 148) (t3 : t h = 3) (nh : n h = 148 + c) :
    (∀ b, sT_f t n (c + 1) b = nu_a (nu_a (sT_f t n c) h (sT_f t n c (148 + c))) (148 + c) 0 b) ∧ (∀ b, sN_f t n (c + 1) b = nu_a (sN_f t n c) h (sN_f t n c (148 + c)) b) := by
  have nB : ∀ k, ¬ sB_f t n k (148 + c) := fun k x => by have := x.1; omega
  have nC : ∀ k, ¬ sC_f t n k (148 + c) := fun k x => by have := x.1.2; omega
  have Bh : sB_f t n (c + 1) h := ⟨hh, t3, by omega, by rw [nh, Nat.add_sub_cancel_left]; exact h1⟩
  have v : sT_f t n c (148 + c) = t (148 + c) := sT_D (nB _) (fun x => by have := x.2.1; omega) (nC _)
  have u : sN_f t n c (148 + c) = n (148 + c) := sN_D (nB _)
  have oth : ∀ b, b ≠ h → b ≠ 148 + c → sT_f t n (c + 1) b = sT_f t n c b ∧ sN_f t n (c + 1) b = sN_f t n c b := by
    intro b z1 z2
    refine sT_e ⟨fun x => ⟨x.1, by have := x.2.1; omega, x.2.2⟩, fun x => ⟨x.1, by have := x.2.1; omega, x.2.2⟩⟩ ⟨fun x => ⟨x.1, x.2.1, ?_, x.2.2.2⟩, fun x => ⟨x.1, x.2.1, by have := x.2.2.1; omega, x.2.2.2⟩⟩ ⟨?_, ?_⟩
    · obtain ⟨x1, x2, x3, x4⟩ := x
      rcases Classical.em (n b = 148 + c) with z | z
      · exact absurd (cn_uni (P := fun b => t b = 3 ∧ n b = 148 + c) (N := 216) (by have h1 : cn_p (fun b => t b = 3 ∧ n b = 148 + c) 216 = 1 := h1
                                                                                    omega) (by omega) (by omega) ⟨x2, z⟩ ⟨t3, nh⟩) z1
      · omega
    · rintro ⟨hE, c', g1, g2, g3, s⟩
      exact ⟨hE, c', by rcases Classical.em (c' = c) with z | z
                        · subst z; omega
                        · omega, g2, g3, s⟩
    · rintro ⟨hE, c', g1, g2, g3, s⟩
      exact ⟨hE, c', by omega, g2, g3, s⟩
  constructor
  · intro b
    rcases Classical.em (b = 148 + c) with z | z
    · rw [z, nu_s]
      exact sT_A ⟨by omega, by omega, by rw [Nat.add_sub_cancel_left]; omega⟩
    · rw [nu_n z]
      rcases Classical.em (b = h) with y | y
      · rw [y, nu_s, v, sT_B Bh, nh]
      · rw [nu_n y]; exact (oth b y z).1
  · intro b
    rcases Classical.em (b = h) with y | y
    · rw [y, nu_s, u, sN_B Bh, nh]
    · rw [nu_n y]
      rcases Classical.em (b = 148 + c) with z | z
      · rw [z, sN_D (nB _), sN_D (nB _)]
      · exact (oth b y z).2
/-- the tree of a cell in the closed form -/
theorem sT_sb (S : sh_f w f r t n) {c : Nat} (hc : c < 68) (a : Nat) : sb_f (sT_f t n c) (sN_f t n c) (148 + c) a ↔ sb_f t n (148 + c) a := by
  have nB : ¬ sB_f t n c (148 + c) := fun x => by have := x.1; omega
  have v : sT_f t n c (148 + c) = t (148 + c) := sT_D nB (fun x => by have := x.2.1; omega) (fun x => by have := x.1.2; omega)
  have u : sN_f t n c (148 + c) = n (148 + c) := sN_D nB
  have one : ∀ a, sb_f (sT_f t n c) (sN_f t n c) (148 + c) a → sb_f t n (148 + c) a := by
    intro a s
    refine s (fun a => sb_f t n (148 + c) a) (fun h2 a' e => sb_0 (v ▸ h2) (u ▸ e)) ?_
    intro b' a' hE s' h2 e
    have nB' : ¬ sB_f t n c b' := fun x => sh_3 S hc hE s' x.2.1
    rw [sN_D nB'] at e
    rcases Classical.em (sA_f t n c b' ∨ sC_f t n c b') with y | y
    · rw [sT_Z nB' y] at h2; omega
    · rw [sT_D nB' (fun x => y (Or.inl x)) (fun x => y (Or.inr x))] at h2
      exact sb_s hE s' h2 e
  refine ⟨one a, fun s => ?_⟩
  refine s (fun a => sb_f (sT_f t n c) (sN_f t n c) (148 + c) a) (fun h2 a' e => sb_0 (v.trans h2) (u.trans e)) ?_
  intro b' a' hE s' h2 e
  have s0 := one _ s'
  have nB' : ¬ sB_f t n c b' := fun x => sh_3 S hc hE s0 x.2.1
  refine sb_s hE s' ?_ ((sN_D nB').trans e)
  rw [sT_D nB' (fun x => by have := x.1; have := hE.2; omega)]
  · exact h2
  · rintro ⟨_, c', g1, g2, g3, s2⟩
    have := sb_dj S g2 hc s2 s0
    omega
/-- a cell without holders goes, with all under it -/
theorem sT_sz (S : sh_f w f r t n) {c : Nat} (hc : c < 68) (h0 : hc_f t n c = 0) :
    (∀ b, sT_f t n (c + 1) b = dz_f (sT_f t n c) (sN_f t n c) (148 + c) b) ∧ (∀ b, sN_f t n (c + 1) b = sN_f t n c b) := by
  have eB : ∀ b, (sB_f t n (c + 1) b ↔ sB_f t n c b) := fun b => by
    refine ⟨fun x => ⟨x.1, x.2.1, ?_, x.2.2.2⟩, fun x => ⟨x.1, x.2.1, by have := x.2.2.1; omega, x.2.2.2⟩⟩
    obtain ⟨x1, x2, x3, x4⟩ := x
    rcases Classical.em (n b = 148 + c) with z | z
    · rw [z, Nat.add_sub_cancel_left] at x4
      omega
    · omega
  have eN : ∀ b, sN_f t n (c + 1) b = sN_f t n c b := fun b => by
    rcases Classical.em (sB_f t n c b) with z | z
    · rw [sN_B z, sN_B ((eB b).mpr z)]
    · rw [sN_D z, sN_D (fun x => z ((eB b).mp x))]
  refine ⟨fun b => ?_, eN⟩
  rcases Classical.em (b = 148 + c) with z | z
  · rw [dz_z (Or.inl z), z]
    exact sT_A ⟨by omega, by omega, by rw [Nat.add_sub_cancel_left]; omega⟩
  · rcases Classical.em (el_b b ∧ sb_f t n (148 + c) (b / 4)) with y | y
    · rw [dz_z (Or.inr ⟨y.1, (sT_sb S hc _).mpr y.2⟩)]
      exact sT_Z (fun x => sh_3 S hc y.1 y.2 x.2.1) (Or.inr ⟨y.1, c, by omega, hc, h0, y.2⟩)
    · rw [dz_k (fun x => x.elim z (fun x => y ⟨x.1, (sT_sb S hc _).mp x.2⟩))]
      rcases Nat.lt_or_ge b 216 with hb | hb
      · refine (sT_e ⟨fun x => ⟨x.1, by have := x.2.1; omega, x.2.2⟩, fun x => ⟨x.1, by have := x.2.1; omega, x.2.2⟩⟩ (eB b) ⟨?_, ?_⟩).1
        · rintro ⟨hE, c', g1, g2, g3, s⟩
          refine ⟨hE, c', ?_, g2, g3, s⟩
          rcases Classical.em (c' = c) with u | u
          · subst u; exact absurd ⟨hE, s⟩ y
          · omega
        · rintro ⟨hE, c', g1, g2, g3, s⟩
          exact ⟨hE, c', by omega, g2, g3, s⟩
      · have nB : ∀ k, ¬ sB_f t n k b := fun k x => by have := x.1; omega
        have nC : ∀ k, ¬ sC_f t n k b := fun k x => by have := x.1.2; omega
        rw [sT_D (nB _) (fun x => by have := x.2.1; omega) (nC _), sT_D (nB _) (fun x => by have := x.2.1; omega) (nC _)]
end
end
section
section
variable {K : Nat → Int32} {G : Nat → Nat} {ft ce li de lo : Nat} {tx q rf fn ho po wk : Nat → Nat} {f r r' t n : Nat → Nat}
theorem sT_v {c : Nat} : sT_f t n c (148 + c) = t (148 + c) ∧ sN_f t n c (148 + c) = n (148 + c) := by
  have nB : ¬ sB_f t n c (148 + c) := fun x => by have := x.1; omega
  exact ⟨sT_D nB (fun x => by have := x.2.1; omega) (fun x => by have := x.1.2; omega), sN_D nB⟩
theorem sT_all (S : sh_f (G 1) f r t n) (h : ∀ c, c < 68 → t (148 + c) = 0) : ∀ k, k ≤ 68 → sT_f t n k = t ∧ sN_f t n k = n
  | 0, _ => by
    have := sT_0 t n (fun b hb h3 => by obtain ⟨⟨c, _, e⟩, _⟩ := S.1.2.2.1 b hb h3; omega)
    exact ⟨funext fun b => (this b).1, funext fun b => (this b).2⟩
  | k + 1, hk => by
    obtain ⟨h1, h2⟩ := sT_all S h k (by omega)
    have := sT_s2 S (c := k) (by omega) (Or.inl (h k (by omega)))
    exact ⟨(funext fun b => (this b).1).trans h1, (funext fun b => (this b).2).trans h2⟩
theorem xw_diss (S : sh_f (G 1) f r t n) (hG : G 1 ≤ 4) {c : Nat} (hc : c < 68) (h0 : t (148 + c) ≠ 0) (h2 : hc_f t n c < 2) (R : r0_f (G 1) f r' (sT_f t n c) (sN_f t n c) tx q rf fn ho ft li) (CE : ce = cn_p (fun k => sT_f t n c (148 + k) ≠ 0) 68) {post : SX → Prop}
    (H : ∀ r' ft ce li tx q rf fn ho wk, r0_f (G 1) f r' (sT_f t n (c + 1)) (sN_f t n (c + 1)) tx q rf fn ho ft li → ce = cn_p (fun k => sT_f t n (c + 1) (148 + k) ≠ 0) 68 → post (mk_X K G ft ce li de lo tx q rf fn ho po wk)) : wpX_dissolve post (mk_X K G ft ce li de lo tx q rf fn ho po wk) (nI c) := by
  have R0 := R
  obtain ⟨Y, X, RK, KK, F, FR, HO, LI⟩ := R
  obtain ⟨v1, v2⟩ := sT_v (t := t) (n := n) (c := c)
  have hoc : ho c = hc_f t n c := by rw [HO c hc, hc_sT S hc (Or.inl (Nat.le_refl _))]
  have cpos : 0 < ce := by
    rw [CE]; exact cn_pos (P := fun k => sT_f t n c (148 + k) ≠ 0) hc (by show sT_f t n c (148 + c) ≠ 0; rw [v1]; exact h0)
  have c31 : ce ≤ 68 := by rw [CE]; exact cn_le _ _
  have c0 : sT_f t n (c + 1) (148 + c) = 0 := sT_A ⟨by omega, by omega, by rw [Nat.add_sub_cancel_left]; omega⟩
  have CE' : ∀ k, k < 68 → k ≠ c → sT_f t n (c + 1) (148 + k) = sT_f t n c (148 + k) := fun k hk ne => by
    refine (sT_e ⟨fun x => ⟨x.1, by have := x.2.1; omega, x.2.2⟩, fun x => ⟨x.1, by have := x.2.1; omega, x.2.2⟩⟩ ⟨fun x => ?_, fun x => ?_⟩ ⟨fun x => ?_, fun x => ?_⟩).1
    · have := x.1; omega
    · have := x.1; omega
    · have := x.1.2; omega
    · have := x.1.2; omega
  have CE1 : ce - 1 = cn_p (fun k => sT_f t n (c + 1) (148 + k) ≠ 0) 68 := by
    have := cn_add (P := fun k => sT_f t n (c + 1) (148 + k) ≠ 0) (Q := fun k => sT_f t n c (148 + k) ≠ 0) (N := 68) (a := c) hc (fun x => x c0) (by show sT_f t n c (148 + c) ≠ 0; rw [v1]; exact h0) (fun k hk ne => by rw [CE' k hk ne])
    omega
  refine jr_eq c 1 hc (by omega) (fun h1 => ?_) (fun h1 => ?_) rfl
  · rw [hoc] at h1
    have hcc : hc_f (sT_f t n c) (sN_f t n c) c = 1 := by rw [hc_sT S hc (Or.inl (Nat.le_refl _))]; exact h1
    refine xw_find Y X hc ?_ fun s hs t3 qc => ?_
    · obtain ⟨h, hh, b3, bn⟩ := cn_ex (P := fun b => sT_f t n c b = 3 ∧ sN_f t n c b = 148 + c) (N := 216) (by
        have h1 : cn_p (fun b => sT_f t n c b = 3 ∧ sN_f t n c b = 148 + c) 216 = 1 := hcc
        omega)
      obtain ⟨_, h148, h820⟩ := Y.2.2.1 h hh b3
      have ib := ib_t Y hh (by omega)
      obtain ⟨x1, x2⟩ := X.1 h ib
      refine ⟨sg_f f h, ?_, x1.trans b3, (x2 (by omega)).trans (xv_3 b3 bn)⟩
      rcases Classical.em (el_b h) with hE | hE
      · have := X.2.1 _ (ib.2 hE)
        rw [sg_e hE.1 hE.2]; omega
      · unfold el_b at hE
        rw [sg_a (by omega)]; omega
    · obtain ⟨h, ib, es, b3, bq⟩ := xs_b Y X (s := s) (by omega) (by omega)
      have b3 : sT_f t n c h = 3 := b3.trans t3
      obtain ⟨⟨c', hc', ec⟩, h148, h820⟩ := Y.2.2.1 h ib.1 b3
      rw [xv_3 b3 ec, qc] at bq
      subst bq
      obtain ⟨_, ot3, oN⟩ := sT_3 S ib.1 b3
      obtain ⟨e1, e2⟩ := sT_s1 S hc h1 h148 ot3 (oN ▸ ec)
      have uni : ∀ b, b < 216 → sT_f t n c b = 3 → sN_f t n c b = 148 + c → b = h := fun b hb x y =>
        cn_uni (P := fun b => sT_f t n c b = 3 ∧ sN_f t n c b = 148 + c) (N := 216) (by
          have h1 : cn_p (fun b => sT_f t n c b = 3 ∧ sN_f t n c b = 148 + c) 216 = 1 := hcc
          omega) hb ib.1 ⟨x, y⟩ ⟨b3, ec⟩
      have sn : sn_f f (sT_f t n c) (sN_f t n c) h := by
        intro b' ib' e
        obtain ⟨x1, x2⟩ := X.1 b' ib'
        rw [e, es] at x1 x2
        have x3 : sT_f t n c b' = 3 := x1.symm.trans t3
        obtain ⟨⟨c2, hc2, ec2⟩, _⟩ := Y.2.2.1 b' ib'.1 x3
        have x4 := x2 (by omega)
        rw [xv_3 x3 ec2, qc] at x4
        exact uni b' ib'.1 x3 (by omega)
      have rt : ¬ el_b (148 + c) := fun x => by have := x.2; omega
      have ibc : ib_v (sT_f t n c) (sN_f t n c) (148 + c) := ib_r (by omega) rt
      have tv3 : sT_f t n c (148 + c) ≠ 3 := by rw [v1]; exact sh_c S (by omega) (by omega)
      have eT : sT_f t n (c + 1) = nu_a (nu_a (sT_f t n c) h (sT_f t n c (148 + c))) (148 + c) 0 := funext e1
      have eN : sN_f t n (c + 1) = nu_a (sN_f t n c) h (sN_f t n c (148 + c)) := funext e2
      have M := op_mv R0 (b0 := 148 + c) (b1 := h) ibc (sn_r X (by omega) rt) ib sn (by omega) (by rw [v1]; exact h0) tv3 (by rw [b3]; decide) (fun hE => (Y.2.2.2.2 h hE (by omega)).1) (fun hE a sa ef => by
          have ra := al_r Y (sb_al (by omega) sa)
          have hE2 : el_b (4 * a + h % 4) := ⟨by omega, by omega⟩
          have d2 : (4 * a + h % 4) / 4 = a := by omega
          have m2 : (4 * a + h % 4) % 4 = h % 4 := by omega
          have ib2 : ib_v (sT_f t n c) (sN_f t n c) (4 * a + h % 4) := ⟨by omega, fun _ => by rw [d2]; exact sb_al (by omega) sa⟩
          have x1 := (X.1 _ ib2).1
          rw [sg_e hE2.1 hE2.2, d2, m2, ef, ← sg_e hE.1 hE.2, es, t3] at x1
          exact kk_n Y.2.1 KK hc hE2 (by rw [d2]; exact sa) x1.symm) (ho1 := nu_a ho c 0) (by
          obtain ⟨K, k1, k2, k3⟩ := KK
          refine ⟨K, fun k hk g => ?_, fun b hE hk g => ?_, fun b hE hk g => ?_⟩
          · rcases Classical.em (k = c) with z | z
            · rw [z, nu_s] at g; omega
            · rw [nu_n (by omega), nu_n (by omega)] at g
              rw [nu_n (by omega)]
              exact k1 k hk g
          · have hE2 := hE.2
            rw [nu_n (by omega)] at g
            rcases Classical.em (b = h) with z | z
            · subst z
              exact absurd b3 (k3 b hE hk)
            · rw [nu_n z] at g ⊢
              exact k2 b hE hk g
          · have hE2 := hE.2
            rw [nu_n (by omega)] at g
            rcases Classical.em (b = h) with z | z
            · rw [z, nu_s] at g
              exact tv3 g
            · rw [nu_n z] at g
              exact k3 b hE hk g) (by
          rw [← eT, ← eN]
          intro k hk
          rcases Classical.em (k = c) with z | z
          · subst z
            rw [nu_s]
            refine (cn_z fun b hb x => ?_).symm
            obtain ⟨x1, x2, x3⟩ := sT_3 S hb x.1
            have y := x.2
            rw [x3] at y
            exact x1 ⟨(S.1.2.2.1 b hb x2).2.1, x2, by omega, by rw [y, Nat.add_sub_cancel_left]; exact h1⟩
          · rw [nu_n z, HO k hk]
            refine cn_c fun b hb => ⟨fun ⟨x, y⟩ => ?_, fun ⟨x, y⟩ => ?_⟩
            · obtain ⟨x1, x2, x3⟩ := sT_3 S hb x
              have nB : ¬ sB_f t n (c + 1) b := fun u => x1 ⟨u.1, u.2.1, by have := u.2.2.1; rw [x3] at y; omega, u.2.2.2⟩
              obtain ⟨y1, y2⟩ := sT_h S hb x2 nB
              exact ⟨y1, by rw [y2, ← x3]; exact y⟩
            · obtain ⟨x1, x2, x3⟩ := sT_3 S hb x
              have nB : ¬ sB_f t n c b := fun u => x1 ⟨u.1, u.2.1, by have := u.2.2.1; omega, u.2.2.2⟩
              obtain ⟨y1, y2⟩ := sT_h S hb x2 nB
              exact ⟨y1, by rw [y2, ← x3]; exact y⟩)
      obtain ⟨r2, M⟩ := M
      rw [← eT, ← eN, es, sg_c (b := 148 + c) (by omega)] at M
      refine ja_lt0 s ?_ rfl
      have e3 : (148 : Int32) + nI c = nI (148 + c) := nI_add 148 c
      rw [e3]
      refine xw_move (by omega) (by omega) ?_
      refine jw_u c 0 hc (nm_r (ja_s1 cpos) ?_) rfl rfl
      exact H _ _ _ _ _ _ _ _ _ _ M CE1
  · rw [hoc] at h1
    have z0 : hc_f t n c = 0 := by omega
    obtain ⟨e1, e2⟩ := sT_sz S hc z0
    have eT : sT_f t n (c + 1) = dz_f (sT_f t n c) (sN_f t n c) (148 + c) := funext e1
    have eN : sN_f t n (c + 1) = sN_f t n c := funext e2
    have rt : ¬ el_b (148 + c) := fun x => by have := x.2; omega
    refine br_t (by decide) ?_
    have e3 : (148 : Int32) + nI c = nI (sg_f f (148 + c)) := by rw [sg_c (by omega)]; exact nI_add 148 c
    rw [e3]
    refine xw_drop R0 hG (ib_r (by omega) rt) (sn_r X (by omega) rt) (by rw [v1]; exact sh_c S (by omega) (by omega)) (fun z => absurd z (by omega)) (by omega) fun ft1 li1 tx1 rf1 fn1 ho1 wk1 R1 => ?_
    refine jw_u c 0 hc (nm_r (ja_s1 cpos) ?_) rfl rfl
    rw [← eT, ← eN] at R1
    refine H r' _ _ _ _ _ _ _ _ _ ?_ CE1
    obtain ⟨a1, a2, a3, a4, a5, a6, a7, a8⟩ := R1
    refine ⟨a1, a2, a3, a4, a5, a6, fun k hk => ?_, a8⟩
    rcases Classical.em (k = c) with z | z
    · subst z
      rw [nu_s, hc_sT S hk (Or.inr (by omega)), z0]
    · rw [nu_n z]; exact a7 k hk
theorem xw_set10 (S : sh_f (G 1) f r t n) (hG : G 1 ≤ 4) {post : SX → Prop}
    (H : ∀ r' ft ce li tx q rf fn ho wk, r0_f (G 1) f r' (sT_f t n 68) (sN_f t n 68) tx q rf fn ho ft li → ce = cn_p (fun k => sT_f t n 68 (148 + k) ≠ 0) 68 → post (mk_X K G ft ce li de lo tx q rf fn ho po wk)) :
    ∀ m c r' ft ce li tx q rf fn ho wk, 68 - c < m → c ≤ 68 → r0_f (G 1) f r' (sT_f t n c) (sN_f t n c) tx q rf fn ho ft li → ce = cn_p (fun k => sT_f t n c (148 + k) ≠ 0) 68 → wX_settle_10 post m (nI c) (K 0) (K 1) (K 2) (K 3) (K 4) (K 5) (K 6) (K 7) (nI (G 0)) (nI (G 1)) (nI (G 2)) (nI (G 3)) (nI ft) (nI ce) (nI li) (nI de) (nI lo) (jm_a tx) (jm_a q) (jm_a rf) (jm_a fn) (jm_a ho) (jm_a po) (jm_a wk) := by
  intro m
  induction m with
  | zero => intro c r' ft ce li tx q rf fn ho wk hm; omega
  | succ m ih =>
    intro c r' ft ce li tx q rf fn ho wk hm hc R CE
    refine pk_le 68 c (fun hx => ?_) (fun hx => ?_)
    · have : c = 68 := by omega
      subst this
      exact H _ _ _ _ _ _ _ _ _ _ R CE
    · have R0 := R
      obtain ⟨Y, X, RK, KK, F, FR, HO, LI⟩ := R
      obtain ⟨v1, v2⟩ := sT_v (t := t) (n := n) (c := c)
      have rt : ¬ el_b (148 + c) := fun x => by have := x.2; omega
      have x1 := (X.1 (148 + c) (ib_r (by omega) rt)).1
      rw [sg_c (by omega), v1] at x1
      have ht := S.1.1 (148 + c) (by omega)
      have hoc : ho c = hc_f t n c := by rw [HO c hx, hc_sT S hx (Or.inl (Nat.le_refl _))]
      have hle := hc_le t n c
      refine jr_eq (148 + c) 0 (by omega) (by omega) (fun hz => ?_) (fun hz => ?_) (nI_add 148 c)
      · rw [x1] at hz
        have e := sT_s2 S hx (Or.inl hz)
        have eT : sT_f t n (c + 1) = sT_f t n c := funext fun b => (e b).1
        have eN : sN_f t n (c + 1) = sN_f t n c := funext fun b => (e b).2
        refine nm_r (ja_p1 c) (ih (c + 1) r' ft ce li tx q rf fn ho wk (by omega) (by omega) ?_ ?_)
        · rw [eT, eN]; exact R0
        · rw [eT]; exact CE
      · rw [x1] at hz
        refine ⟨pk_in c 68 hx rfl, pk_le 2 (ho c) (fun h2 => ?_) (fun h2 => ?_) rfl (jm_c (by omega))⟩
        · have e := sT_s2 S hx (Or.inr (by omega))
          have eT : sT_f t n (c + 1) = sT_f t n c := funext fun b => (e b).1
          have eN : sN_f t n (c + 1) = sN_f t n c := funext fun b => (e b).2
          refine nm_r (ja_p1 c) (ih (c + 1) r' ft ce li tx q rf fn ho wk (by omega) (by omega) ?_ ?_)
          · rw [eT, eN]; exact R0
          · rw [eT]; exact CE
        · refine xw_diss S hG hx hz (by omega) R0 CE fun r2 ft2 ce2 li2 tx2 q2 rf2 fn2 ho2 wk2 R2 CE2 => ?_
          exact nm_r (ja_p1 c) (ih (c + 1) r2 ft2 ce2 li2 tx2 q2 rf2 fn2 ho2 wk2 (by omega) (by omega) R2 CE2)
theorem sh_of (R : r0_f (G 1) f r t n tx q rf fn ho ft li) (CE : ce_f t n ce) : sh_f (G 1) f r t n := ⟨R.1, R.2.2.1, R.2.2.2.1, CE.2⟩
/-- settle leaves the closed form -/
theorem xw_settle (R : r0_f (G 1) f r t n tx q rf fn ho ft li) (CE : ce_f t n ce) (hG : G 1 ≤ 4) {post : SX → Prop}
    (H : ∀ r' ft ce li tx q rf fn ho wk, r0_f (G 1) f r' (sT_f t n 68) (sN_f t n 68) tx q rf fn ho ft li → ce_f (sT_f t n 68) (sN_f t n 68) ce → post (mk_X K G ft ce li de lo tx q rf fn ho po wk)) : wpX_settle post (mk_X K G ft ce li de lo tx q rf fn ho po wk) := by
  have S := sh_of R CE
  have c68 : ce ≤ 68 := by rw [CE.1]; exact cn_le _ _
  refine pk_eq ce 0 (fun hz => ?_) (fun _ => ⟨69, ?_⟩)
  · have z : ∀ c, c < 68 → t (148 + c) = 0 := fun c hc => by
      rcases Classical.em (t (148 + c) = 0) with y | y
      · exact y
      · have := CE.1
        rw [hz] at this
        exact absurd y (cn_none this.symm hc)
    obtain ⟨e1, e2⟩ := sT_all S z 68 (by omega)
    refine H r ft ce li tx q rf fn ho wk ?_ ?_
    · rw [e1, e2]; exact R
    · rw [e1, e2]; exact CE
  · have e := sT_0 t n (fun b hb h3 => by obtain ⟨⟨c, _, e⟩, _⟩ := S.1.2.2.1 b hb h3; omega)
    have eT : sT_f t n 0 = t := funext fun b => (e b).1
    have eN : sN_f t n 0 = n := funext fun b => (e b).2
    refine xw_set10 S hG (fun r2 ft2 ce2 li2 tx2 q2 rf2 fn2 ho2 wk2 R2 CE2 => H _ _ _ _ _ _ _ _ _ _ R2 ⟨CE2, sT_ce S 68⟩) 69 0 r ft ce li tx q rf fn ho wk (by omega) (by omega) ?_ ?_
    · rw [eT, eN]; exact R
    · rw [eT]; exact CE.1
/-- each cell in use has two holders -/
def st_f (t n : Nat → Nat) : Prop := ∀ c, c < 68 → t (148 + c) ≠ 0 → 2 ≤ hc_f t n c
theorem sT_st (S : sh_f (G 1) f r t n) : st_f (sT_f t n 68) (sN_f t n 68) := by
  intro c hc h
  have h2 : ¬ hc_f t n c < 2 := fun x => h (sT_A ⟨by omega, by omega, by rw [Nat.add_sub_cancel_left]; exact x⟩)
  rw [hc_sT S hc (Or.inr (by omega))]
  omega
end
end
section
theorem cn_win (P : Nat → Prop) {k N : Nat} (h : k + 4 ≤ N) : cn_p (fun s => P s ∧ (k ≤ s ∧ s < k + 4)) N = cn_p (fun e => P (k + e)) 4 := by
  obtain ⟨m, rfl⟩ : ∃ m, N = k + 4 + m := ⟨N - (k + 4), by omega⟩
  rw [cn_apx, cn_apx, cn_z (N := k) (fun i hi x => by have := x.2.1; omega), cn_z (N := m) (fun i hi x => by have := x.2.2; omega), Nat.zero_add, Nat.add_zero]
  exact cn_c fun e he => ⟨fun x => x.1, fun x => ⟨x, by omega, by omega⟩⟩
section
variable {w : Nat} {f r t n tx q rf fn ho : Nat → Nat} {ft li : Nat}
/-- a node in use has an array -/
theorem nd_a (R : r0_f w f r t n tx q rf fn ho ft li) {m : Nat} (hm : m < 32) (h : rf m ≠ 0) : ∃ a, al_v t n a ∧ f a = m := by
  obtain ⟨Y, X, RK, KK, F, FR, HO, LI⟩ := R
  rw [F m hm] at h
  obtain ⟨s, hs, h2, hq⟩ := cn_ex h
  obtain ⟨b, a, _, _, _, _, ha, e⟩ := xs_2 Y X hs h2
  exact ⟨a, ha, e.symm.trans hq⟩
theorem nd_u (R : r0_f w f r t n tx q rf fn ho ft li) {a : Nat} (h : al_v t n a) : rf (f a) ≠ 0 := by
  obtain ⟨Y, X, RK, KK, F, FR, HO, LI⟩ := R
  have hm := X.2.1 a h
  obtain ⟨b, hb, h2, e⟩ := h
  obtain ⟨p1, p2, p3⟩ := xs_p X Y hb h2 e
  rw [F _ hm]
  intro z
  exact cn_none z p1 ⟨p2, p3⟩
/-- if no node is free there are as many arrays as nodes -/
theorem nd_32 (R : r0_f w f r t n tx q rf fn ho ft li) (h : ft = 0) : ∃ g : Nat → Nat, ∀ m, m < 32 → al_v t n (g m) ∧ f (g m) = m := by
  have ch : ∀ m, ∃ a, m < 32 → al_v t n a ∧ f a = m := fun m => by
    rcases Nat.lt_or_ge m 32 with z | z
    · have : rf m ≠ 0 := fun e => by
        obtain ⟨i, hi, _⟩ := R.2.2.2.2.2.1.2.2.2 m z e
        omega
      obtain ⟨a, ha⟩ := nd_a R z this
      exact ⟨a, fun _ => ha⟩
    · exact ⟨0, fun x => absurd x (by omega)⟩
  exact ⟨fun m => (ch m).choose, fun m hm => (ch m).choose_spec hm⟩
theorem nd_free (R : r0_f w f r t n tx q rf fn ho ft li) (h : li < 32) : 0 < ft := by
  rcases Nat.eq_zero_or_pos ft with z | z
  · obtain ⟨g, hg⟩ := nd_32 R z
    have := cn_inj (P := fun _ => True) (Q := al_v t n) (N := 32) (M := 37) g (fun k hk _ => ⟨(al_r R.1 (hg k hk).1).2, (hg k hk).1⟩) (fun i j hi hj _ _ e => by rw [← (hg i hi).2, ← (hg j hj).2, e])
    rw [cn_all (fun _ _ => trivial)] at this
    have e := R.2.2.2.2.2.2.2
    unfold li_f at e
    omega
  · exact z
theorem nd_free2 (R : r0_f w f r t n tx q rf fn ho ft li) (h : li ≤ 32) {a a' : Nat} (ha : al_v t n a) (ha' : al_v t n a') (ne : a ≠ a') (e : f a = f a') : 0 < ft := by
  rcases Nat.eq_zero_or_pos ft with z | z
  · obtain ⟨g, hg⟩ := nd_32 R z
    have f32 := R.2.1.2.1 a ha
    have g1 : ∀ j, j < 33 → al_v t n (if j = 32 then a' else if j = f a then a else g j) := fun j hj => by
      split
      · exact ha'
      · split
        · exact ha
        · exact (hg j (by omega)).1
    have g2 : ∀ j, j < 32 → f (if j = 32 then a' else if j = f a then a else g j) = j := fun j hj => by
      rw [if_neg (by omega)]
      split
      · rename_i x; exact x.symm
      · exact (hg j hj).2
    have := cn_inj (P := fun _ => True) (Q := al_v t n) (N := 33) (M := 37) (fun j => if j = 32 then a' else if j = f a then a else g j) (fun k hk _ => ⟨(al_r R.1 (g1 k hk)).2, g1 k hk⟩) (fun i j hi hj _ _ e2 => by
      have e2 : (if i = 32 then a' else if i = f a then a else g i) = (if j = 32 then a' else if j = f a then a else g j) := e2
      rcases Nat.lt_or_ge i 32 with u | u
      · rcases Nat.lt_or_ge j 32 with v | v
        · rw [← g2 i u, ← g2 j v, e2]
        · have : j = 32 := by omega
          subst this
          have x := g2 i u
          rw [e2, if_pos rfl, ← e] at x
          rw [if_pos rfl, if_neg (by omega), if_pos x.symm] at e2
          exact absurd e2 ne
      · have : i = 32 := by omega
        subst this
        rcases Nat.lt_or_ge j 32 with v | v
        · have x := g2 j v
          rw [← e2, if_pos rfl, ← e] at x
          rw [if_pos rfl, if_neg (by omega), if_pos x.symm] at e2
          exact absurd e2.symm ne
        · omega)
    rw [cn_all (fun _ _ => trivial)] at this
    have e := R.2.2.2.2.2.2.2
    unfold li_f at e
    omega
  · exact z
/-- what separate leaves: node fr is a copy of node m0, slot s0 points to it -/
def sp_f (w : Nat) (tx q rf : Nat → Nat) (s0 m0 fr : Nat) (tx1 q1 rf1 : Nat → Nat) : Prop :=
  (∀ e, e < w → tx1 (8 + 4 * fr + e) = tx (8 + 4 * m0 + e) ∧ q1 (8 + 4 * fr + e) = q (8 + 4 * m0 + e)) ∧
  (∀ s, ¬ (8 + 4 * fr ≤ s ∧ s < 8 + 4 * fr + w) → tx1 s = tx s ∧ (s ≠ s0 → q1 s = q s)) ∧ q1 s0 = fr ∧
  (∀ m, m < 32 → m ≠ m0 → rf1 m = nu_a rf fr 1 m + cn_p (fun e => tx (8 + 4 * m0 + e) = 2 ∧ q (8 + 4 * m0 + e) = m) w) ∧ rf1 m0 = rf m0 - 1
theorem op_sep (R : r0_f w f r t n tx q rf fn ho ft li) (hw4 : w ≤ 4) {b0 a0 : Nat} (ib0 : ib_v t n b0) (s0 : sn_f f t n b0) (h2 : t b0 = 2) (ea : n b0 = 4 * a0) (hr : 2 ≤ rf (f a0)) (hft : 0 < ft) {tx1 q1 rf1 : Nat → Nat}
    (Z : sp_f w tx q rf (sg_f f b0) (f a0) (fn (ft - 1)) tx1 q1 rf1) :
    r0_f w (nu_a f a0 (fn (ft - 1))) (nu_a r (fn (ft - 1)) (r (f a0))) t n tx1 q1 rf1 fn ho (ft - 1) li ∧ (∀ a, al_v t n a → nu_a f a0 (fn (ft - 1)) a = nu_a f a0 (fn (ft - 1)) a0 → a = a0) ∧ sg_f (nu_a f a0 (fn (ft - 1))) b0 = sg_f f b0 := by
  have R0 := R
  obtain ⟨Y, X, RK, KK, F, FR, HO, LI⟩ := R
  obtain ⟨fr32, fr0⟩ := FR.2.1 (ft - 1) (by omega)
  have frA : ∀ a, al_v t n a → f a ≠ fn (ft - 1) := fun a ha e => nd_u R0 ha (by rw [e]; exact fr0)
  generalize hfr : fn (ft - 1) = fr at *
  have al0 : al_v t n a0 := ⟨b0, ib0.1, h2, ea⟩
  have m32 := X.2.1 a0 al0
  have ra0 := al_r Y al0
  have mf : f a0 ≠ fr := frA a0 al0
  have fr_e := xs_0 Y X F fr fr32 fr0
  obtain ⟨z1, z2, z3, z4, z5⟩ := Z
  obtain ⟨p1, p2, p3⟩ := xs_p X Y ib0.1 h2 ea
  -- the box itself isn't in array a0
  have own : ∀ b, b < 216 → t b = 2 → n b = 4 * a0 → b = b0 := fun b hb g e => al_u Y hb ib0.1 g h2 e ea
  have nb0 : el_b b0 → b0 / 4 ≠ a0 := fun hE e => by
    have := RK b0 hE h2
    rw [ea, Nat.mul_div_cancel_left _ (by decide), e] at this
    exact Nat.lt_irrefl _ this
  have fo : ∀ a, a ≠ a0 → nu_a f a0 fr a = f a := fun a h => nu_n h
  have f0 : nu_a f a0 fr a0 = fr := nu_s
  have sgo : ∀ b, (el_b b → b / 4 ≠ a0) → sg_f (nu_a f a0 fr) b = sg_f f b := fun b h => by
    rcases Classical.em (el_b b) with hE | hE
    · rw [sg_e hE.1 hE.2, sg_e hE.1 hE.2, fo _ (h hE)]
    · unfold el_b at hE
      unfold sg_f
      split
      · rfl
      · split
        · rfl
        · rw [if_neg (by omega), if_neg (by omega)]
  -- all four elements of the fresh node are copies
  have cp4 : ∀ e, e < 4 → tx1 (8 + 4 * fr + e) = t (4 * a0 + e) ∧ (t (4 * a0 + e) ≠ 0 → q1 (8 + 4 * fr + e) = xv_f f t n (4 * a0 + e)) := fun e he => by
    have hE : el_b (4 * a0 + e) := ⟨by omega, by omega⟩
    have hd : (4 * a0 + e) / 4 = a0 := by omega
    have hm : (4 * a0 + e) % 4 = e := by omega
    have hx := X.1 (4 * a0 + e) ⟨by omega, fun _ => by rw [hd]; exact al0⟩
    rw [sg_e hE.1 hE.2, hd, hm] at hx
    rcases Nat.lt_or_ge e w with y | y
    · obtain ⟨y1, y2⟩ := z1 e y
      rw [y1, y2]; exact hx
    · have t0 : t (4 * a0 + e) = 0 := by
        rcases Classical.em (t (4 * a0 + e) = 0) with u | u
        · exact u
        · have := (Y.2.2.2.2 _ hE u).1
          omega
      rw [(z2 _ (by omega)).1, fr_e e he, t0]
      exact ⟨rfl, fun x => absurd rfl x⟩
  have out : ∀ s, ¬ (8 + 4 * fr ≤ s ∧ s < 8 + 4 * fr + 4) → tx1 s = tx s ∧ (s ≠ sg_f f b0 → q1 s = q s) := fun s h => z2 s (by omega)
  have s0o : ¬ (8 + 4 * fr ≤ sg_f f b0 ∧ sg_f f b0 < 8 + 4 * fr + 4) := fun h => by
    have := fr_e (sg_f f b0 - (8 + 4 * fr)) (by omega)
    rw [show 8 + 4 * fr + (sg_f f b0 - (8 + 4 * fr)) = sg_f f b0 by omega, p2] at this
    omega
  have sg_o : ∀ b, ib_v t n b → ¬ (8 + 4 * fr ≤ sg_f f b ∧ sg_f f b < 8 + 4 * fr + 4) := fun b ib h => by
    obtain ⟨hE, e1, _⟩ := xs_el X ib (m := fr) (e := sg_f f b - (8 + 4 * fr)) fr32 (by omega) (by omega)
    exact frA _ (ib.2 hE) e1
  have xvo : ∀ b, b < 216 → b ≠ b0 → t b ≠ 0 → xv_f (nu_a f a0 fr) t n b = xv_f f t n b := fun b hb ne h => by
    unfold xv_f
    split
    · rename_i g
      obtain ⟨a, _, _, e⟩ := Y.2.1 b hb g
      rw [e, Nat.mul_div_cancel_left _ (by decide), fo]
      intro z
      exact ne (own b hb g (by rw [e, z]))
    · rfl
  have neb : ∀ b, el_b b → b / 4 = a0 → b ≠ b0 := fun b hE e z => nb0 (z ▸ hE) (by rw [← z]; exact e)
  refine ⟨⟨Y, ⟨fun b ib => ?_, fun a ha => ?_, fun s hs h => ?_⟩, fun b hE g => ?_, KK, fun m hm => ?_, ?_, HO, LI⟩, fun a ha e => ?_, sgo b0 nb0⟩
  · rcases Classical.em (el_b b ∧ b / 4 = a0) with ⟨hE, e⟩ | z
    · have c4 := cp4 (b % 4) (by omega)
      rw [sg_e hE.1 hE.2, e, f0]
      rw [show 4 * a0 + b % 4 = b by omega] at c4
      refine ⟨c4.1, fun h => ?_⟩
      rw [c4.2 h, xvo b ib.1 (neb b hE e) h]
    · have z : el_b b → b / 4 ≠ a0 := fun hE e => z ⟨hE, e⟩
      rw [sgo b z]
      obtain ⟨o1, o2⟩ := out _ (sg_o b ib)
      obtain ⟨x1, x2⟩ := X.1 b ib
      rw [o1]
      refine ⟨x1, fun h => ?_⟩
      rcases Classical.em (b = b0) with y | y
      · subst y
        rw [z3, xv_2 h2 ea, f0]
      · rw [o2 (fun e => y (s0 b ib e)), x2 h, xvo b ib.1 y h]
  · rw [nu_c]; split
    · exact fr32
    · exact X.2.1 a ha
  · rcases Classical.em (8 + 4 * fr ≤ s ∧ s < 8 + 4 * fr + 4) with z | z
    · have c4 := cp4 (s - (8 + 4 * fr)) (by omega)
      rw [show 8 + 4 * fr + (s - (8 + 4 * fr)) = s by omega] at c4
      have hE : el_b (4 * a0 + (s - (8 + 4 * fr))) := ⟨by omega, by omega⟩
      have hd : (4 * a0 + (s - (8 + 4 * fr))) / 4 = a0 := by omega
      have hm : (4 * a0 + (s - (8 + 4 * fr))) % 4 = s - (8 + 4 * fr) := by omega
      exact ⟨_, el_lt hE, by rw [← c4.1]; exact h, by rw [sg_e hE.1 hE.2, hd, hm, f0]; omega⟩
    · rw [(out s z).1] at h
      obtain ⟨b, ib, es, et, _⟩ := xs_b Y X hs h
      rcases Classical.em (el_b b ∧ b / 4 = a0) with ⟨hE, e⟩ | y
      · -- another array has the same node
        have h3 := F _ m32
        obtain ⟨s2, hs2, hne, g2, gq⟩ : ∃ s2, s2 < 216 ∧ s2 ≠ sg_f f b0 ∧ tx s2 = 2 ∧ q s2 = f a0 := by
          rw [cn_rem (Q := fun s => tx s = 2 ∧ q s = f a0) (a := sg_f f b0) ⟨p2, p3⟩ p1] at h3
          obtain ⟨s2, u1, ⟨u2, u3⟩, u4⟩ := cn_ex (P := fun y => (tx y = 2 ∧ q y = f a0) ∧ y ≠ sg_f f b0) (N := 216) (by omega)
          exact ⟨s2, u1, u4, u2, u3⟩
        obtain ⟨b2, a2, ib2, es2, g1, g3, al2, g4⟩ := xs_2 Y X hs2 g2
        have ne2 : a2 ≠ a0 := fun z => by
          subst z
          have := own b2 ib2.1 g1 g3
          exact hne (by rw [← es2, this])
        have fa2 : f a2 = f a0 := g4.symm.trans gq
        have r2 := al_r Y al2
        have hE2 : el_b (4 * a2 + b % 4) := ⟨by omega, by omega⟩
        have d2 : (4 * a2 + b % 4) / 4 = a2 := by omega
        have m2 : (4 * a2 + b % 4) % 4 = b % 4 := by omega
        have es3 : sg_f f (4 * a2 + b % 4) = s := by rw [sg_e hE2.1 hE2.2, d2, m2, fa2, ← e, ← sg_e hE.1 hE.2, es]
        have ib3 : ib_v t n (4 * a2 + b % 4) := ⟨by omega, fun _ => by rw [d2]; exact al2⟩
        refine ⟨4 * a2 + b % 4, ib3.1, ?_, ?_⟩
        · have := (X.1 _ ib3).1
          rw [es3] at this
          rw [← this]; exact h
        · rw [sgo _ (fun _ => by rw [d2]; exact ne2), es3]
      · exact ⟨b, ib.1, by rw [et]; exact h, by rw [sgo b (fun hE e => y ⟨hE, e⟩), es]⟩
  · obtain ⟨a, _, _, e⟩ := Y.2.1 b (el_lt hE) g
    have rk := RK b hE g
    rw [e, Nat.mul_div_cancel_left _ (by decide)] at rk ⊢
    have ala : al_v t n a := ⟨b, el_lt hE, g, e⟩
    have alb := (Y.2.2.2.2 b hE (by omega)).2
    rcases Classical.em (b / 4 = a0) with y | y
    · have na : a ≠ a0 := fun z => neb b hE y (own b (el_lt hE) g (by rw [e, z]))
      rw [y, f0, nu_s, fo a na, nu_n (frA a ala), ← y]
      exact rk
    · rw [fo _ y, nu_n (frA _ alb)]
      rcases Classical.em (a = a0) with u | u
      · subst u
        rw [f0, nu_s]; exact rk
      · rw [fo a u, nu_n (frA a ala)]; exact rk
  · -- references
    have ch : ∀ m, m < 32 → cn_p (fun e => tx (8 + 4 * f a0 + e) = 2 ∧ q (8 + 4 * f a0 + e) = m) w = cn_p (fun e => tx1 (8 + 4 * fr + e) = 2 ∧ q1 (8 + 4 * fr + e) = m) 4 := fun m hm => by
      rw [cn_c (P := fun e => tx (8 + 4 * f a0 + e) = 2 ∧ q (8 + 4 * f a0 + e) = m) (Q := fun e => tx1 (8 + 4 * fr + e) = 2 ∧ q1 (8 + 4 * fr + e) = m) (N := w) (fun e he => by rw [(z1 e he).1, (z1 e he).2])]
      exact cn_tl hw4 fun e h1 h4 x => by
        have := (z2 (8 + 4 * fr + e) (by omega)).1
        rw [fr_e e h4] at this
        have y := x.1
        omega
    have cz : ∀ m, (m = f a0 ∨ m = fr) → m < 32 → cn_p (fun e => tx (8 + 4 * f a0 + e) = 2 ∧ q (8 + 4 * f a0 + e) = m) w = 0 := fun m h hm => by
      refine cn_z fun e he ⟨x, y⟩ => ?_
      obtain ⟨b, a, ib, es, g1, g2, g3, g4⟩ := xs_2 Y X (by omega) x
      rcases h with h | h
      · obtain ⟨hE, k1, _⟩ := xs_el X ib m32 (by omega) es
        have := RK b hE g1
        rw [g2, Nat.mul_div_cancel_left _ (by decide), k1, ← g4, y, h] at this
        exact Nat.lt_irrefl _ this
      · exact frA a g3 (by rw [← g4, y, h])
    have tot : cn_p (fun s => tx1 s = 2 ∧ q1 s = m) 216 = cn_p (fun e => tx (8 + 4 * f a0 + e) = 2 ∧ q (8 + 4 * f a0 + e) = m) w + cn_p (fun s => (tx1 s = 2 ∧ q1 s = m) ∧ ¬ (8 + 4 * fr ≤ s ∧ s < 8 + 4 * fr + 4)) 216 := by
      rw [cn_spl (fun s => tx1 s = 2 ∧ q1 s = m) (fun s => 8 + 4 * fr ≤ s ∧ s < 8 + 4 * fr + 4) 216, cn_win (fun s => tx1 s = 2 ∧ q1 s = m) (by omega), ch m hm]
    have oth : ∀ s, s < 216 → s ≠ sg_f f b0 → (((tx1 s = 2 ∧ q1 s = m) ∧ ¬ (8 + 4 * fr ≤ s ∧ s < 8 + 4 * fr + 4)) ↔ (tx s = 2 ∧ q s = m)) := fun s hs ne => by
      constructor
      · rintro ⟨⟨x1, x2⟩, x3⟩
        obtain ⟨o1, o2⟩ := out s x3
        exact ⟨o1 ▸ x1, o2 ne ▸ x2⟩
      · rintro ⟨x1, x2⟩
        have x3 : ¬ (8 + 4 * fr ≤ s ∧ s < 8 + 4 * fr + 4) := fun y => by
          have := fr_e (s - (8 + 4 * fr)) (by omega)
          rw [show 8 + 4 * fr + (s - (8 + 4 * fr)) = s by omega] at this
          omega
        obtain ⟨o1, o2⟩ := out s x3
        exact ⟨⟨o1.trans x1, (o2 ne).trans x2⟩, x3⟩
    have t10 : tx1 (sg_f f b0) = 2 := (out _ s0o).1.trans p2
    rcases Classical.em (m = f a0) with y | y
    · subst y
      rw [z5, tot, cz _ (Or.inl rfl) hm, F _ hm]
      have := cn_add (P := fun s => (tx1 s = 2 ∧ q1 s = f a0) ∧ ¬ (8 + 4 * fr ≤ s ∧ s < 8 + 4 * fr + 4)) (Q := fun s => tx s = 2 ∧ q s = f a0) (N := 216) (a := sg_f f b0) p1 (fun x => mf (by rw [← x.1.2]; exact z3)) ⟨p2, p3⟩ oth
      omega
    · rw [z4 m hm y, tot]
      rcases Classical.em (m = fr) with u | u
      · subst u
        rw [nu_s, cz _ (Or.inr rfl) hm, Nat.zero_add, Nat.add_zero]
        have := cn_add (P := fun s => tx s = 2 ∧ q s = m) (Q := fun s => (tx1 s = 2 ∧ q1 s = m) ∧ ¬ (8 + 4 * m ≤ s ∧ s < 8 + 4 * m + 4)) (N := 216) (a := sg_f f b0) p1 (fun x => y (by rw [← x.2, p3])) ⟨⟨t10, z3⟩, s0o⟩ (fun s hs ne => (oth s hs ne).symm)
        rw [this, ← F _ hm, fr0]
      · rw [nu_n u, Nat.add_comm, F m hm]
        refine congrArg (_ + ·) (cn_c fun s hs => ?_)
        rcases Classical.em (s = sg_f f b0) with v | v
        · rw [v]
          exact ⟨fun x => absurd (x.2.symm.trans p3) y, fun x => absurd (x.1.2.symm.trans z3) u⟩
        · exact (oth s hs v).symm
  · -- the free nodes
    have r1z : ∀ m, m < 32 → m ≠ fr → m ≠ f a0 → (rf1 m = 0 ↔ rf m = 0) := fun m hm u y => by
      rw [z4 m hm y, nu_n u]
      constructor
      · intro h; omega
      · intro h
        rw [h, Nat.zero_add]
        refine cn_z fun e he x => ?_
        have := F m hm
        rw [h] at this
        exact cn_none this.symm (by omega) x
    have fr1 : rf1 fr ≠ 0 := by
      rw [z4 fr fr32 (fun e => mf e.symm), nu_s]; omega
    have m1 : rf1 (f a0) ≠ 0 := by rw [z5]; omega
    obtain ⟨g1, g2, g3, g4⟩ := FR
    refine ⟨by omega, fun i hi => ?_, fun i j hi hj => g3 i j (by omega) (by omega), fun m hm h => ?_⟩
    · obtain ⟨u1, u2⟩ := g2 i (by omega)
      refine ⟨u1, (r1z _ u1 (fun e => ?_) (fun e => ?_)).mpr u2⟩
      · have := g3 i (ft - 1) (by omega) (by omega) (e.trans hfr.symm)
        omega
      · rw [e] at u2; omega
    · have u : m ≠ fr := fun e => fr1 (by rw [← e]; exact h)
      have y : m ≠ f a0 := fun e => m1 (by rw [← e]; exact h)
      obtain ⟨i, hi, e⟩ := g4 m hm ((r1z m hm u y).mp h)
      refine ⟨i, ?_, e⟩
      rcases Classical.em (i = ft - 1) with v | v
      · rw [v, hfr] at e
        exact absurd e.symm u
      · omega
  · rcases Classical.em (a = a0) with z | z
    · exact z
    · rw [f0, fo a z] at e
      exact absurd e (frA a ha)
end
end
section
/-- box b is the place (v, i, j) of variable v -/
def pt_f (w : Nat) (t n : Nat → Nat) (v : Nat) (i j : Int32) (b : Nat) : Prop :=
  (i < 0 ∧ b = v) ∨ (∃ ii a, ii < w ∧ i = nI ii ∧ t (th_f t n v) = 2 ∧ n (th_f t n v) = 4 * a ∧
    ((j < 0 ∧ b = 4 * a + ii) ∨ (∃ jj a', jj < w ∧ j = nI jj ∧ t (th_f t n (4 * a + ii)) = 2 ∧ n (th_f t n (4 * a + ii)) = 4 * a' ∧ b = 4 * a' + jj)))
section
variable {K : Nat → Int32} {G : Nat → Nat} {ft ce li de lo : Nat} {tx q rf fn ho po wk : Nat → Nat} {f r t n : Nat → Nat}
theorem xw_take (h0 : 0 < ft) (h32 : ft ≤ 32) (hf : fn (ft - 1) < 32) {post : Int32 → SX → Prop} (H : post (nI (fn (ft - 1))) (mk_X K G (ft - 1) ce li de lo tx q (nu_a rf (fn (ft - 1)) 1) fn ho po wk)) : wpX_takeNode post (mk_X K G ft ce li de lo tx q rf fn ho po wk) := by
  refine pk_le ft 0 (fun z => absurd z (by omega)) (fun _ => nm_r (ja_s1 h0) ?_)
  refine ⟨pk_in (ft - 1) 32 (by omega) rfl, nm_r (jm_c (by omega)) ?_⟩
  exact jw_u (fn (ft - 1)) 1 hf H rfl rfl
theorem xw_sep26 (hG : G 1 ≤ 4) {s0 m0 fr : Nat} (hs0 : s0 < 216) (hm0 : m0 < 32) (hfr : fr < 32) (ne : m0 ≠ fr) (ns0 : ¬ (8 + 4 * fr ≤ s0 ∧ s0 < 8 + 4 * fr + 4)) (hr : 0 < rf m0)
    (htx : ∀ s, s < 216 → tx s ≤ 3) (hq : ∀ s, s < 216 → tx s = 2 → q s < 32) (hself : ∀ e, e < 4 → tx (8 + 4 * m0 + e) = 2 → q (8 + 4 * m0 + e) ≠ m0) {post : SX → Prop}
    (H : ∀ tx1 q1 rf1, sp_f (G 1) tx q rf s0 m0 fr tx1 q1 rf1 → post (mk_X K G ft ce li de lo tx1 q1 rf1 fn ho po wk)) :
    ∀ m e tx1 q1 rf1, G 1 - e < m → e ≤ G 1 → (∀ e', e' < e → tx1 (8 + 4 * fr + e') = tx (8 + 4 * m0 + e') ∧ q1 (8 + 4 * fr + e') = q (8 + 4 * m0 + e')) → (∀ s, ¬ (8 + 4 * fr ≤ s ∧ s < 8 + 4 * fr + e) → tx1 s = tx s ∧ q1 s = q s) →
      (∀ k, k < 32 → rf1 k = nu_a rf fr 1 k + cn_p (fun e => tx (8 + 4 * m0 + e) = 2 ∧ q (8 + 4 * m0 + e) = k) e) → wX_separate_26 post (nI s0) (nI m0) (nI fr) (K 0) (K 1) (K 2) (K 3) (K 4) (K 5) (K 6) (K 7) (nI (G 0)) (nI (G 1)) (nI (G 2)) (nI (G 3)) (nI ft) (nI ce) (nI li) (nI de) (nI lo) m (nI e) (jm_a tx1) (jm_a q1) (jm_a rf1) (jm_a fn) (jm_a ho) (jm_a po) (jm_a wk) := by
  intro m
  induction m with
  | zero => intro e tx1 q1 rf1 hm; omega
  | succ m ih =>
    intro e tx1 q1 rf1 hm heG i1 i2 i3
    refine pk_le (G 1) e (fun hx => ?_) (fun hx => ?_)
    · have : e = G 1 := by omega
      subst this
      have rm : rf1 m0 = rf m0 := by
        rw [i3 m0 hm0, nu_n ne, cn_z (N := G 1) (fun e he x => hself e (by omega) x.1 x.2), Nat.add_zero]
      refine ⟨pk_in m0 32 hm0 rfl, jw_u m0 (rf1 m0 - 1) hm0 (jw_u s0 fr hs0 (H _ _ _ ⟨fun e he => ?_, fun s hs => ?_, nu_s, fun k hk z => ?_, ?_⟩) rfl rfl) rfl ?_⟩
      · rw [nu_n (by omega)]; exact i1 e he
      · exact ⟨(i2 s hs).1, fun z => by rw [nu_n z]; exact (i2 s hs).2⟩
      · rw [nu_n z]; exact i3 k hk
      · rw [nu_s, rm]
      · rw [jm_c (by omega)]
        exact ja_s1 (by omega)
    · have hs5 : 8 + 4 * m0 + e < 216 := by omega
      have hs6 : 8 + 4 * fr + e < 216 := by omega
      obtain ⟨j1, j2⟩ := i2 (8 + 4 * m0 + e) (by omega)
      have h3 := htx _ hs5
      refine nm_r (e' := nI (8 + 4 * m0 + e)) (ja_mb 8 4 m0 e) (nm_r (e' := nI (8 + 4 * fr + e)) (ja_mb 8 4 fr e) ?_)
      refine ⟨pk_in _ 216 hs5 rfl, jw_u (8 + 4 * fr + e) (tx1 (8 + 4 * m0 + e)) hs6 ⟨pk_in _ 216 hs5 rfl, jw_u (8 + 4 * fr + e) (q1 (8 + 4 * m0 + e)) hs6 ?_ rfl (jm_c (by omega))⟩ rfl (jm_c (by omega))⟩
      have k1 : ∀ e', e' < e + 1 → nu_a tx1 (8 + 4 * fr + e) (tx1 (8 + 4 * m0 + e)) (8 + 4 * fr + e') = tx (8 + 4 * m0 + e') ∧ nu_a q1 (8 + 4 * fr + e) (q1 (8 + 4 * m0 + e)) (8 + 4 * fr + e') = q (8 + 4 * m0 + e') := fun e' he' => by
        rcases Classical.em (e' = e) with z | z
        · subst z
          rw [nu_s, nu_s, j1, j2]
          exact ⟨rfl, rfl⟩
        · rw [nu_n (by omega), nu_n (by omega)]
          exact i1 e' (by omega)
      have k2 : ∀ s, ¬ (8 + 4 * fr ≤ s ∧ s < 8 + 4 * fr + (e + 1)) → nu_a tx1 (8 + 4 * fr + e) (tx1 (8 + 4 * m0 + e)) s = tx s ∧ nu_a q1 (8 + 4 * fr + e) (q1 (8 + 4 * m0 + e)) s = q s := fun s hs => by
        rw [nu_n (by omega), nu_n (by omega)]
        exact i2 s (by omega)
      have tt : nu_a tx1 (8 + 4 * fr + e) (tx1 (8 + 4 * m0 + e)) (8 + 4 * m0 + e) = tx (8 + 4 * m0 + e) := by rw [nu_n (by omega), j1]
      have qq : nu_a q1 (8 + 4 * fr + e) (q1 (8 + 4 * m0 + e)) (8 + 4 * m0 + e) = q (8 + 4 * m0 + e) := by rw [nu_n (by omega), j2]
      refine jr_eq (8 + 4 * m0 + e) 2 hs5 (by rw [tt]; omega) (fun h2 => ?_) (fun h2 => ?_) rfl
      · rw [tt] at h2
        have c32 := hq _ hs5 h2
        have hi : jm_a (nu_a q1 (8 + 4 * fr + e) (q1 (8 + 4 * m0 + e))) (nI (8 + 4 * m0 + e)).toNatClampNeg = nI (q (8 + 4 * m0 + e)) := by rw [jm_c (by omega), qq]
        refine ⟨pk_in _ 216 hs5 rfl, pk_in _ 32 c32 hi, jw_u (q (8 + 4 * m0 + e)) (rf1 (q (8 + 4 * m0 + e)) + 1) c32 (nm_r (ja_p1 e) ?_) hi ?_⟩
        · refine ih (e + 1) _ _ _ (by omega) (by omega) k1 k2 fun k hk => ?_
          show _ = _ + (cn_p (fun e => tx (8 + 4 * m0 + e) = 2 ∧ q (8 + 4 * m0 + e) = k) e + b0_1 _)
          rcases Classical.em (k = q (8 + 4 * m0 + e)) with z | z
          · rw [b0_t ⟨h2, z.symm⟩, z, nu_s, i3 _ c32]
            rfl
          · rw [b0_f (fun x => z x.2.symm), nu_n z, i3 k hk]
            rfl
        · rw [jm_i _ hi]
          exact ja_p1 _
      · rw [tt] at h2
        refine nm_r (ja_p1 e) (ih (e + 1) _ _ _ (by omega) (by omega) k1 k2 fun k hk => ?_)
        show _ = _ + (cn_p (fun e => tx (8 + 4 * m0 + e) = 2 ∧ q (8 + 4 * m0 + e) = k) e + b0_1 _)
        rw [b0_f (fun x => h2 x.1), i3 k hk]
        rfl
/-- separate gives the array in box b0 a node of its own -/
theorem xw_sep (R : r0_f (G 1) f r t n tx q rf fn ho ft li) (hG : G 1 ≤ 4) (hl : li ≤ 32) {b0 a0 : Nat} (ib0 : ib_v t n b0) (s0 : sn_f f t n b0) (h2 : t b0 = 2) (ea : n b0 = 4 * a0) {post : SX → Prop}
    (H : ∀ f' r' ft tx q rf, r0_f (G 1) f' r' t n tx q rf fn ho ft li → (∀ a, al_v t n a → f' a = f' a0 → a = a0) → sg_f f' b0 = sg_f f b0 → post (mk_X K G ft ce li de lo tx q rf fn ho po wk)) : wpX_separate post (mk_X K G ft ce li de lo tx q rf fn ho po wk) (nI (sg_f f b0)) := by
  have R0 := R
  obtain ⟨Y, X, RK, KK, F, FR, HO, LI⟩ := R
  obtain ⟨p1, p2, p3⟩ := xs_p X Y ib0.1 h2 ea
  have al0 : al_v t n a0 := ⟨b0, ib0.1, h2, ea⟩
  have m32 := X.2.1 a0 al0
  have hrm : rf (f a0) ≤ 216 := by rw [F _ m32]; exact cn_le _ _
  refine ⟨pk_in _ 216 p1 rfl, nm_r (e' := nI (f a0)) (by rw [jm_c (by omega), p3]) ⟨pk_in _ 32 m32 rfl, pk_le 2 (rf (f a0)) (fun hr => ?_) (fun hr => ?_) rfl (jm_c (by omega))⟩⟩
  · have tx3 : ∀ s, s < 216 → tx s ≤ 3 := fun s hs => by
      rcases Classical.em (tx s = 0) with z | z
      · omega
      · obtain ⟨b, ib, _, e, _⟩ := xs_b Y X hs z
        rw [← e]; exact Y.1 b ib.1
    have hft : 0 < ft := by
      have h3 := F _ m32
      rw [cn_rem (Q := fun s => tx s = 2 ∧ q s = f a0) (a := sg_f f b0) ⟨p2, p3⟩ p1] at h3
      obtain ⟨s2, u1, ⟨u2, u3⟩, u4⟩ := cn_ex (P := fun y => (tx y = 2 ∧ q y = f a0) ∧ y ≠ sg_f f b0) (N := 216) (by omega)
      obtain ⟨b2, a2, ib2, es2, g1, g3, al2, g4⟩ := xs_2 Y X u1 u2
      refine nd_free2 R0 hl al2 al0 (fun z => ?_) (g4.symm.trans u3)
      subst z
      have := al_u Y ib2.1 ib0.1 g1 h2 g3 ea
      exact u4 (by rw [← es2, this])
    obtain ⟨fr32, fr0⟩ := FR.2.1 (ft - 1) (by omega)
    have frm : f a0 ≠ fn (ft - 1) := fun e => nd_u R0 al0 (by rw [e]; exact fr0)
    refine xw_take hft FR.1 fr32 ⟨G 1 + 1, ?_⟩
    refine xw_sep26 (rf := rf) hG p1 m32 fr32 frm (fun h => ?_) (by omega) tx3 (fun s hs h => ?_) (fun e he h x => ?_) (fun tx1 q1 rf1 Z => ?_) (G 1 + 1) 0 tx q (nu_a rf (fn (ft - 1)) 1) (by omega) (by omega) (fun e' he' => absurd he' (by omega)) (fun s _ => ⟨rfl, rfl⟩) (fun k _ => rfl)
    · have := xs_0 Y X F _ fr32 fr0 (sg_f f b0 - (8 + 4 * fn (ft - 1))) (by omega)
      rw [show 8 + 4 * fn (ft - 1) + (sg_f f b0 - (8 + 4 * fn (ft - 1))) = sg_f f b0 by omega, p2] at this
      omega
    · obtain ⟨b, a, _, _, _, _, ha, e⟩ := xs_2 Y X hs h
      rw [e]; exact X.2.1 a ha
    · obtain ⟨b, a, ib, es, g1, g2, g3, g4⟩ := xs_2 Y X (by omega) h
      obtain ⟨hE, k1, _⟩ := xs_el X ib m32 he es
      have := RK b hE g1
      rw [g2, Nat.mul_div_cancel_left _ (by decide), k1, ← g4, x] at this
      exact Nat.lt_irrefl _ this
    · obtain ⟨R', U, e⟩ := op_sep R0 hG ib0 s0 h2 ea hr hft Z
      exact H _ _ _ _ _ _ R' U e
  · refine H f r ft tx q rf R0 (fun a ha e => ?_) rfl
    obtain ⟨b, hb, g1, g2⟩ := ha
    obtain ⟨u1, u2, u3⟩ := xs_p X Y hb g1 g2
    have h3 := F _ m32
    have := cn_uni (P := fun s => tx s = 2 ∧ q s = f a0) (N := 216) (by omega) u1 p1 ⟨u2, u3.trans e⟩ ⟨p2, p3⟩
    have := s0 b (ib_t Y hb (by omega)) this
    subst this
    omega
/-- the element of the value of box b, which stands alone -/
theorem xw_own (R : r0_f (G 1) f r t n tx q rf fn ho ft li) (hG : G 1 ≤ 4) (hl : li ≤ 32) {b a ii : Nat} (ib : ib_v t n b) (s0 : sn_f f t n b) (h2 : t (th_f t n b) = 2) (ea : n (th_f t n b) = 4 * a) (hi : ii < 4) {post : Int32 → SX → Prop}
    (H : ∀ f' r' ft tx q rf, r0_f (G 1) f' r' t n tx q rf fn ho ft li → sn_f f' t n (4 * a + ii) → ib_v t n (4 * a + ii) → post (nI (sg_f f' (4 * a + ii))) (mk_X K G ft ce li de lo tx q rf fn ho po wk)) : wpX_ownElement post (mk_X K G ft ce li de lo tx q rf fn ho po wk) (nI (sg_f f b)) (nI ii) := by
  have Y := R.1
  have X := R.2.1
  have ibt := th_ib Y ib
  have al : al_v t n a := ⟨_, ibt.1, h2, ea⟩
  have ra := al_r Y al
  have hE : el_b (4 * a + ii) := ⟨by omega, by omega⟩
  have hd : (4 * a + ii) / 4 = a := by omega
  have hm : (4 * a + ii) % 4 = ii := by omega
  have snt : sn_f f t n (th_f t n b) := by
    unfold th_f
    split
    · rename_i h3
      obtain ⟨⟨c, hc, e⟩, _⟩ := Y.2.2.1 b ib.1 h3
      exact sn_r X (by omega) (by unfold el_b; omega)
    · exact s0
  unfold wpX_ownElement
  dsimp only
  refine xw_value (K := K) (G := G) Y X ib ?_
  refine xw_sep R hG hl ibt snt h2 ea fun f' r' ft1 tx1 q1 rf1 R' U e => ?_
  obtain ⟨p1, p2, p3⟩ := xs_p R'.2.1 Y ibt.1 h2 ea
  rw [e] at p1 p2 p3
  refine ⟨pk_in _ 216 p1 rfl, ?_⟩
  have e1 : (8 : Int32) + 4 * jm_a q1 (nI (sg_f f (th_f t n b))).toNatClampNeg + nI ii = nI (sg_f f' (4 * a + ii)) := by
    rw [jm_c (by omega), p3, sg_e hE.1 hE.2, hd, hm]
    exact ja_mb 8 4 _ ii
  rw [e1]
  exact H _ _ _ _ _ _ R' (sn_e hE R'.2.1.2.1 (by rw [hd]; exact al) (fun a' ha' e' => by rw [hd] at e' ⊢; exact U a' ha' e')) ⟨el_lt hE, fun _ => by rw [hd]; exact al⟩
/-- reach: the slot of a place, its path separated -/
theorem xw_reach (R : r0_f (G 1) f r t n tx q rf fn ho ft li) (hG : G 1 ≤ 4) (hl : li ≤ 32) {v b : Nat} (hv : v < 8) {i j : Int32} (P : pt_f (G 1) t n v i j b) {post : Int32 → SX → Prop}
    (H : ∀ f' r' ft tx q rf, r0_f (G 1) f' r' t n tx q rf fn ho ft li → sn_f f' t n b → ib_v t n b → post (nI (sg_f f' b)) (mk_X K G ft ce li de lo tx q rf fn ho po wk)) : wpX_reach post (mk_X K G ft ce li de lo tx q rf fn ho po wk) (nI v) i j := by
  have Y := R.1
  have X := R.2.1
  have rt : ¬ el_b v := fun x => by have := x.1; omega
  have ibv : ib_v t n v := ib_r (by omega) rt
  have snv : sn_f f t n v := sn_r X (by omega) rt
  rcases P with ⟨hi, e⟩ | ⟨ii, a, hii, ei, h2, ea, P⟩
  · subst e
    refine br_t hi ?_
    have := H f r ft tx q rf R snv ibv
    rw [sg_a hv] at this
    exact this
  · subst ei
    refine ja_lt0 ii ?_ rfl
    have e0 : nI v = nI (sg_f f v) := by rw [sg_a hv]
    rw [e0]
    refine xw_own R hG hl ibv snv h2 ea (by omega) fun f1 r1 ft1 tx1 q1 rf1 R1 s1 ib1 => ?_
    rcases P with ⟨hj, e⟩ | ⟨jj, a', hjj, ej, g2, ea', e⟩
    · subst e
      exact br_t hj (H _ _ _ _ _ _ R1 s1 ib1)
    · subst ej
      subst e
      refine ja_lt0 jj ?_ rfl
      exact xw_own R1 hG hl ib1 s1 g2 ea' (by omega) fun f2 r2 ft2 tx2 q2 rf2 R2 s2 ib2 => H _ _ _ _ _ _ R2 s2 ib2
end
end
section
/-- tags are small, pointers are boxes -/
def yb_f (t n : Nat → Nat) : Prop := ∀ b, b < 216 → t b ≤ 3 ∧ (t b = 2 ∨ t b = 3 → n b < 216)
theorem yb_w {w : Nat} {t n : Nat → Nat} (Y : yw_f w t n) : yb_f t n := fun b hb => ⟨Y.1 b hb, fun h => by
  rcases h with h | h
  · obtain ⟨a, _, _, e⟩ := Y.2.1 b hb h; omega
  · obtain ⟨⟨c, _, e⟩, _⟩ := Y.2.2.1 b hb h; omega⟩
/-- a place's answer on X's and on Y's side -/
def ox_f (f : Nat → Nat) : Option Nat → Int32
  | none => -1
  | some b => nI (sg_f f b)
def oy_f : Option Nat → Int32
  | none => -1
  | some b => nI b
section
variable {G : Nat → Nat} {sp lp ls he : Nat} {t n l cp yp : Nat → Nat}
theorem yk_ptr5 (B : yb_f t n) {k m : Nat} (hk : k = 2 ∨ k = 3) (hm : m < 216) {post : Int32 → Prop} (H : post (nI (cn_p (fun b => t b = k ∧ n b = m) 216))) :
    ∀ d b, 216 - b < d → b ≤ 216 → wY_pointers_5 post (nI k) (nI m) (nI (G 0)) (nI (G 1)) (nI (G 2)) (nI (G 3)) (nI sp) (nI lp) (nI ls) (nI he) (jm_a t) (jm_a n) (jm_a l) (jm_a cp) (jm_a yp) d (nI (cn_p (fun b => t b = k ∧ n b = m) b)) (nI b) := by
  intro d
  induction d with
  | zero => intro b hd; omega
  | succ d ih =>
    intro b hd hb
    refine pk_le 216 b (fun hx => ?_) (fun hx => ?_)
    · have : b = 216 := by omega
      subst this
      exact H
    · obtain ⟨b1, b2⟩ := B b hx
      have e1 : cn_p (fun b => t b = k ∧ n b = m) (b + 1) = cn_p (fun b => t b = k ∧ n b = m) b + b0_1 (t b = k ∧ n b = m) := rfl
      have i1 := ih (b + 1) (by omega) (by omega)
      rw [e1] at i1
      refine jr_eq b k hx (by omega) (fun hz => ?_) (fun hz => ?_) rfl
      · have hn := b2 (by omega)
        refine jr_eq b m hx (by omega) (fun hy => ?_) (fun hy => ?_) rfl
        · rw [b0_t ⟨hz, hy⟩] at i1
          exact nm_r (ja_p1 _) (nm_r (ja_p1 b) i1)
        · rw [b0_f (fun x => hy x.2)] at i1
          exact nm_r (ja_p1 b) i1
      · rw [b0_f (fun x => hz x.1)] at i1
        exact nm_r (ja_p1 b) i1
/-- pointers counts -/
theorem yk_ptr (B : yb_f t n) {k m : Nat} (hk : k = 2 ∨ k = 3) (hm : m < 216) {post : Int32 → Prop} (H : post (nI (cn_p (fun b => t b = k ∧ n b = m) 216))) : wpY_pointers post (mk_Y G sp lp ls he t n l cp yp) (nI k) (nI m) :=
  ⟨217, yk_ptr5 B hk hm H 217 0 (by omega) (by omega)⟩
theorem yk_cnt52 (B : yb_f t n) {x : Int32} {post : Int32 → Prop} (H : post (nI (cn_p (fun b => (x = 0 ∧ t b = 2) ∨ (x = 3 ∧ 148 ≤ b ∧ t b ≠ 0)) 216))) :
    ∀ d b, 216 - b < d → b ≤ 216 → wY_count_52 post x (nI (G 0)) (nI (G 1)) (nI (G 2)) (nI (G 3)) (nI sp) (nI lp) (nI ls) (nI he) (jm_a t) (jm_a n) (jm_a l) (jm_a cp) (jm_a yp) d (nI (cn_p (fun b => (x = 0 ∧ t b = 2) ∨ (x = 3 ∧ 148 ≤ b ∧ t b ≠ 0)) b)) (nI b) := by
  intro d
  induction d with
  | zero => intro b hd; omega
  | succ d ih =>
    intro b hd hb
    refine pk_le 216 b (fun hx => ?_) (fun hx => ?_)
    · have : b = 216 := by omega
      subst this
      exact H
    · obtain ⟨b1, b2⟩ := B b hx
      have e1 : cn_p (fun b => (x = 0 ∧ t b = 2) ∨ (x = 3 ∧ 148 ≤ b ∧ t b ≠ 0)) (b + 1) = cn_p (fun b => (x = 0 ∧ t b = 2) ∨ (x = 3 ∧ 148 ≤ b ∧ t b ≠ 0)) b + b0_1 ((x = 0 ∧ t b = 2) ∨ (x = 3 ∧ 148 ≤ b ∧ t b ≠ 0)) := rfl
      have i1 := ih (b + 1) (by omega) (by omega)
      rw [e1] at i1
      refine br_c (fun hx0 => ?_) (fun hx0 => ?_)
      · have n3 : ¬ x = 3 := fun e => absurd (hx0.symm.trans e) (by decide)
        refine jr_eq b 2 hx (by omega) (fun hz => ?_) (fun hz => ?_) rfl
        · rw [b0_t (Or.inl ⟨hx0, hz⟩)] at i1
          exact nm_r (ja_p1 _) (br_f n3 (nm_r (ja_p1 b) i1))
        · rw [b0_f (fun y => y.elim (fun y => hz y.2) (fun y => n3 y.1))] at i1
          exact br_f n3 (nm_r (ja_p1 b) i1)
      · refine br_c (fun h3 => ?_) (fun h3 => ?_)
        · refine pk_lt b 148 (fun hz => ?_) (fun hz => ?_)
          · rw [b0_f (fun y => y.elim (fun y => hx0 y.1) (fun y => by have := y.2.1; omega))] at i1
            exact nm_r (ja_p1 b) i1
          · refine jr_eq b 0 hx (by omega) (fun hy => ?_) (fun hy => ?_) rfl
            · rw [b0_f (fun y => y.elim (fun y => hx0 y.1) (fun y => y.2.2 hy))] at i1
              exact nm_r (ja_p1 b) i1
            · rw [b0_t (Or.inr ⟨h3, hz, hy⟩)] at i1
              exact nm_r (ja_p1 _) (nm_r (ja_p1 b) i1)
        · rw [b0_f (fun y => y.elim (fun y => hx0 y.1) (fun y => h3 y.1))] at i1
          exact nm_r (ja_p1 b) i1
/-- count of the boxes -/
theorem yk_cnt (B : yb_f t n) {x : Int32} (h1 : ¬ x = 1) (h2 : ¬ x = 2) (h4 : ¬ x = 4) {post : Int32 → Prop} (H : post (nI (cn_p (fun b => (x = 0 ∧ t b = 2) ∨ (x = 3 ∧ 148 ≤ b ∧ t b ≠ 0)) 216))) : wpY_count post (mk_Y G sp lp ls he t n l cp yp) x :=
  br_f h1 (br_f h2 (br_f h4 ⟨217, yk_cnt52 B H 217 0 (by omega) (by omega)⟩))
theorem yk_cnt0 (B : yb_f t n) {post : Int32 → Prop} (H : post (nI (cn_p (fun b => t b = 2) 216))) : wpY_count post (mk_Y G sp lp ls he t n l cp yp) 0 := by
  refine yk_cnt B (by decide) (by decide) (by decide) ?_
  rw [cn_c (Q := fun b => t b = 2)]
  · exact H
  · exact fun k _ => ⟨fun x => x.elim (fun x => x.2) (fun x => absurd x.1 (by decide)), fun x => Or.inl ⟨rfl, x⟩⟩
theorem yk_free3 (B : yb_f t n) {post : Int32 → Prop} (H : ∀ a, 5 ≤ a → a < 37 → (∀ b, b < 216 → t b = 2 → n b ≠ 4 * a) → post (nI (4 * a))) :
    ∀ d i, 37 - i < d → 5 ≤ i → i ≤ 36 → (∃ a, i ≤ a ∧ a < 37 ∧ ∀ b, b < 216 → t b = 2 → n b ≠ 4 * a) → wY_freeArray_3 post (nI (G 0)) (nI (G 1)) (nI (G 2)) (nI (G 3)) (nI sp) (nI lp) (nI ls) (nI he) (jm_a t) (jm_a n) (jm_a l) (jm_a cp) (jm_a yp) d (nI (4 * i)) := by
  intro d
  induction d with
  | zero => intro i hd; omega
  | succ d ih =>
    intro i hd h5 h36 ⟨a, e1, e2, e3⟩
    refine pk_le 144 (4 * i) (fun hx => ?_) (fun hx => ?_)
    · have : a = i := by omega
      subst this
      exact H a h5 e2 e3
    · refine yk_ptr B (Or.inl rfl) (by omega) ?_
      have hle := cn_le (fun b => t b = 2 ∧ n b = 4 * i) 216
      refine pk_le (cn_p (fun b => t b = 2 ∧ n b = 4 * i) 216) 0 (fun hz => ?_) (fun hz => ?_)
      · exact H i h5 (by omega) fun b hb h2 e => cn_none (P := fun b => t b = 2 ∧ n b = 4 * i) (N := 216) (by omega) hb ⟨h2, e⟩
      · refine nm_r (e' := nI (4 * (i + 1))) (nI_add (4 * i) 4) (ih (i + 1) (by omega) (by omega) (by omega) ⟨a, ?_, e2, e3⟩)
        rcases Nat.lt_or_ge i a with z | z
        · exact z
        · have : a = i := by omega
          subst this
          obtain ⟨b, hb, h2, e⟩ := cn_ex (P := fun b => t b = 2 ∧ n b = 4 * a) (N := 216) (by omega)
          exact absurd e (e3 b hb h2)
/-- freeArray answers an array that is nowhere -/
theorem yk_free (B : yb_f t n) (h : ∃ a, 5 ≤ a ∧ a < 37 ∧ ∀ b, b < 216 → t b = 2 → n b ≠ 4 * a) {post : Int32 → Prop} (H : ∀ a, 5 ≤ a → a < 37 → (∀ b, b < 216 → t b = 2 → n b ≠ 4 * a) → post (nI (4 * a))) : wpY_freeArray post (mk_Y G sp lp ls he t n l cp yp) :=
  ⟨33, yk_free3 B H 33 5 (by omega) (by omega) (by omega) h⟩
theorem yk_thr (Y : yw_f (G 1) t n) {b : Nat} (hb : b < 216) {post : Int32 → Prop} (H : post (nI (th_f t n b))) : wpY_through post (mk_Y G sp lp ls he t n l cp yp) (nI b) := by
  have ht := Y.1 b hb
  unfold th_f at H
  refine jr_eq b 3 hb (by omega) (fun h => ?_) (fun h => ?_) rfl
  · rw [if_pos h] at H
    refine ⟨pk_in b 216 hb rfl, ?_⟩
    rw [jm_c (by omega)]
    exact H
  · rw [if_neg h] at H
    exact H
end
section
variable {K : Nat → Int32} {G : Nat → Nat} {ft ce li : Nat} {tx q rf fn ho po wk : Nat → Nat} {f r : Nat → Nat} {sp lp ls he : Nat} {t n l cp yp : Nat → Nat}
/-- an element: on both sides -/
theorem lo_el (Y : yw_f (G 1) t n) (X : xr_f f t n tx q) (hG : G 1 ≤ 4) {b ii : Nat} (ib : ib_v t n b) (hi : ii < 2 ^ 31) :
    ∃ z : Option Nat, (∀ b', z = some b' → ∃ a, t (th_f t n b) = 2 ∧ n (th_f t n b) = 4 * a ∧ ii < G 1 ∧ b' = 4 * a + ii ∧ ib_v t n b') ∧
      (∀ post : Int32 → Prop, post (ox_f f z) → wpX_element post (mk_X K G ft ce li sp lp tx q rf fn ho po wk) (nI (sg_f f b)) (nI ii)) ∧ (∀ post : Int32 → Prop, post (oy_f z) → wpY_inside post (mk_Y G sp lp ls he t n l cp yp) (nI b) (nI ii)) := by
  have ibt := th_ib Y ib
  have s1 := sg_lt X ibt
  obtain ⟨x1, x2⟩ := X.1 _ ibt
  have ht := Y.1 _ ibt.1
  have hb := ib.1
  rcases Classical.em (t (th_f t n b) = 2) with h2 | h2
  · obtain ⟨a, a5, a37, ea⟩ := Y.2.1 _ ibt.1 h2
    rcases Nat.lt_or_ge ii (G 1) with hx | hx
    · have al : al_v t n a := ⟨_, ibt.1, h2, ea⟩
      have hE : el_b (4 * a + ii) := ⟨by omega, by omega⟩
      have hd : (4 * a + ii) / 4 = a := by omega
      have hm : (4 * a + ii) % 4 = ii := by omega
      refine ⟨some (4 * a + ii), fun b' e => ?_, fun post h => ?_, fun post h => ?_⟩
      · cases e
        exact ⟨a, h2, ea, hx, rfl, by omega, fun _ => by rw [hd]; exact al⟩
      · unfold wpX_element
        dsimp only
        refine xw_value (K := K) (G := G) Y X ib ?_
        refine jr_eq _ 2 s1 (by omega) (fun _ => pk_lt ii (G 1) (fun _ => ⟨pk_in _ 216 s1 rfl, ?_⟩) (fun z => absurd z (by omega))) (fun z => absurd (x1.trans h2) z) rfl
        have e1 : (8 : Int32) + 4 * jm_a q (nI (sg_f f (th_f t n b))).toNatClampNeg + nI ii = nI (sg_f f (4 * a + ii)) := by
          rw [jm_c (by omega), x2 (by omega), xv_2 h2 ea, sg_e hE.1 hE.2, hd, hm]
          exact ja_mb 8 4 _ ii
        rw [e1]
        exact h
      · refine ja_lt0 b ?_ rfl
        refine pk_lt ii (G 1) (fun _ => ?_) (fun z => absurd z (by omega))
        refine yk_thr Y hb ?_
        refine jr_eq _ 2 ibt.1 (by omega) (fun _ => ⟨pk_in _ 216 ibt.1 rfl, ?_⟩) (fun z => absurd h2 z) rfl
        have e1 : jm_a n (nI (th_f t n b)).toNatClampNeg + nI ii = nI (4 * a + ii) := by
          rw [jm_c (by have := ibt.1; omega), ea]
          exact nI_add _ _
        rw [e1]
        exact h
    · refine ⟨none, fun b' e => (by cases e), fun post h => ?_, fun post h => ?_⟩
      · unfold wpX_element
        dsimp only
        refine xw_value (K := K) (G := G) Y X ib ?_
        exact jr_eq _ 2 s1 (by omega) (fun _ => pk_lt ii (G 1) (fun z => absurd z (by omega)) (fun _ => h)) (fun _ => h) rfl
      · refine ja_lt0 b ?_ rfl
        exact pk_lt ii (G 1) (fun z => absurd z (by omega)) (fun _ => h)
  · refine ⟨none, fun b' e => (by cases e), fun post h => ?_, fun post h => ?_⟩
    · unfold wpX_element
      dsimp only
      refine xw_value (K := K) (G := G) Y X ib ?_
      exact jr_eq _ 2 s1 (by omega) (fun z => absurd (x1.symm.trans z) h2) (fun _ => h) rfl
    · refine ja_lt0 b ?_ rfl
      refine pk_lt ii (G 1) (fun _ => ?_) (fun _ => h)
      refine yk_thr Y hb ?_
      exact jr_eq _ 2 ibt.1 (by omega) (fun z => absurd z h2) (fun _ => h) rfl
theorem lo_root (va8 : G 0 ≤ 8) (hsp : sp ≤ 8) (hlp : lp ≤ 4) (v i j : Int32) :
    ∃ z : Option Nat, (∀ b, z = some b → b < 20 ∧ (¬ v < 0 → v = nI b ∧ b < G 0)) ∧
      (∀ post : Int32 → Prop, post (ox_f f z) → wpX_root post (mk_X K G ft ce li sp lp tx q rf fn ho po wk) v) ∧ (∀ post : Int32 → Prop, wY_place_66 post i j (oy_f z) (nI (G 0)) (nI (G 1)) (nI (G 2)) (nI (G 3)) (nI sp) (nI lp) (nI ls) (nI he) (jm_a t) (jm_a n) (jm_a l) (jm_a cp) (jm_a yp) → wpY_place post (mk_Y G sp lp ls he t n l cp yp) v i j) := by
  rcases Classical.em (v < 0) with hv | hv
  · rcases Classical.em (v = -1) with h1 | h1
    · have n2 : ¬ v = -2 := fun e => absurd (h1.symm.trans e) (by decide)
      rcases Nat.eq_zero_or_pos sp with hs | hs
      · refine ⟨none, fun b e => (by cases e), fun post h => ?_, fun post h => ?_⟩
        · exact br_t hv (br_t h1 (pk_le sp 0 (fun _ => br_f n2 h) (fun z => absurd z (by omega))))
        · exact br_t hv (br_t h1 (pk_le sp 0 (fun _ => br_f n2 h) (fun z => absurd z (by omega))))
      · refine ⟨some (8 + sp - 1), fun b e => ?_, fun post h => ?_, fun post h => ?_⟩
        · cases e
          exact ⟨by omega, fun z => absurd hv z⟩
        · refine br_t hv (br_t h1 (pk_le sp 0 (fun z => absurd z (by omega)) (fun _ => ?_)))
          have e1 : (136 : Int32) + nI sp - 1 = ox_f f (some (8 + sp - 1)) := by
            show _ = nI (sg_f f (8 + sp - 1))
            rw [sg_b (by omega) (by omega), show 8 + sp - 1 + 128 = 136 + sp - 1 by omega]
            exact ja_as (a := 136) (c := 1) (by omega)
          rw [e1]
          exact h
        · refine br_t hv (br_t h1 (pk_le sp 0 (fun z => absurd z (by omega)) (fun _ => nm_r (e' := nI (8 + sp - 1)) (ja_as (a := 8) (c := 1) (by omega)) ?_)))
          exact br_f n2 h
    · rcases Classical.em (v = -2) with h2 | h2
      · rcases Nat.eq_zero_or_pos lp with hs | hs
        · refine ⟨none, fun b e => (by cases e), fun post h => ?_, fun post h => ?_⟩
          · exact br_t hv (br_f h1 (br_t h2 (pk_le lp 0 (fun _ => h) (fun z => absurd z (by omega)))))
          · exact br_t hv (br_f h1 (br_t h2 (pk_le lp 0 (fun _ => h) (fun z => absurd z (by omega)))))
        · refine ⟨some (16 + lp - 1), fun b e => ?_, fun post h => ?_, fun post h => ?_⟩
          · cases e
            exact ⟨by omega, fun z => absurd hv z⟩
          · refine br_t hv (br_f h1 (br_t h2 (pk_le lp 0 (fun z => absurd z (by omega)) (fun _ => ?_))))
            have e1 : (144 : Int32) + nI lp - 1 = ox_f f (some (16 + lp - 1)) := by
              show _ = nI (sg_f f (16 + lp - 1))
              rw [sg_b (by omega) (by omega), show 16 + lp - 1 + 128 = 144 + lp - 1 by omega]
              exact ja_as (a := 144) (c := 1) (by omega)
            rw [e1]
            exact h
          · refine br_t hv (br_f h1 (br_t h2 (pk_le lp 0 (fun z => absurd z (by omega)) (fun _ => nm_r (e' := nI (16 + lp - 1)) (ja_as (a := 16) (c := 1) (by omega)) ?_))))
            exact h
      · refine ⟨none, fun b e => (by cases e), fun post h => ?_, fun post h => ?_⟩
        · exact br_t hv (br_f h1 (br_f h2 h))
        · exact br_t hv (br_f h1 (br_f h2 h))
  · obtain ⟨vn, hvn, rfl⟩ := nI_of hv
    have n1 : ¬ nI vn = -1 := fun e => hv (by rw [e]; decide)
    have n2 : ¬ nI vn = -2 := fun e => hv (by rw [e]; decide)
    rcases Nat.lt_or_ge vn (G 0) with hx | hx
    · refine ⟨some vn, fun b e => ?_, fun post h => ?_, fun post h => ?_⟩
      · cases e
        exact ⟨by omega, fun _ => ⟨rfl, hx⟩⟩
      · refine br_f hv (pk_le (G 0) vn (fun z => absurd z (by omega)) (fun _ => ?_))
        have h : post (nI (sg_f f vn)) := h
        rw [sg_a (by omega)] at h
        exact h
      · exact br_f hv (pk_le (G 0) vn (fun z => absurd z (by omega)) (fun _ => br_f n1 (br_f n2 h)))
    · refine ⟨none, fun b e => (by cases e), fun post h => ?_, fun post h => ?_⟩
      · exact br_f hv (pk_le (G 0) vn (fun _ => br_f n1 (br_f n2 h)) (fun z => absurd z (by omega)))
      · exact br_f hv (pk_le (G 0) vn (fun _ => br_f n1 (br_f n2 h)) (fun z => absurd z (by omega)))
/-- a place: on both sides -/
theorem lo_pl (Y : yw_f (G 1) t n) (X : xr_f f t n tx q) (hG : G 1 ≤ 4) (va8 : G 0 ≤ 8) (hsp : sp ≤ 8) (hlp : lp ≤ 4) (v i j : Int32) :
    ∃ z : Option Nat, (∀ b, z = some b → ib_v t n b ∧ (¬ v < 0 → ∃ vn, vn < G 0 ∧ v = nI vn ∧ pt_f (G 1) t n vn i j b)) ∧
      (∀ post : Int32 → Prop, post (ox_f f z) → wpX_locate post (mk_X K G ft ce li sp lp tx q rf fn ho po wk) v i j) ∧ (∀ post : Int32 → Prop, post (oy_f z) → wpY_place post (mk_Y G sp lp ls he t n l cp yp) v i j) := by
  obtain ⟨z0, hz0, hX0, hY0⟩ := lo_root (K := K) (G := G) (ft := ft) (ce := ce) (li := li) (tx := tx) (q := q) (rf := rf) (fn := fn) (ho := ho) (po := po) (wk := wk) (f := f) (ls := ls) (he := he) (t := t) (n := n) (l := l) (cp := cp) (yp := yp) va8 hsp hlp v i j
  cases z0 with
  | none =>
    refine ⟨none, fun b e => (by cases e), fun post h => ?_, fun post h => ?_⟩
    · unfold wpX_locate
      dsimp only
      exact hX0 _ (br_t (show (-1 : Int32) < 0 by decide) h)
    · refine hY0 post (br_c (fun hi => br_t hi h) (fun hi => ?_))
      refine br_t (show (-1 : Int32) < 0 by decide) ?_
      exact br_f hi (br_c (fun _ => h) (fun _ => br_t (show (-1 : Int32) < 0 by decide) h))
  | some b =>
    obtain ⟨b20, hbv⟩ := hz0 b rfl
    have rt : ¬ el_b b := fun x => by have := x.1; omega
    have ib : ib_v t n b := ib_r (by omega) rt
    have s0 := sg_lt X ib
    rcases Classical.em (i < 0) with hi | hi
    · refine ⟨some b, fun b' e => ?_, fun post h => ?_, fun post h => ?_⟩
      · cases e
        exact ⟨ib, fun hv => ⟨b, (hbv hv).2, (hbv hv).1, Or.inl ⟨hi, rfl⟩⟩⟩
      · unfold wpX_locate
        dsimp only
        exact hX0 _ (ja_lt0 (sg_f f b) (br_t hi h) rfl)
      · exact hY0 post (br_t hi (br_t hi h))
    · obtain ⟨ii, hii, rfl⟩ := nI_of hi
      obtain ⟨z1, hz1, hX1, hY1⟩ := lo_el (K := K) (G := G) (ft := ft) (ce := ce) (li := li) (rf := rf) (fn := fn) (ho := ho) (po := po) (wk := wk) (sp := sp) (lp := lp) (ls := ls) (he := he) (l := l) (cp := cp) (yp := yp) Y X hG ib hii
      cases z1 with
      | none =>
        refine ⟨none, fun b e => (by cases e), fun post h => ?_, fun post h => ?_⟩
        · unfold wpX_locate
          dsimp only
          exact hX0 _ (ja_lt0 (sg_f f b) (br_f hi (hX1 _ (br_t (show (-1 : Int32) < 0 by decide) h))) rfl)
        · refine hY0 post (br_f hi (hY1 _ ?_))
          exact br_f hi (br_c (fun _ => h) (fun _ => br_t (show (-1 : Int32) < 0 by decide) h))
      | some b1 =>
        obtain ⟨a, h2, ea, hw, e1, ib1⟩ := hz1 b1 rfl
        have s1 := sg_lt X ib1
        have hb1 := ib1.1
        rcases Classical.em (j < 0) with hj | hj
        · refine ⟨some b1, fun b' e => ?_, fun post h => ?_, fun post h => ?_⟩
          · cases e
            exact ⟨ib1, fun hv => ⟨b, (hbv hv).2, (hbv hv).1, Or.inr ⟨ii, a, hw, rfl, h2, ea, Or.inl ⟨hj, e1⟩⟩⟩⟩
          · unfold wpX_locate
            dsimp only
            exact hX0 _ (ja_lt0 (sg_f f b) (br_f hi (hX1 _ (ja_lt0 (sg_f f b1) (br_t hj h) rfl))) rfl)
          · exact hY0 post (br_f hi (hY1 _ (br_f hi (br_t hj h))))
        · obtain ⟨jj, hjj, rfl⟩ := nI_of hj
          obtain ⟨z2, hz2, hX2, hY2⟩ := lo_el (K := K) (G := G) (ft := ft) (ce := ce) (li := li) (rf := rf) (fn := fn) (ho := ho) (po := po) (wk := wk) (sp := sp) (lp := lp) (ls := ls) (he := he) (l := l) (cp := cp) (yp := yp) Y X hG ib1 hjj
          refine ⟨z2, fun b' e => ?_, fun post h => ?_, fun post h => ?_⟩
          · obtain ⟨a', g2, ea', hw', e2, ib2⟩ := hz2 b' e
            exact ⟨ib2, fun hv => ⟨b, (hbv hv).2, (hbv hv).1, Or.inr ⟨ii, a, hw, rfl, h2, ea, Or.inr ⟨jj, a', hw', rfl, by rw [← e1]; exact g2, by rw [← e1]; exact ea', e2⟩⟩⟩⟩
          · unfold wpX_locate
            dsimp only
            exact hX0 _ (ja_lt0 (sg_f f b) (br_f hi (hX1 _ (ja_lt0 (sg_f f b1) (br_f hj (hX2 _ h)) rfl))) rfl)
          · exact hY0 post (br_f hi (hY1 _ (br_f hi (br_f hj (hY2 _ h)))))
end
end
section
/-- the number of arrays among the first k boxes of the list -/
noncomputable def wc_f (t l : Nat → Nat) (k : Nat) : Nat := cn_p (fun i => t (l i) = 2) k
/-- the list of a walk, at its k-th box: w arrays A so far, hh holders -/
def wi_f (t n : Nat → Nat) (b0 k w : Nat) (A l : Nat → Nat) (hh : Nat) : Prop :=
  (l 0 = b0 ∧ ∀ j e, j < w → e < 4 → l (1 + 4 * j + e) = 4 * A j + e) ∧ w = wc_f t l k ∧ (∀ i, i < k → t (l i) = 2 → n (l i) = 4 * A (wc_f t l i)) ∧ (∀ i, i < k → i ≤ 4 * wc_f t l i) ∧ hh ≤ k ∧ (hh = 0 ↔ ∀ i, i < k → t (l i) ≠ 3)
theorem wc_s (t l : Nat → Nat) (k : Nat) : wc_f t l (k + 1) = wc_f t l k + b0_1 (t (l k) = 2) := rfl
theorem wc_c {t l l' : Nat → Nat} {k : Nat} (h : ∀ i, i < k → l' i = l i) : wc_f t l' k = wc_f t l k := cn_c fun i hi => by rw [h i hi]
section
variable {t n : Nat → Nat} {b0 k w hh : Nat} {A l : Nat → Nat}
/-- a box without an array -/
theorem wi_sk (I : wi_f t n b0 k w A l hh) (hk : k ≤ 4 * w) (h2 : t (l k) ≠ 2) {h' : Nat} (hh' : (t (l k) = 3 ∧ h' = hh + 1) ∨ (t (l k) ≠ 3 ∧ h' = hh)) : wi_f t n b0 (k + 1) w A l h' := by
  obtain ⟨i1, i2, i3, i4, i5, i6⟩ := I
  refine ⟨i1, ?_, fun i hi g => ?_, fun i hi => ?_, by omega, ?_⟩
  · rw [wc_s, b0_f h2]; exact i2
  · rcases Nat.lt_or_ge i k with z | z
    · exact i3 i z g
    · have : i = k := by omega
      subst this
      exact absurd g h2
  · rcases Nat.lt_or_ge i k with z | z
    · exact i4 i z
    · have : i = k := by omega
      subst this
      rw [← i2]; exact hk
  · rcases hh' with ⟨g, e⟩ | ⟨g, e⟩
    · exact ⟨fun x => absurd x (by omega), fun x => absurd g (x k (by omega))⟩
    · rw [e, i6]
      refine ⟨fun x i hi => ?_, fun x i hi => x i (by omega)⟩
      rcases Nat.lt_or_ge i k with z | z
      · exact x i z
      · have : i = k := by omega
        subst this
        exact g
/-- a box with an array: four boxes more -/
theorem wi_ad (I : wi_f t n b0 k w A l hh) (hk : k ≤ 4 * w) (h2 : t (l k) = 2) {a : Nat} (ea : n (l k) = 4 * a) {l' : Nat → Nat} (h0 : ∀ i, i < 1 + 4 * w → l' i = l i) (h4 : ∀ e, e < 4 → l' (1 + 4 * w + e) = 4 * a + e) : wi_f t n b0 (k + 1) (w + 1) (nu_a A w a) l' hh := by
  obtain ⟨⟨i1, i1'⟩, i2, i3, i4, i5, i6⟩ := I
  have wck : ∀ i, i ≤ k → wc_f t l' i = wc_f t l i := fun i hi => wc_c fun j hj => h0 j (by omega)
  have lk : l' k = l k := h0 k (by omega)
  have mono : ∀ i, i < k → t (l i) = 2 → wc_f t l i < w := fun i hi g => by
    have h1 : wc_f t l (i + 1) ≤ wc_f t l k := cn_up _ (by omega)
    rw [wc_s, b0_t g] at h1
    omega
  refine ⟨⟨by rw [h0 0 (by omega)]; exact i1, fun j e hj he => ?_⟩, ?_, fun i hi g => ?_, fun i hi => ?_, by omega, ?_⟩
  · rcases Nat.lt_or_ge j w with z | z
    · rw [h0 _ (by omega), nu_n (by omega)]; exact i1' j e z he
    · have : j = w := by omega
      subst this
      rw [h4 e he, nu_s]
  · rw [wc_s, lk, b0_t h2, wck k (Nat.le_refl _), ← i2]
  · rw [wck i (by omega)]
    rcases Nat.lt_or_ge i k with z | z
    · rw [h0 i (by omega)] at g ⊢
      rw [nu_n (by have := mono i z g; omega)]
      exact i3 i z g
    · have : i = k := by omega
      subst this
      rw [lk, ← i2, nu_s]; exact ea
  · rw [wck i (by omega)]
    rcases Nat.lt_or_ge i k with z | z
    · exact i4 i z
    · have : i = k := by omega
      subst this
      rw [← i2]; exact hk
  · rw [i6]
    constructor
    · intro x i hi
      rcases Nat.lt_or_ge i k with z | z
      · rw [h0 i (by omega)]; exact x i z
      · have : i = k := by omega
        subst this
        rw [lk, h2]; decide
    · intro x i hi
      rw [← h0 i (by omega)]; exact x i (by omega)
end
abbrev jt_4 : Type := Int32 → Int32 → Int32 → Int32 → (Nat → Int32) → (Nat → Int32) → (Nat → Int32) → (Nat → Int32) → (Nat → Int32) → Prop
section
variable {G : Nat → Nat} {sp lp ls he : Nat} {t n l cp yp : Nat → Nat} {f r : Nat → Nat}
theorem yk_w86 {post : Int32 → SY → Prop} {J : jt_4} {w k s hh L : Nat} (hs : s < 216) (h2 : t s = 2) (hL : L + 4 ≤ 129)
    (HJ : ∀ l', (∀ i, i < L → l' i = l i) → (∀ e, e < 4 → l' (L + e) = n s + e) → J (nI w) (nI (k + 1)) (nI (L + 4)) (nI hh) (jm_a t) (jm_a n) (jm_a l') (jm_a cp) (jm_a yp)) :
    ∀ d e l', 4 - e < d → e ≤ 4 → (∀ i, i < L → l' i = l i) → (∀ e', e' < e → l' (L + e') = n s + e') → wY_walk_86 post J (nI w) (nI k) (nI s) (nI (G 0)) (nI (G 1)) (nI (G 2)) (nI (G 3)) (nI sp) (nI lp) (nI hh) d (nI e) (nI (L + e)) (jm_a t) (jm_a n) (jm_a l') (jm_a cp) (jm_a yp) := by
  intro d
  induction d with
  | zero => intro e l' hd; omega
  | succ d ih =>
    intro e l' hd he4 i1 i2
    refine jr_eq s 2 hs (by omega) (fun _ => ?_) (fun z => absurd h2 z) rfl
    refine pk_le 4 e (fun hx => ?_) (fun hx => ?_)
    · have : e = 4 := by omega
      subst this
      exact nm_r (ja_p1 k) (HJ l' i1 i2)
    · refine pk_le 129 (L + e) (fun z => absurd z (by omega)) (fun _ => nm_r (e' := nI (L + (e + 1))) (ja_p1 (L + e)) ⟨pk_in s 216 hs rfl, jw_u (L + e) (n s + e) (by omega) (nm_r (ja_p1 e) ?_) rfl ?_⟩)
      · refine ih (e + 1) _ (by omega) (by omega) (fun i hi => ?_) (fun e' he' => ?_)
        · rw [nu_n (by omega)]; exact i1 i hi
        · rcases Classical.em (e' = e) with z | z
          · subst z; rw [nu_s]
          · rw [nu_n (by omega)]; exact i2 e' (by omega)
      · rw [jm_c (by omega)]
        exact nI_add _ _
/-- the boxes of the list from the first on, once more by their arrays -/
theorem yk_w25 (Y : yw_f (G 1) t n) (R : rk_f f t n r) {b0 : Nat} (hb : b0 < 216) {post : Int32 → SY → Prop}
    (H : ∀ w A l hh, wi_f t n b0 (1 + 4 * w) w A l hh → en_m (sb_f t n b0) A w → w ≤ 32 → post (nI w) (mk_Y G sp lp (1 + 4 * w) hh t n l cp yp)) :
    ∀ d h e w A l hh, 4 * (33 - h) - e < d → e < 4 → h ≤ w → (h = w → e = 0) → ci_f t n b0 h e w A → wi_f t n b0 (1 + 4 * h + e) w A l hh → wY_walk_25 post (nI (G 0)) (nI (G 1)) (nI (G 2)) (nI (G 3)) (nI sp) (nI lp) d (nI w) (nI (1 + 4 * h + e)) (nI (1 + 4 * w)) (nI hh) (jm_a t) (jm_a n) (jm_a l) (jm_a cp) (jm_a yp) := by
  intro d
  induction d with
  | zero => intro h e w A l hh hd he hw hz I W; have := ci_le Y hb I; omega
  | succ d ih =>
    intro h e w A l hh hd he hw hz I W
    have lw := ci_le Y hb I
    refine pk_le (1 + 4 * w) (1 + 4 * h + e) (fun hx => ?_) (fun hx => ?_)
    · have h1 : h = w := by omega
      subst h1
      have h2 := hz rfl
      subst h2
      exact H h A l hh W (ci_end I (Nat.le_refl _)) lw
    · have hw' : h < w := by omega
      have rg := ci_rg Y hb I hw'
      have lk : l (1 + 4 * h + e) = 4 * A h + e := W.1.2 h e hw' he
      have hs : 4 * A h + e < 216 := by omega
      have ht := Y.1 _ hs
      have hh5 := W.2.2.2.2.1
      -- the next box
      have nx : ∀ {w' : Nat} {A' l' : Nat → Nat} {h' : Nat}, w ≤ w' → ci_f t n b0 h (e + 1) w' A' → wi_f t n b0 (1 + 4 * h + e + 1) w' A' l' h' → wY_walk_25 post (nI (G 0)) (nI (G 1)) (nI (G 2)) (nI (G 3)) (nI sp) (nI lp) d (nI w') (nI (1 + 4 * h + e + 1)) (nI (1 + 4 * w')) (nI h') (jm_a t) (jm_a n) (jm_a l') (jm_a cp) (jm_a yp) := by
        intro w' A' l' h' hww I' W'
        rcases Classical.em (e = 3) with z | z
        · subst z
          have I2 := ci_next I' (fun e' h1 h2 => absurd h2 (by omega))
          have := ih (h + 1) 0 w' A' l' h' (by omega) (by omega) (by omega) (fun _ => rfl) I2 W'
          exact this
        · exact ih h (e + 1) w' A' l' h' (by omega) (by omega) (by omega) (fun x => by omega) I' W'
      refine pk_le 129 (1 + 4 * h + e) (fun z => absurd z (by omega)) (fun _ => ⟨pk_in _ 132 (by omega) rfl, nm_r (e' := nI (4 * A h + e)) (by rw [jm_c (by omega), lk]) ?_⟩)
      refine jr_eq (4 * A h + e) 3 hs (by omega) (fun h3 => nm_r (ja_p1 hh) ?_) (fun h3 => ?_) rfl
      · refine jr_eq (4 * A h + e) 2 hs (by omega) (fun z => absurd z (by omega)) (fun h2 => ⟨1, ?_⟩) rfl
        refine jr_eq (4 * A h + e) 2 hs (by omega) (fun z => absurd z (by omega)) (fun _ => nm_r (ja_p1 _) ?_) rfl
        exact nx (Nat.le_refl _) (ci_skip I h2) (wi_sk W (by omega) (by rw [lk]; exact h2) (Or.inl ⟨by rw [lk]; exact h3, rfl⟩))
      · refine jr_eq (4 * A h + e) 2 hs (by omega) (fun h2 => nm_r (ja_p1 w) ⟨5, ?_⟩) (fun h2 => ⟨1, ?_⟩) rfl
        · obtain ⟨a, a5, a37, ea⟩ := Y.2.1 _ hs h2
          have I' := ci_add Y R hb I hw' he h2 ea
          have lw' := ci_le Y hb I'
          refine yk_w86 (L := 1 + 4 * w) hs h2 (by omega) (fun l' l1 l2 => ?_) 5 0 l (by omega) (by omega) (fun _ _ => rfl) (fun e' he' => absurd he' (by omega))
          exact nx (by omega) I' (wi_ad W (by omega) (by rw [lk]; exact h2) (by rw [lk]; exact ea) l1 (fun e he => by rw [l2 e he, ea]))
        · refine jr_eq (4 * A h + e) 2 hs (by omega) (fun z => absurd z h2) (fun _ => nm_r (ja_p1 _) ?_) rfl
          exact nx (Nat.le_refl _) (ci_skip I h2) (wi_sk W (by omega) (by rw [lk]; exact h2) (Or.inr ⟨by rw [lk]; exact h3, rfl⟩))
/-- walk lists the boxes of the value of box b -/
theorem yk_walk (Y : yw_f (G 1) t n) (R : rk_f f t n r) {b : Nat} (hb : ib_v t n b) {post : Int32 → SY → Prop}
    (H : ∀ w A l hh, wi_f t n (th_f t n b) (1 + 4 * w) w A l hh → en_m (sb_f t n (th_f t n b)) A w → w ≤ 32 → post (nI w) (mk_Y G sp lp (1 + 4 * w) hh t n l cp yp)) : wpY_walk post (mk_Y G sp lp ls he t n l cp yp) (nI b) := by
  have ibt := th_ib Y hb
  have n3 := th_n3 Y hb.1
  unfold wpY_walk
  dsimp only
  refine yk_thr (G := G) Y hb.1 ?_
  have hs := ibt.1
  have ht := Y.1 _ hs
  generalize hb0 : th_f t n b = b0 at *
  have W0 : wi_f t n b0 0 0 (fun _ => 0) (nu_a l 0 b0) 0 := ⟨⟨nu_s, fun j e hj => absurd hj (by omega)⟩, rfl, fun i hi => absurd hi (by omega), fun i hi => absurd hi (by omega), by omega, fun _ i hi => absurd hi (by omega), fun _ => rfl⟩
  have l0 : nu_a l 0 b0 0 = b0 := nu_s
  refine nm_r (e' := jm_a (nu_a l 0 b0)) (jm_u l 0 b0) ⟨135, ?_⟩
  refine pk_le 1 0 (fun z => absurd z (by omega)) (fun _ => pk_le 129 0 (fun z => absurd z (by omega)) (fun _ => ⟨pk_in 0 132 (by omega) rfl, nm_r (e' := nI b0) ?_ ?_⟩))
  · exact (jm_i (g := nu_a l 0 b0) (i := 0) 0 rfl).trans (congrArg nI l0)
  · refine jr_eq b0 3 hs (by omega) (fun z => absurd z n3) (fun _ => ?_) rfl
    refine jr_eq b0 2 hs (by omega) (fun h2 => nm_r (e' := nI 1) rfl ⟨5, ?_⟩) (fun h2 => ⟨1, ?_⟩) rfl
    · obtain ⟨a, a5, a37, ea⟩ := Y.2.1 _ hs h2
      refine yk_w86 (L := 1) (w := 1) (k := 0) (hh := 0) hs h2 (by omega) (fun l' l1 l2 => ?_) 5 0 (nu_a l 0 b0) (by omega) (by omega) (fun _ _ => rfl) (fun e' he' => absurd he' (by omega))
      have W1 := wi_ad (l' := l') W0 (by omega) (by rw [l0]; exact h2) (a := a) (by rw [l0]; exact ea) l1 (fun e he => by
        have := l2 e he
        rw [ea] at this
        exact this)
      exact yk_w25 Y R hs H 134 0 0 1 (nu_a (fun _ => 0) 0 a) l' 0 (by omega) (by omega) (by omega) (fun z => by omega) (ci_0 _ h2 (by rw [nu_s]; exact ea)) W1
    · refine jr_eq b0 2 hs (by omega) (fun z => absurd z h2) (fun _ => nm_r (e' := nI 1) rfl ?_) rfl
      refine pk_le 1 1 (fun _ => ?_) (fun z => absurd z (by omega))
      exact H 0 (fun _ => 0) (nu_a l 0 b0) 0 (wi_sk W0 (by omega) (by rw [l0]; exact h2) (Or.inr ⟨by rw [l0]; exact n3, rfl⟩)) (en_0 fun a => sb_n h2) (by omega)
/-- the count of holders tells whether there is one -/
theorem wi_hd (Y : yw_f (G 1) t n) {b0 w hh : Nat} {A : Nat → Nat} (hb : b0 < 216) (n3 : t b0 ≠ 3) (W : wi_f t n b0 (1 + 4 * w) w A l hh) (E : en_m (sb_f t n b0) A w) : hh = 0 ↔ ¬ hd_f t n b0 := by
  obtain ⟨⟨i1, i1'⟩, i2, i3, i4, i5, i6⟩ := W
  rw [i6]
  constructor
  · rintro h ⟨b', hE, s, g⟩
    obtain ⟨j, hj, ej⟩ := E.2.2 _ s
    have := h (1 + 4 * j + b' % 4) (by omega)
    rw [i1' j (b' % 4) hj (by omega), ej, show 4 * (b' / 4) + b' % 4 = b' by omega] at this
    exact this g
  · intro h i hi g
    rcases Nat.eq_zero_or_pos i with z | z
    · subst z
      rw [i1] at g
      exact n3 g
    · have e1 : i = 1 + 4 * ((i - 1) / 4) + (i - 1) % 4 := by omega
      rw [e1, i1' _ _ (by omega) (by omega)] at g
      have s := E.1 ((i - 1) / 4) (by omega)
      have ra := al_r Y (sb_al hb s)
      exact h ⟨4 * A ((i - 1) / 4) + (i - 1) % 4, ⟨by omega, by omega⟩, by rw [show (4 * A ((i - 1) / 4) + (i - 1) % 4) / 4 = A ((i - 1) / 4) by omega]; exact s, g⟩
end
end
section
/-- the i-th box of the copy -/
def cd_f (d0 : Nat) (B : Nat → Nat) (i : Nat) : Nat := if i = 0 then d0 else 4 * B ((i - 1) / 4) + (i - 1) % 4
theorem cd_0 {d0 : Nat} {B : Nat → Nat} : cd_f d0 B 0 = d0 := rfl
theorem cd_e {d0 : Nat} {B : Nat → Nat} {j e : Nat} (he : e < 4) : cd_f d0 B (1 + 4 * j + e) = 4 * B j + e := by
  unfold cd_f
  rw [if_neg (by omega), show (1 + 4 * j + e - 1) / 4 = j by omega, show (1 + 4 * j + e - 1) % 4 = e by omega]
theorem cd_p {d0 : Nat} {B : Nat → Nat} {i : Nat} (h : i ≠ 0) : cd_f d0 B i = 4 * B ((i - 1) / 4) + (i - 1) % 4 := if_neg h
/-- what a copy rests on -/
def kh_f (wd : Nat) (t n : Nat → Nat) (b0 d0 w : Nat) (A l : Nat → Nat) : Prop :=
  yw_f wd t n ∧ (∃ hh, wi_f t n b0 (1 + 4 * w) w A l hh) ∧ en_m (sb_f t n b0) A w ∧ b0 < 216 ∧ (8 ≤ d0 ∧ d0 < 16) ∧ t d0 = 0 ∧ t b0 ≠ 0 ∧ t b0 ≠ 3 ∧ li_f t n + w ≤ 32
/-- the copy after k boxes -/
def ki_f (t n : Nat → Nat) (d0 k : Nat) (B l t1 n1 : Nat → Nat) : Prop :=
  (∀ j, j < wc_f t l k → 5 ≤ B j ∧ B j < 37 ∧ ¬ al_v t n (B j)) ∧ (∀ i j, i < wc_f t l k → j < wc_f t l k → B i = B j → i = j) ∧
  (∀ i, i < k → t1 (cd_f d0 B i) = t (l i) ∧ n1 (cd_f d0 B i) = if t (l i) = 2 then 4 * B (wc_f t l i) else n (l i)) ∧ (∀ b, (∀ i, i < k → b ≠ cd_f d0 B i) → t1 b = t b ∧ n1 b = n b)
theorem cn_sur {P : Nat → Prop} : ∀ {k j : Nat}, j < cn_p P k → ∃ i, i < k ∧ P i ∧ cn_p P i = j
  | 0, j, h => absurd h (Nat.not_lt_zero _)
  | k + 1, j, h => by
    have e : cn_p P (k + 1) = cn_p P k + b0_1 (P k) := rfl
    rcases Nat.lt_or_ge j (cn_p P k) with z | z
    · obtain ⟨i, h1, h2, h3⟩ := cn_sur z
      exact ⟨i, by omega, h2, h3⟩
    · rcases Classical.em (P k) with p | p
      · rw [b0_t p] at e
        exact ⟨k, by omega, p, by omega⟩
      · rw [b0_f p] at e
        omega
theorem cn_mm {P : Nat → Prop} {i j : Nat} (pi : P i) (pj : P j) (h : cn_p P i = cn_p P j) : i = j := by
  rcases Nat.lt_trichotomy i j with z | z | z
  · have h1 : cn_p P (i + 1) ≤ cn_p P j := cn_up _ z
    have e : cn_p P (i + 1) = cn_p P i + b0_1 (P i) := rfl
    rw [b0_t pi] at e; omega
  · exact z
  · have h1 : cn_p P (j + 1) ≤ cn_p P i := cn_up _ z
    have e : cn_p P (j + 1) = cn_p P j + b0_1 (P j) := rfl
    rw [b0_t pj] at e; omega
section
variable {wd : Nat} {t n : Nat → Nat} {b0 d0 w : Nat} {A l : Nat → Nat}
theorem kh_w (S : kh_f wd t n b0 d0 w A l) {i : Nat} (hi : i < 1 + 4 * w) : i ≤ 4 * wc_f t l i := by
  obtain ⟨_, ⟨hh, W⟩, _⟩ := S
  exact W.2.2.2.1 i hi
/-- a box of the copy, its array a dead one -/
theorem kd_r (S : kh_f wd t n b0 d0 w A l) {k : Nat} {B t1 n1 : Nat → Nat} (I : ki_f t n d0 k B l t1 n1) {i : Nat} (hi : i ≤ 4 * wc_f t l k) : cd_f d0 B i < 216 ∧ t (cd_f d0 B i) = 0 ∧ (i ≠ 0 → el_b (cd_f d0 B i) ∧ cd_f d0 B i / 4 = B ((i - 1) / 4) ∧ ¬ al_v t n (B ((i - 1) / 4))) := by
  obtain ⟨Y, _, _, _, hd, hd0, _⟩ := S
  rcases Classical.em (i = 0) with z | z
  · subst z
    exact ⟨by rw [cd_0]; omega, hd0, fun x => absurd rfl x⟩
  · obtain ⟨b5, b37, bn⟩ := I.1 ((i - 1) / 4) (by omega)
    rw [cd_p z]
    have hE : el_b (4 * B ((i - 1) / 4) + (i - 1) % 4) := ⟨by omega, by omega⟩
    have hdv : (4 * B ((i - 1) / 4) + (i - 1) % 4) / 4 = B ((i - 1) / 4) := by omega
    refine ⟨el_lt hE, ?_, fun _ => ⟨hE, hdv, bn⟩⟩
    rcases Classical.em (t (4 * B ((i - 1) / 4) + (i - 1) % 4) = 0) with y | y
    · exact y
    · have := (Y.2.2.2.2 _ hE y).2
      rw [hdv] at this
      exact absurd this bn
theorem kd_i (S : kh_f wd t n b0 d0 w A l) {k : Nat} {B t1 n1 : Nat → Nat} (I : ki_f t n d0 k B l t1 n1) {i j : Nat} (hi : i ≤ 4 * wc_f t l k) (hj : j ≤ 4 * wc_f t l k) (e : cd_f d0 B i = cd_f d0 B j) : i = j := by
  have S0 := S
  obtain ⟨Y, _, _, _, hd, hd0, _⟩ := S
  rcases Classical.em (i = 0) with z | z
  · rcases Classical.em (j = 0) with y | y
    · omega
    · have := ((kd_r S0 I hj).2.2 y).1.1
      rw [← e, z, cd_0] at this
      omega
  · rcases Classical.em (j = 0) with y | y
    · have := ((kd_r S0 I hi).2.2 z).1.1
      rw [e, y, cd_0] at this
      omega
    · rw [cd_p z, cd_p y] at e
      have := I.2.1 ((i - 1) / 4) ((j - 1) / 4) (by omega) (by omega) (by omega)
      omega
/-- the source's boxes aren't boxes of the copy -/
theorem kd_s (S : kh_f wd t n b0 d0 w A l) {k : Nat} {B t1 n1 : Nat → Nat} (I : ki_f t n d0 k B l t1 n1) {i j : Nat} (hi : i < 1 + 4 * w) (hj : j ≤ 4 * wc_f t l k) : l i < 216 ∧ l i ≠ cd_f d0 B j := by
  obtain ⟨k1, k2, k3⟩ := kd_r S I hj
  obtain ⟨Y, ⟨hh, W⟩, E, hb0, hd, hd0, hbz, hb3, hli⟩ := S
  rcases Classical.em (i = 0) with z | z
  · subst z
    rw [W.1.1]
    exact ⟨hb0, fun e => hbz (by rw [e]; exact k2)⟩
  · have e1 : i = 1 + 4 * ((i - 1) / 4) + (i - 1) % 4 := by omega
    have al := sb_al hb0 (E.1 ((i - 1) / 4) (by omega))
    have ra := al_r Y al
    rw [e1, W.1.2 _ _ (by omega) (by omega)]
    refine ⟨by omega, fun e => ?_⟩
    rcases Classical.em (j = 0) with y | y
    · rw [y, cd_0] at e; omega
    · obtain ⟨_, u2, u3⟩ := k3 y
      rw [← e, show (4 * A ((i - 1) / 4) + (i - 1) % 4) / 4 = A ((i - 1) / 4) by omega] at u2
      rw [← u2] at u3
      exact u3 al
theorem ki_0 (t n : Nat → Nat) (d0 : Nat) (B l : Nat → Nat) : ki_f t n d0 0 B l t n :=
  ⟨fun j hj => absurd hj (Nat.not_lt_zero _), fun i j hi => absurd hi (Nat.not_lt_zero _), fun i hi => absurd hi (by omega), fun b _ => ⟨rfl, rfl⟩⟩
theorem ki_src (S : kh_f wd t n b0 d0 w A l) {k : Nat} {B t1 n1 : Nat → Nat} (I : ki_f t n d0 k B l t1 n1) {i : Nat} (hk : k ≤ 1 + 4 * w) (hi : i < 1 + 4 * w) : t1 (l i) = t (l i) ∧ n1 (l i) = n (l i) := by
  refine I.2.2.2 _ fun j hj => (kd_s S I hi ?_).2
  have h1 := kh_w S (i := j) (by omega)
  have h2 : wc_f t l j ≤ wc_f t l k := cn_up _ (by omega)
  omega
/-- a box without an array is copied -/
theorem ki_sk (S : kh_f wd t n b0 d0 w A l) {k : Nat} {B t1 n1 : Nat → Nat} (I : ki_f t n d0 k B l t1 n1) (hk : k < 1 + 4 * w) (h2 : t (l k) ≠ 2) : ki_f t n d0 (k + 1) B l (nu_a t1 (cd_f d0 B k) (t (l k))) (nu_a n1 (cd_f d0 B k) (n (l k))) := by
  have hkw := kh_w S hk
  have le : ∀ i, i ≤ k → i ≤ 4 * wc_f t l k := fun i hi => by omega
  have inj := fun i (hi : i < k) (e : cd_f d0 B i = cd_f d0 B k) => kd_i S I (le i (by omega)) (le k (Nat.le_refl _)) e
  obtain ⟨i1, i2, i3, i4⟩ := I
  have we : wc_f t l (k + 1) = wc_f t l k := by rw [wc_s, b0_f h2]; rfl
  refine ⟨by rw [we]; exact i1, by rw [we]; exact i2, fun i hi => ?_, fun b hb => ?_⟩
  · rcases Nat.lt_or_ge i k with z | z
    · have ne : cd_f d0 B i ≠ cd_f d0 B k := fun e => by have := inj i z e; omega
      rw [nu_n ne, nu_n ne]; exact i3 i z
    · have : i = k := by omega
      subst this
      rw [nu_s, nu_s, if_neg h2]
      exact ⟨rfl, rfl⟩
  · rw [nu_n (hb k (by omega)), nu_n (hb k (by omega))]
    exact i4 b fun i hi => hb i (by omega)
/-- boxes of the copy don't change with a further array -/
theorem cd_x {B : Nat → Nat} {W a i : Nat} (h : i ≤ 4 * W) : cd_f d0 (nu_a B W a) i = cd_f d0 B i := by
  rcases Classical.em (i = 0) with z | z
  · subst z; rfl
  · rw [cd_p z, cd_p z, nu_n (by omega)]
theorem ki_ad (S : kh_f wd t n b0 d0 w A l) {k a : Nat} {B t1 n1 : Nat → Nat} (I : ki_f t n d0 k B l t1 n1) (hk : k < 1 + 4 * w) (h2 : t (l k) = 2) (a5 : 5 ≤ a) (a37 : a < 37)
    (ha : ∀ b, b < 216 → nu_a t1 (cd_f d0 B k) (t (l k)) b = 2 → nu_a n1 (cd_f d0 B k) (n (l k)) b ≠ 4 * a) :
    ki_f t n d0 (k + 1) (nu_a B (wc_f t l k) a) l (nu_a t1 (cd_f d0 B k) (t (l k))) (nu_a (nu_a n1 (cd_f d0 B k) (n (l k))) (cd_f d0 B k) (4 * a)) := by
  have hkw := kh_w S hk
  have le : ∀ i, i ≤ k → i ≤ 4 * wc_f t l k := fun i hi => by omega
  have inj := fun i (hi : i < k) (e : cd_f d0 B i = cd_f d0 B k) => kd_i S I (le i (by omega)) (le k (Nat.le_refl _)) e
  have rr := fun i (hi : i ≤ k) => kd_r S I (le i hi)
  obtain ⟨i1, i2, i3, i4⟩ := I
  have we : wc_f t l (k + 1) = wc_f t l k + 1 := by rw [wc_s, b0_t h2]
  have dead : ¬ al_v t n a := by
    rintro ⟨b, hb, g, e⟩
    have nd : ∀ i, i ≤ k → b ≠ cd_f d0 B i := fun i hi z => by
      have := (rr i hi).2.1
      rw [← z] at this; omega
    obtain ⟨u1, u2⟩ := i4 b fun i hi => nd i (by omega)
    refine ha b hb ?_ ?_
    · rw [nu_n (nd k (Nat.le_refl _)), u1]; exact g
    · rw [nu_n (nd k (Nat.le_refl _)), u2]; exact e
  have new : ∀ j, j < wc_f t l k → B j ≠ a := fun j hj e => by
    obtain ⟨i, h1, h3, h4⟩ := cn_sur (P := fun i => t (l i) = 2) hj
    have h4 : wc_f t l i = j := h4
    have ne : cd_f d0 B i ≠ cd_f d0 B k := fun e => by have := inj i h1 e; omega
    obtain ⟨u1, u2⟩ := i3 i h1
    rw [if_pos h3, h4, e] at u2
    refine ha _ (rr i (by omega)).1 ?_ ?_
    · rw [nu_n ne, u1]; exact h3
    · rw [nu_n ne, u2]
  refine ⟨fun j hj => ?_, fun i j hi hj e => ?_, fun i hi => ?_, fun b hb => ?_⟩
  · rw [we] at hj
    rcases Nat.lt_or_ge j (wc_f t l k) with z | z
    · rw [nu_n (by omega)]; exact i1 j z
    · have : j = wc_f t l k := by omega
      rw [this, nu_s]
      exact ⟨a5, a37, dead⟩
  · rw [we] at hi hj
    rcases Nat.lt_or_ge i (wc_f t l k) with z | z
    · rcases Nat.lt_or_ge j (wc_f t l k) with y | y
      · rw [nu_n (by omega), nu_n (by omega)] at e
        exact i2 i j z y e
      · have : j = wc_f t l k := by omega
        rw [this, nu_n (by omega), nu_s] at e
        exact absurd e (new i z)
    · have hi' : i = wc_f t l k := by omega
      rcases Nat.lt_or_ge j (wc_f t l k) with y | y
      · rw [hi', nu_s, nu_n (by omega)] at e
        exact absurd e.symm (new j y)
      · omega
  · rw [cd_x (le i (by omega))]
    rcases Nat.lt_or_ge i k with z | z
    · have ne : cd_f d0 B i ≠ cd_f d0 B k := fun e => by have := inj i z e; omega
      rw [nu_n ne, nu_n ne, nu_n ne]
      obtain ⟨u1, u2⟩ := i3 i z
      refine ⟨u1, u2.trans ?_⟩
      rcases Classical.em (t (l i) = 2) with y | y
      · rw [if_pos y, if_pos y, nu_n]
        have h1 : wc_f t l (i + 1) ≤ wc_f t l k := cn_up _ (by omega)
        rw [wc_s, b0_t y] at h1
        omega
      · rw [if_neg y, if_neg y]
    · have : i = k := by omega
      subst this
      rw [nu_s, nu_s, if_pos h2, nu_s]
      exact ⟨rfl, rfl⟩
  · have hb' : ∀ i, i < k + 1 → b ≠ cd_f d0 B i := fun i hi => by
      have := hb i hi
      rw [cd_x (le i (by omega))] at this
      exact this
    rw [nu_n (hb' k (by omega)), nu_n (hb' k (by omega)), nu_n (hb' k (by omega))]
    exact i4 b fun i hi => hb' i (by omega)
/-- there is an array left -/
theorem ki_fr (S : kh_f wd t n b0 d0 w A l) {k : Nat} {B t1 n1 : Nat → Nat} (I : ki_f t n d0 k B l t1 n1) (hk : k < 1 + 4 * w) (h2 : t (l k) = 2) :
    ∃ a, 5 ≤ a ∧ a < 37 ∧ ∀ b, b < 216 → nu_a t1 (cd_f d0 B k) (t (l k)) b = 2 → nu_a n1 (cd_f d0 B k) (n (l k)) b ≠ 4 * a := by
  have hkw := kh_w S hk
  have wk : wc_f t l k < w := by
    obtain ⟨_, ⟨hh, W⟩, _⟩ := S
    have h1 : wc_f t l (k + 1) ≤ wc_f t l (1 + 4 * w) := cn_up _ (by omega)
    rw [wc_s, b0_t h2, ← W.2.1] at h1
    omega
  have src := kd_s S I (i := k) (j := 0) hk (by omega)
  obtain ⟨Y, ⟨hh, W⟩, E, hb0, hd, hd0, hbz, hb3, hli⟩ := S
  obtain ⟨i1, i2, i3, i4⟩ := I
  rcases Classical.em (∃ a, 5 ≤ a ∧ a < 37 ∧ ∀ b, b < 216 → nu_a t1 (cd_f d0 B k) (t (l k)) b = 2 → nu_a n1 (cd_f d0 B k) (n (l k)) b ≠ 4 * a) with h | h
  · exact h
  · have all : ∀ a, 5 ≤ a → a < 37 → al_v t n a ∨ ∃ j, j < wc_f t l k ∧ B j = a := fun a a5 a37 => by
      rcases Classical.em (∃ b, b < 216 ∧ nu_a t1 (cd_f d0 B k) (t (l k)) b = 2 ∧ nu_a n1 (cd_f d0 B k) (n (l k)) b = 4 * a) with ⟨b, hb, g, e⟩ | z
      · rcases Classical.em (b = cd_f d0 B k) with y | y
        · rw [y, nu_s] at e
          exact Or.inl ⟨l k, src.1, h2, e⟩
        · rw [nu_n y] at g e
          rcases Classical.em (∃ i, i < k ∧ b = cd_f d0 B i) with ⟨i, hi, u⟩ | u
          · obtain ⟨u1, u2⟩ := i3 i hi
            rw [← u] at u1 u2
            have g' : t (l i) = 2 := u1.symm.trans g
            rw [if_pos g', e] at u2
            have h1 : wc_f t l (i + 1) ≤ wc_f t l k := cn_up _ (by omega)
            rw [wc_s, b0_t g'] at h1
            exact Or.inr ⟨wc_f t l i, by omega, by omega⟩
          · obtain ⟨u1, u2⟩ := i4 b fun i hi z => u ⟨i, hi, z⟩
            exact Or.inl ⟨b, hb, by rw [← u1]; exact g, by rw [← u2]; exact e⟩
      · exact absurd ⟨a, a5, a37, fun b hb g e => z ⟨b, hb, g, e⟩⟩ h
    have c1 : 32 ≤ cn_p (fun a => al_v t n a ∨ ∃ j, j < wc_f t l k ∧ B j = a) 37 := by
      have := cn_inj (P := fun _ => True) (Q := fun a => al_v t n a ∨ ∃ j, j < wc_f t l k ∧ B j = a) (N := 32) (M := 37) (fun m => m + 5) (fun m hm _ => ⟨by show m + 5 < 37; omega, all (m + 5) (by omega) (by omega)⟩) (fun i j _ _ _ _ e => by have e : i + 5 = j + 5 := e; omega)
      rw [cn_all (fun _ _ => trivial)] at this
      exact this
    rw [cn_spl _ (al_v t n) 37] at c1
    have c2 : cn_p (fun a => (al_v t n a ∨ ∃ j, j < wc_f t l k ∧ B j = a) ∧ al_v t n a) 37 ≤ li_f t n := cn_mono fun a _ x => x.2
    have c3 : cn_p (fun a => (al_v t n a ∨ ∃ j, j < wc_f t l k ∧ B j = a) ∧ ¬ al_v t n a) 37 ≤ wc_f t l k := by
      have ch : ∀ a, ∃ j, ((al_v t n a ∨ ∃ j, j < wc_f t l k ∧ B j = a) ∧ ¬ al_v t n a) → j < wc_f t l k ∧ B j = a := fun a => by
        rcases Classical.em (∃ j, j < wc_f t l k ∧ B j = a) with ⟨j, hj⟩ | z
        · exact ⟨j, fun _ => hj⟩
        · exact ⟨0, fun x => absurd (x.1.resolve_left x.2) z⟩
      have := cn_inj (P := fun a => (al_v t n a ∨ ∃ j, j < wc_f t l k ∧ B j = a) ∧ ¬ al_v t n a) (Q := fun _ => True) (N := 37) (M := wc_f t l k) (fun a => (ch a).choose) (fun a _ x => ⟨((ch a).choose_spec x).1, trivial⟩) (fun i j _ _ xi xj e => by
        have e1 := ((ch i).choose_spec xi).2
        have e2 := ((ch j).choose_spec xj).2
        have e : (ch i).choose = (ch j).choose := e
        rw [← e1, ← e2, e])
      rw [cn_all (P := fun _ => True) (fun _ _ => trivial)] at this
      exact this
    omega
theorem ki_yb (S : kh_f wd t n b0 d0 w A l) {k : Nat} {B t1 n1 : Nat → Nat} (I : ki_f t n d0 k B l t1 n1) (hk : k ≤ 1 + 4 * w) : yb_f t1 n1 := by
  intro b hb
  have src := fun i (hi : i < k) => (kd_s S I (i := i) (j := 0) (by omega) (by omega)).1
  obtain ⟨Y, ⟨hh, W⟩, E, hb0, hd, hd0, hbz, hb3, hli⟩ := S
  obtain ⟨i1, i2, i3, i4⟩ := I
  rcases Classical.em (∃ i, i < k ∧ b = cd_f d0 B i) with ⟨i, hi, u⟩ | u
  · obtain ⟨u1, u2⟩ := i3 i hi
    rw [← u] at u1 u2
    rw [u1, u2]
    obtain ⟨y1, y2⟩ := yb_w Y (l i) (src i hi)
    refine ⟨y1, fun h => ?_⟩
    split
    · rename_i g
      have h1 : wc_f t l (i + 1) ≤ wc_f t l k := cn_up _ (by omega)
      rw [wc_s, b0_t g] at h1
      have := i1 (wc_f t l i) (by omega)
      omega
    · exact y2 h
  · obtain ⟨u1, u2⟩ := i4 b fun i hi z => u ⟨i, hi, z⟩
    rw [u1, u2]
    exact yb_w Y b hb
end
end
section
abbrev jt_2 : Type := Int32 → Int32 → (Nat → Int32) → (Nat → Int32) → (Nat → Int32) → (Nat → Int32) → (Nat → Int32) → Prop
section
variable {G : Nat → Nat} {sp lp ls he : Nat} {t n l cp yp : Nat → Nat} {f r : Nat → Nat}
theorem yk_c136 {post : Int32 → SY → Prop} {J : jt_2} {k s L : Nat} {t1 n1 : Nat → Nat} (hs : s < 216) (h2 : t1 s = 2) (hL : L + 4 ≤ 129)
    (HJ : ∀ cp', (∀ i, i < L → cp' i = cp i) → (∀ e, e < 4 → cp' (L + e) = n1 s + e) → J (nI (L + 4)) (nI (k + 1)) (jm_a t1) (jm_a n1) (jm_a l) (jm_a cp') (jm_a yp)) :
    ∀ d e cp', 4 - e < d → e ≤ 4 → (∀ i, i < L → cp' i = cp i) → (∀ e', e' < e → cp' (L + e') = n1 s + e') → wY_pushCopy_136 post J (nI k) (nI s) (nI (G 0)) (nI (G 1)) (nI (G 2)) (nI (G 3)) (nI sp) (nI lp) (nI ls) (nI he) d (nI (L + e)) (nI e) (jm_a t1) (jm_a n1) (jm_a l) (jm_a cp') (jm_a yp) := by
  intro d
  induction d with
  | zero => intro e cp' hd; omega
  | succ d ih =>
    intro e cp' hd he4 i1 i2
    refine jr_eq s 2 hs (by omega) (fun _ => ?_) (fun z => absurd h2 z) rfl
    refine pk_le 4 e (fun hx => ?_) (fun hx => ?_)
    · have : e = 4 := by omega
      subst this
      exact nm_r (ja_p1 k) (HJ cp' i1 i2)
    · refine pk_le 129 (L + e) (fun z => absurd z (by omega)) (fun _ => nm_r (e' := nI (L + (e + 1))) (ja_p1 (L + e)) ⟨pk_in s 216 hs rfl, jw_u (L + e) (n1 s + e) (by omega) (nm_r (ja_p1 e) ?_) rfl ?_⟩)
      · refine ih (e + 1) _ (by omega) (by omega) (fun i hi => ?_) (fun e' he' => ?_)
        · rw [nu_n (by omega)]; exact i1 i hi
        · rcases Classical.em (e' = e) with z | z
          · subst z; rw [nu_s]
          · rw [nu_n (by omega)]; exact i2 e' (by omega)
      · rw [jm_c (by omega)]
        exact nI_add _ _
theorem yk_c59 {b0 d0 w : Nat} {A : Nat → Nat} (S : kh_f (G 1) t n b0 d0 w A l) (hw : w ≤ 32) {post : Int32 → SY → Prop}
    (H : ∀ B t1 n1 cp, ki_f t n d0 (1 + 4 * w) B l t1 n1 → post 0 (mk_Y G sp lp (1 + 4 * w) he t1 n1 l cp yp)) :
    ∀ d k B t1 n1 cp, 1 + 4 * w - k < d → k ≤ 1 + 4 * w → ki_f t n d0 k B l t1 n1 → (∀ i, i ≤ 4 * wc_f t l k → cp i = cd_f d0 B i) → wY_pushCopy_59 post (nI (G 0)) (nI (G 1)) (nI (G 2)) (nI (G 3)) (nI sp) (nI lp) (nI (1 + 4 * w)) (nI he) d (nI (1 + 4 * wc_f t l k)) (nI k) (jm_a t1) (jm_a n1) (jm_a l) (jm_a cp) (jm_a yp) := by
  intro d
  induction d with
  | zero => intro k B t1 n1 cp hd; omega
  | succ d ih =>
    intro k B t1 n1 cp hd hk I hcp
    refine pk_le (1 + 4 * w) k (fun hx => ?_) (fun hx => ?_)
    · have : k = 1 + 4 * w := by omega
      subst this
      exact H B t1 n1 cp I
    · have hkw := kh_w S hx
      obtain ⟨ls1, _⟩ := kd_s S I (i := k) (j := 0) hx (by omega)
      obtain ⟨cs1, cs2, _⟩ := kd_r S I (i := k) hkw
      obtain ⟨sr1, sr2⟩ := ki_src S I hk hx
      have B1 := ki_yb S I hk
      have hwk : wc_f t l k ≤ w := by
        obtain ⟨_, ⟨hh, W⟩, _⟩ := S
        rw [W.2.1]; exact cn_up _ (by omega)
      have tl3 := (B1 (l k) ls1).1
      have e1 : jm_a cp (nI k).toNatClampNeg = nI (cd_f d0 B k) := by rw [jm_c (by omega), hcp k hkw]
      have e2 : jm_a l (nI k).toNatClampNeg = nI (l k) := jm_c (by omega)
      refine ⟨pk_in k 132 (by omega) rfl, nm_r (e' := nI (cd_f d0 B k)) e1 ⟨pk_in k 132 (by omega) rfl, pk_in (l k) 216 ls1 e2, jw_u (cd_f d0 B k) (t (l k)) cs1 ?_ rfl ?_⟩⟩
      · refine ⟨pk_in k 132 (by omega) rfl, pk_in (l k) 216 ls1 e2, jw_u (cd_f d0 B k) (n (l k)) cs1 ?_ rfl ?_⟩
        · refine jr_eq (cd_f d0 B k) 2 cs1 (by rw [nu_s, ← sr1]; omega) (fun h2 => ?_) (fun h2 => ⟨1, ?_⟩) rfl
          · rw [nu_s] at h2
            have wk1 : wc_f t l k < w := by
              obtain ⟨_, ⟨hh, W⟩, _⟩ := S
              have h1 : wc_f t l (k + 1) ≤ wc_f t l (1 + 4 * w) := cn_up _ (by omega)
              rw [wc_s, b0_t h2, ← W.2.1] at h1
              omega
            refine yk_free (G := G) (fun b hb => ?_) (ki_fr S I hx h2) fun a a5 a37 ha => ?_
            · rcases Classical.em (b = cd_f d0 B k) with z | z
              · rw [z, nu_s, nu_s, ← sr1, ← sr2]
                exact B1 _ ls1
              · rw [nu_n z, nu_n z]; exact B1 b hb
            · refine jw_u (cd_f d0 B k) (4 * a) cs1 ⟨5, ?_⟩ rfl rfl
              have I' := ki_ad S I hx h2 a5 a37 ha
              refine yk_c136 (L := 1 + 4 * wc_f t l k) cs1 (by rw [nu_s]; exact h2) (by omega) (fun cp' c1 c2 => ?_) 5 0 cp (by omega) (by omega) (fun _ _ => rfl) (fun e' he' => absurd he' (by omega))
              have e3 : 1 + 4 * wc_f t l k + 4 = 1 + 4 * wc_f t l (k + 1) := by rw [wc_s, b0_t h2]; omega
              rw [e3]
              refine ih (k + 1) _ _ _ cp' (by omega) (by omega) I' fun i hi => ?_
              rw [wc_s, b0_t h2] at hi
              rcases Nat.lt_or_ge i (1 + 4 * wc_f t l k) with z | z
              · rw [c1 i z, cd_x (by omega)]
                exact hcp i (by omega)
              · have := c2 (i - (1 + 4 * wc_f t l k)) (by omega)
                rw [show 1 + 4 * wc_f t l k + (i - (1 + 4 * wc_f t l k)) = i by omega, nu_s] at this
                rw [this, cd_p (by omega), show (i - 1) / 4 = wc_f t l k by omega, nu_s]
                omega
          · rw [nu_s] at h2
            refine jr_eq (cd_f d0 B k) 2 cs1 (by rw [nu_s, ← sr1]; omega) (fun z => absurd (by rw [nu_s] at z; exact z) h2) (fun _ => nm_r (ja_p1 k) ?_) rfl
            have I' := ki_sk S I hx h2
            have e3 : wc_f t l (k + 1) = wc_f t l k := by rw [wc_s, b0_f h2]; rfl
            rw [← e3]
            exact ih (k + 1) _ _ _ cp (by omega) (by omega) I' fun i hi => hcp i (by omega)
        · rw [e2, jm_c (by omega), sr2]
      · rw [e2, jm_c (by omega), sr1]
/-- Y copies the value of box b to the stack -/
theorem yk_pushc (Y : yw_f (G 1) t n) (R : rk_f f t n r) (hli : G 2 ≤ 32) (hst : G 3 ≤ 8) (hsp : sp ≤ G 3) {b : Nat} (hb : ib_v t n b) (hz : t (th_f t n b) ≠ 0) (h0 : sp < G 3 → t (8 + sp) = 0) {post : Int32 → SY → Prop}
    (HL : (sp = G 3 ∨ G 2 < li_f t n + wt_f t n (th_f t n b)) → ∀ ls he l, post (-2) (mk_Y G sp lp ls he t n l cp yp))
    (H : sp < G 3 → li_f t n + wt_f t n (th_f t n b) ≤ G 2 → ∀ w A l, w = wt_f t n (th_f t n b) → kh_f (G 1) t n (th_f t n b) (8 + sp) w A l → ∀ B t1 n1 ls he cp, ki_f t n (8 + sp) (1 + 4 * w) B l t1 n1 → post 0 (mk_Y G (sp + 1) lp ls he t1 n1 l cp yp)) : wpY_pushCopy post (mk_Y G sp lp ls he t n l cp yp) (nI b) := by
  refine pk_eq sp (G 3) (fun hx => HL (Or.inl hx) ls he l) (fun hx => ?_)
  refine yk_cnt0 (G := G) (yb_w Y) ?_
  rw [li_b Y]
  have ibt := th_ib Y hb
  refine yk_walk (G := G) Y R hb fun w A l1 hh W E hw => ?_
  have wE : w = wt_f t n (th_f t n b) := en_cn E (fun a s => (al_r Y (sb_al ibt.1 s)).2)
  have l37 := li_le t n
  refine pk_le (li_f t n + w) (G 2) (fun hy => ?_) (fun hy => HL (Or.inr (by omega)) _ _ _) (nI_add _ _)
  have S : kh_f (G 1) t n (th_f t n b) (8 + sp) w A l1 := ⟨Y, ⟨hh, W⟩, E, ibt.1, ⟨by omega, by omega⟩, h0 (by omega), hz, th_n3 Y hb.1, by omega⟩
  have e1 : (8 : Int32) + nI sp = nI (8 + sp) := nI_add 8 sp
  refine nm_r (e' := jm_a (nu_a cp 0 (8 + sp))) (by rw [e1]; exact jm_u cp 0 (8 + sp)) (nm_r (ja_p1 sp) ⟨1 + 4 * w + 1, ?_⟩)
  refine yk_c59 S hw (fun B t1 n1 cp1 I => H (by omega) (by omega) w A l1 wE S B t1 n1 _ _ cp1 I) (1 + 4 * w + 1) 0 (fun _ => 0) t n (nu_a cp 0 (8 + sp)) (by omega) (by omega) (ki_0 t n (8 + sp) (fun _ => 0) l1) (fun i hi => ?_)
  have : i = 0 := by
    have : wc_f t l1 0 = 0 := rfl
    omega
  subst this
  rw [nu_s, cd_0]
end
end
section
section
variable {wd : Nat} {t n : Nat → Nat} {b0 d0 w : Nat} {A l : Nat → Nat} {B t1 n1 : Nat → Nat}
/-- the new arrays -/
def nw_f (B : Nat → Nat) (w a : Nat) : Prop := ∃ j, j < w ∧ B j = a
/-- the copy, by its boxes -/
theorem kc_r (S : kh_f wd t n b0 d0 w A l) (I : ki_f t n d0 (1 + 4 * w) B l t1 n1) :
    (∀ j, j < w → 5 ≤ B j ∧ B j < 37 ∧ ¬ al_v t n (B j)) ∧ (∀ i j, i < w → j < w → B i = B j → i = j) ∧
    (t1 d0 = t b0 ∧ (t b0 = 2 → 0 < w ∧ n b0 = 4 * A 0 ∧ n1 d0 = 4 * B 0) ∧ (t b0 ≠ 2 → n1 d0 = n b0)) ∧
    (∀ j e, j < w → e < 4 → t1 (4 * B j + e) = t (4 * A j + e) ∧ (t (4 * A j + e) = 2 → ∃ k, k < w ∧ n (4 * A j + e) = 4 * A k ∧ n1 (4 * B j + e) = 4 * B k) ∧ (t (4 * A j + e) ≠ 2 → n1 (4 * B j + e) = n (4 * A j + e))) ∧
    (∀ b, b ≠ d0 → ¬ (el_b b ∧ nw_f B w (b / 4)) → t1 b = t b ∧ n1 b = n b) ∧
    (∀ k, k < w → ∃ b, b < 216 ∧ (b = d0 ∨ (el_b b ∧ nw_f B w (b / 4))) ∧ t1 b = 2 ∧ n1 b = 4 * B k) ∧
    (∀ b b' k, (b = d0 ∨ (el_b b ∧ nw_f B w (b / 4))) → (b' = d0 ∨ (el_b b' ∧ nw_f B w (b' / 4))) → k < w → t1 b = 2 → t1 b' = 2 → n1 b = 4 * B k → n1 b' = 4 * B k → b = b') := by
  have S0 := S
  have I0 := I
  obtain ⟨Y, ⟨hh, W⟩, E, hb0, hd, hd0, hbz, hb3, hli⟩ := S
  obtain ⟨i1, i2, i3, i4⟩ := I
  have we : wc_f t l (1 + 4 * w) = w := W.2.1.symm
  rw [we] at i1 i2
  have wlt : ∀ i, i < 1 + 4 * w → t (l i) = 2 → wc_f t l i < w := fun i hi g => by
    have h1 : wc_f t l (i + 1) ≤ wc_f t l (1 + 4 * w) := cn_up _ (by omega)
    rw [wc_s, b0_t g, we] at h1
    omega
  have idx : ∀ b, (b = d0 ∨ (el_b b ∧ nw_f B w (b / 4))) → ∃ i, i < 1 + 4 * w ∧ cd_f d0 B i = b := fun b h => by
    rcases h with h | ⟨hE, j, hj, ej⟩
    · exact ⟨0, by omega, by rw [cd_0]; exact h.symm⟩
    · exact ⟨1 + 4 * j + b % 4, by omega, by rw [cd_e (by omega), ej]; omega⟩
  have dst : ∀ i, i < 1 + 4 * w → cd_f d0 B i < 216 ∧ (cd_f d0 B i = d0 ∨ (el_b (cd_f d0 B i) ∧ nw_f B w (cd_f d0 B i / 4))) := fun i hi => by
    obtain ⟨k1, k2, k3⟩ := kd_r S0 I0 (i := i) (by omega)
    refine ⟨k1, ?_⟩
    rcases Classical.em (i = 0) with z | z
    · exact Or.inl (by rw [z, cd_0])
    · obtain ⟨u1, u2, _⟩ := k3 z
      exact Or.inr ⟨u1, (i - 1) / 4, by omega, u2.symm⟩
  refine ⟨i1, i2, ?_, fun j e hj he => ?_, fun b h1 h2 => ?_, fun k hk => ?_, ?_⟩
  · obtain ⟨u1, u2⟩ := i3 0 (by omega)
    have z0 : wc_f t l 0 = 0 := rfl
    rw [cd_0, W.1.1] at u1 u2
    refine ⟨u1, fun g => ?_, fun g => by rw [u2, if_neg g]⟩
    have g0 : t (l 0) = 2 := by rw [W.1.1]; exact g
    have h1 := wlt 0 (by omega) g0
    have h3 := W.2.2.1 0 (by omega) g0
    rw [W.1.1, z0] at h3
    rw [if_pos g, z0] at u2
    exact ⟨by omega, h3, u2⟩
  · have li : l (1 + 4 * j + e) = 4 * A j + e := W.1.2 j e hj he
    obtain ⟨u1, u2⟩ := i3 (1 + 4 * j + e) (by omega)
    rw [cd_e he, li] at u1 u2
    refine ⟨u1, fun g => ?_, fun g => by rw [u2, if_neg g]⟩
    have g0 : t (l (1 + 4 * j + e)) = 2 := by rw [li]; exact g
    have h3 := W.2.2.1 (1 + 4 * j + e) (by omega) g0
    rw [li] at h3
    rw [if_pos g] at u2
    exact ⟨_, wlt _ (by omega) g0, h3, u2⟩
  · refine i4 b fun i hi e => ?_
    rcases (dst i hi).2 with z | z
    · exact h1 (e.trans z)
    · exact h2 (e ▸ z)
  · obtain ⟨i, h1, h2, h3⟩ := cn_sur (P := fun i => t (l i) = 2) (k := 1 + 4 * w) (j := k) (by
      have : cn_p (fun i => t (l i) = 2) (1 + 4 * w) = w := we
      omega)
    have h3 : wc_f t l i = k := h3
    obtain ⟨u1, u2⟩ := i3 i h1
    rw [if_pos h2, h3] at u2
    exact ⟨_, (dst i h1).1, (dst i h1).2, u1.trans h2, u2⟩
  · intro b b' k hb hb' hk g g' e e'
    obtain ⟨i, h1, rfl⟩ := idx b hb
    obtain ⟨j, h2, rfl⟩ := idx b' hb'
    obtain ⟨u1, u2⟩ := i3 i h1
    obtain ⟨v1, v2⟩ := i3 j h2
    have gi : t (l i) = 2 := u1.symm.trans g
    have gj : t (l j) = 2 := v1.symm.trans g'
    rw [if_pos gi, e] at u2
    rw [if_pos gj, e'] at v2
    have x1 := i2 _ _ hk (wlt i h1 gi) (by omega)
    have x2 := i2 _ _ hk (wlt j h2 gj) (by omega)
    have := cn_mm (P := fun i => t (l i) = 2) gi gj (x1.symm.trans x2)
    rw [this]
end
section
variable {wd : Nat} {f r t n tx q rf fn ho : Nat → Nat} {ft li : Nat} {b0 d0 w : Nat} {A l : Nat → Nat} {B t1 n1 : Nat → Nat}
noncomputable def fc_f (f A B : Nat → Nat) (w : Nat) : Nat → Nat := fun a => @dite Nat (nw_f B w a) (Classical.propDecidable _) (fun h => f (A h.choose)) (fun _ => f a)
theorem fc_n {a : Nat} (h : ¬ nw_f B w a) : fc_f f A B w a = f a := by unfold fc_f; rw [dif_neg h]
theorem fc_b (inj : ∀ i j, i < w → j < w → B i = B j → i = j) {j : Nat} (hj : j < w) : fc_f f A B w (B j) = f (A j) := by
  have h : nw_f B w (B j) := ⟨j, hj, rfl⟩
  unfold fc_f
  rw [dif_pos h]
  have := inj _ _ h.choose_spec.1 hj h.choose_spec.2
  rw [this]
/-- X stands for Y with the copy -/
theorem op_copy (R : r0_f wd f r t n tx q rf fn ho ft li) (S : kh_f wd t n b0 d0 w A l) (ib0 : ib_v t n b0) (I : ki_f t n d0 (1 + 4 * w) B l t1 n1) {rf1 ho1 : Nat → Nat}
    (hrf : ∀ m, m < 32 → rf1 m = if t b0 = 2 ∧ m = q (sg_f f b0) then rf m + 1 else rf m) (hho : ∀ c, c < 68 → ho1 c = ho c + sm_f (fun a => b0_1 (sb_f t n b0 a) * hb_f t n c a) 54) :
    r0_f wd (fc_f f A B w) r t1 n1 (nu_a tx (d0 + 128) (tx (sg_f f b0))) (nu_a q (d0 + 128) (q (sg_f f b0))) rf1 fn ho1 ft (li + w) := by
  obtain ⟨c1, c2, ⟨c3, c3', c3''⟩, c4, c5, c6, c7⟩ := kc_r S I
  have R0 := R
  obtain ⟨Y, X, RK, KK, F, FR, HO, LI⟩ := R
  obtain ⟨_, _, E, hb0, hd, hd0, hbz, hb3, hli⟩ := S
  have alA : ∀ j, j < w → al_v t n (A j) := fun j hj => sb_al hb0 (E.1 j hj)
  have nwd : ∀ a, nw_f B w a → 5 ≤ a ∧ a < 37 ∧ ¬ al_v t n a := fun a ⟨j, hj, e⟩ => e ▸ c1 j hj
  have ald : ∀ a, al_v t n a → ¬ nw_f B w a := fun a h x => (nwd a x).2.2 h
  have nE : ¬ el_b d0 := fun x => by have := x.1; omega
  -- kinds of boxes
  have kind : ∀ b, b = d0 ∨ (∃ j e, j < w ∧ e < 4 ∧ b = 4 * B j + e) ∨ (b ≠ d0 ∧ ¬ (el_b b ∧ nw_f B w (b / 4)) ∧ t1 b = t b ∧ n1 b = n b) := fun b => by
    rcases Classical.em (b = d0) with z | z
    · exact Or.inl z
    · rcases Classical.em (el_b b ∧ nw_f B w (b / 4)) with ⟨hE, j, hj, e⟩ | y
      · exact Or.inr (Or.inl ⟨j, b % 4, hj, by omega, by omega⟩)
      · exact Or.inr (Or.inr ⟨z, y, c5 b z y⟩)
  have new0 : ∀ j e, j < w → e < 4 → el_b (4 * B j + e) ∧ (4 * B j + e) / 4 = B j ∧ t (4 * B j + e) = 0 := fun j e hj he => by
    obtain ⟨b5, b37, bn⟩ := c1 j hj
    have hE : el_b (4 * B j + e) := ⟨by omega, by omega⟩
    have hdv : (4 * B j + e) / 4 = B j := by omega
    refine ⟨hE, hdv, ?_⟩
    rcases Classical.em (t (4 * B j + e) = 0) with y | y
    · exact y
    · have := (Y.2.2.2.2 _ hE y).2
      rw [hdv] at this
      exact absurd this bn
  have elA : ∀ j e, j < w → e < 4 → el_b (4 * A j + e) ∧ (4 * A j + e) / 4 = A j ∧ (4 * A j + e) % 4 = e := fun j e hj he => by
    have := al_r Y (alA j hj)
    exact ⟨⟨by omega, by omega⟩, by omega, by omega⟩
  have old : ∀ b, t b ≠ 0 → b ≠ d0 ∧ ¬ (el_b b ∧ nw_f B w (b / 4)) ∧ t1 b = t b ∧ n1 b = n b := fun b h => by
    rcases kind b with z | ⟨j, e, hj, he, z⟩ | z
    · rw [z, hd0] at h; exact absurd rfl h
    · rw [z, (new0 j e hj he).2.2] at h; exact absurd rfl h
    · exact z
  have al1 : ∀ a, al_v t1 n1 a ↔ (al_v t n a ∨ nw_f B w a) := fun a => by
    constructor
    · rintro ⟨b, hb, g, e⟩
      rcases kind b with z | ⟨j, e', hj, he, z⟩ | ⟨_, _, z1, z2⟩
      · subst z
        obtain ⟨u1, u2, u3⟩ := c3' (c3.symm.trans g)
        exact Or.inr ⟨0, u1, by omega⟩
      · subst z
        obtain ⟨u1, u2, _⟩ := c4 j e' hj he
        obtain ⟨k, hk, _, u4⟩ := u2 (u1.symm.trans g)
        exact Or.inr ⟨k, hk, by omega⟩
      · exact Or.inl ⟨b, hb, z1.symm.trans g, z2.symm.trans e⟩
    · rintro (⟨b, hb, g, e⟩ | ⟨j, hj, e⟩)
      · obtain ⟨_, _, z1, z2⟩ := old b (by omega)
        exact ⟨b, hb, z1.trans g, z2.trans e⟩
      · obtain ⟨b, hb, _, g, e'⟩ := c6 j hj
        exact ⟨b, hb, g, by omega⟩
  have fB : ∀ j, j < w → fc_f f A B w (B j) = f (A j) := fun j hj => fc_b c2 hj
  have fO : ∀ a, al_v t n a → fc_f f A B w a = f a := fun a h => fc_n (ald a h)
  -- the slot of an old box is the same
  have sgo : ∀ b, ¬ (el_b b ∧ nw_f B w (b / 4)) → sg_f (fc_f f A B w) b = sg_f f b := fun b h => by
    rcases Classical.em (el_b b) with hE | hE
    · rw [sg_e hE.1 hE.2, sg_e hE.1 hE.2, fc_n (fun x => h ⟨hE, x⟩)]
    · unfold el_b at hE
      unfold sg_f
      split
      · rfl
      · split
        · rfl
        · rw [if_neg (by omega), if_neg (by omega)]
  have sgn : ∀ j e, j < w → e < 4 → sg_f (fc_f f A B w) (4 * B j + e) = sg_f f (4 * A j + e) := fun j e hj he => by
    obtain ⟨hE, hdv, _⟩ := new0 j e hj he
    obtain ⟨hE2, hdv2, hm2⟩ := elA j e hj he
    rw [sg_e hE.1 hE.2, sg_e hE2.1 hE2.2, hdv, hdv2, hm2, fB j hj, show (4 * B j + e) % 4 = e by omega]
  have ibA : ∀ j e, j < w → e < 4 → ib_v t n (4 * A j + e) := fun j e hj he => by
    obtain ⟨hE2, hdv2, hm2⟩ := elA j e hj he
    exact ⟨el_lt hE2, fun _ => by rw [hdv2]; exact alA j hj⟩
  have s0 : sg_f f d0 = d0 + 128 := sg_b (by omega) (by omega)
  have sn0 : sn_f f t n d0 := sn_r X (by omega) nE
  obtain ⟨x1, x2⟩ := X.1 b0 ib0
  have xd : tx (d0 + 128) = 0 := by
    have := (X.1 d0 (ib_r (by omega) nE)).1
    rw [s0, hd0] at this
    exact this
  have xvo : ∀ b, b < 216 → t b ≠ 0 → xv_f (fc_f f A B w) t1 n1 b = xv_f f t n b := fun b hb h => by
    obtain ⟨_, _, z1, z2⟩ := old b h
    unfold xv_f
    rw [z1, z2]
    split
    · rename_i g
      obtain ⟨a, _, _, e⟩ := Y.2.1 b hb g
      rw [e, Nat.mul_div_cancel_left _ (by decide), fO a ⟨b, hb, g, e⟩]
    · rfl
  refine ⟨⟨fun b hb => ?_, fun b hb g => ?_, fun b hb g => ?_, fun b b' hb hb' g g' e => ?_, fun b hE g => ?_⟩, ⟨fun b ib => ?_, fun a ha => ?_, fun s hs g => ?_⟩, fun b hE g => ?_, ?_, fun m hm => ?_, ?_, fun c hc => ?_, ?_⟩
  · rcases kind b with z | ⟨j, e, hj, he, z⟩ | ⟨_, _, z1, z2⟩
    · rw [z, c3]; exact Y.1 b0 hb0
    · rw [z, (c4 j e hj he).1]; exact Y.1 _ (el_lt (elA j e hj he).1)
    · rw [z1]; exact Y.1 b hb
  · rcases kind b with z | ⟨j, e, hj, he, z⟩ | ⟨_, _, z1, z2⟩
    · subst z
      obtain ⟨u1, u2, u3⟩ := c3' (c3.symm.trans g)
      exact ⟨B 0, (c1 0 u1).1, (c1 0 u1).2.1, u3⟩
    · subst z
      obtain ⟨u1, u2, _⟩ := c4 j e hj he
      obtain ⟨k, hk, _, u4⟩ := u2 (u1.symm.trans g)
      exact ⟨B k, (c1 k hk).1, (c1 k hk).2.1, u4⟩
    · rw [z2]; exact Y.2.1 b hb (z1.symm.trans g)
  · rcases kind b with z | ⟨j, e, hj, he, z⟩ | ⟨_, _, z1, z2⟩
    · subst z
      exact absurd (c3.symm.trans g) hb3
    · subst z
      obtain ⟨u1, _, u3⟩ := c4 j e hj he
      have g3 : t (4 * A j + e) = 3 := u1.symm.trans g
      obtain ⟨v1, _, _⟩ := Y.2.2.1 _ (el_lt (elA j e hj he).1) g3
      have hE := (new0 j e hj he).1
      refine ⟨?_, hE.2, fun x => by have := hE.1; omega⟩
      rw [u3 (by omega)]; exact v1
    · rw [z2]; exact Y.2.2.1 b hb (z1.symm.trans g)
  · -- one pointer to each array
    have side : ∀ b, b < 216 → t1 b = 2 → ((b = d0 ∨ (el_b b ∧ nw_f B w (b / 4))) ∧ ∃ k, k < w ∧ n1 b = 4 * B k) ∨ (t b = 2 ∧ n1 b = n b ∧ ∃ a, al_v t n a ∧ n b = 4 * a) := fun b hb g => by
      rcases kind b with z | ⟨j, e, hj, he, z⟩ | ⟨_, _, z1, z2⟩
      · subst z
        exact Or.inl ⟨Or.inl rfl, 0, (c3' (c3.symm.trans g)).1, (c3' (c3.symm.trans g)).2.2⟩
      · subst z
        obtain ⟨u1, u2, _⟩ := c4 j e hj he
        obtain ⟨k, hk, _, u4⟩ := u2 (u1.symm.trans g)
        exact Or.inl ⟨Or.inr ⟨(new0 j e hj he).1, j, hj, (new0 j e hj he).2.1.symm⟩, k, hk, u4⟩
      · have g2 := z1.symm.trans g
        obtain ⟨a, _, _, ea⟩ := Y.2.1 b hb g2
        exact Or.inr ⟨g2, z2, a, ⟨b, hb, g2, ea⟩, ea⟩
    rcases side b hb g with ⟨p1, k, hk, p2⟩ | ⟨p1, p2, a, p3, p4⟩
    · rcases side b' hb' g' with ⟨q1, k', hk', q2⟩ | ⟨q1, q2, a', q3, q4⟩
      · have : B k = B k' := by omega
        have := c2 k k' hk hk' this
        subst this
        exact c7 b b' k p1 q1 hk g g' p2 q2
      · exact absurd q3 (by rw [show a' = B k by omega]; exact (c1 k hk).2.2)
    · rcases side b' hb' g' with ⟨q1, k', hk', q2⟩ | ⟨q1, q2, a', q3, q4⟩
      · exact absurd p3 (by rw [show a = B k' by omega]; exact (c1 k' hk').2.2)
      · exact Y.2.2.2.1 b b' hb hb' p1 q1 (by omega)
  · rcases kind b with z | ⟨j, e, hj, he, z⟩ | ⟨_, _, z1, z2⟩
    · exact absurd (z ▸ hE) nE
    · subst z
      obtain ⟨hE2, hdv2, hm2⟩ := elA j e hj he
      rw [(c4 j e hj he).1] at g
      have := (Y.2.2.2.2 _ hE2 g).1
      rw [hm2] at this
      refine ⟨by rw [show (4 * B j + e) % 4 = e by omega]; exact this, (al1 _).mpr (Or.inr ⟨j, hj, (new0 j e hj he).2.1.symm⟩)⟩
    · rw [z1] at g
      obtain ⟨y1, y2⟩ := Y.2.2.2.2 b hE g
      exact ⟨y1, (al1 _).mpr (Or.inl y2)⟩
  · rcases kind b with z | ⟨j, e, hj, he, z⟩ | ⟨z0, zn, z1, z2⟩
    · subst z
      rw [sgo b (fun x => nE x.1), s0, nu_s, nu_s, c3, x1]
      refine ⟨rfl, fun h => ?_⟩
      rw [x2 h]
      rcases Classical.em (t b0 = 2) with g | g
      · obtain ⟨u1, u2, u3⟩ := c3' g
        rw [xv_2 g u2, xv_2 (c3.trans g) u3, fB 0 u1]
      · unfold xv_f
        rw [c3, if_neg g, if_neg g, if_neg hb3, if_neg hb3, c3'' g]
    · subst z
      have ibj := ibA j e hj he
      obtain ⟨y1, y2⟩ := X.1 _ ibj
      obtain ⟨u1, u2, u3⟩ := c4 j e hj he
      have ne : sg_f f (4 * A j + e) ≠ d0 + 128 := fun z => by
        have := sn0 _ ibj (z.trans s0.symm)
        have := (elA j e hj he).1.1
        omega
      rw [sgn j e hj he, nu_n ne, nu_n ne, u1]
      refine ⟨y1, fun h => ?_⟩
      rw [y2 h]
      rcases Classical.em (t (4 * A j + e) = 2) with g | g
      · obtain ⟨k, hk, u4, u5⟩ := u2 g
        rw [xv_2 g u4, xv_2 (u1.trans g) u5, fB k hk]
      · unfold xv_f
        rw [u1, u3 g, if_neg g, if_neg g]
    · have ibo : ib_v t n b := ⟨ib.1, fun hE => by
        rcases (al1 _).mp (ib.2 hE) with y | y
        · exact y
        · exact absurd ⟨hE, y⟩ zn⟩
      have ne : sg_f f b ≠ d0 + 128 := fun z => z0 (sn0 _ ibo (z.trans s0.symm))
      obtain ⟨y1, y2⟩ := X.1 b ibo
      rw [sgo b zn, nu_n ne, nu_n ne, z1]
      refine ⟨y1, fun h => ?_⟩
      rw [y2 h, xvo b ib.1 h]
  · rcases (al1 a).mp ha with y | ⟨j, hj, e⟩
    · rw [fO a y]; exact X.2.1 a y
    · rw [← e, fB j hj]; exact X.2.1 _ (alA j hj)
  · rcases Classical.em (s = d0 + 128) with z | z
    · exact ⟨d0, by omega, by rw [c3]; exact hbz, by rw [sgo d0 (fun x => nE x.1), s0, z]⟩
    · rw [nu_n z] at g
      obtain ⟨b, hb, hbt, es⟩ := X.2.2 s hs g
      obtain ⟨_, zn, z1, _⟩ := old b hbt
      exact ⟨b, hb, by rw [z1]; exact hbt, by rw [sgo b zn, es]⟩
  · rcases kind b with z | ⟨j, e, hj, he, z⟩ | ⟨_, zn, z1, z2⟩
    · exact absurd (z ▸ hE) nE
    · subst z
      obtain ⟨u1, u2, _⟩ := c4 j e hj he
      have g2 : t (4 * A j + e) = 2 := u1.symm.trans g
      obtain ⟨k, hk, u4, u5⟩ := u2 g2
      have := RK _ (elA j e hj he).1 g2
      rw [u4, (elA j e hj he).2.1, Nat.mul_div_cancel_left _ (by decide)] at this
      rw [u5, (new0 j e hj he).2.1, Nat.mul_div_cancel_left _ (by decide), fB k hk, fB j hj]
      exact this
    · have g2 := z1.symm.trans g
      have := RK b hE g2
      obtain ⟨a, _, _, ea⟩ := Y.2.1 b (el_lt hE) g2
      rw [z2]
      rw [ea, Nat.mul_div_cancel_left _ (by decide)] at this ⊢
      rw [fO a ⟨b, el_lt hE, g2, ea⟩, fO _ (Y.2.2.2.2 b hE (by omega)).2]
      exact this
  · obtain ⟨K, k1, k2, k3⟩ := KK
    refine ⟨fun a => K a ∧ ¬ nw_f B w a, fun c hc g => ?_, fun b hE hk g => ?_, fun b hE hk => ?_⟩
    · obtain ⟨z1, z2⟩ := c5 (148 + c) (by omega) (fun x => by have := x.1.2; omega)
      have g2 := z1.symm.trans g
      obtain ⟨a, _, _, ea⟩ := Y.2.1 (148 + c) (by omega) g2
      have := k1 c hc g2
      rw [z2]
      rw [ea, Nat.mul_div_cancel_left _ (by decide)] at this ⊢
      exact ⟨this, ald a ⟨148 + c, by omega, g2, ea⟩⟩
    · obtain ⟨z1, z2⟩ := c5 b (fun z => nE (z ▸ hE)) (fun x => hk.2 x.2)
      have g2 := z1.symm.trans g
      obtain ⟨a, _, _, ea⟩ := Y.2.1 b (el_lt hE) g2
      have := k2 b hE hk.1 g2
      rw [z2]
      rw [ea, Nat.mul_div_cancel_left _ (by decide)] at this ⊢
      exact ⟨this, ald a ⟨b, el_lt hE, g2, ea⟩⟩
    · obtain ⟨z1, z2⟩ := c5 b (fun z => nE (z ▸ hE)) (fun x => hk.2 x.2)
      rw [z1]
      exact k3 b hE hk.1
  · rw [hrf m hm]
    have oth : ∀ s, s < 216 → s ≠ d0 + 128 → ((tx s = 2 ∧ q s = m) ↔ (nu_a tx (d0 + 128) (tx (sg_f f b0)) s = 2 ∧ nu_a q (d0 + 128) (q (sg_f f b0)) s = m)) := fun s hs z => by rw [nu_n z, nu_n z]
    rcases Classical.em (t b0 = 2 ∧ m = q (sg_f f b0)) with ⟨g, e⟩ | g
    · rw [if_pos ⟨g, e⟩, F m hm]
      refine (cn_add (a := d0 + 128) (by omega) (fun x => ?_) ?_ oth).symm
      · have := x.1
        omega
      · rw [nu_s, nu_s]
        exact ⟨x1.trans g, e.symm⟩
    · rw [if_neg g, F m hm]
      refine cn_c fun s hs => ?_
      rcases Classical.em (s = d0 + 128) with z | z
      · rw [z, nu_s, nu_s, xd]
        exact ⟨fun x => absurd x.1 (by decide), fun x => absurd ⟨x1.symm.trans x.1, x.2.symm⟩ g⟩
      · exact oth s hs z
  · have iff : ∀ m, m < 32 → (rf1 m = 0 ↔ rf m = 0) := fun m hm => by
      rw [hrf m hm]
      split
      · rename_i g
        obtain ⟨a, _, _, ea⟩ := Y.2.1 b0 hb0 g.1
        obtain ⟨p1, p2, p3⟩ := xs_p X Y hb0 g.1 ea
        have := nd_u R0 (a := a) ⟨b0, hb0, g.1, ea⟩
        rw [← p3, ← g.2] at this
        exact ⟨fun x => by omega, fun x => absurd x this⟩
      · exact Iff.rfl
    obtain ⟨g1, g2, g3, g4⟩ := FR
    exact ⟨g1, fun i hi => ⟨(g2 i hi).1, (iff _ (g2 i hi).1).mpr (g2 i hi).2⟩, g3, fun m hm h => g4 m hm ((iff m hm).mp h)⟩
  · rw [hho c hc, HO c hc]
    have EB : en_m (nw_f B w) B w := ⟨fun j hj => ⟨j, hj, rfl⟩, c2, fun a h => h⟩
    have hbj : ∀ j, j < w → hb_f t1 n1 c (B j) = hb_f t n c (A j) := fun j hj => by
      unfold hb_f
      refine cn_c fun e he => ?_
      obtain ⟨u1, u2, u3⟩ := c4 j e hj he
      rw [u1]
      constructor
      · rintro ⟨y1, y2⟩
        rw [u3 (by omega)] at y2
        exact ⟨y1, y2⟩
      · rintro ⟨y1, y2⟩
        exact ⟨y1, by rw [u3 (by omega)]; exact y2⟩
    have s1 := en_sm (N := 54) (hb_f t n c) E (fun a s => by have := (al_r Y (sb_al hb0 s)).2; omega)
    have s2 := en_sm (N := 54) (hb_f t1 n1 c) EB (fun a h => by have := (nwd a h).2.1; omega)
    rw [← s1, ← sm_c (N := w) (g := fun j => hb_f t1 n1 c (B j)) (h := fun j => hb_f t n c (A j)) hbj, s2]
    unfold hc_f
    rw [show (216 : Nat) = 4 * 54 from rfl, cn_blk, cn_blk]
    refine (sm_a fun a ha => ?_).symm
    show hb_f t1 n1 c a = hb_f t n c a + b0_1 (nw_f B w a) * hb_f t1 n1 c a
    rcases Classical.em (nw_f B w a) with y | y
    · rw [b0_t y, show hb_f t n c a = 0 from cn_z fun e he x => ?_]
      · omega
      · obtain ⟨j, hj, ej⟩ := y
        rw [← ej, (new0 j e hj he).2.2] at x
        exact absurd x.1 (by decide)
    · rw [b0_f y, Nat.zero_mul, Nat.add_zero]
      unfold hb_f
      refine cn_c fun e he => ?_
      rcases Classical.em (4 * a + e = d0) with z | z
      · rw [z, c3, hd0]
        exact ⟨fun x => absurd x.1 hb3, fun x => absurd x.1 (by decide)⟩
      · obtain ⟨z1, z2⟩ := c5 _ z (fun x => y (by have := x.2; rw [show (4 * a + e) / 4 = a by omega] at this; exact this))
        rw [z1, z2]
  · rw [LI]
    have EB : en_m (nw_f B w) B w := ⟨fun j hj => ⟨j, hj, rfl⟩, c2, fun a h => h⟩
    have e1 := en_cn (N := 37) EB (fun a h => (nwd a h).2.1)
    unfold li_f
    rw [cn_spl (al_v t1 n1) (al_v t n) 37, cn_c (P := fun k => al_v t1 n1 k ∧ al_v t n k) (Q := al_v t n) (fun k _ => ⟨fun x => x.2, fun x => ⟨(al1 k).mpr (Or.inl x), x⟩⟩), cn_c (P := fun k => al_v t1 n1 k ∧ ¬ al_v t n k) (Q := nw_f B w) (fun k _ => ⟨fun x => ((al1 k).mp x.1).resolve_left x.2, fun x => ⟨(al1 k).mpr (Or.inr x), (nwd k x).2.2⟩⟩), ← e1]
end
end
section
section
variable {K : Nat → Int32} {G : Nat → Nat} {ft ce li de lo : Nat} {tx q rf fn ho po wk : Nat → Nat} {f r t n : Nat → Nat}
/-- X pushes a copy of the value of box b -/
theorem xw_pushc (R : r0_f (G 1) f r t n tx q rf fn ho ft li) (hG : G 1 ≤ 4) (hli : G 2 ≤ 32) (hst : G 3 ≤ 8) (hde : de ≤ G 3) {b : Nat} (hb : ib_v t n b) (hd0 : de < G 3 → t (8 + de) = 0) (hz : t (th_f t n b) ≠ 0) (hce : ce = 0 → ∀ b, b < 216 → t b ≠ 3) (hc31 : ce < 2 ^ 31) {post : Int32 → SX → Prop}
    (HL : (de = G 3 ∨ G 2 < li + wt_f t n (th_f t n b)) → ∀ wk, post (-2) (mk_X K G ft ce li de lo tx q rf fn ho po wk))
    (H : de < G 3 → li + wt_f t n (th_f t n b) ≤ G 2 → ∀ rf1 ho1 wk, (∀ m, m < 32 → rf1 m = if t (th_f t n b) = 2 ∧ m = q (sg_f f (th_f t n b)) then rf m + 1 else rf m) →
      (∀ c, c < 68 → ho1 c = ho c + sm_f (fun a => b0_1 (sb_f t n (th_f t n b) a) * hb_f t n c a) 54) →
      post 0 (mk_X K G ft ce (li + wt_f t n (th_f t n b)) (de + 1) lo (nu_a tx (8 + de + 128) (tx (sg_f f (th_f t n b)))) (nu_a q (8 + de + 128) (q (sg_f f (th_f t n b)))) rf1 fn ho1 po wk)) : wpX_pushCopy post (mk_X K G ft ce li de lo tx q rf fn ho po wk) (nI (sg_f f b)) := by
  have R0 := R
  obtain ⟨Y, X, RK, KK, F, FR, HO, LI⟩ := R
  have ibt := th_ib Y hb
  have ht := Y.1 _ ibt.1
  have s1 := sg_lt X ibt
  obtain ⟨x1, x2⟩ := X.1 _ ibt
  refine pk_lt de (G 3) (fun hx => ?_) (fun hx => HL (Or.inl (by omega)) wk)
  refine xw_value (G := G) Y X hb ?_
  refine xw_collect (G := G) Y X RK hG ibt fun w A wk1 E hw hwk => ?_
  have hA : ∀ j, j < w → al_v t n (A j) := fun j hj => sb_al ibt.1 (E.1 j hj)
  have wE : w = wt_f t n (th_f t n b) := en_cn E (fun a s => (al_r Y (sb_al ibt.1 s)).2)
  have l37 := li_le t n
  refine pk_le (li + w) (G 2) (fun hy => ?_) (fun hy => HL (Or.inr (by omega)) wk1) (nI_add _ _)
  refine xw_tally Y X hG (hv := fun c x => ho c + x) (d := 1) hA hw hwk (fun c _ => rfl) hce hc31 (fun c x hc hx => ja_p1 (ho c + x)) (fun ho1 hho => ?_)
  have e4 : (136 : Int32) + nI de = nI (8 + de + 128) := by
    rw [show 8 + de + 128 = 136 + de by omega]; exact nI_add 136 de
  have ho2 : ∀ c, c < 68 → ho1 c = ho c + sm_f (fun a => b0_1 (sb_f t n (th_f t n b) a) * hb_f t n c a) 54 := fun c hc => by
    have := hho c hc
    rw [en_sm (N := 54) (hb_f t n c) E (fun a s => by have := (al_r Y (sb_al ibt.1 s)).2; omega)] at this
    exact this
  subst wE
  have ne : sg_f f (th_f t n b) ≠ 8 + de + 128 := fun e => by
    rw [e] at x1
    have nE : ¬ el_b (8 + de) := fun x => by have := x.1; omega
    have := (X.1 (8 + de) (ib_r (by omega) nE)).1
    rw [sg_b (by omega) (by omega), hd0 hx] at this
    omega
  generalize hs : sg_f f (th_f t n b) = s at *
  refine nm_r (nI_add _ _) (nm_r (e' := nI (8 + de + 128)) e4 ⟨pk_in s 216 s1 rfl, jw_u (8 + de + 128) (tx s) (by omega) ⟨pk_in s 216 s1 rfl, jw_u (8 + de + 128) (q s) (by omega) ?_ rfl (jm_c (by omega))⟩ rfl (jm_c (by omega))⟩)
  refine jr_eq s 2 s1 (by rw [nu_n ne]; omega) (fun h2 => ?_) (fun h2 => ?_) rfl
  · rw [nu_n ne, x1] at h2
    obtain ⟨a, a5, a37, ea⟩ := Y.2.1 _ ibt.1 h2
    have hq : q s = f a := (x2 (by omega)).trans (xv_2 h2 ea)
    have q32 : q s < 32 := by rw [hq]; exact X.2.1 a ⟨_, ibt.1, h2, ea⟩
    have hi : jm_a (nu_a q (8 + de + 128) (q s)) (nI s).toNatClampNeg = nI (q s) := by rw [jm_c (by omega), nu_n ne]
    refine ⟨pk_in s 216 s1 rfl, pk_in (q s) 32 q32 hi, jw_u (q s) (rf (q s) + 1) q32 (nm_r (ja_p1 de) ?_) hi ?_⟩
    · refine H hx hy (nu_a rf (q s) (rf (q s) + 1)) ho1 _ (fun m hm => ?_) ho2
      rcases Classical.em (m = q s) with z | z
      · rw [if_pos ⟨h2, z⟩, z, nu_s]
      · rw [if_neg (fun y => z y.2), nu_n z]
    · rw [jm_i _ hi]; exact ja_p1 _
  · rw [nu_n ne, x1] at h2
    refine nm_r (ja_p1 de) (H hx hy rf ho1 _ (fun m hm => ?_) ho2)
    rw [if_neg (fun y => h2 y.1)]
end
end
section
/-- box b's array, or cell, is pointed to -/
def pn_f (t n : Nat → Nat) (b : Nat) : Prop := ∃ b', b' < 216 ∧ (b < 148 → t b' = 2 ∧ n b' = 4 * (b / 4)) ∧ (148 ≤ b → t b' = 3 ∧ n b' = b)
/-- T is t0 with some boxes emptied, and nothing more is to be emptied -/
def ex_f (t0 n T : Nat → Nat) : Prop := (∀ b, b < 216 → T b = t0 b ∨ T b = 0) ∧ (∀ b, b < 20 → T b = t0 b) ∧ (∀ b, 20 ≤ b → b < 216 → T b ≠ 0 → pn_f T n b)
/-- t is t0 with garbage emptied: every such T empties at least that -/
def sz_f (t0 t n : Nat → Nat) : Prop := yb_f t0 n ∧ (∀ b, b < 216 → t b = t0 b ∨ t b = 0) ∧ (∀ b, b < 20 ∨ 216 ≤ b → t b = t0 b) ∧ (∀ T, ex_f t0 n T → ∀ b, b < 216 → t b = 0 → T b = 0)
theorem sz_r {t n : Nat → Nat} (B : yb_f t n) : sz_f t t n := ⟨B, fun _ _ => Or.inl rfl, fun _ _ => rfl, fun T h b hb z => by
  rcases h.1 b hb with e | e
  · exact e.trans z
  · exact e⟩
/-- what lies under a box that was overwritten is garbage -/
theorem sz_d {w : Nat} {f r t n t0 n0 : Nat → Nat} (Y : yw_f w t n) (RK : rk_f f t n r) {b1 : Nat} (hb1 : b1 < 216) (p1 : ∀ b a, b < 216 → t0 b = 2 → n0 b = 4 * a → sb_f t n b1 a → el_b b ∧ sb_f t n b1 (b / 4) ∧ t b = 2 ∧ n b = 4 * a)
    {T : Nat → Nat} (X : ex_f t0 n0 T) : ∀ b, el_b b → sb_f t n b1 (b / 4) → T b = 0 := by
  have ptr : ∀ b, el_b b → T b ≠ 0 → sb_f t n b1 (b / 4) → ∃ b'', T b'' = 2 ∧ el_b b'' ∧ sb_f t n b1 (b'' / 4) ∧ t b'' = 2 ∧ n b'' = 4 * (b / 4) := fun b hE h s => by
    obtain ⟨b'', h1, h2, _⟩ := X.2.2 b hE.1 (el_lt hE) h
    obtain ⟨g1, g2⟩ := h2 hE.2
    have : t0 b'' = 2 := by
      rcases X.1 b'' h1 with e | e
      · rw [← e]; exact g1
      · omega
    obtain ⟨u1, u2, u3, u4⟩ := p1 b'' (b / 4) h1 this g2 s
    exact ⟨b'', g1, u1, u2, u3, u4⟩
  have key : ∀ a, sb_f t n b1 a → (sb_f t n b1 a ∧ ∀ b, el_b b → b / 4 = a → T b = 0) := fun a s => by
    refine s (fun a => sb_f t n b1 a ∧ ∀ b, el_b b → b / 4 = a → T b = 0) ?_ ?_
    · intro h2 a' e
      refine ⟨sb_0 h2 e, fun b hE hd => ?_⟩
      rcases Classical.em (T b = 0) with z | z
      · exact z
      · obtain ⟨b'', _, u1, u2, u3, u4⟩ := ptr b hE z (by rw [hd]; exact sb_0 h2 e)
        have := al_u Y (el_lt u1) hb1 u3 h2 (u4.trans (by rw [hd])) e
        subst this
        exact absurd u2 (sb_ne RK u1)
    · intro b' a' hE' ⟨s', hS⟩ h2 e
      refine ⟨sb_s hE' s' h2 e, fun b hE hd => ?_⟩
      rcases Classical.em (T b = 0) with z | z
      · exact z
      · obtain ⟨b'', u0, u1, u2, u3, u4⟩ := ptr b hE z (by rw [hd]; exact sb_s hE' s' h2 e)
        have := al_u Y (el_lt u1) (el_lt hE') u3 h2 (u4.trans (by rw [hd])) e
        subst this
        have := hS b'' hE' rfl
        omega
  exact fun b hE s => (key _ s).2 b hE rfl
/-- the closed form of the last loop of Y's settle -/
def yZ_f (t n : Nat → Nat) (b : Nat) : Prop := (148 ≤ b ∧ b < 216 ∧ hc_f t n (b - 148) = 0) ∨ sC_f t n 68 b
def yD_f (t n : Nat → Nat) (i b : Nat) : Prop := 148 ≤ b ∧ ∃ h, h < i ∧ sB_f t n 68 h ∧ n h = b
noncomputable def yT_f (t n : Nat → Nat) (i : Nat) : Nat → Nat := fun b => @ite Nat (sB_f t n 68 b ∧ b < i) (Classical.propDecidable _) (t (n b)) (@ite Nat (yD_f t n i b ∨ yZ_f t n b) (Classical.propDecidable _) 0 (t b))
noncomputable def yN_f (t n : Nat → Nat) (i : Nat) : Nat → Nat := fun b => @ite Nat (sB_f t n 68 b ∧ b < i) (Classical.propDecidable _) (n (n b)) (n b)
section
variable {t n : Nat → Nat} {i b : Nat}
theorem yT_B (h : sB_f t n 68 b ∧ b < i) : yT_f t n i b = t (n b) := by unfold yT_f; rw [if_pos h]
theorem yT_Z (h : ¬ (sB_f t n 68 b ∧ b < i)) (h2 : yD_f t n i b ∨ yZ_f t n b) : yT_f t n i b = 0 := by unfold yT_f; rw [if_neg h, if_pos h2]
theorem yT_D (h : ¬ (sB_f t n 68 b ∧ b < i)) (h2 : ¬ (yD_f t n i b ∨ yZ_f t n b)) : yT_f t n i b = t b := by unfold yT_f; rw [if_neg h, if_neg h2]
theorem yN_B (h : sB_f t n 68 b ∧ b < i) : yN_f t n i b = n (n b) := by unfold yN_f; rw [if_pos h]
theorem yN_D (h : ¬ (sB_f t n 68 b ∧ b < i)) : yN_f t n i b = n b := by unfold yN_f; rw [if_neg h]
theorem yT_e {i' : Nat} (h1 : (sB_f t n 68 b ∧ b < i) ↔ (sB_f t n 68 b ∧ b < i')) (h2 : yD_f t n i b ↔ yD_f t n i' b) : yT_f t n i b = yT_f t n i' b ∧ yN_f t n i b = yN_f t n i' b := by
  rcases Classical.em (sB_f t n 68 b ∧ b < i) with z | z
  · exact ⟨by rw [yT_B z, yT_B (h1.mp z)], by rw [yN_B z, yN_B (h1.mp z)]⟩
  · have z' : ¬ (sB_f t n 68 b ∧ b < i') := fun x => z (h1.mpr x)
    refine ⟨?_, by rw [yN_D z, yN_D z']⟩
    rcases Classical.em (yD_f t n i b ∨ yZ_f t n b) with y | y
    · rw [yT_Z z y, yT_Z z' (y.elim (fun x => Or.inl (h2.mp x)) Or.inr)]
    · rw [yT_D z y, yT_D z' (fun x => y (x.elim (fun x => Or.inl (h2.mpr x)) Or.inr))]
end
section
variable {w : Nat} {f r t n : Nat → Nat}
/-- two holders of a cell that has one -/
theorem sB_u (S : sh_f w f r t n) {h b : Nat} (x : sB_f t n 68 h) (hb : b < 216) (g : t b = 3) (e : n b = n h) : b = h := by
  obtain ⟨x1, x2, x3, x4⟩ := x
  obtain ⟨⟨c, hc, ec⟩, _⟩ := S.1.2.2.1 h (by omega) x2
  have x4 : cn_p (fun b => t b = 3 ∧ n b = 148 + (n h - 148)) 216 = 1 := x4
  exact cn_uni (P := fun b => t b = 3 ∧ n b = 148 + (n h - 148)) (N := 216) (by omega) hb (by omega) ⟨g, by omega⟩ ⟨x2, by omega⟩
/-- a holder isn't emptied -/
theorem yZ_n (S : sh_f w f r t n) {b : Nat} (hb : b < 216) (g : t b = 3) : ¬ yZ_f t n b := by
  rintro (⟨h1, _⟩ | ⟨hE, c', _, hc', _, s⟩)
  · exact sh_c S h1 hb g
  · exact sh_3 S hc' hE s g
theorem yT_3 (S : sh_f w f r t n) {i b : Nat} (hb : b < 216) : (yT_f t n i b = 3 ↔ (t b = 3 ∧ ¬ (sB_f t n 68 b ∧ b < i))) := by
  constructor
  · intro h
    rcases Classical.em (sB_f t n 68 b ∧ b < i) with z | z
    · rw [yT_B z] at h
      obtain ⟨⟨c, hc, ec⟩, _⟩ := S.1.2.2.1 b hb z.1.2.1
      exact absurd h (sh_c S (by omega) (by omega))
    · rcases Classical.em (yD_f t n i b ∨ yZ_f t n b) with y | y
      · rw [yT_Z z y] at h; omega
      · rw [yT_D z y] at h; exact ⟨h, z⟩
  · rintro ⟨h, z⟩
    have h148 := (S.1.2.2.1 b hb h).2.1
    rw [yT_D z]
    · exact h
    · rintro (⟨y, _⟩ | y)
      · omega
      · exact yZ_n S hb h y
/-- the count of the holders in the last loop -/
theorem yT_c (S : sh_f w f r t n) {i : Nat} (hi : i < 148) (g : t i = 3) : cn_p (fun b => yT_f t n i b = 3 ∧ yN_f t n i b = n i) 216 = hc_f t n (n i - 148) := by
  obtain ⟨⟨c, hc, ec⟩, _⟩ := S.1.2.2.1 i (by omega) g
  refine cn_c fun b hb => ?_
  show (yT_f t n i b = 3 ∧ yN_f t n i b = n i) ↔ (t b = 3 ∧ n b = 148 + (n i - 148))
  rw [yT_3 S hb]
  constructor
  · rintro ⟨⟨h1, h2⟩, h3⟩
    rw [yN_D h2] at h3
    exact ⟨h1, by omega⟩
  · rintro ⟨h1, h2⟩
    have z : ¬ (sB_f t n 68 b ∧ b < i) := fun x => by
      have := sB_u S x.1 (b := i) (by omega) g (by omega)
      have := x.2
      omega
    exact ⟨⟨h1, z⟩, by rw [yN_D z]; omega⟩
theorem yT_n (S : sh_f w f r t n) {i : Nat} (h : ¬ sB_f t n 68 i) : yT_f t n (i + 1) = yT_f t n i ∧ yN_f t n (i + 1) = yN_f t n i := by
  have key : ∀ b, yT_f t n (i + 1) b = yT_f t n i b ∧ yN_f t n (i + 1) b = yN_f t n i b := fun b => by
    refine yT_e ⟨fun x => ⟨x.1, ?_⟩, fun x => ⟨x.1, by have := x.2; omega⟩⟩ ⟨?_, ?_⟩
    · rcases Classical.em (b = i) with z | z
      · exact absurd (z ▸ x.1) h
      · have := x.2; omega
    · rintro ⟨h1, k, hk, x, e⟩
      refine ⟨h1, k, ?_, x, e⟩
      rcases Classical.em (k = i) with z | z
      · exact absurd (z ▸ x) h
      · omega
    · rintro ⟨h1, k, hk, x, e⟩
      exact ⟨h1, k, by omega, x, e⟩
  exact ⟨funext fun b => (key b).1, funext fun b => (key b).2⟩
theorem yT_s (S : sh_f w f r t n) {i : Nat} (x : sB_f t n 68 i) : yT_f t n (i + 1) = nu_a (nu_a (yT_f t n i) i (yT_f t n i (n i))) (n i) 0 ∧ yN_f t n (i + 1) = nu_a (yN_f t n i) i (yN_f t n i (n i)) := by
  have x0 := x
  obtain ⟨x1, x2, x3, x4⟩ := x
  obtain ⟨⟨c, hc, ec⟩, _⟩ := S.1.2.2.1 i (by omega) x2
  have nB : ∀ k, ¬ (sB_f t n 68 (n i) ∧ n i < k) := fun k y => by have := y.1.1; omega
  have v : yT_f t n i (n i) = t (n i) := by
    refine yT_D (nB _) ?_
    rintro (⟨_, k, hk, y, e⟩ | ⟨h1, h2, h3⟩ | ⟨hE, _⟩)
    · have := sB_u S y (b := i) (by omega) x2 e.symm
      omega
    · omega
    · have := hE.2; omega
  have u : yN_f t n i (n i) = n (n i) := yN_D (nB _)
  have oth : ∀ b, b ≠ i → b ≠ n i → yT_f t n (i + 1) b = yT_f t n i b ∧ yN_f t n (i + 1) b = yN_f t n i b := fun b z1 z2 => by
    refine yT_e ⟨fun y => ⟨y.1, by have := y.2; omega⟩, fun y => ⟨y.1, by have := y.2; omega⟩⟩ ⟨?_, ?_⟩
    · rintro ⟨h1, k, hk, y, e⟩
      refine ⟨h1, k, ?_, y, e⟩
      rcases Classical.em (k = i) with z | z
      · rw [z] at e; exact absurd e.symm z2
      · omega
    · rintro ⟨h1, k, hk, y, e⟩
      exact ⟨h1, k, by omega, y, e⟩
  constructor
  · funext b
    rcases Classical.em (b = n i) with z | z
    · rw [z, nu_s]
      exact yT_Z (nB _) (Or.inl ⟨by omega, i, by omega, x0, rfl⟩)
    · rw [nu_n z]
      rcases Classical.em (b = i) with y | y
      · rw [y, nu_s, v]
        exact yT_B ⟨x0, by omega⟩
      · rw [nu_n y]; exact (oth b y z).1
  · funext b
    rcases Classical.em (b = i) with y | y
    · rw [y, nu_s, u]
      exact yN_B ⟨x0, by omega⟩
    · rw [nu_n y]
      rcases Classical.em (b = n i) with z | z
      · rw [z, yN_D (nB _), yN_D (nB _)]
      · exact (oth b y z).2
/-- at its end it is X's closed form -/
theorem yT_end (S : sh_f w f r t n) : yT_f t n 148 = sT_f t n 68 ∧ yN_f t n 148 = sN_f t n 68 := by
  have key : ∀ b, yT_f t n 148 b = sT_f t n 68 b ∧ yN_f t n 148 b = sN_f t n 68 b := fun b => by
    rcases Classical.em (sB_f t n 68 b) with z | z
    · have z' : sB_f t n 68 b ∧ b < 148 := ⟨z, z.1⟩
      exact ⟨by rw [yT_B z', sT_B z], by rw [yN_B z', sN_B z]⟩
    · have z' : ¬ (sB_f t n 68 b ∧ b < 148) := fun x => z x.1
      refine ⟨?_, by rw [yN_D z', sN_D z]⟩
      rcases Classical.em (sA_f t n 68 b ∨ sC_f t n 68 b) with y | y
      · rw [sT_Z z y]
        refine yT_Z z' ?_
        rcases y with ⟨y1, y2, y3⟩ | y
        · rcases Classical.em (hc_f t n (b - 148) = 0) with u | u
          · exact Or.inr (Or.inl ⟨y1, by omega, u⟩)
          · refine Or.inl ⟨y1, ?_⟩
            obtain ⟨h, hh, g, e⟩ := cn_ex (P := fun b' => t b' = 3 ∧ n b' = 148 + (b - 148)) (N := 216) u
            exact ⟨h, (S.1.2.2.1 h hh g).2.1, ⟨(S.1.2.2.1 h hh g).2.1, g, by omega, by rw [e, Nat.add_sub_cancel_left]; omega⟩, by omega⟩
        · exact Or.inr (Or.inr y)
      · rw [sT_D z (fun x => y (Or.inl x)) (fun x => y (Or.inr x))]
        refine yT_D z' ?_
        rintro (⟨y1, h, hh, x, e⟩ | ⟨y1, y2, y3⟩ | x)
        · refine y (Or.inl ⟨y1, ?_, ?_⟩)
          · have := x.2.2.1; omega
          · have := x.2.2.2
            rw [e] at this
            omega
        · exact y (Or.inl ⟨y1, by omega, by omega⟩)
        · exact y (Or.inr x)
  exact ⟨funext fun b => (key b).1, funext fun b => (key b).2⟩
theorem yT_z0 {b : Nat} : (yT_f t n 0 b = 0 ∨ yT_f t n 0 b = t b) ∧ (¬ yZ_f t n b → yT_f t n 0 b = t b) ∧ (yZ_f t n b → yT_f t n 0 b = 0) := by
  have z : ¬ (sB_f t n 68 b ∧ b < 0) := fun x => absurd x.2 (Nat.not_lt_zero _)
  have d : ¬ yD_f t n 0 b := fun ⟨_, h, hh, _⟩ => absurd hh (Nat.not_lt_zero _)
  rcases Classical.em (yZ_f t n b) with y | y
  · exact ⟨Or.inl (yT_Z z (Or.inr y)), fun x => absurd y x, fun _ => yT_Z z (Or.inr y)⟩
  · have := yT_D z (fun x => x.elim d y)
    exact ⟨Or.inr this, fun _ => this, fun x => absurd x y⟩
theorem yN_z0 : yN_f t n 0 = n := funext fun b => yN_D fun x => absurd x.2 (Nat.not_lt_zero _)
/-- the mid state of Y's settle: nothing more is to be emptied -/
theorem yT_p (S : sh_f w f r t n) : ∀ b, 20 ≤ b → b < 216 → yT_f t n 0 b ≠ 0 → pn_f (yT_f t n 0) n b := by
  intro b h20 h216 h
  have nz : ¬ yZ_f t n b := fun x => h ((yT_z0 (t := t) (n := n) (b := b)).2.2 x)
  rw [(yT_z0 (t := t) (n := n) (b := b)).2.1 nz] at h
  rcases Nat.lt_or_ge b 148 with z | z
  · obtain ⟨_, b', hb', g, e⟩ := S.1.2.2.2.2 b ⟨h20, z⟩ h
    refine ⟨b', hb', fun _ => ⟨?_, e⟩, fun x => by omega⟩
    rw [(yT_z0 (t := t) (n := n) (b := b')).2.1]
    · exact g
    · rintro (⟨y1, y2, y3⟩ | ⟨hE, c', k1, k2, k3, s⟩)
      · exact nz (Or.inr ⟨⟨h20, z⟩, b' - 148, by omega, by omega, y3, by rw [show 148 + (b' - 148) = b' by omega]; exact sb_0 g e⟩)
      · exact nz (Or.inr ⟨⟨h20, z⟩, c', k1, k2, k3, sb_s hE s g e⟩)
  · have hc0 : hc_f t n (b - 148) ≠ 0 := fun x => nz (Or.inl ⟨z, h216, x⟩)
    obtain ⟨b', hb', g, e⟩ := cn_ex (P := fun b' => t b' = 3 ∧ n b' = 148 + (b - 148)) (N := 216) hc0
    refine ⟨b', hb', fun x => by omega, fun _ => ⟨?_, by omega⟩⟩
    rw [(yT_z0 (t := t) (n := n) (b := b')).2.1 (yZ_n S hb' g)]
    exact g
/-- and no less has been emptied -/
theorem yT_col (S : sh_f w f r t n) {t0 T : Nat → Nat} (Z : sz_f t0 t n) (X : ex_f t0 n T) : ∀ b, b < 216 → yT_f t n 0 b = 0 → T b = 0 := by
  have low := Z.2.2.2 T X
  have tv : ∀ b, b < 216 → T b ≠ 0 → t b = T b := fun b hb h => by
    rcases X.1 b hb with e | e
    · rcases Z.2.1 b hb with u | u
      · rw [u, e]
      · exact absurd (low b hb u) h
    · exact absurd e h
  have cell : ∀ c, c < 68 → hc_f t n c = 0 → T (148 + c) = 0 := fun c hc h0 => by
    rcases Classical.em (T (148 + c) = 0) with z | z
    · exact z
    · obtain ⟨b', h1, _, h3⟩ := X.2.2 (148 + c) (by omega) (by omega) z
      obtain ⟨g, e⟩ := h3 (by omega)
      exact absurd ⟨(tv b' h1 (by omega)).trans g, e⟩ (cn_none (P := fun b => t b = 3 ∧ n b = 148 + c) h0 h1)
  intro b hb h
  rcases Classical.em (yZ_f t n b) with y | y
  · rcases y with ⟨y1, y2, y3⟩ | ⟨hE, c, _, hc, h0, s⟩
    · have := cell (b - 148) (by omega) y3
      rw [show 148 + (b - 148) = b by omega] at this
      exact this
    · have key : ∀ b, el_b b → b / 4 = b / 4 → sb_f t n (148 + c) (b / 4) → T b = 0 := fun b hE _ s => by
        refine s (fun a => ∀ b, el_b b → b / 4 = a → T b = 0) ?_ ?_ b hE rfl
        · intro h2 a' e b hE hd
          rcases Classical.em (T b = 0) with z | z
          · exact z
          · obtain ⟨b'', k1, k2, _⟩ := X.2.2 b hE.1 (el_lt hE) z
            obtain ⟨g1, g2⟩ := k2 hE.2
            have := al_u S.1 k1 (b' := 148 + c) (by omega) ((tv b'' k1 (by omega)).trans g1) h2 (g2.trans (by rw [hd])) e
            have c0 := cell c hc h0
            rw [← this] at c0
            omega
        · intro b' a' hE' hS h2 e b hE hd
          rcases Classical.em (T b = 0) with z | z
          · exact z
          · obtain ⟨b'', k1, k2, _⟩ := X.2.2 b hE.1 (el_lt hE) z
            obtain ⟨g1, g2⟩ := k2 hE.2
            have := al_u S.1 k1 (el_lt hE') ((tv b'' k1 (by omega)).trans g1) h2 (g2.trans (by rw [hd])) e
            subst this
            have := hS b'' hE' rfl
            omega
      exact key b hE rfl s
  · rw [(yT_z0 (t := t) (n := n) (b := b)).2.1 y] at h
    exact low b hb h
end
end
section
theorem ja_r4 {b : Nat} (h : b < 2 ^ 31) : nI b - (nI b - nI b / 4 * 4) = nI (4 * (b / 4)) := by
  have e : nI b - nI b / 4 * 4 = nI (b % 4) := pk_rem (d := 4) h (by omega) (by omega)
  rw [e, pk_sub (by omega), show b - b % 4 = 4 * (b / 4) by omega]
section
variable {G : Nat → Nat} {sp lp ls he : Nat} {t n l cp yp : Nat → Nat} {f r : Nat → Nat} {t0 : Nat → Nat}
/-- between the start and the mid state -/
def gi_f (t0 t n T : Nat → Nat) : Prop := (∀ b, b < 216 → T b = t0 b ∨ T b = 0) ∧ (∀ b, b < 20 ∨ 216 ≤ b → T b = t0 b) ∧ (∀ b, b < 216 → yT_f t n 0 b ≠ 0 → T b = yT_f t n 0 b)
noncomputable def gm_f (T : Nat → Nat) : Nat := cn_p (fun b => 20 ≤ b ∧ T b ≠ 0) 216
theorem gm_le (T : Nat → Nat) : gm_f T ≤ 196 := by
  unfold gm_f
  rw [show (216 : Nat) = 20 + 196 from rfl, cn_apx, cn_z (N := 20) (fun k hk x => by have := x.1; omega), Nat.zero_add]
  exact cn_le _ _
theorem gi_yb (B : yb_f t0 n) {T : Nat → Nat} (I : gi_f t0 t n T) : yb_f T n := fun b hb => by
  rcases I.1 b hb with e | e
  · rw [e]; exact B b hb
  · rw [e]; exact ⟨by omega, fun x => by omega⟩
theorem yk_set20 (S : sh_f (G 1) f r t n) (Z : sz_f t0 t n) {post : SY → Prop} {J : jt_2} {p : Nat} {T0 : Nat → Nat}
    (HJ : ∀ m T, gi_f t0 t n T → ((m = 0 ∧ T = T0 ∧ ∀ b, 20 ≤ b → b < 216 → T b ≠ 0 → pn_f T n b) ∨ (m = 1 ∧ gm_f T < gm_f T0)) → J (nI m) (nI (p + 1)) (jm_a T) (jm_a n) (jm_a l) (jm_a cp) (jm_a yp)) :
    ∀ d b m T, 216 - b < d → 20 ≤ b → b ≤ 216 → gi_f t0 t n T → ((m = 0 ∧ T = T0 ∧ ∀ b', 20 ≤ b' → b' < b → T b' ≠ 0 → pn_f T n b') ∨ (m = 1 ∧ gm_f T < gm_f T0)) → wY_settle_20 post J (nI p) (nI (G 0)) (nI (G 1)) (nI (G 2)) (nI (G 3)) (nI sp) (nI lp) (nI ls) (nI he) d (nI m) (nI b) (jm_a T) (jm_a n) (jm_a l) (jm_a cp) (jm_a yp) := by
  intro d
  induction d with
  | zero => intro b m T hd; omega
  | succ d ih =>
    intro b m T hd h20 h216 I M
    refine pk_le 216 b (fun hx => ?_) (fun hx => ?_)
    · have : b = 216 := by omega
      subst this
      exact nm_r (ja_p1 p) (HJ m T I M)
    · have B := gi_yb Z.1 I
      have tb := (B b hx).1
      -- a box that stays
      have stay : (T b ≠ 0 → pn_f T n b) → wY_settle_20 post J (nI p) (nI (G 0)) (nI (G 1)) (nI (G 2)) (nI (G 3)) (nI sp) (nI lp) (nI ls) (nI he) d (nI m) (nI (b + 1)) (jm_a T) (jm_a n) (jm_a l) (jm_a cp) (jm_a yp) := fun h => by
        refine ih (b + 1) m T (by omega) (by omega) (by omega) I ?_
        rcases M with ⟨m1, m2, m3⟩ | M
        · refine Or.inl ⟨m1, m2, fun b' g1 g2 g3 => ?_⟩
          rcases Nat.lt_or_ge b' b with z | z
          · exact m3 b' g1 z g3
          · have : b' = b := by omega
            subst this
            exact h g3
        · exact Or.inr M
      -- a box that goes
      have goes : T b ≠ 0 → ¬ pn_f T n b → wY_settle_20 post J (nI p) (nI (G 0)) (nI (G 1)) (nI (G 2)) (nI (G 3)) (nI sp) (nI lp) (nI ls) (nI he) d 1 (nI (b + 1)) (jm_a (nu_a T b 0)) (jm_a n) (jm_a l) (jm_a cp) (jm_a yp) := fun h0 h => by
        refine ih (b + 1) 1 (nu_a T b 0) (by omega) (by omega) (by omega) ⟨fun b' hb' => ?_, fun b' hb' => ?_, fun b' hb' g => ?_⟩ (Or.inr ⟨rfl, ?_⟩)
        · rw [nu_c]; split
          · exact Or.inr rfl
          · exact I.1 b' hb'
        · rw [nu_n (by omega)]; exact I.2.1 b' hb'
        · rcases Classical.em (b' = b) with z | z
          · subst z
            refine absurd ?_ h
            obtain ⟨k, k1, k2, k3⟩ := yT_p S b' h20 hx g
            refine ⟨k, k1, fun x => ?_, fun x => ?_⟩
            · obtain ⟨u1, u2⟩ := k2 x
              exact ⟨by rw [I.2.2 k k1 (by omega)]; exact u1, u2⟩
            · obtain ⟨u1, u2⟩ := k3 x
              exact ⟨by rw [I.2.2 k k1 (by omega)]; exact u1, u2⟩
          · rw [nu_n z]; exact I.2.2 b' hb' g
        · have e := cn_add (P := fun k => 20 ≤ k ∧ nu_a T b 0 k ≠ 0) (Q := fun k => 20 ≤ k ∧ T k ≠ 0) (N := 216) (a := b) hx (fun x => x.2 nu_s) ⟨h20, h0⟩ (fun k hk z => by rw [nu_n z])
          have e1 : gm_f T = gm_f (nu_a T b 0) + 1 := e
          rcases M with ⟨m1, m2, m3⟩ | M
          · rw [← m2]; omega
          · omega
      refine jr_eq b 0 hx (by omega) (fun hz => nm_r (ja_p1 b) (stay fun x => absurd hz x)) (fun hz => ?_) rfl
      refine pk_le 148 b (fun hy => ?_) (fun hy => ⟨by decide, ?_⟩)
      · refine yk_ptr (G := G) B (Or.inr rfl) hx ?_
        have hle := cn_le (fun b' => T b' = 3 ∧ n b' = b) 216
        refine pk_le (cn_p (fun b' => T b' = 3 ∧ n b' = b) 216) 0 (fun h0 => ?_) (fun h0 => ?_)
        · refine jw_u b 0 hx (nm_r (ja_p1 b) (goes hz ?_)) rfl rfl
          rintro ⟨k, k1, _, k3⟩
          exact cn_none (P := fun b' => T b' = 3 ∧ n b' = b) (N := 216) (by omega) k1 (k3 hy)
        · refine nm_r (ja_p1 b) (stay fun _ => ?_)
          obtain ⟨k, k1, k2⟩ := cn_ex (P := fun b' => T b' = 3 ∧ n b' = b) (N := 216) (by omega)
          exact ⟨k, k1, fun x => by omega, fun _ => k2⟩
      · have e4 := ja_r4 (b := b) (by omega)
        rw [e4]
        refine yk_ptr (G := G) B (Or.inl rfl) (by omega) ?_
        have hle := cn_le (fun b' => T b' = 2 ∧ n b' = 4 * (b / 4)) 216
        refine pk_le (cn_p (fun b' => T b' = 2 ∧ n b' = 4 * (b / 4)) 216) 0 (fun h0 => ?_) (fun h0 => ?_)
        · refine jw_u b 0 hx (nm_r (ja_p1 b) (goes hz ?_)) rfl rfl
          rintro ⟨k, k1, k2, _⟩
          exact cn_none (P := fun b' => T b' = 2 ∧ n b' = 4 * (b / 4)) (N := 216) (by omega) k1 (k2 hy)
        · refine nm_r (ja_p1 b) (stay fun _ => ?_)
          obtain ⟨k, k1, k2⟩ := cn_ex (P := fun b' => T b' = 2 ∧ n b' = 4 * (b / 4)) (N := 216) (by omega)
          exact ⟨k, k1, fun _ => k2, fun x => by omega⟩
theorem yk_move {s0 s1 : Nat} (h0 : s0 < 216) (h1 : s1 < 216) {post : SY → Prop} (H : post (mk_Y G sp lp ls he (nu_a (nu_a t s1 (t s0)) s0 0) (nu_a n s1 (n s0)) l cp yp)) : wpY_move post (mk_Y G sp lp ls he t n l cp yp) (nI s0) (nI s1) :=
  ⟨pk_in s0 216 h0 rfl, jw_u s1 (t s0) h1 ⟨pk_in s0 216 h0 rfl, jw_u s1 (n s0) h1 (jw_u s0 0 h0 H rfl rfl) rfl (jm_c (by omega))⟩ rfl (jm_c (by omega))⟩
theorem yT_yb (S : sh_f (G 1) f r t n) (i : Nat) : yb_f (yT_f t n i) (yN_f t n i) := fun b hb => by
  have B := yb_w S.1
  rcases Classical.em (sB_f t n 68 b ∧ b < i) with z | z
  · rw [yT_B z, yN_B z]
    exact B (n b) ((B b hb).2 (Or.inr z.1.2.1))
  · rw [yN_D z]
    rcases Classical.em (yD_f t n i b ∨ yZ_f t n b) with y | y
    · rw [yT_Z z y]; exact ⟨by omega, fun x => by omega⟩
    · rw [yT_D z y]; exact B b hb
theorem yk_set98 (S : sh_f (G 1) f r t n) {post : SY → Prop} (H : post (mk_Y G sp lp ls he (sT_f t n 68) (sN_f t n 68) l cp yp)) :
    ∀ d i, 148 - i < d → i ≤ 148 → wY_settle_98 post d (nI i) (nI (G 0)) (nI (G 1)) (nI (G 2)) (nI (G 3)) (nI sp) (nI lp) (nI ls) (nI he) (jm_a (yT_f t n i)) (jm_a (yN_f t n i)) (jm_a l) (jm_a cp) (jm_a yp) := by
  intro d
  induction d with
  | zero => intro i hd; omega
  | succ d ih =>
    intro i hd hi
    refine pk_le 148 i (fun hx => ?_) (fun hx => ?_)
    · have : i = 148 := by omega
      subst this
      rw [(yT_end S).1, (yT_end S).2]
      exact H
    · have B := yT_yb S i
      have tb := (B i (by omega)).1
      have i1 := ih (i + 1) (by omega) (by omega)
      refine jr_eq i 3 (by omega) (by omega) (fun h3 => ?_) (fun h3 => ?_) rfl
      · obtain ⟨g, nb⟩ := (yT_3 S (by omega)).mp h3
        have ni : yN_f t n i i = n i := yN_D nb
        obtain ⟨⟨c, hc, ec⟩, _⟩ := S.1.2.2.1 i (by omega) g
        have e1 : jm_a (yN_f t n i) (nI i).toNatClampNeg = nI (n i) := by rw [jm_c (by omega), ni]
        refine ⟨pk_in i 216 (by omega) rfl, ?_⟩
        rw [e1]
        refine yk_ptr (G := G) B (Or.inr rfl) (by omega) ?_
        rw [yT_c S hx g]
        have hle := hc_le t n (n i - 148)
        refine pk_eq (hc_f t n (n i - 148)) 1 (fun h1 => ?_) (fun h1 => ?_)
        · have x : sB_f t n 68 i := ⟨hx, g, by omega, h1⟩
          refine ⟨pk_in i 216 (by omega) rfl, ?_⟩
          refine yk_move (G := G) (by omega) (by omega) (nm_r (ja_p1 i) ?_)
          rw [← (yT_s S x).1, ← (yT_s S x).2]
          exact i1
        · have x : ¬ sB_f t n 68 i := fun y => h1 y.2.2.2
          rw [(yT_n S x).1, (yT_n S x).2] at i1
          exact nm_r (ja_p1 i) i1
      · have x : ¬ sB_f t n 68 i := fun y => h3 ((yT_3 S (by omega)).mpr ⟨y.2.1, fun z => by have := z.2; omega⟩)
        rw [(yT_n S x).1, (yT_n S x).2] at i1
        exact nm_r (ja_p1 i) i1
theorem yk_set4 (S : sh_f (G 1) f r t n) (Z : sz_f t0 t n) {post : SY → Prop} (H : post (mk_Y G sp lp ls he (sT_f t n 68) (sN_f t n 68) l cp yp)) :
    ∀ d p m T, 217 - p < d → gi_f t0 t n T → ((m = 0 ∧ ∀ b, 20 ≤ b → b < 216 → T b ≠ 0 → pn_f T n b) ∨ (m = 1 ∧ gm_f T + p ≤ 196)) → p ≤ 217 → wY_settle_4 post (nI (G 0)) (nI (G 1)) (nI (G 2)) (nI (G 3)) (nI sp) (nI lp) (nI ls) (nI he) d (nI m) (nI p) (jm_a T) (jm_a n) (jm_a l) (jm_a cp) (jm_a yp) := by
  intro d
  induction d with
  | zero => intro p m T hd; omega
  | succ d ih =>
    intro p m T hd I M hp
    have fin : m = 0 → (∀ b, 20 ≤ b → b < 216 → T b ≠ 0 → pn_f T n b) → ∃ d, wY_settle_98 post d (nI 0) (nI (G 0)) (nI (G 1)) (nI (G 2)) (nI (G 3)) (nI sp) (nI lp) (nI ls) (nI he) (jm_a T) (jm_a n) (jm_a l) (jm_a cp) (jm_a yp) := fun _ h => by
      have X : ex_f t0 n T := ⟨I.1, fun b hb => I.2.1 b (Or.inl hb), h⟩
      have e : T = yT_f t n 0 := funext fun b => by
        rcases Nat.lt_or_ge b 216 with z | z
        · rcases Classical.em (yT_f t n 0 b = 0) with y | y
          · rw [y]; exact yT_col S Z X b z y
          · exact I.2.2 b z y
        · rw [I.2.1 b (Or.inr z), ← Z.2.2.1 b (Or.inr z)]
          refine ((yT_z0 (t := t) (n := n) (b := b)).2.1 ?_).symm
          rintro (y | y)
          · have := y.2.1; omega
          · have := y.1.2; omega
      have := yk_set98 (G := G) (sp := sp) (lp := lp) (ls := ls) (he := he) (l := l) (cp := cp) (yp := yp) S H 149 0 (by omega) (by omega)
      rw [yN_z0, ← e] at this
      exact ⟨149, this⟩
    refine pk_eq m 0 (fun hz => ?_) (fun hz => ?_) rfl rfl (by omega)
    · rcases M with ⟨m1, m2⟩ | ⟨m1, _⟩
      · exact fin m1 m2
      · omega
    · rcases M with ⟨m1, _⟩ | ⟨m1, m2⟩
      · omega
      · refine pk_le 216 p (fun z => absurd z (by omega)) (fun _ => ⟨197, ?_⟩)
        refine yk_set20 S Z (T0 := T) (fun m' T' I' M' => ?_) 197 20 0 T (by omega) (by omega) (by omega) I (Or.inl ⟨rfl, rfl, fun b' g1 g2 => by omega⟩)
        refine ih (p + 1) m' T' (by omega) I' ?_ (by omega)
        rcases M' with ⟨u1, u2, u3⟩ | ⟨u1, u2⟩
        · exact Or.inl ⟨u1, u3⟩
        · exact Or.inr ⟨u1, by omega⟩
/-- settle of Y leaves the closed form -/
theorem yk_settle (S : sh_f (G 1) f r t n) (Z : sz_f t0 t n) {post : SY → Prop} (H : post (mk_Y G sp lp ls he (sT_f t n 68) (sN_f t n 68) l cp yp)) : wpY_settle post (mk_Y G sp lp ls he t0 n l cp yp) := by
  refine ⟨218, yk_set4 S Z H 218 0 1 t0 (by omega) ⟨fun _ _ => Or.inl rfl, fun _ _ => rfl, fun b hb g => ?_⟩ (Or.inr ⟨rfl, gm_le t0⟩) (by omega)⟩
  rcases (yT_z0 (t := t) (n := n) (b := b)).1 with y | y
  · exact absurd y g
  · rcases Z.2.1 b hb with u | u
    · rw [y, u]
    · rw [y, u] at g; exact absurd rfl g
end
end
section
/-- the place (v, i, j), on a path without cells -/
def np_f (w : Nat) (t n : Nat → Nat) (v : Nat) (i j : Int32) (b : Nat) : Prop :=
  (i < 0 ∧ b = v) ∨ (∃ ii a, ii < w ∧ i = nI ii ∧ t v = 2 ∧ n v = 4 * a ∧
    ((j < 0 ∧ b = 4 * a + ii) ∨ (∃ jj a', jj < w ∧ j = nI jj ∧ t (4 * a + ii) = 2 ∧ n (4 * a + ii) = 4 * a' ∧ b = 4 * a' + jj)))
section
variable {w : Nat} {f r t n : Nat → Nat}
theorem pt_wd (hw : w ≤ 4) {v b : Nat} (hv : v < 8) {i j : Int32} (P : pt_f w t n v i j b) : el_b b → b % 4 < w := by
  intro hE
  rcases P with ⟨_, e⟩ | ⟨ii, a, h1, _, _, _, ⟨_, e⟩ | ⟨jj, a', h2, _, _, _, e⟩⟩
  · have := hE.1; omega
  · omega
  · omega
theorem pt_rt (Y : yw_f w t n) {v b : Nat} (hv : v < 8) (hw : w ≤ 4) {i j : Int32} (P : pt_f w t n v i j b) : b < 148 ∧ ¬ (8 ≤ b ∧ b < 20) ∧ (¬ el_b b → b = v) := by
  have rt : ¬ el_b v := fun x => by have := x.1; omega
  rcases P with ⟨_, e⟩ | ⟨ii, a, h1, _, h2, ea, ⟨_, e⟩ | ⟨jj, a', h3, _, h4, ea', e⟩⟩
  · exact ⟨by omega, by omega, fun _ => e⟩
  · have ra := al_r Y ⟨_, (th_ib (G := fun _ => w) Y (ib_r (t := t) (n := n) (b := v) (by omega) rt)).1, h2, ea⟩
    exact ⟨by omega, by omega, fun x => absurd ⟨by omega, by omega⟩ x⟩
  · have ra := al_r Y ⟨_, (th_ib (G := fun _ => w) Y (ib_r (t := t) (n := n) (b := v) (by omega) rt)).1, h2, ea⟩
    have al : al_v t n a := ⟨_, (th_ib (G := fun _ => w) Y (ib_r (t := t) (n := n) (b := v) (by omega) rt)).1, h2, ea⟩
    have ib1 : ib_v t n (4 * a + ii) := ⟨by omega, fun _ => by rw [show (4 * a + ii) / 4 = a by omega]; exact al⟩
    have ra' := al_r Y ⟨_, (th_ib (G := fun _ => w) Y ib1).1, h4, ea'⟩
    exact ⟨by omega, by omega, fun x => absurd ⟨by omega, by omega⟩ x⟩
/-- such a place isn't under another root -/
theorem np_sb (Y : yw_f w t n) (hw : w ≤ 4) {v b : Nat} (hv : v < 8) {i j : Int32} (P : np_f w t n v i j b) (hE : el_b b) {x : Nat} (hx : x < 216) (nx : x ≠ v) (rx : ¬ el_b x) : ¬ sb_f t n x (b / 4) := by
  have rv : ¬ el_b v := fun y => by have := y.1; omega
  have top : ∀ a, t v = 2 → n v = 4 * a → ¬ sb_f t n x a := fun a g e s => by
    rcases sb_i s with ⟨g1, g2⟩ | ⟨b', hE', _, g1, g2⟩
    · exact nx (al_u Y hx (by omega) g1 g g2 e)
    · have := al_u Y (el_lt hE') (b' := v) (by omega) g1 g g2 e
      exact rv (this ▸ hE')
  rcases P with ⟨_, e⟩ | ⟨ii, a, h1, _, h2, ea, ⟨_, e⟩ | ⟨jj, a', h3, _, h4, ea', e⟩⟩
  · exact absurd (e ▸ hE) rv
  · rw [e, show (4 * a + ii) / 4 = a by omega]
    exact top a h2 ea
  · have ra := al_r Y ⟨v, by omega, h2, ea⟩
    have hE1 : el_b (4 * a + ii) := ⟨by omega, by omega⟩
    rw [e, show (4 * a' + jj) / 4 = a' by omega]
    intro s
    rcases sb_i s with ⟨g1, g2⟩ | ⟨b', hE', s', g1, g2⟩
    · have := al_u Y hx (el_lt hE1) g1 h4 g2 ea'
      exact rx (this ▸ hE1)
    · have := al_u Y (el_lt hE') (el_lt hE1) g1 h4 g2 ea'
      rw [this, show (4 * a + ii) / 4 = a by omega] at s'
      exact top a h2 ea s'
end
section
variable {K : Nat → Int32} {G : Nat → Nat} {ft ce li : Nat} {tx q rf fn ho po wk : Nat → Nat} {f r : Nat → Nat} {sp lp ls he : Nat} {t n l cp yp : Nat → Nat}
/-- the path passes a cell -/
def pp_f (w : Nat) (t n : Nat → Nat) (v : Nat) (i j : Int32) : Prop := 0 ≤ i ∧ (t v = 3 ∨ (¬ j < 0 ∧ ∃ ii a, ii < w ∧ i = nI ii ∧ t v = 2 ∧ n v = 4 * a ∧ t (4 * a + ii) = 3))
/-- does the path to a place pass a cell: on both sides -/
theorem lo_ps (Y : yw_f (G 1) t n) (X : xr_f f t n tx q) (hG : G 1 ≤ 4) {v : Nat} (hv : v < 8) (i j : Int32) :
    ∃ z : Int32, (z = 0 ∨ z = 1) ∧ (∀ post : Int32 → Prop, post z → wpX_passesCell post (mk_X K G ft ce li sp lp tx q rf fn ho po wk) (nI v) i j) ∧ (∀ post : Int32 → Prop, post z → wpY_passes post (mk_Y G sp lp ls he t n l cp yp) (nI v) i j) ∧ (z = 0 → ∀ b, pt_f (G 1) t n v i j b → np_f (G 1) t n v i j b) ∧ (z = 1 ↔ pp_f (G 1) t n v i j) := by
  have d0 : ¬ (0 : Int32) = 1 := by decide
  have rt : ¬ el_b v := fun x => by have := x.1; omega
  have ib : ib_v t n v := ib_r (by omega) rt
  have sv : sg_f f v = v := sg_a hv
  have xv := (X.1 v ib).1
  rw [sv] at xv
  have tv := Y.1 v (by omega)
  have d1 : ¬ (1 : Int32) = 0 := by decide
  rcases Classical.em (0 ≤ i) with hi | hi
  · obtain ⟨ii, hii, ei⟩ := nI_of (x := i) (fun h => absurd (Int32.lt_of_le_of_lt hi h) (by decide))
    subst ei
    obtain ⟨z1, hz1, hX1, hY1⟩ := lo_el (K := K) (G := G) (ft := ft) (ce := ce) (li := li) (rf := rf) (fn := fn) (ho := ho) (po := po) (wk := wk) (sp := sp) (lp := lp) (ls := ls) (he := he) (l := l) (cp := cp) (yp := yp) Y X hG ib hii
    rw [sv] at hX1
    rcases Classical.em (t v = 3) with h3 | h3
    · refine ⟨1, Or.inr rfl, fun post h => ?_, fun post h => ?_, fun z => absurd z d1, fun _ => ⟨hi, Or.inl h3⟩, fun _ => rfl⟩
      · exact br_t hi (jr_eq v 3 (by omega) (by omega) (fun _ => h) (fun z => absurd (xv.trans h3) z) rfl)
      · exact br_t hi (hY1 _ (jr_eq v 3 (by omega) (by omega) (fun _ => h) (fun z => absurd h3 z) rfl))
    · have thv : th_f t n v = v := if_neg h3
      have base : ∀ {B : Prop} {post : Int32 → Prop}, B → (vp_in (nI v) 216 ∧ ((jm_a tx (nI v).toNatClampNeg = 3 → post 1) ∧ (¬ jm_a tx (nI v).toNatClampNeg = 3 → B))) := fun h => jr_eq v 3 (by omega) (by omega) (fun z => absurd (xv.symm.trans z) h3) (fun _ => h) rfl
      have baseY : ∀ {B : Prop} {post : Int32 → Prop}, B → (vp_in (nI v) 216 ∧ ((jm_a t (nI v).toNatClampNeg = 3 → post 1) ∧ (¬ jm_a t (nI v).toNatClampNeg = 3 → B))) := fun h => jr_eq v 3 (by omega) (by omega) (fun z => absurd z h3) (fun _ => h) rfl
      rcases Classical.em (j < 0) with hj | hj
      · refine ⟨0, Or.inl rfl, fun post h => ?_, fun post h => ?_, fun _ b P => ?_, fun z => absurd z d0, fun z => absurd hj (z.2.resolve_left h3).1⟩
        · exact br_t hi (base (hX1 _ (br_t hj h)))
        · exact br_t hi (hY1 _ (baseY (br_t hj h)))
        · rcases P with P | ⟨i2, a, g1, g2, g3, g4, P⟩
          · exact Or.inl P
          · rw [thv] at g3 g4
            rcases P with P | ⟨jj, a', _, e, _⟩
            · exact Or.inr ⟨i2, a, g1, g2, g3, g4, Or.inl P⟩
            · refine Or.inr ⟨i2, a, g1, g2, g3, g4, Or.inr ⟨jj, a', ?_⟩⟩
              rename_i k1 k2
              obtain ⟨k2, k3, k4⟩ := k2
              rcases Classical.em (t (4 * a + i2) = 3) with u | u
              · exact absurd hj (by rw [e]; exact fun z => absurd z (nI_pos (by omega)))
              · have : th_f t n (4 * a + i2) = 4 * a + i2 := if_neg u
                rw [this] at k2 k3
                exact ⟨k1, e, k2, k3, k4⟩
      · cases z1 with
        | none =>
          have no : ∀ i2 a, i2 < G 1 → nI ii = nI i2 → t v = 2 → n v = 4 * a → False := fun i2 a g1 g2 g3 g4 => by
            have e2 : i2 = ii := by
              have := (nI_eq (a := ii) (b := i2) hii (by omega)).mp g2
              omega
            subst e2
            have W := hY1 (fun z => z = -1) rfl
            unfold wpY_inside at W
            dsimp only at W
            have W2 := W.2 (nI_pos (by omega))
            have W3 := W2.1 (nI_lt g1 (by omega))
            unfold wpY_through at W3
            dsimp only at W3
            have W4 := W3.2.2 (by rw [jm_c (by omega)]; exact fun z => h3 ((nI_eq (b := 3) (by omega) (by omega)).mp z))
            have W5 := W4.2.1 (by rw [jm_c (by omega), g3]; rfl)
            have W6 := W5.2
            rw [jm_c (by omega), g4, nI_add] at W6
            have ra := al_r Y ⟨v, by omega, g3, g4⟩
            have := nI_pos (n := 4 * a + i2) (by omega)
            rw [W6] at this
            exact this (by decide)
          refine ⟨0, Or.inl rfl, fun post h => ?_, fun post h => ?_, fun _ b P => ?_, fun z => absurd z d0, fun z => ?_⟩
          · exact br_t hi (base (hX1 _ (br_f hj (br_t (show (-1 : Int32) < 0 by decide) h))))
          · exact br_t hi (hY1 _ (baseY (br_f hj (br_t (show (-1 : Int32) < 0 by decide) h))))
          · rcases P with P | ⟨i2, a, g1, g2, g3, g4, P⟩
            · exact Or.inl P
            · rw [thv] at g3 g4
              exact (no i2 a g1 g2 g3 g4).elim
          · obtain ⟨_, i2, a, g1, g2, g3, g4, _⟩ := z.2.resolve_left h3
            exact (no i2 a g1 g2 g3 g4).elim
        | some b1 =>
          obtain ⟨a, h2, ea, hw, e1, ib1⟩ := hz1 b1 rfl
          rw [thv] at h2 ea
          have s1 := sg_lt X ib1
          have x1 := (X.1 b1 ib1).1
          have t1 := Y.1 b1 ib1.1
          have hb1 := ib1.1
          rcases Classical.em (t b1 = 3) with u | u
          · refine ⟨1, Or.inr rfl, fun post h => ?_, fun post h => ?_, fun z => absurd z d1, fun _ => ⟨hi, Or.inr ⟨hj, ii, a, hw, rfl, h2, ea, by rw [← e1]; exact u⟩⟩, fun _ => rfl⟩
            · exact br_t hi (base (hX1 _ (br_f hj (ja_lt0 (sg_f f b1) (jr_eq (sg_f f b1) 3 s1 (by omega) (fun _ => h) (fun z => absurd (x1.trans u) z) rfl) rfl))))
            · exact br_t hi (hY1 _ (baseY (br_f hj (ja_lt0 b1 (jr_eq b1 3 hb1 (by omega) (fun _ => h) (fun z => absurd u z) rfl) rfl))))
          · refine ⟨0, Or.inl rfl, fun post h => ?_, fun post h => ?_, fun _ b P => ?_, fun z => absurd z d0, fun z => ?_⟩
            · exact br_t hi (base (hX1 _ (br_f hj (ja_lt0 (sg_f f b1) (jr_eq (sg_f f b1) 3 s1 (by omega) (fun z => absurd (x1.symm.trans z) u) (fun _ => h) rfl) rfl))))
            · exact br_t hi (hY1 _ (baseY (br_f hj (ja_lt0 b1 (jr_eq b1 3 hb1 (by omega) (fun z => absurd z u) (fun _ => h) rfl) rfl))))
            · rcases P with P | ⟨i2, a2, g1, g2, g3, g4, P⟩
              · exact Or.inl P
              · have e2 : i2 = ii := by
                  have := (nI_eq (a := ii) (b := i2) hii (by omega)).mp g2
                  omega
                subst e2
                rw [thv] at g3 g4
                have e3 : a2 = a := by omega
                subst e3
                rcases P with P | ⟨jj, a', k1, e, k2, k3, k4⟩
                · exact Or.inr ⟨i2, a2, g1, g2, g3, g4, Or.inl P⟩
                · have : th_f t n (4 * a2 + i2) = 4 * a2 + i2 := if_neg (by rw [← e1]; exact u)
                  rw [this] at k2 k3
                  exact Or.inr ⟨i2, a2, g1, g2, g3, g4, Or.inr ⟨jj, a', k1, e, k2, k3, k4⟩⟩
            · obtain ⟨_, i2, a2, g1, g2, g3, g4, g5⟩ := z.2.resolve_left h3
              have e2 : i2 = ii := by
                have := (nI_eq (a := ii) (b := i2) hii (by omega)).mp g2
                omega
              subst e2
              have e3 : a2 = a := by omega
              subst e3
              exact absurd (by rw [e1]; exact g5) u
  · refine ⟨0, Or.inl rfl, fun post h => br_f hi h, fun post h => br_f hi h, fun _ b P => ?_, fun z => absurd z d0, fun z => absurd z.1 hi⟩
    rcases P with P | ⟨ii, a, g1, g2, _⟩
    · exact Or.inl P
    · exact absurd (by rw [g2]; exact nI_pos' (by omega)) hi
end
end
section
section
variable {w : Nat} {f r t n tx q rf fn ho : Nat → Nat} {ft li ce : Nat}
theorem ce_0 (Y : yw_f w t n) (CE : ce_f t n ce) : ce = 0 → ∀ b, b < 216 → t b ≠ 3 := by
  intro hz b hb h3
  obtain ⟨⟨c, hc, e⟩, h148, _⟩ := Y.2.2.1 b hb h3
  have h1 := CE.2 b h148 h3
  have h2 := CE.1
  rw [hz] at h2
  exact cn_none (P := fun c => t (148 + c) ≠ 0) h2.symm hc (by show t (148 + c) ≠ 0; rw [← e]; exact h1)
theorem ce_l (CE : ce_f t n ce) : ce < 2 ^ 31 := by
  have := cn_le (fun c => t (148 + c) ≠ 0) 68
  have := CE.1
  omega
/-- the cells of a state that differs elsewhere alone -/
theorem ce_k {t' n' : Nat → Nat} (CE : ce_f t n ce) (h1 : ∀ c, c < 68 → (t' (148 + c) ≠ 0 ↔ t (148 + c) ≠ 0)) (h2 : ∀ b, b < 148 → t' b = 3 → t' (n' b) ≠ 0) : ce_f t' n' ce :=
  ⟨by rw [CE.1]; exact cn_c fun c hc => (h1 c hc).symm, h2⟩
theorem dz_c {b0 c : Nat} (h : b0 < 148) : dz_f t n b0 (148 + c) = t (148 + c) := dz_k (by
  rintro (x | ⟨x, _⟩)
  · omega
  · have := x.2; omega)
theorem ce_dz (Y : yw_f w t n) (CE : ce_f t n ce) {b0 : Nat} (h : b0 < 148) : ce_f (dz_f t n b0) n ce := by
  refine ce_k CE (fun c hc => by rw [dz_c h]) (fun b hb h3 => ?_)
  have g := dz_v h3 (by decide)
  obtain ⟨⟨c, hc, e⟩, _⟩ := Y.2.2.1 b (by omega) g
  rw [e, dz_c h, ← e]
  exact CE.2 b hb g
/-- arrays of a state in which a value has moved -/
theorem al_mv {b0 b1 : Nat} (ne : b0 ≠ b1) (h1 : t b1 ≠ 2) (hb0 : b0 < 216) (hb1 : b1 < 216) (a : Nat) : al_v (nu_a (nu_a t b1 (t b0)) b0 0) (nu_a n b1 (n b0)) a ↔ al_v t n a := by
  constructor
  · rintro ⟨b, hb, g, e⟩
    rcases Classical.em (b = b0) with z | z
    · rw [z, nu_s] at g; omega
    · rw [nu_n z] at g
      rcases Classical.em (b = b1) with y | y
      · rw [y, nu_s] at g e
        exact ⟨b0, hb0, g, e⟩
      · rw [nu_n y] at g e
        exact ⟨b, hb, g, e⟩
  · rintro ⟨b, hb, g, e⟩
    rcases Classical.em (b = b0) with z | z
    · subst z
      exact ⟨b1, hb1, by rw [nu_n (fun x => ne x.symm), nu_s]; exact g, by rw [nu_s]; exact e⟩
    · have y : b ≠ b1 := fun y => h1 (y ▸ g)
      exact ⟨b, hb, by rw [nu_n z, nu_n y]; exact g, by rw [nu_n y]; exact e⟩
/-- a value moves into cell c, its box becomes a holder -/
def eT_f (t : Nat → Nat) (b c : Nat) : Nat → Nat := nu_a (nu_a (nu_a t (148 + c) (t b)) b 0) b 3
def eN_f (n : Nat → Nat) (b c : Nat) : Nat → Nat := nu_a (nu_a n (148 + c) (n b)) b (148 + c)
theorem eT_b {b c : Nat} : eT_f t b c b = 3 := nu_s
theorem eN_b {b c : Nat} : eN_f n b c b = 148 + c := nu_s
theorem eT_c {b c : Nat} (h : b < 148) : eT_f t b c (148 + c) = t b ∧ eN_f n b c (148 + c) = n b := by
  unfold eT_f eN_f
  rw [nu_n (by omega), nu_n (by omega), nu_s, nu_n (by omega), nu_s]
  exact ⟨rfl, rfl⟩
theorem eT_o {b c x : Nat} (h1 : x ≠ b) (h2 : x ≠ 148 + c) : eT_f t b c x = t x ∧ eN_f n b c x = n x := by
  unfold eT_f eN_f
  rw [nu_n h1, nu_n h1, nu_n h2, nu_n h1, nu_n h2]
  exact ⟨rfl, rfl⟩
theorem op_enc (R : r0_f w f r t n tx q rf fn ho ft li) (CE : ce_f t n ce) {b c : Nat} (ib : ib_v t n b) (sn : sn_f f t n b) (h0 : t b ≠ 0) (h3 : t b ≠ 3) (hb : b < 148) (hb2 : ¬ (8 ≤ b ∧ b < 20)) (hw : el_b b → b % 4 < w) (hc : c < 68) (hz : t (148 + c) = 0)
    (nh : ¬ hd_f t n b) (nk : el_b b → ∀ c', c' < 68 → ¬ sb_f t n (148 + c') (b / 4)) :
    (∃ r', r0_f w f r' (eT_f t b c) (eN_f n b c) (nu_a (nu_a (nu_a tx (148 + c) (tx (sg_f f b))) (sg_f f b) 0) (sg_f f b) 3) (nu_a (nu_a q (148 + c) (q (sg_f f b))) (sg_f f b) c) rf fn (nu_a ho c 1) ft li) ∧ ce_f (eT_f t b c) (eN_f n b c) (ce + 1) := by
  have R0 := R
  obtain ⟨Y, X, RK, KK, F, FR, HO, LI⟩ := R
  obtain ⟨K0, K0h⟩ := KK
  have KM := kk_m Y.2.1 K0h
  have rt : ¬ el_b (148 + c) := fun x => by have := x.2; omega
  have none_c : hc_f t n c = 0 := cn_z fun x hx ⟨g, e⟩ => by
    have := CE.2 x (Y.2.2.1 x hx g).2.1 g
    rw [e] at this
    exact this hz
  have v1 : ∀ x, x ≠ b → x ≠ 148 + c → nu_a (nu_a t (148 + c) (t b)) b 0 x = t x ∧ nu_a n (148 + c) (n b) x = n x := fun x z y => by rw [nu_n z, nu_n y, nu_n y]; exact ⟨rfl, rfl⟩
  have vb : nu_a (nu_a t (148 + c) (t b)) b 0 b = 0 := nu_s
  have vc : nu_a (nu_a t (148 + c) (t b)) b 0 (148 + c) = t b ∧ nu_a n (148 + c) (n b) (148 + c) = n b := by rw [nu_n (by omega), nu_s, nu_s]; exact ⟨rfl, rfl⟩
  -- the arrays under cells, old and new
  have cell2 : t b = 2 → sb_f t n b (n b / 4) := fun g => by
    obtain ⟨a, _, _, e⟩ := Y.2.1 b ib.1 g
    rw [e, Nat.mul_div_cancel_left _ (by decide)]
    exact sb_0 g e
  have sbs : ∀ x, el_b x → sb_f t n b (x / 4) → t x = 2 → sb_f t n b (n x / 4) := fun x hE s g => by
    obtain ⟨a, _, _, e⟩ := Y.2.1 x (el_lt hE) g
    rw [e, Nat.mul_div_cancel_left _ (by decide)]
    exact sb_s hE s g e
  have nbK : el_b b → ¬ ((∃ c', c' < 68 ∧ sb_f t n (148 + c') (b / 4)) ∨ sb_f t n b (b / 4)) := fun hE x => by
    rcases x with ⟨c', hc', s⟩ | s
    · exact nk hE c' hc' s
    · exact sb_ne RK hE s
  have K1 : kk_f (fun a => (∃ c', c' < 68 ∧ sb_f t n (148 + c') a) ∨ sb_f t n b a) (nu_a (nu_a t (148 + c) (t b)) b 0) (nu_a n (148 + c) (n b)) := by
    refine ⟨fun c' hc' g => ?_, fun x hE hk g => ?_, fun x hE hk g => ?_⟩
    · rcases Classical.em (c' = c) with z | z
      · subst z
        rw [vc.1] at g
        rw [vc.2]
        exact Or.inr (cell2 g)
      · obtain ⟨u1, u2⟩ := v1 (148 + c') (by omega) (by omega)
        rw [u1] at g
        rw [u2]
        exact Or.inl (KM.1 c' hc' g)
    · have := hE.2
      have ne : x ≠ b := fun z => by rw [z, vb] at g; omega
      obtain ⟨u1, u2⟩ := v1 x ne (by omega)
      rw [u1] at g
      rw [u2]
      exact hk.elim (fun y => Or.inl (KM.2.1 x hE y g)) (fun y => Or.inr (sbs x hE y g))
    · have := hE.2
      have ne : x ≠ b := fun z => by rw [z, vb] at g; omega
      rw [(v1 x ne (by omega)).1] at g
      exact hk.elim (fun y => KM.2.2 x hE y g) (fun y => nh ⟨x, hE, y, g⟩)
  have K2 : kk_f (fun a => (∃ c', c' < 68 ∧ sb_f t n (148 + c') a) ∨ sb_f t n b a) (eT_f t b c) (eN_f n b c) := by
    refine ⟨fun c' hc' g => ?_, fun x hE hk g => ?_, fun x hE hk g => ?_⟩
    · have ne : 148 + c' ≠ b := by omega
      have := K1.1 c' hc' (by rw [← g]; exact (nu_n (g := nu_a (nu_a t (148 + c) (t b)) b 0) (k := b) (x := 3) ne).symm)
      rw [← nu_n (g := nu_a n (148 + c) (n b)) (k := b) (x := 148 + c) ne] at this
      exact this
    · have ne : x ≠ b := fun z => by rw [z, eT_b] at g; omega
      have hE2 := hE.2
      obtain ⟨u1, u2⟩ := eT_o (t := t) (n := n) (c := c) ne (by omega)
      rw [u1] at g
      rw [u2]
      exact hk.elim (fun y => Or.inl (KM.2.1 x hE y g)) (fun y => Or.inr (sbs x hE y g))
    · rcases Classical.em (x = b) with z | z
      · subst z
        exact nbK hE hk
      · have hE2 := hE.2
        rw [(eT_o (t := t) (n := n) (c := c) z (by omega)).1] at g
        exact hk.elim (fun y => KM.2.2 x hE y g) (fun y => nh ⟨x, hE, y, g⟩)
  have sc : sg_f f (148 + c) = 148 + c := sg_c (by omega)
  obtain ⟨r', R1⟩ := op_mv R0 (b0 := b) (b1 := 148 + c) ib sn (ib_r (by omega) rt) (sn_r X (by omega) rt) (by omega) h0 h3 (by omega) (fun x => absurd x rt) (fun x => absurd x rt) ⟨_, K1⟩ (ho1 := ho) (fun c' hc' => by
    rw [HO c' hc']
    refine cn_c fun x hx => ?_
    rcases Classical.em (x = b) with z | z
    · rw [z, vb]
      exact ⟨fun y => absurd y.1 h3, fun y => absurd y.1 (by decide)⟩
    · rcases Classical.em (x = 148 + c) with y | y
      · rw [y, vc.1, hz]
        exact ⟨fun u => absurd u.1 (by decide), fun u => absurd u.1 h3⟩
      · rw [(v1 x z y).1, (v1 x z y).2])
  rw [sc] at R1
  have al := al_mv (t := t) (n := n) (b0 := b) (b1 := 148 + c) (by omega) (by omega) ib.1 (by omega)
  have ib1 : ib_v (nu_a (nu_a t (148 + c) (t b)) b 0) (nu_a n (148 + c) (n b)) b := ⟨ib.1, fun hE => (al _).mpr (ib.2 hE)⟩
  have sn1 : sn_f f (nu_a (nu_a t (148 + c) (t b)) b 0) (nu_a n (148 + c) (n b)) b := fun b' ib' e => sn b' ⟨ib'.1, fun hE => (al _).mp (ib'.2 hE)⟩ e
  refine ⟨⟨r', op_hold R1 ib1 sn1 vb hb hb2 hc hw ⟨_, K2⟩ (ho1 := nu_a ho c 1) fun c' hc' => ?_⟩, ?_, fun x hx g => ?_⟩
  · show nu_a ho c 1 c' = hc_f (eT_f t b c) (eN_f n b c) c'
    rcases Classical.em (c' = c) with z | z
    · subst z
      rw [nu_s]
      refine (cn_one ib.1 ⟨eT_b, eN_b⟩ fun x hx ⟨g, e⟩ => ?_).symm
      rcases Classical.em (x = b) with y | y
      · exact y
      · rcases Classical.em (x = 148 + c') with u | u
        · rw [u, (eT_c (t := t) (n := n) (c := c') hb).1] at g
          exact absurd g h3
        · obtain ⟨k1, k2⟩ := eT_o (t := t) (n := n) y u
          rw [k1] at g
          rw [k2] at e
          exact absurd ⟨g, e⟩ (cn_none (P := fun x => t x = 3 ∧ n x = 148 + c') none_c hx)
    · rw [nu_n z, HO c' hc']
      refine cn_c fun x hx => ?_
      rcases Classical.em (x = b) with y | y
      · rw [y, eT_b, eN_b]
        exact ⟨fun u => absurd u.1 h3, fun u => absurd u.2 (by omega)⟩
      · rcases Classical.em (x = 148 + c) with u | u
        · rw [u, (eT_c (t := t) (n := n) (c := c) hb).1, hz]
          exact ⟨fun k => absurd k.1 (by decide), fun k => absurd k.1 h3⟩
        · rw [(eT_o (t := t) (n := n) y u).1, (eT_o (t := t) (n := n) y u).2]
  · rw [CE.1]
    refine (cn_add (a := c) hc (fun x => x hz) ?_ fun k hk z => ?_).symm
    · show eT_f t b c (148 + c) ≠ 0
      rw [(eT_c (t := t) (n := n) (c := c) hb).1]; exact h0
    · show t (148 + k) ≠ 0 ↔ eT_f t b c (148 + k) ≠ 0
      rw [(eT_o (t := t) (n := n) (b := b) (c := c) (x := 148 + k) (by omega) (by omega)).1]
  · rcases Classical.em (x = b) with y | y
    · rw [y, eN_b, (eT_c (t := t) (n := n) (c := c) hb).1]; exact h0
    · obtain ⟨k1, k2⟩ := eT_o (t := t) (n := n) (b := b) (c := c) y (by omega)
      rw [k1] at g
      rw [k2]
      have g1 := CE.2 x hx g
      obtain ⟨⟨c', hc', e⟩, _⟩ := Y.2.2.1 x (by omega) g
      rw [e] at g1 ⊢
      rw [(eT_o (t := t) (n := n) (b := b) (c := c) (x := 148 + c') (by omega) (fun z => by
        rw [z] at g1
        exact g1 hz)).1]
      exact g1
/-- the taker gives up its value and becomes a holder -/
noncomputable def hT_f (t n : Nat → Nat) (k : Nat) : Nat → Nat := nu_a (dz_f t n k) k 3
theorem op_take (R : r0_f w f r t n tx q rf fn ho ft li) (CE : ce_f t n ce) {g k c : Nat} (hg3 : t g = 3) (hgn : n g = 148 + c) (hg : g < 148) (hc : c < 68) (ibk : ib_v t n k) (snk : sn_f f t n k) (hk : k < 148) (hk2 : ¬ (8 ≤ k ∧ k < 20)) (hw : el_b k → k % 4 < w)
    (nk : el_b k → ∀ c', c' < 68 → ¬ sb_f t n (148 + c') (k / 4)) {tx1 q1 rf1 fn1 ho1 : Nat → Nat} {ft1 li1 : Nat} (R1 : r0_f w f r (dz_f t n k) n tx1 q1 rf1 fn1 ho1 ft1 li1) :
    r0_f w f r (hT_f t n k) (nu_a n k (148 + c)) (nu_a tx1 (sg_f f k) 3) (nu_a q1 (sg_f f k) c) rf1 fn1 (nu_a ho1 c (ho1 c + 1)) ft1 li1 ∧ ce_f (hT_f t n k) (nu_a n k (148 + c)) ce := by
  have Y := R.1
  have RK := R.2.2.1
  obtain ⟨K0, K0h⟩ := R.2.2.2.1
  have KM := kk_m Y.2.1 K0h
  have dk : dz_f t n k k = 0 := dz_z (Or.inl rfl)
  have HO1 := R1.2.2.2.2.2.2.1
  have ib1 : ib_v (dz_f t n k) n k := ⟨ibk.1, fun hE => (al_dz Y ibk.1 _).mpr ⟨ibk.2 hE, sb_ne RK hE⟩⟩
  have sn1 : sn_f f (dz_f t n k) n k := fun b' ib' e => snk b' ⟨ib'.1, fun hE => ((al_dz Y ibk.1 _).mp (ib'.2 hE)).1⟩ e
  refine ⟨op_hold R1 ib1 sn1 dk hk hk2 hc hw ⟨fun a => ∃ c', c' < 68 ∧ sb_f t n (148 + c') a, ?_⟩ (fun c' hc' => ?_), ?_⟩
  · refine ⟨fun c' hc' g1 => ?_, fun x hE hkx g1 => ?_, fun x hE hkx g1 => ?_⟩
    · rw [nu_n (by omega)] at g1 ⊢
      exact KM.1 c' hc' (dz_v g1 (by decide))
    · have ne : x ≠ k := fun z => by rw [z, nu_s] at g1; omega
      rw [nu_n ne] at g1 ⊢
      exact KM.2.1 x hE hkx (dz_v g1 (by decide))
    · rcases Classical.em (x = k) with z | z
      · subst z
        obtain ⟨c', h1, h2⟩ := hkx
        exact nk hE c' h1 h2
      · rw [nu_n z] at g1
        exact KM.2.2 x hE hkx (dz_v g1 (by decide))
  · show nu_a ho1 c (ho1 c + 1) c' = cn_p (fun b => nu_a (dz_f t n k) k 3 b = 3 ∧ nu_a n k (148 + c) b = 148 + c') 216
    have oth : ∀ x, x < 216 → x ≠ k → ((dz_f t n k x = 3 ∧ n x = 148 + c') ↔ (nu_a (dz_f t n k) k 3 x = 3 ∧ nu_a n k (148 + c) x = 148 + c')) := fun x hx z => by rw [nu_n z, nu_n z]
    rcases Classical.em (c' = c) with z | z
    · subst z
      rw [nu_s, HO1 c' hc']
      refine (cn_add (a := k) ibk.1 (fun y => by have := y.1; omega) ?_ oth).symm
      rw [nu_s, nu_s]
      exact ⟨rfl, rfl⟩
    · rw [nu_n z, HO1 c' hc']
      refine cn_c fun x hx => ?_
      rcases Classical.em (x = k) with y | y
      · rw [y, nu_s, nu_s, dk]
        exact ⟨fun u => absurd u.1 (by decide), fun u => absurd u.2 (by omega)⟩
      · exact oth x hx y
  · have cl : ∀ c', hT_f t n k (148 + c') = t (148 + c') := fun c' => by
      unfold hT_f
      rw [nu_n (by omega), dz_c hk]
    refine ce_k CE (fun c' _ => by rw [cl]) (fun x hx g1 => ?_)
    rcases Classical.em (x = k) with y | y
    · rw [y, nu_s, cl, ← hgn]
      exact CE.2 g hg hg3
    · rw [nu_n y]
      have g2 : t x = 3 := by
        unfold hT_f at g1
        rw [nu_n y] at g1
        exact dz_v g1 (by decide)
      obtain ⟨⟨c', hc', e⟩, _⟩ := Y.2.2.1 x (by omega) g2
      rw [e, cl, ← e]
      exact CE.2 x hx g2
/-- what Y has before settle -/
theorem sz_take (R : r0_f w f r t n tx q rf fn ho ft li) {k c : Nat} (ibk : ib_v t n k) (hk : k < 148) (hc : c < 68) : sz_f (nu_a t k 3) (hT_f t n k) (nu_a n k (148 + c)) := by
  have Y := R.1
  have RK := R.2.2.1
  have B := yb_w Y
  have le : ∀ b, b ≠ k → ¬ (el_b b ∧ sb_f t n k (b / 4)) → hT_f t n k b = nu_a t k 3 b := fun b z y => by
    unfold hT_f
    rw [nu_n z, nu_n z, dz_k (fun x => x.elim z y)]
  have ek : hT_f t n k k = nu_a t k 3 k := by unfold hT_f; rw [nu_s, nu_s]
  refine ⟨fun b hb => ?_, fun b hb => ?_, fun b hb => ?_, fun T X b hb h => ?_⟩
  · rcases Classical.em (b = k) with z | z
    · rw [z, nu_s, nu_s]
      exact ⟨by omega, fun _ => by omega⟩
    · rw [nu_n z, nu_n z]; exact B b hb
  · rcases Classical.em (b = k) with z | z
    · rw [z]; exact Or.inl ek
    · rcases Classical.em (el_b b ∧ sb_f t n k (b / 4)) with y | y
      · refine Or.inr ?_
        unfold hT_f
        rw [nu_n z, dz_z (Or.inr y)]
      · exact Or.inl (le b z y)
  · rcases Classical.em (b = k) with z | z
    · rw [z]; exact ek
    · refine le b z fun y => ?_
      have h1 := y.1.1
      have h2 := y.1.2
      omega
  · rcases Classical.em (b = k) with z | z
    · rw [z, ek, nu_s] at h; omega
    · rcases Classical.em (el_b b ∧ sb_f t n k (b / 4)) with y | y
      · refine sz_d Y RK ibk.1 (fun x a hx g e s => ?_) X b y.1 y.2
        have zx : x ≠ k := fun u => by rw [u, nu_s] at g; omega
        rw [nu_n zx] at g e
        rcases sb_i s with ⟨g1, g2⟩ | ⟨b', hE', s', g1, g2⟩
        · exact absurd (al_u Y hx ibk.1 g g1 e g2) zx
        · have := al_u Y hx (el_lt hE') g g1 e g2
          subst this
          exact ⟨hE', s', g, e⟩
      · rw [le b z y] at h
        rcases X.1 b hb with u | u
        · rw [u, h]
        · exact u
end
end
section
theorem cn_ex2 {P : Nat → Prop} {N : Nat} (h : 2 ≤ cn_p P N) : ∃ i j, i < N ∧ j < N ∧ i ≠ j ∧ P i ∧ P j := by
  obtain ⟨i, hi, pi⟩ := cn_ex (P := P) (N := N) (by omega)
  rw [cn_rem pi hi] at h
  obtain ⟨j, hj, pj, ne⟩ := cn_ex (P := fun y => P y ∧ y ≠ i) (N := N) (by omega)
  exact ⟨i, j, hi, hj, fun e => ne e.symm, pi, pj⟩
/-- a cell is free: each in use has two holders, and one box isn't a holder -/
theorem fc_ex {w : Nat} {t n : Nat → Nat} (Y : yw_f w t n) (ST : st_f t n) {g : Nat} (hg : g < 148) (hg2 : ¬ (8 ≤ g ∧ g < 20)) (h3 : t g ≠ 3) : ∃ c, c < 68 ∧ t (148 + c) = 0 := by
  rcases Classical.em (∃ c, c < 68 ∧ t (148 + c) = 0) with h | h
  · exact h
  · exfalso
    have two : ∀ c, ∃ i j, c < 68 → i < 216 ∧ j < 216 ∧ i ≠ j ∧ (t i = 3 ∧ n i = 148 + c) ∧ (t j = 3 ∧ n j = 148 + c) := fun c => by
      rcases Nat.lt_or_ge c 68 with z | z
      · obtain ⟨i, j, h1⟩ := cn_ex2 (P := fun b => t b = 3 ∧ n b = 148 + c) (N := 216) (ST c z (fun e => h ⟨c, z, e⟩))
        exact ⟨i, j, fun _ => h1⟩
      · exact ⟨0, 0, fun x => absurd x (by omega)⟩
    have A : ∀ m, ∃ b, m < 136 → b < 216 ∧ t b = 3 ∧ n b = 148 + m / 2 ∧ b = (if m % 2 = 0 then (two (m / 2)).choose else (two (m / 2)).choose_spec.choose) := fun m => by
      refine ⟨if m % 2 = 0 then (two (m / 2)).choose else (two (m / 2)).choose_spec.choose, fun hm => ?_⟩
      obtain ⟨k1, k2, k3, k4, k5⟩ := (two (m / 2)).choose_spec.choose_spec (by omega)
      split
      · exact ⟨k1, k4.1, k4.2, rfl⟩
      · exact ⟨k2, k5.1, k5.2, rfl⟩
    have pos : ∀ b, b < 216 → t b = 3 → (b < 8 ∨ (20 ≤ b ∧ b < 148)) := fun b hb x => by
      obtain ⟨_, u1, u2⟩ := Y.2.2.1 b hb x
      omega
    have B := cn_inj (P := fun _ => True) (Q := fun y => True ∧ y ≠ (if g < 8 then g else g - 12)) (N := 136) (M := 136) (fun m => if (A m).choose < 8 then (A m).choose else (A m).choose - 12) (fun m hm _ => by
      obtain ⟨k1, k2, k3, k4⟩ := (A m).choose_spec hm
      have := pos _ k1 k2
      have ne : (A m).choose ≠ g := fun e => h3 (e ▸ k2)
      refine ⟨?_, trivial, ?_⟩
      · show (if (A m).choose < 8 then (A m).choose else (A m).choose - 12) < 136
        split <;> omega
      · show (if (A m).choose < 8 then (A m).choose else (A m).choose - 12) ≠ (if g < 8 then g else g - 12)
        split <;> split <;> omega) (fun i j hi hj _ _ e => by
      obtain ⟨k1, k2, k3, k4⟩ := (A i).choose_spec hi
      obtain ⟨l1, l2, l3, l4⟩ := (A j).choose_spec hj
      have p1 := pos _ k1 k2
      have p2 := pos _ l1 l2
      have e : (if (A i).choose < 8 then (A i).choose else (A i).choose - 12) = (if (A j).choose < 8 then (A j).choose else (A j).choose - 12) := e
      have e1 : (A i).choose = (A j).choose := by
        split at e <;> split at e <;> omega
      have e2 : i / 2 = j / 2 := by rw [e1, l3] at k3; omega
      rw [e1, l4, e2] at k4
      obtain ⟨_, _, k6, _⟩ := (two (j / 2)).choose_spec.choose_spec (by omega)
      split at k4 <;> split at k4
      · omega
      · exact absurd k4 k6
      · exact absurd k4.symm k6
      · omega)
    rw [cn_all (fun _ _ => trivial)] at B
    have C := cn_rem (Q := fun _ => True) (a := if g < 8 then g else g - 12) (M := 136) trivial (by split <;> omega)
    rw [cn_all (fun _ _ => trivial)] at C
    omega
section
variable {K : Nat → Int32} {G : Nat → Nat} {ft ce li de lo : Nat} {tx q rf fn ho po wk : Nat → Nat} {f r t n : Nat → Nat}
/-- clear empties any box that stands alone -/
theorem xw_clear (R : r0_f (G 1) f r t n tx q rf fn ho ft li) (hG : G 1 ≤ 4) {b0 : Nat} (hb : ib_v t n b0) (hs : sn_f f t n b0) (hce : ce = 0 → ∀ b, b < 216 → t b ≠ 3) (hc31 : ce < 2 ^ 31) {post : SX → Prop}
    (H : ∀ ft li tx rf fn ho wk, r0_f (G 1) f r (dz_f t n b0) n tx q rf fn ho ft li → post (mk_X K G ft ce li de lo tx q rf fn ho po wk)) : wpX_clear post (mk_X K G ft ce li de lo tx q rf fn ho po wk) (nI (sg_f f b0)) := by
  have R0 := R
  obtain ⟨Y, X, RK, KK, F, FR, HO, LI⟩ := R
  have h1 := sg_lt X hb
  obtain ⟨x1, x2⟩ := X.1 b0 hb
  have ht := Y.1 b0 hb.1
  refine jr_eq (sg_f f b0) 3 h1 (by omega) (fun h3 => ?_) (fun h3 => ?_) rfl
  · rw [x1] at h3
    obtain ⟨⟨c, hc, e⟩, _⟩ := Y.2.2.1 b0 hb.1 h3
    have hq : q (sg_f f b0) = c := (x2 (by omega)).trans (xv_3 h3 e)
    have hi : jm_a q (nI (sg_f f b0)).toNatClampNeg = nI c := by rw [jm_c (by omega), hq]
    have cnt : ∀ c', c' < 68 → nu_a ho c (ho c - 1) c' = hc_f (nu_a t b0 0) n c' := fun c' hc' => by
      have oth : ∀ k, k < 216 → k ≠ b0 → ((nu_a t b0 0 k = 3 ∧ n k = 148 + c') ↔ (t k = 3 ∧ n k = 148 + c')) := fun k _ z => by rw [nu_n z]
      rcases Classical.em (c' = c) with z | z
      · subst z
        rw [nu_s, HO c' hc']
        have := cn_add (P := fun k => nu_a t b0 0 k = 3 ∧ n k = 148 + c') (Q := fun k => t k = 3 ∧ n k = 148 + c') (N := 216) (a := b0) hb.1 (fun y => by rw [nu_s] at y; exact absurd y.1 (by decide)) ⟨h3, e⟩ oth
        unfold hc_f
        omega
      · rw [nu_n z, HO c' hc']
        refine cn_c fun k hk => ?_
        rcases Classical.em (k = b0) with y | y
        · rw [y, nu_s]
          exact ⟨fun u => absurd u.2 (by omega), fun u => absurd u.1 (by decide)⟩
        · exact (oth k hk y).symm
    have hp : 0 < ho c := by
      rw [HO c hc]
      exact cn_pos (P := fun k => t k = 3 ∧ n k = 148 + c) hb.1 ⟨h3, e⟩
    refine ⟨pk_in _ 216 h1 rfl, pk_in c 68 hc hi, jw_u c (ho c - 1) hc (jw_u (sg_f f b0) 0 h1 ?_ rfl rfl) hi ?_⟩
    · refine H _ _ _ _ _ _ _ ?_
      rw [dz_0 (by omega)]
      exact op_zero R0 hb hs (by omega) cnt
    · rw [jm_i c hi]; exact ja_s1 hp
  · rw [x1] at h3
    exact xw_drop R0 hG hb hs h3 hce hc31 fun ft li tx rf fn ho wk R => H _ _ _ _ _ _ _ R
theorem xw_fc2 (Y : yw_f (G 1) t n) (X : xr_f f t n tx q) {post : Int32 → Prop} (H : ∀ c, c < 68 → t (148 + c) = 0 → (∀ c', c' < c → t (148 + c') ≠ 0) → post (nI c)) :
    ∀ m c, 68 - c < m → c ≤ 68 → (∀ c', c' < c → t (148 + c') ≠ 0) → (∃ c', c' < 68 ∧ t (148 + c') = 0) → wX_freeCell_2 post (K 0) (K 1) (K 2) (K 3) (K 4) (K 5) (K 6) (K 7) (nI (G 0)) (nI (G 1)) (nI (G 2)) (nI (G 3)) (nI ft) (nI ce) (nI li) (nI de) (nI lo) (jm_a tx) (jm_a q) (jm_a rf) (jm_a fn) (jm_a ho) (jm_a po) (jm_a wk) m (nI c) := by
  intro m
  induction m with
  | zero => intro c hm; omega
  | succ m ih =>
    intro c hm hc hI hex
    refine pk_le 68 c (fun hx => ?_) (fun hx => ?_)
    · obtain ⟨c', h1, h2⟩ := hex
      exact absurd h2 (hI c' (by omega))
    · have rt : ¬ el_b (148 + c) := fun x => by have := x.2; omega
      have x1 := (X.1 (148 + c) (ib_r (by omega) rt)).1
      rw [sg_c (by omega)] at x1
      have ht := Y.1 (148 + c) (by omega)
      refine jr_eq (148 + c) 0 (by omega) (by omega) (fun hz => H c hx (by rw [← x1]; exact hz) hI) (fun hz => nm_r (ja_p1 c) (ih (c + 1) (by omega) (by omega) (fun c' hc' => ?_) hex)) (nI_add 148 c)
      rcases Nat.lt_or_ge c' c with z | z
      · exact hI c' z
      · have : c' = c := by omega
        subst this
        rw [← x1]; exact hz
theorem xw_fcell (Y : yw_f (G 1) t n) (X : xr_f f t n tx q) (hex : ∃ c', c' < 68 ∧ t (148 + c') = 0) {post : Int32 → Prop} (H : ∀ c, c < 68 → t (148 + c) = 0 → (∀ c', c' < c → t (148 + c') ≠ 0) → post (nI c)) : wpX_freeCell post (mk_X K G ft ce li de lo tx q rf fn ho po wk) :=
  ⟨69, xw_fc2 Y X H 69 0 (by omega) (by omega) (fun c' hc' => absurd hc' (by omega)) hex⟩
/-- enclose: a plain value moves into the first free cell -/
theorem xw_enc (R : r0_f (G 1) f r t n tx q rf fn ho ft li) (CE : ce_f t n ce) {b : Nat} (ib : ib_v t n b) (sn : sn_f f t n b) (h0 : t b ≠ 0) (h3 : t b ≠ 3) (hb : b < 148) (hb2 : ¬ (8 ≤ b ∧ b < 20)) (hw : el_b b → b % 4 < G 1) (hex : ∃ c', c' < 68 ∧ t (148 + c') = 0)
    (nh : ¬ hd_f t n b) (nk : el_b b → ∀ c', c' < 68 → ¬ sb_f t n (148 + c') (b / 4)) {post : SX → Prop}
    (H : ∀ c, c < 68 → t (148 + c) = 0 → (∀ c', c' < c → t (148 + c') ≠ 0) → ∀ r' tx q ho, r0_f (G 1) f r' (eT_f t b c) (eN_f n b c) tx q rf fn ho ft li → ce_f (eT_f t b c) (eN_f n b c) (ce + 1) → post (mk_X K G ft (ce + 1) li de lo tx q rf fn ho po wk)) : wpX_enclose post (mk_X K G ft ce li de lo tx q rf fn ho po wk) (nI (sg_f f b)) := by
  have Y := R.1
  have X := R.2.1
  have s1 := sg_lt X ib
  unfold wpX_enclose
  dsimp only
  refine xw_fcell (K := K) (G := G) Y X hex fun c hc hz hf => ?_
  obtain ⟨⟨r', R1⟩, CE1⟩ := op_enc R CE ib sn h0 h3 hb hb2 hw hc hz nh nk
  have e3 : (148 : Int32) + nI c = nI (148 + c) := nI_add 148 c
  rw [e3]
  refine xw_move (K := K) (G := G) s1 (by omega) ?_
  refine jw_u (sg_f f b) 3 s1 (jw_u (sg_f f b) c s1 (jw_u c 1 hc (nm_r (ja_p1 ce) ?_) rfl rfl) rfl rfl) rfl rfl
  exact H c hc hz hf r' _ _ _ R1 CE1
/-- share, its second half: the taker becomes a holder, and settle -/
theorem xw_sh15 (R : r0_f (G 1) f r t n tx q rf fn ho ft li) (CE : ce_f t n ce) (hG : G 1 ≤ 4) {g k c : Nat} (hg3 : t g = 3) (hgn : n g = 148 + c) (hg : g < 148) (hc : c < 68) (ne : g ≠ k) (ng : ¬ (el_b g ∧ sb_f t n k (g / 4))) (ibk : ib_v t n k) (snk : sn_f f t n k) (hk : k < 148) (hk2 : ¬ (8 ≤ k ∧ k < 20)) (hw : el_b k → k % 4 < G 1)
    (nk : el_b k → ∀ c', c' < 68 → ¬ sb_f t n (148 + c') (k / 4)) {post : SX → Prop}
    (H : ∀ r' ft ce li tx q rf fn ho wk, sh_f (G 1) f r (hT_f t n k) (nu_a n k (148 + c)) → r0_f (G 1) f r' (sT_f (hT_f t n k) (nu_a n k (148 + c)) 68) (sN_f (hT_f t n k) (nu_a n k (148 + c)) 68) tx q rf fn ho ft li → ce_f (sT_f (hT_f t n k) (nu_a n k (148 + c)) 68) (sN_f (hT_f t n k) (nu_a n k (148 + c)) 68) ce → post (mk_X K G ft ce li de lo tx q rf fn ho po wk)) :
    wX_share_15 post (nI (sg_f f g)) (nI (sg_f f k)) (K 0) (K 1) (K 2) (K 3) (K 4) (K 5) (K 6) (K 7) (nI (G 0)) (nI (G 1)) (nI (G 2)) (nI (G 3)) (nI ft) (nI ce) (nI li) (nI de) (nI lo) (jm_a tx) (jm_a q) (jm_a rf) (jm_a fn) (jm_a ho) (jm_a po) (jm_a wk) := by
  have Y := R.1
  have X := R.2.1
  have s2 := sg_lt X ibk
  have ibg : ib_v t n g := ib_t Y (by omega) (by omega)
  have s1 := sg_lt X ibg
  unfold wX_share_15
  refine xw_clear (K := K) (G := G) R hG ibk snk (ce_0 Y CE) (ce_l CE) fun ft1 li1 tx1 rf1 fn1 ho1 wk1 R1 => ?_
  have dg : dz_f t n k g = 3 := (dz_k (fun x => x.elim ne ng)).trans hg3
  have ibg1 : ib_v (dz_f t n k) n g := ib_t R1.1 (by omega) (by omega)
  obtain ⟨x1, x2⟩ := R1.2.1.1 g ibg1
  have qg : q (sg_f f g) = c := (x2 (by omega)).trans (xv_3 dg hgn)
  have sne : sg_f f g ≠ sg_f f k := fun e => ne (snk g ibg e)
  obtain ⟨R2, CE2⟩ := op_take R CE hg3 hgn hg hc ibk snk hk hk2 hw nk R1
  refine jw_u (sg_f f k) 3 s2 ⟨pk_in _ 216 s1 rfl, jw_u (sg_f f k) c s2 ⟨pk_in _ 216 s1 rfl, ?_⟩ rfl (by rw [jm_c (by omega), qg])⟩ rfl rfl
  have hi : jm_a (nu_a q (sg_f f k) c) (nI (sg_f f g)).toNatClampNeg = nI c := by rw [jm_c (by omega), nu_n sne, qg]
  refine ⟨pk_in c 68 hc hi, jw_u c (ho1 c + 1) hc ?_ hi (by rw [jm_i c hi]; exact ja_p1 _)⟩
  refine xw_settle (K := K) (G := G) R2 CE2 hG fun r3 ft3 ce3 li3 tx3 q3 rf3 fn3 ho3 wk3 R3 CE3 => ?_
  exact H r3 ft3 ce3 li3 tx3 q3 rf3 fn3 ho3 wk3 (sh_of R2 CE2) R3 CE3
end
section
variable {G : Nat → Nat} {sp lp ls he : Nat} {t n l cp yp : Nat → Nat} {f r : Nat → Nat}
theorem yk_sh153 {g k c : Nat} (hg : g < 216) (hk : k < 216) (hgn : n g = 148 + c) (S : sh_f (G 1) f r (hT_f t n k) (nu_a n k (148 + c))) (Z : sz_f (nu_a t k 3) (hT_f t n k) (nu_a n k (148 + c))) {post : Int32 → SY → Prop}
    (H : post 0 (mk_Y G sp lp ls he (sT_f (hT_f t n k) (nu_a n k (148 + c)) 68) (sN_f (hT_f t n k) (nu_a n k (148 + c)) 68) l cp yp)) : wY_share_153 post (nI g) (nI k) (nI (G 0)) (nI (G 1)) (nI (G 2)) (nI (G 3)) (nI sp) (nI lp) (nI ls) (nI he) (jm_a t) (jm_a n) (jm_a l) (jm_a cp) (jm_a yp) := by
  refine jw_u k 3 hk ⟨pk_in g 216 hg rfl, jw_u k (148 + c) hk ?_ rfl (by rw [jm_c (by omega), hgn])⟩ rfl rfl
  exact yk_settle (G := G) S Z H
theorem yk_sh107 {g k : Nat} (Y : yw_f (G 1) t n) (hg : g < 148) (hk : k < 148) {post : Int32 → SY → Prop}
    (H : ∀ c, c < 68 → t (148 + c) = 0 → (∀ c', c' < c → t (148 + c') ≠ 0) → wY_share_153 post (nI g) (nI k) (nI (G 0)) (nI (G 1)) (nI (G 2)) (nI (G 3)) (nI sp) (nI lp) (nI ls) (nI he) (jm_a (eT_f t g c)) (jm_a (eN_f n g c)) (jm_a l) (jm_a cp) (jm_a yp)) :
    ∀ d c, 68 - c < d → c ≤ 67 → (∀ c', c' < c → t (148 + c') ≠ 0) → (∃ c', c' < 68 ∧ t (148 + c') = 0) → wY_share_107 post (nI g) (nI k) (nI (G 0)) (nI (G 1)) (nI (G 2)) (nI (G 3)) (nI sp) (nI lp) (nI ls) (nI he) (jm_a t) (jm_a n) (jm_a l) (jm_a cp) (jm_a yp) d (nI (148 + c)) := by
  have fin : ∀ c, c < 68 → t (148 + c) = 0 → (∀ c', c' < c → t (148 + c') ≠ 0) → wY_share_131 post (nI g) (nI k) (nI (148 + c)) (nI (G 0)) (nI (G 1)) (nI (G 2)) (nI (G 3)) (nI sp) (nI lp) (nI ls) (nI he) (jm_a t) (jm_a n) (jm_a l) (jm_a cp) (jm_a yp) := fun c hc hz hf => by
    unfold wY_share_131
    refine yk_move (G := G) (by omega) (by omega) ?_
    exact jw_u g 3 (by omega) (jw_u g (148 + c) (by omega) (H c hc hz hf) rfl rfl) rfl rfl
  intro d
  induction d with
  | zero => intro c hd; omega
  | succ d ih =>
    intro c hd hc hI hex
    have ht := Y.1 (148 + c) (by omega)
    refine pk_le 215 (148 + c) (fun hx => ?_) (fun hx => ?_)
    · have : c = 67 := by omega
      subst this
      obtain ⟨c', h1, h2⟩ := hex
      have : c' = 67 := by
        rcases Nat.lt_or_ge c' 67 with z | z
        · exact absurd h2 (hI c' z)
        · omega
      subst this
      exact fin 67 h1 h2 hI
    · refine jr_eq (148 + c) 0 (by omega) (by omega) (fun hz => fin c (by omega) hz hI) (fun hz => nm_r (e' := nI (148 + (c + 1))) (ja_p1 (148 + c)) (ih (c + 1) (by omega) (by omega) (fun c' hc' => ?_) hex)) rfl
      rcases Nat.lt_or_ge c' c with z | z
      · exact hI c' z
      · have : c' = c := by omega
        subst this
        exact hz
end
end
section
/-- the sizes -/
def cg_f (G : Nat → Nat) : Prop := (2 ≤ G 0 ∧ G 0 ≤ 8) ∧ (2 ≤ G 1 ∧ G 1 ≤ 4) ∧ (4 ≤ G 2 ∧ G 2 ≤ 32) ∧ (2 ≤ G 3 ∧ G 3 ≤ 8)
/-- variables, stack and loops -/
def sd_f (G : Nat → Nat) (sp lp li : Nat) (t po : Nat → Nat) : Prop :=
  sp ≤ G 3 ∧ lp ≤ 4 ∧ li ≤ G 2 ∧ (∀ b, b < 8 → t b ≠ 0 → b < G 0) ∧ (∀ b, 8 ≤ b → b < 16 → (t b ≠ 0 ↔ b < 8 + sp)) ∧ (∀ b, 16 ≤ b → b < 20 → ((b < 16 + lp → t b = 2) ∧ (16 + lp ≤ b → t b = 0))) ∧ (∀ i, i < lp → po i ≤ 4)
def fa_f (G f r t n tx q rf fn ho : Nat → Nat) (ft li ce sp lp : Nat) (po : Nat → Nat) : Prop :=
  cg_f G ∧ r0_f (G 1) f r t n tx q rf fn ho ft li ∧ ce_f t n ce ∧ st_f t n ∧ sd_f G sp lp li t po
/-- the relation at the head of a turn -/
def i_Rel (k : Nat) (u : SX) (v : SY) : Prop :=
  ∃ (K : Nat → Int32) (G : Nat → Nat) (ft ce li : Nat) (tx q rf fn ho po wk : Nat → Nat) (sp lp ls he : Nat) (t n l cp f r : Nat → Nat), (u = (mk_X K G ft ce li sp lp tx q rf fn ho po wk) ∧ v = (mk_Y G sp lp ls he t n l cp po)) ∧ fa_f G f r t n tx q rf fn ho ft li ce sp lp po
theorem i_up {k : Nat} {u : SX} {v : SY} (h : i_Rel k u v) : i_Rel (k + 5) u v := h
theorem zz_el {k : Nat} {u : SX} {v : SY} {P : SX → SY → Prop}
    (h : ∀ (K : Nat → Int32) (G : Nat → Nat) (ft ce li : Nat) (tx q rf fn ho po wk : Nat → Nat) (sp lp ls he : Nat) (t n l cp f r : Nat → Nat), fa_f G f r t n tx q rf fn ho ft li ce sp lp po → P (mk_X K G ft ce li sp lp tx q rf fn ho po wk) (mk_Y G sp lp ls he t n l cp po)) (I : i_Rel k u v) : P u v := by
  obtain ⟨K, G, ft, ce, li, tx, q, rf, fn, ho, po, wk, sp, lp, ls, he, t, n, l, cp, f, r, ⟨e1, e2⟩, F⟩ := I
  rw [e1, e2]
  exact h K G ft ce li tx q rf fn ho po wk sp lp ls he t n l cp f r F
section
variable {K : Nat → Int32} {G : Nat → Nat} {ft ce li : Nat} {tx q rf fn ho po wk : Nat → Nat} {f r : Nat → Nat} {sp lp ls he : Nat} {t n l cp yp : Nat → Nat}
theorem rel_mk {k : Nat} (F : fa_f G f r t n tx q rf fn ho ft li ce sp lp po) : i_Rel k (mk_X K G ft ce li sp lp tx q rf fn ho po wk) (mk_Y G sp lp ls he t n l cp po) :=
  ⟨K, G, ft, ce, li, tx, q, rf, fn, ho, po, wk, sp, lp, ls, he, t, n, l, cp, f, r, ⟨rfl, rfl⟩, F⟩
/-- after settle -/
theorem fa_set {r' : Nat → Nat} {li1 : Nat} (C : cg_f G) (S : sh_f (G 1) f r t n) (SD : sd_f G sp lp li t po) (hl : li_f t n ≤ G 2) (R : r0_f (G 1) f r' (sT_f t n 68) (sN_f t n 68) tx q rf fn ho ft li1) (CE : ce_f (sT_f t n 68) (sN_f t n 68) ce) : fa_f G f r' (sT_f t n 68) (sN_f t n 68) tx q rf fn ho ft li1 ce sp lp po := by
  obtain ⟨d1, d2, d3, d4, d5, d6, d7⟩ := SD
  have same : ∀ b, 8 ≤ b → b < 20 → sT_f t n 68 b = t b := fun b h1 h2 => by
    refine sT_D (fun x => ?_) (fun x => ?_) (fun x => ?_)
    · exact (S.1.2.2.1 b (by omega) x.2.1).2.2 ⟨h1, h2⟩
    · have := x.1; omega
    · have := x.1.1; omega
  have l1 : li1 ≤ li_f t n := by
    rw [R.2.2.2.2.2.2.2]
    refine cn_mono fun a _ ⟨b, hb, g, e⟩ => ?_
    rcases Classical.em (sB_f t n 68 b) with z | z
    · rw [sT_B z] at g
      rw [sN_B z] at e
      obtain ⟨⟨c, hc, ec⟩, _⟩ := S.1.2.2.1 b hb z.2.1
      exact ⟨n b, by omega, g, e⟩
    · rw [sN_D z] at e
      rcases Classical.em (sA_f t n 68 b ∨ sC_f t n 68 b) with y | y
      · rw [sT_Z z y] at g; omega
      · rw [sT_D z (fun x => y (Or.inl x)) (fun x => y (Or.inr x))] at g
        exact ⟨b, hb, g, e⟩
  refine ⟨C, R, CE, sT_st S, d1, d2, by omega, fun b hb h => ?_, fun b h1 h2 => ?_, fun b h1 h2 => ?_, d7⟩
  · refine d4 b hb fun z => h ?_
    rw [sT_D (fun x => by have := x.2.1; omega) (fun x => by have := x.1; omega) (fun x => by have := x.1.1; omega), z]
  · rw [same b h1 (by omega)]; exact d5 b h1 h2
  · rw [same b (by omega) h2]; exact d6 b h1 h2
end
section
variable {w : Nat} {f r t n tx q rf fn ho : Nat → Nat} {ft li : Nat}
/-- an int on the stack -/
theorem op_int (R : r0_f w f r t n tx q rf fn ho ft li) {b x : Nat} (h8 : 8 ≤ b) (h16 : b < 16) (h0 : t b = 0) : r0_f w f r (nu_a t b 1) (nu_a n b x) (nu_a tx (b + 128) 1) (nu_a q (b + 128) x) rf fn ho ft li := by
  obtain ⟨Y, X, RK, KK, F, FR, HO, LI⟩ := R
  have nE : ¬ el_b b := fun y => by have := y.1; omega
  have sb : sg_f f b = b + 128 := sg_b h8 (by omega)
  have snb : sn_f f t n b := sn_r X (by omega) nE
  have inv : ∀ y k, nu_a t b 1 y = k → 2 ≤ k → y ≠ b ∧ t y = k ∧ nu_a n b x y = n y := fun y k h hk => by
    rcases Classical.em (y = b) with z | z
    · rw [z, nu_s] at h; omega
    · rw [nu_n z] at h; exact ⟨z, h, nu_n z⟩
  have al : ∀ a, al_v (nu_a t b 1) (nu_a n b x) a ↔ al_v t n a := fun a => by
    constructor
    · rintro ⟨y, g1, h3, e⟩
      obtain ⟨i1, i2, i3⟩ := inv y 2 h3 (by omega)
      exact ⟨y, g1, i2, by rw [← i3]; exact e⟩
    · rintro ⟨y, g1, h3, e⟩
      have z : y ≠ b := fun z => by rw [z] at h3; omega
      exact ⟨y, g1, by rw [nu_n z]; exact h3, by rw [nu_n z]; exact e⟩
  have eln : ∀ y, el_b y → y ≠ b := fun y hE z => nE (z ▸ hE)
  refine ⟨⟨fun y hy => ?_, fun y hy h => ?_, fun y hy h => ?_, fun y y' g1 g2 g3 g4 e => ?_, fun y hE h => ?_⟩, ⟨fun y ib' => ?_, fun a ha => X.2.1 a ((al a).mp ha), fun s hs' h => ?_⟩, fun y hE h => ?_, ?_, fun m hm => ?_, FR, fun c hc => ?_, ?_⟩
  · rw [nu_c]; split
    · omega
    · exact Y.1 y hy
  · obtain ⟨i1, i2, i3⟩ := inv y 2 h (by omega)
    rw [i3]; exact Y.2.1 y hy i2
  · obtain ⟨i1, i2, i3⟩ := inv y 3 h (by omega)
    rw [i3]; exact Y.2.2.1 y hy i2
  · obtain ⟨i1, i2, i3⟩ := inv y 2 g3 (by omega)
    obtain ⟨j1, j2, j3⟩ := inv y' 2 g4 (by omega)
    exact Y.2.2.2.1 y y' g1 g2 i2 j2 (by rw [← i3, ← j3]; exact e)
  · rw [nu_n (eln y hE)] at h
    obtain ⟨y1, y2⟩ := Y.2.2.2.2 y hE h
    exact ⟨y1, (al _).mpr y2⟩
  · have ib : ib_v t n y := ⟨ib'.1, fun hE => (al _).mp (ib'.2 hE)⟩
    rcases Classical.em (y = b) with z | z
    · subst z
      rw [sb, nu_s, nu_s, nu_s]
      refine ⟨rfl, fun _ => ?_⟩
      unfold xv_f
      rw [nu_s, nu_s, if_neg (by decide), if_neg (by decide)]
    · have e1 : sg_f f y ≠ b + 128 := fun e => z (snb y ib (by rw [sb]; exact e))
      obtain ⟨x1, x2⟩ := X.1 y ib
      rw [nu_n e1, nu_n e1, nu_n z]
      refine ⟨x1, fun h => ?_⟩
      rw [x2 h]
      unfold xv_f
      rw [nu_n z, nu_n z]
  · rcases Classical.em (s = b + 128) with z | z
    · exact ⟨b, by omega, by rw [nu_s]; decide, by rw [sb, z]⟩
    · rw [nu_n z] at h
      obtain ⟨y, hy, ht, es⟩ := X.2.2 s hs' h
      exact ⟨y, hy, by rw [nu_n (fun u => z (by rw [← es, u, sb]))]; exact ht, es⟩
  · obtain ⟨i1, i2, i3⟩ := inv y 2 h (by omega)
    rw [i3]; exact RK y hE i2
  · obtain ⟨K, k1, k2, k3⟩ := KK
    refine ⟨K, fun c hc g => ?_, fun y hE hk g => ?_, fun y hE hk => ?_⟩
    · rw [nu_n (by omega)] at g ⊢
      exact k1 c hc g
    · rw [nu_n (eln y hE)] at g ⊢
      exact k2 y hE hk g
    · rw [nu_n (eln y hE)]
      exact k3 y hE hk
  · rw [F m hm]
    have x1 := (X.1 b (ib_r (by omega) nE)).1
    rw [sb, h0] at x1
    refine cn_c fun s hs' => ?_
    rcases Classical.em (s = b + 128) with z | z
    · rw [z, nu_s, x1]
      exact ⟨fun y => absurd y.1 (by decide), fun y => absurd y.1 (by decide)⟩
    · rw [nu_n z, nu_n z]
  · rw [HO c hc]
    refine cn_c fun y hy => ?_
    rcases Classical.em (y = b) with z | z
    · rw [z, nu_s, h0]
      exact ⟨fun y => absurd y.1 (by decide), fun y => absurd y.1 (by decide)⟩
    · rw [nu_n z, nu_n z]
  · rw [LI]
    exact cn_c fun a _ => (al a).symm
/-- a new array on the stack -/
theorem op_arr (R : r0_f w f r t n tx q rf fn ho ft li) {b a : Nat} (h8 : 8 ≤ b) (h16 : b < 16) (h0 : t b = 0) (a5 : 5 ≤ a) (a37 : a < 37) (hd : ∀ y, y < 216 → t y = 2 → n y ≠ 4 * a) (hft : 0 < ft) :
    r0_f w (nu_a f a (fn (ft - 1))) r (nu_a t b 2) (nu_a n b (4 * a)) (nu_a tx (b + 128) 2) (nu_a q (b + 128) (fn (ft - 1))) (nu_a rf (fn (ft - 1)) 1) fn ho (ft - 1) (li + 1) := by
  have R0 := R
  obtain ⟨Y, X, RK, KK, F, FR, HO, LI⟩ := R
  obtain ⟨nd32, nd0⟩ := FR.2.1 (ft - 1) (by omega)
  generalize hnd : fn (ft - 1) = nd at *
  have nE : ¬ el_b b := fun y => by have := y.1; omega
  have sb : sg_f f b = b + 128 := sg_b h8 (by omega)
  have snb : sn_f f t n b := sn_r X (by omega) nE
  have dead : ¬ al_v t n a := fun ⟨y, hy, g, e⟩ => hd y hy g e
  have z4 : ∀ e, e < 4 → t (4 * a + e) = 0 := fun e he => by
    rcases Classical.em (t (4 * a + e) = 0) with z | z
    · exact z
    · have := (Y.2.2.2.2 (4 * a + e) ⟨by omega, by omega⟩ z).2
      rw [show (4 * a + e) / 4 = a by omega] at this
      exact absurd this dead
  have eln : ∀ y, el_b y → y ≠ b := fun y hE z => nE (z ▸ hE)
  have vo : ∀ y, y ≠ b → nu_a t b 2 y = t y ∧ nu_a n b (4 * a) y = n y := fun y z => ⟨nu_n z, nu_n z⟩
  have al : ∀ a', al_v (nu_a t b 2) (nu_a n b (4 * a)) a' ↔ (al_v t n a' ∨ a' = a) := fun a' => by
    constructor
    · rintro ⟨y, g1, h3, e⟩
      rcases Classical.em (y = b) with z | z
      · rw [z, nu_s] at e
        exact Or.inr (by omega)
      · rw [nu_n z] at h3 e
        exact Or.inl ⟨y, g1, h3, e⟩
    · rintro (⟨y, g1, h3, e⟩ | z)
      · have z : y ≠ b := fun z => by rw [z] at h3; omega
        exact ⟨y, g1, by rw [nu_n z]; exact h3, by rw [nu_n z]; exact e⟩
      · exact ⟨b, by omega, nu_s, by rw [nu_s, z]⟩
  have fo : ∀ a', al_v t n a' → nu_a f a nd a' = f a' := fun a' h => nu_n (fun z => dead (z ▸ h))
  have sgo : ∀ y, (el_b y → y / 4 ≠ a) → sg_f (nu_a f a nd) y = sg_f f y := fun y h => by
    rcases Classical.em (el_b y) with hE | hE
    · rw [sg_e hE.1 hE.2, sg_e hE.1 hE.2, nu_n (h hE)]
    · unfold el_b at hE
      unfold sg_f
      split
      · rfl
      · split
        · rfl
        · rw [if_neg (by omega), if_neg (by omega)]
  have fr_e := xs_0 Y X F nd nd32 nd0
  have x0 := (X.1 b (ib_r (by omega) nE)).1
  rw [sb, h0] at x0
  refine ⟨⟨fun y hy => ?_, fun y hy h => ?_, fun y hy h => ?_, fun y y' g1 g2 g3 g4 e => ?_, fun y hE h => ?_⟩, ⟨fun y ib' => ?_, fun a' ha => ?_, fun s hs' h => ?_⟩, fun y hE h => ?_, ?_, fun m hm => ?_, ?_, fun c hc => ?_, ?_⟩
  · rw [nu_c]; split
    · omega
    · exact Y.1 y hy
  · rcases Classical.em (y = b) with z | z
    · rw [z, nu_s]; exact ⟨a, a5, a37, rfl⟩
    · rw [nu_n z] at h ⊢
      exact Y.2.1 y hy h
  · rcases Classical.em (y = b) with z | z
    · rw [z, nu_s] at h; omega
    · rw [nu_n z] at h ⊢
      exact Y.2.2.1 y hy h
  · rcases Classical.em (y = b) with z | z
    · rcases Classical.em (y' = b) with z' | z'
      · omega
      · rw [nu_n z'] at g4 e
        rw [z, nu_s] at e
        exact absurd e.symm (hd y' g2 g4)
    · rw [nu_n z] at g3 e
      rcases Classical.em (y' = b) with z' | z'
      · rw [z', nu_s] at e
        exact absurd e (hd y g1 g3)
      · rw [nu_n z'] at g4 e
        exact Y.2.2.2.1 y y' g1 g2 g3 g4 e
  · rw [nu_n (eln y hE)] at h
    obtain ⟨y1, y2⟩ := Y.2.2.2.2 y hE h
    exact ⟨y1, (al _).mpr (Or.inl y2)⟩
  · rcases Classical.em (y = b) with z | z
    · subst z
      rw [sgo y (fun hE => absurd hE nE), sb, nu_s, nu_s, nu_s]
      exact ⟨rfl, fun _ => by rw [xv_2 (t := nu_a t y 2) (n := nu_a n y (4 * a)) nu_s nu_s, nu_s]⟩
    · rcases Classical.em (el_b y ∧ y / 4 = a) with ⟨hE, e⟩ | u
      · have hs : sg_f (nu_a f a nd) y = 8 + 4 * nd + y % 4 := by rw [sg_e hE.1 hE.2, e, nu_s]
        have ty : t y = 0 := by
          have := z4 (y % 4) (by omega)
          rw [show 4 * a + y % 4 = y by omega] at this
          exact this
        rw [hs, nu_n (by omega), nu_n z, fr_e (y % 4) (by omega), ty]
        exact ⟨rfl, fun x => absurd rfl x⟩
      · have u : el_b y → y / 4 ≠ a := fun hE e => u ⟨hE, e⟩
        have ib : ib_v t n y := ⟨ib'.1, fun hE => by
          rcases (al _).mp (ib'.2 hE) with k | k
          · exact k
          · exact absurd k (u hE)⟩
        have e1 : sg_f f y ≠ b + 128 := fun e => z (snb y ib (by rw [sb]; exact e))
        obtain ⟨x1, x2⟩ := X.1 y ib
        rw [sgo y u, nu_n e1, nu_n e1, nu_n z]
        refine ⟨x1, fun h => ?_⟩
        rw [x2 h]
        unfold xv_f
        rw [nu_n z, nu_n z]
        split
        · rename_i g
          obtain ⟨a', _, _, e⟩ := Y.2.1 y ib.1 g
          rw [e, Nat.mul_div_cancel_left _ (by decide), fo a' ⟨y, ib.1, g, e⟩]
        · rfl
  · rcases (al a').mp ha with k | k
    · rw [fo a' k]; exact X.2.1 a' k
    · rw [k, nu_s]; exact nd32
  · rcases Classical.em (s = b + 128) with z | z
    · exact ⟨b, by omega, by rw [nu_s]; decide, by rw [sgo b (fun hE => absurd hE nE), sb, z]⟩
    · rw [nu_n z] at h
      obtain ⟨y, hy, ht, es⟩ := X.2.2 s hs' h
      have ib := ib_t Y hy ht
      exact ⟨y, hy, by rw [nu_n (fun u => z (by rw [← es, u, sb]))]; exact ht, by rw [sgo y (fun hE e => dead (e ▸ ib.2 hE)), es]⟩
  · rw [nu_n (eln y hE)] at h
    have k := RK y hE h
    obtain ⟨a', _, _, e⟩ := Y.2.1 y (el_lt hE) h
    rw [nu_n (eln y hE)]
    rw [e, Nat.mul_div_cancel_left _ (by decide)] at k ⊢
    rw [fo a' ⟨y, el_lt hE, h, e⟩, fo _ (Y.2.2.2.2 y hE (by omega)).2]
    exact k
  · obtain ⟨K, k1, k2, k3⟩ := KK
    refine ⟨K, fun c hc g => ?_, fun y hE hk g => ?_, fun y hE hk => ?_⟩
    · rw [nu_n (by omega)] at g ⊢
      exact k1 c hc g
    · rw [nu_n (eln y hE)] at g ⊢
      exact k2 y hE hk g
    · rw [nu_n (eln y hE)]
      exact k3 y hE hk
  · have oth : ∀ s, s < 216 → s ≠ b + 128 → ((tx s = 2 ∧ q s = m) ↔ (nu_a tx (b + 128) 2 s = 2 ∧ nu_a q (b + 128) nd s = m)) := fun s hs z => by rw [nu_n z, nu_n z]
    rcases Classical.em (m = nd) with z | z
    · rw [z, nu_s]
      rw [z] at oth
      rw [cn_add (P := fun s => tx s = 2 ∧ q s = nd) (a := b + 128) (by omega) (fun y => by have := y.1; omega) (by rw [nu_s, nu_s]; exact ⟨rfl, rfl⟩) oth, ← F nd nd32, nd0]
    · rw [nu_n z, F m hm]
      refine cn_c fun s hs' => ?_
      rcases Classical.em (s = b + 128) with u | u
      · rw [u, nu_s, nu_s, x0]
        exact ⟨fun y => absurd y.1 (by decide), fun y => absurd y.2.symm z⟩
      · exact oth s hs' u
  · obtain ⟨g1, g2, g3, g4⟩ := FR
    refine ⟨by omega, fun i hi => ?_, fun i j hi hj => g3 i j (by omega) (by omega), fun m hm h => ?_⟩
    · obtain ⟨u1, u2⟩ := g2 i (by omega)
      refine ⟨u1, ?_⟩
      rw [nu_n (fun e => ?_)]
      · exact u2
      · have := g3 i (ft - 1) (by omega) (by omega) (e.trans hnd.symm)
        omega
    · have u : m ≠ nd := fun e => by rw [e, nu_s] at h; omega
      rw [nu_n u] at h
      obtain ⟨i, hi, e⟩ := g4 m hm h
      refine ⟨i, ?_, e⟩
      rcases Classical.em (i = ft - 1) with v | v
      · rw [v, hnd] at e
        exact absurd e.symm u
      · omega
  · rw [HO c hc]
    refine cn_c fun y hy => ?_
    rcases Classical.em (y = b) with z | z
    · rw [z, nu_s, h0]
      exact ⟨fun y => absurd y.1 (by decide), fun y => absurd y.1 (by decide)⟩
    · rw [nu_n z, nu_n z]
  · rw [LI]
    refine (cn_add (P := al_v t n) (Q := al_v (nu_a t b 2) (nu_a n b (4 * a))) (a := a) a37 dead ((al a).mpr (Or.inr rfl)) fun k _ z => ?_).symm
    rw [al k]
    exact ⟨Or.inl, fun x => x.resolve_right z⟩
end
end
section
section
variable {w : Nat} {f r t n tx q rf fn ho : Nat → Nat} {ft li ce : Nat}
/-- a value moves from root to root -/
theorem op_mvr (R : r0_f w f r t n tx q rf fn ho ft li) {b0 b1 : Nat} (hb0 : b0 < 20) (hb1 : b1 < 20) (ne : b0 ≠ b1) (h0 : t b0 ≠ 0) (h03 : t b0 ≠ 3) (h1 : t b1 = 0) :
    ∃ r', r0_f w f r' (nu_a (nu_a t b1 (t b0)) b0 0) (nu_a n b1 (n b0)) (nu_a (nu_a tx (sg_f f b1) (tx (sg_f f b0))) (sg_f f b0) 0) (nu_a q (sg_f f b1) (q (sg_f f b0))) rf fn ho ft li := by
  have X := R.2.1
  have e0 : ¬ el_b b0 := fun x => by have := x.1; omega
  have e1 : ¬ el_b b1 := fun x => by have := x.1; omega
  obtain ⟨K, k1, k2, k3⟩ := R.2.2.2.1
  have vo : ∀ y, y ≠ b0 → y ≠ b1 → nu_a (nu_a t b1 (t b0)) b0 0 y = t y ∧ nu_a n b1 (n b0) y = n y := fun y z u => by rw [nu_n z, nu_n u, nu_n u]; exact ⟨rfl, rfl⟩
  refine op_mv R (ib_r (by omega) e0) (sn_r X (by omega) e0) (ib_r (by omega) e1) (sn_r X (by omega) e1) ne h0 h03 (by omega) (fun x => absurd x e1) (fun x => absurd x e1) ⟨K, fun c hc g => ?_, fun y hE hk g => ?_, fun y hE hk g => ?_⟩ fun c hc => ?_
  · obtain ⟨u1, u2⟩ := vo (148 + c) (by omega) (by omega)
    rw [u1] at g; rw [u2]; exact k1 c hc g
  · have := hE.1
    obtain ⟨u1, u2⟩ := vo y (by omega) (by omega)
    rw [u1] at g; rw [u2]; exact k2 y hE hk g
  · have := hE.1
    obtain ⟨u1, u2⟩ := vo y (by omega) (by omega)
    rw [u1] at g; exact k3 y hE hk g
  · rw [R.2.2.2.2.2.2.1 c hc]
    refine cn_c fun y hy => ?_
    rcases Classical.em (y = b0) with z | z
    · rw [z, nu_s]
      exact ⟨fun u => absurd u.1 h03, fun u => absurd u.1 (by decide)⟩
    · rcases Classical.em (y = b1) with u | u
      · rw [u, nu_n (fun e => ne e.symm), nu_s, h1]
        exact ⟨fun k => absurd k.1 (by decide), fun k => absurd k.1 h03⟩
      · obtain ⟨u1, u2⟩ := vo y z u
        rw [u1, u2]
/-- Y's state before settle, after a box was emptied -/
theorem sz_drop (Y : yw_f w t n) (RK : rk_f f t n r) {b0 : Nat} (hb : b0 < 148) : sz_f (nu_a t b0 0) (dz_f t n b0) n := by
  have B := yb_w Y
  have le : ∀ b, b ≠ b0 → ¬ (el_b b ∧ sb_f t n b0 (b / 4)) → dz_f t n b0 b = nu_a t b0 0 b := fun b z y => by rw [nu_n z, dz_k (fun x => x.elim z y)]
  refine ⟨fun b hb' => ?_, fun b hb' => ?_, fun b hb' => ?_, fun T X b hb' h => ?_⟩
  · rcases Classical.em (b = b0) with z | z
    · rw [z, nu_s]; exact ⟨by omega, fun x => by omega⟩
    · rw [nu_n z]; exact B b hb'
  · rcases Classical.em (b = b0 ∨ (el_b b ∧ sb_f t n b0 (b / 4))) with z | z
    · exact Or.inr (dz_z z)
    · exact Or.inl (le b (fun x => z (Or.inl x)) (fun x => z (Or.inr x)))
  · rcases Classical.em (b = b0) with z | z
    · rw [z, dz_z (Or.inl rfl), nu_s]
    · refine le b z fun y => ?_
      have h1 := y.1.1
      have h2 := y.1.2
      omega
  · rcases Classical.em (b = b0) with z | z
    · rcases X.1 b hb' with u | u
      · rw [u, z, nu_s]
      · exact u
    · rcases Classical.em (el_b b ∧ sb_f t n b0 (b / 4)) with y | y
      · refine sz_d Y RK (by omega) (fun x a hx g e s => ?_) X b y.1 y.2
        have zx : x ≠ b0 := fun u => by rw [u, nu_s] at g; omega
        rw [nu_n zx] at g
        rcases sb_i s with ⟨g1, g2⟩ | ⟨b', hE', s', g1, g2⟩
        · exact absurd (al_u Y hx (by omega) g g1 e g2) zx
        · have := al_u Y hx (el_lt hE') g g1 e g2
          subst this
          exact ⟨hE', s', g, e⟩
      · rw [le b z y] at h
        rcases X.1 b hb' with u | u
        · rw [u, h]
        · exact u
theorem li_dzl (Y : yw_f w t n) {b0 : Nat} (hb : b0 < 216) : li_f (dz_f t n b0) n ≤ li_f t n := by
  rw [li_dz Y hb]; omega
/-- a settled state stays -/
theorem sT_id (S : sh_f w f r t n) (ST : st_f t n) : ∀ k, k ≤ 68 → sT_f t n k = t ∧ sN_f t n k = n
  | 0, _ => by
    have := sT_0 t n (fun b hb h3 => by obtain ⟨⟨c, _, e⟩, _⟩ := S.1.2.2.1 b hb h3; omega)
    exact ⟨funext fun b => (this b).1, funext fun b => (this b).2⟩
  | k + 1, hk => by
    obtain ⟨h1, h2⟩ := sT_id S ST k (by omega)
    have := sT_s2 S (c := k) (by omega) (by
      rcases Classical.em (t (148 + k) = 0) with z | z
      · exact Or.inl z
      · exact Or.inr (ST k (by omega) z))
    exact ⟨(funext fun b => (this b).1).trans h1, (funext fun b => (this b).2).trans h2⟩
theorem dz_ne {b0 b : Nat} (h : b ≠ b0) (hE : ¬ el_b b) : dz_f t n b0 b = t b := dz_k (fun x => x.elim h (fun y => hE y.1))
end
section
variable {K : Nat → Int32} {G : Nat → Nat} {ft ce li : Nat} {tx q rf fn ho po wk : Nat → Nat} {f r : Nat → Nat} {sp lp ls he : Nat} {t n l cp yp : Nat → Nat}
/-- a place in a variable: on both sides -/
theorem lo_plv (Y : yw_f (G 1) t n) (X : xr_f f t n tx q) (hG : G 1 ≤ 4) (va8 : G 0 ≤ 8) (hsp : sp ≤ 8) (hlp : lp ≤ 4) (v i j : Int32) :
    ∃ z : Option Nat, (∀ b, z = some b → ib_v t n b ∧ ∃ vn, vn < G 0 ∧ v = nI vn ∧ pt_f (G 1) t n vn i j b) ∧
      (∀ post : Int32 → Prop, post (ox_f f z) → wpX_locateInVariable post (mk_X K G ft ce li sp lp tx q rf fn ho po wk) v i j) ∧ (∀ Q : Int32 → Prop, Q (oy_f z) → ((0 ≤ v → wpY_place Q (mk_Y G sp lp ls he t n l cp yp) v i j) ∧ (¬ 0 ≤ v → Q (-1)))) := by
  rcases Classical.em (0 ≤ v) with hv | hv
  · obtain ⟨z, hz, hX, hY⟩ := lo_pl (K := K) (G := G) (ft := ft) (ce := ce) (li := li) (rf := rf) (fn := fn) (ho := ho) (po := po) (wk := wk) (ls := ls) (he := he) (l := l) (cp := cp) (yp := yp) Y X hG va8 hsp hlp v i j
    refine ⟨z, fun b e => ?_, fun post h => br_t hv (hX _ h), fun Q h => br_t hv (hY Q h)⟩
    obtain ⟨h1, h2⟩ := hz b e
    exact ⟨h1, h2 (fun x => absurd (Int32.lt_of_le_of_lt hv x) (by decide))⟩
  · exact ⟨none, fun b e => (by cases e), fun post h => br_f hv h, fun Q h => br_f hv h⟩
/-- sd after the top of the stack has gone -/
theorem sd_dropS (SD : sd_f G sp lp li t po) (h0 : 0 < sp) (hst : G 3 ≤ 8) {li1 : Nat} (hl : li1 ≤ li) : sd_f G (sp - 1) lp li1 (dz_f t n (8 + (sp - 1))) po := by
  obtain ⟨d1, d2, d3, d4, d5, d6, d7⟩ := SD
  refine ⟨by omega, d2, by omega, fun b hb h => ?_, fun b h1 h2 => ?_, fun b h1 h2 => ?_, d7⟩
  · rw [dz_ne (by omega) (fun x => by have := x.1; omega)] at h
    exact d4 b hb h
  · rcases Classical.em (b = 8 + (sp - 1)) with z | z
    · rw [dz_z (Or.inl z)]
      exact ⟨fun x => absurd rfl x, fun x => by omega⟩
    · rw [dz_ne z (fun x => by have := x.1; omega), d5 b h1 h2]
      omega
  · rw [dz_ne (by omega) (fun x => by have := x.1; omega)]
    exact d6 b h1 h2
theorem sd_dropL (SD : sd_f G sp lp li t po) (h0 : 0 < lp) (hst : G 3 ≤ 8) {li1 : Nat} (hl : li1 ≤ li) : sd_f G sp (lp - 1) li1 (dz_f t n (16 + (lp - 1))) po := by
  obtain ⟨d1, d2, d3, d4, d5, d6, d7⟩ := SD
  refine ⟨by omega, by omega, by omega, fun b hb h => ?_, fun b h1 h2 => ?_, fun b h1 h2 => ?_, fun i hi => d7 i (by omega)⟩
  · rw [dz_ne (by omega) (fun x => by have := x.1; omega)] at h
    exact d4 b hb h
  · rw [dz_ne (by omega) (fun x => by have := x.1; omega)]
    exact d5 b h1 h2
  · rcases Classical.em (b = 16 + (lp - 1)) with z | z
    · rw [dz_z (Or.inl z)]
      exact ⟨fun x => by omega, fun _ => rfl⟩
    · rw [dz_ne z (fun x => by have := x.1; omega)]
      exact ⟨fun x => (d6 b h1 h2).1 (by omega), fun x => (d6 b h1 h2).2 (by omega)⟩
/-- sd, where the roots from 8 to 19 are as before, and no variable beyond the last has a value -/
theorem sd_k {t' : Nat → Nat} {li1 : Nat} (SD : sd_f G sp lp li t po) (hl : li1 ≤ G 2) (h1 : ∀ b, 8 ≤ b → b < 20 → t' b = t b) (h2 : ∀ b, b < 8 → t' b ≠ 0 → b < G 0) : sd_f G sp lp li1 t' po := by
  obtain ⟨d1, d2, d3, d4, d5, d6, d7⟩ := SD
  exact ⟨d1, d2, hl, h2, fun b g1 g2 => by rw [h1 b g1 (by omega)]; exact d5 b g1 g2, fun b g1 g2 => by rw [h1 b (by omega) g2]; exact d6 b g1 g2, d7⟩
end
end
section
def kx_0 : Nat → Int32
  | 0 => 3
  | 1 => 32
  | 2 => 68
  | 3 => 8
  | 4 => 4
  | 5 => 136
  | 6 => 144
  | _ => 148
def gx_0 (a b c d : Nat) : Nat → Nat
  | 0 => a
  | 1 => b
  | 2 => c
  | _ => d
theorem in_cl (p : Int32) {a b : Nat} (hab : a ≤ b) (hb : b < 2 ^ 31) :
    ∃ m, (a ≤ m ∧ m ≤ b) ∧ (∀ (post : Int32 → Prop) (u : SX), post (nI m) → wpX_clamp post u p (nI a) (nI b)) ∧ (∀ (post : Int32 → Prop) (u : SY), post (nI m) → wpY_clamp post u p (nI a) (nI b)) := by
  rcases Classical.em (nI a ≤ p) with h | h
  · have h0 : ¬ p < 0 := fun x => absurd (Int32.lt_of_le_of_lt h x) (nI_pos (by omega))
    obtain ⟨m, hm, rfl⟩ := nI_of h0
    have h := (nI_leI (by omega) hm).mp h
    rcases Nat.lt_or_ge b m with z | z
    · refine ⟨b, ⟨hab, Nat.le_refl _⟩, fun post u hp => ?_, fun post u hp => ?_⟩
      · rcases u with ⟨_, _, _, _, _, _, _, _, _, _, _, _, _, _, _, _, _, _, _, _, _, _, _, _⟩
        exact pk_le a m (fun _ => pk_le m b (fun y => absurd y (by omega)) (fun _ => hp)) (fun y => absurd y (by omega))
      · rcases u with ⟨_, _, _, _, _, _, _, _, _, _, _, _, _⟩
        exact pk_le a m (fun _ => pk_le m b (fun y => absurd y (by omega)) (fun _ => hp)) (fun y => absurd y (by omega))
    · refine ⟨m, ⟨h, z⟩, fun post u hp => ?_, fun post u hp => ?_⟩
      · rcases u with ⟨_, _, _, _, _, _, _, _, _, _, _, _, _, _, _, _, _, _, _, _, _, _, _, _⟩
        exact pk_le a m (fun _ => pk_le m b (fun _ => hp) (fun y => absurd y (by omega))) (fun y => absurd y (by omega))
      · rcases u with ⟨_, _, _, _, _, _, _, _, _, _, _, _, _⟩
        exact pk_le a m (fun _ => pk_le m b (fun _ => hp) (fun y => absurd y (by omega))) (fun y => absurd y (by omega))
  · refine ⟨a, ⟨Nat.le_refl _, hab⟩, fun post u hp => ?_, fun post u hp => ?_⟩
    · rcases u with ⟨_, _, _, _, _, _, _, _, _, _, _, _, _, _, _, _, _, _, _, _, _, _, _, _⟩
      exact br_f h hp
    · rcases u with ⟨_, _, _, _, _, _, _, _, _, _, _, _, _⟩
      exact br_f h hp
theorem in_161 {post : SX → Prop} {G : Nat → Nat} (H : ∀ fn, (∀ j, j < 32 → fn j = j) → post (mk_X kx_0 G 32 0 0 0 0 (fun _ => 0) (fun _ => 0) (fun _ => 0) fn (fun _ => 0) (fun _ => 0) (fun _ => 0))) :
    ∀ m i fn, 32 - i < m → i ≤ 32 → (∀ j, j < i → fn j = j) → wX_init_161 post 3 32 68 8 4 136 144 148 (nI (G 0)) (nI (G 1)) (nI (G 2)) (nI (G 3)) 0 0 0 0 0 m (nI i) (jm_a (fun _ => 0)) (jm_a (fun _ => 0)) (jm_a (fun _ => 0)) (jm_a fn) (jm_a (fun _ => 0)) (jm_a (fun _ => 0)) (jm_a (fun _ => 0)) := by
  intro m
  induction m with
  | zero => intro i fn hm; omega
  | succ m ih =>
    intro i fn hm hi hI
    refine pk_le 32 i (fun hx => H fn (fun j hj => hI j (by omega))) (fun hx => ?_)
    refine jw_u i i hx (nm_r (ja_p1 i) (ih (i + 1) _ (by omega) (by omega) fun j hj => ?_)) rfl rfl
    rcases Classical.em (j = i) with z | z
    · rw [z, nu_s]
    · rw [nu_n z]; exact hI j (by omega)
theorem in_fa {G fn : Nat → Nat} (C : cg_f G) (hfn : ∀ j, j < 32 → fn j = j) : fa_f G (fun _ => 0) (fun _ => 0) (fun _ => 0) (fun _ => 0) (fun _ => 0) (fun _ => 0) (fun _ => 0) fn (fun _ => 0) 32 0 0 0 0 (fun _ => 0) := by
  have na : ∀ a, ¬ al_v (fun _ => 0) (fun _ => 0) a := fun a ⟨b, _, h, _⟩ => absurd (show (0 : Nat) = 2 from h) (by decide)
  have z2 : ¬ (0 : Nat) = 2 := by decide
  have z3 : ¬ (0 : Nat) = 3 := by decide
  refine ⟨C, ⟨⟨fun b _ => Nat.zero_le _, fun b _ h => absurd h z2, fun b _ h => absurd h z3, fun b b' _ _ h => absurd h z2, fun b _ h => absurd rfl h⟩, ⟨fun b _ => ⟨rfl, fun h => absurd rfl h⟩, fun a h => absurd h (na a), fun s _ h => absurd rfl h⟩, fun b _ h => absurd h z2,
    ⟨fun _ => False, fun c _ h => absurd h z2, fun b _ h => h.elim, fun b _ h => h.elim⟩, fun m _ => (cn_z fun k _ x => z2 x.1).symm,
    ⟨Nat.le_refl _, fun i hi => ⟨by rw [hfn i hi]; exact hi, rfl⟩, fun i j hi hj e => by rw [hfn i hi, hfn j hj] at e; exact e, fun m hm _ => ⟨m, hm, hfn m hm⟩⟩, fun c _ => (cn_z fun k _ x => z3 x.1).symm, (cn_z fun a _ => na a).symm⟩,
    ⟨(cn_z fun k _ x => x rfl).symm, fun b _ h => absurd h z3⟩, fun c _ h => absurd rfl h, ?_⟩
  refine ⟨Nat.zero_le _, by omega, Nat.zero_le _, fun b _ h => absurd rfl h, fun b h1 h2 => ⟨fun x => absurd rfl x, fun x => by omega⟩, fun b h1 h2 => ⟨fun x => by omega, fun _ => rfl⟩, fun i hi => absurd hi (by omega)⟩
theorem i_vc0 (k0 : Int32) (k1 : Int32) (k2 : Int32) (k3 : Int32) : wpX_init (fun u => wpY_init (fun v => i_Rel 4 u v) k0 k1 k2 k3) k0 k1 k2 k3 := by
  obtain ⟨m0, a0, x0, y0⟩ := in_cl k0 (a := 2) (b := 8) (by omega) (by omega)
  obtain ⟨m1, a1, x1, y1⟩ := in_cl k1 (a := 2) (b := 4) (by omega) (by omega)
  obtain ⟨m2, a2, x2, y2⟩ := in_cl k2 (a := 4) (b := 32) (by omega) (by omega)
  obtain ⟨m3, a3, x3, y3⟩ := in_cl k3 (a := 2) (b := 8) (by omega) (by omega)
  unfold wpX_init
  refine x0 _ _ (x1 _ _ (x2 _ _ (x3 _ _ ⟨33, ?_⟩)))
  refine in_161 (G := gx_0 m0 m1 m2 m3) (fun fn hfn => ?_) 33 0 (fun _ => 0) (by omega) (by omega) (fun j hj => absurd hj (by omega))
  show wpY_init (fun v => i_Rel 4 (mk_X kx_0 (gx_0 m0 m1 m2 m3) 32 0 0 0 0 (fun _ => 0) (fun _ => 0) (fun _ => 0) fn (fun _ => 0) (fun _ => 0) (fun _ => 0)) v) k0 k1 k2 k3
  unfold wpY_init
  refine y0 _ _ (y1 _ _ (y2 _ _ (y3 _ _ ?_)))
  have C : cg_f (gx_0 m0 m1 m2 m3) := ⟨a0, a1, a2, a3⟩
  exact rel_mk (K := kx_0) (G := gx_0 m0 m1 m2 m3) (ft := 32) (ce := 0) (li := 0) (tx := fun _ => 0) (q := fun _ => 0) (rf := fun _ => 0) (ho := fun _ => 0) (po := fun _ => 0) (wk := fun _ => 0) (f := fun _ => 0) (r := fun _ => 0) (sp := 0) (lp := 0) (ls := 0) (he := 0) (t := fun _ => 0) (n := fun _ => 0) (l := fun _ => 0) (cp := fun _ => 0) (in_fa C hfn)
end
section
theorem i_vc_kind {k : Nat} {u : SX} {v : SY} (I : i_Rel k u v) (hk : k + 5 ≤ 2564) (v1 : Int32) (v2 : Int32) (v3 : Int32) : wpX_kind (fun r => wpY_kind (fun r' => r' = r ∧ i_Rel (k + 5) u v) v v1 v2 v3) u v1 v2 v3 := by
  refine zz_el (P := fun u v => wpX_kind (fun r => wpY_kind (fun r' => r' = r ∧ i_Rel (k + 5) u v) v v1 v2 v3) u v1 v2 v3) ?_ I
  intro K G ft ce li tx q rf fn ho po wk sp lp ls he t n l cp f r FA
  have rel := rel_mk (K := K) (wk := wk) (ls := ls) (he := he) (l := l) (cp := cp) (k := k + 5) FA
  obtain ⟨⟨c0, c1, c2, c3⟩, R, CE, ST, SD⟩ := FA
  have Y := R.1
  have X := R.2.1
  obtain ⟨z, hz, hX, hY⟩ := lo_pl (K := K) (G := G) (ft := ft) (ce := ce) (li := li) (rf := rf) (fn := fn) (ho := ho) (po := po) (wk := wk) (sp := sp) (lp := lp) (ls := ls) (he := he) (l := l) (cp := cp) (yp := po) Y X c1.2 c0.2 (by have := SD.1; omega) SD.2.1 v1 v2 v3
  have m1 : ¬ (0 : Int32) ≤ -1 := by decide
  unfold wpX_kind
  dsimp only
  cases z with
  | none =>
    refine hX _ (br_f m1 ?_)
    unfold wpY_kind
    dsimp only
    exact hY _ (br_f m1 ⟨rfl, rel⟩)
  | some b =>
    obtain ⟨ib, _⟩ := hz b rfl
    have ibt := th_ib Y ib
    have s0 := sg_lt X ib
    have s1 := sg_lt X ibt
    have hb := ib.1
    have hbt := ibt.1
    refine hX _ (ja_ge0 (sg_f f b) ?_ rfl)
    refine xw_value (K := K) (G := G) Y X ib ⟨pk_in _ 216 s1 rfl, ?_⟩
    unfold wpY_kind
    dsimp only
    refine hY _ (ja_ge0 b ?_ rfl)
    refine yk_thr (G := G) Y hb ⟨pk_in _ 216 hbt rfl, ?_, rel⟩
    rw [jm_c (by omega), jm_c (by omega), (X.1 _ ibt).1]
theorem i_vc_value {k : Nat} {u : SX} {v : SY} (I : i_Rel k u v) (hk : k + 5 ≤ 2564) (v1 : Int32) (v2 : Int32) (v3 : Int32) : wpX_value (fun r => wpY_value (fun r' => r' = r ∧ i_Rel (k + 5) u v) v v1 v2 v3) u v1 v2 v3 := by
  refine zz_el (P := fun u v => wpX_value (fun r => wpY_value (fun r' => r' = r ∧ i_Rel (k + 5) u v) v v1 v2 v3) u v1 v2 v3) ?_ I
  intro K G ft ce li tx q rf fn ho po wk sp lp ls he t n l cp f r FA
  have rel := rel_mk (K := K) (wk := wk) (ls := ls) (he := he) (l := l) (cp := cp) (k := k + 5) FA
  obtain ⟨⟨c0, c1, c2, c3⟩, R, CE, ST, SD⟩ := FA
  have Y := R.1
  have X := R.2.1
  obtain ⟨z, hz, hX, hY⟩ := lo_pl (K := K) (G := G) (ft := ft) (ce := ce) (li := li) (rf := rf) (fn := fn) (ho := ho) (po := po) (wk := wk) (sp := sp) (lp := lp) (ls := ls) (he := he) (l := l) (cp := cp) (yp := po) Y X c1.2 c0.2 (by have := SD.1; omega) SD.2.1 v1 v2 v3
  have m1 : ¬ (0 : Int32) ≤ -1 := by decide
  have m2 : (-1 : Int32) < 0 := by decide
  unfold wpX_value
  dsimp only
  cases z with
  | none =>
    refine hX _ (br_f m1 ?_)
    unfold wpY_value
    dsimp only
    exact hY _ (br_t m2 ⟨rfl, rel⟩)
  | some b =>
    obtain ⟨ib, _⟩ := hz b rfl
    have ibt := th_ib Y ib
    have s0 := sg_lt X ib
    have s1 := sg_lt X ibt
    have hb := ib.1
    have hbt := ibt.1
    have ht := Y.1 _ hbt
    obtain ⟨x1, x2⟩ := X.1 _ ibt
    refine hX _ (ja_ge0 (sg_f f b) ?_ rfl)
    refine xw_value (K := K) (G := G) Y X ib ?_
    refine jr_eq (sg_f f (th_f t n b)) 1 s1 (by omega) (fun h => ⟨pk_in _ 216 s1 rfl, ?_⟩) (fun h => ?_) rfl
    · rw [x1] at h
      unfold wpY_value
      dsimp only
      refine hY _ (ja_lt0 b ?_ rfl)
      refine yk_thr (G := G) Y hb ?_
      refine jr_eq (th_f t n b) 1 hbt (by omega) (fun _ => ?_) (fun z => absurd h z) rfl
      refine yk_thr (G := G) Y hb ⟨pk_in _ 216 hbt rfl, ?_, rel⟩
      have xv : xv_f f t n (th_f t n b) = n (th_f t n b) := by
        unfold xv_f
        rw [h, if_neg (by decide), if_neg (by decide)]
      rw [jm_c (by omega), jm_c (by omega), x2 (by omega), xv]
    · rw [x1] at h
      unfold wpY_value
      dsimp only
      refine hY _ (ja_lt0 b ?_ rfl)
      refine yk_thr (G := G) Y hb ?_
      exact jr_eq (th_f t n b) 1 hbt (by omega) (fun z => absurd z h) (fun _ => ⟨rfl, rel⟩) rfl
theorem i_vc_sharers {k : Nat} {u : SX} {v : SY} (I : i_Rel k u v) (hk : k + 5 ≤ 2564) (v1 : Int32) (v2 : Int32) (v3 : Int32) : wpX_sharers (fun r => wpY_sharers (fun r' => r' = r ∧ i_Rel (k + 5) u v) v v1 v2 v3) u v1 v2 v3 := by
  refine zz_el (P := fun u v => wpX_sharers (fun r => wpY_sharers (fun r' => r' = r ∧ i_Rel (k + 5) u v) v v1 v2 v3) u v1 v2 v3) ?_ I
  intro K G ft ce li tx q rf fn ho po wk sp lp ls he t n l cp f r FA
  have rel := rel_mk (K := K) (wk := wk) (ls := ls) (he := he) (l := l) (cp := cp) (k := k + 5) FA
  obtain ⟨⟨c0, c1, c2, c3⟩, R, CE, ST, SD⟩ := FA
  have Y := R.1
  have X := R.2.1
  obtain ⟨z, hz, hX, hY⟩ := lo_pl (K := K) (G := G) (ft := ft) (ce := ce) (li := li) (rf := rf) (fn := fn) (ho := ho) (po := po) (wk := wk) (sp := sp) (lp := lp) (ls := ls) (he := he) (l := l) (cp := cp) (yp := po) Y X c1.2 c0.2 (by have := SD.1; omega) SD.2.1 v1 v2 v3
  have m2 : (-1 : Int32) < 0 := by decide
  unfold wpX_sharers
  dsimp only
  cases z with
  | none =>
    refine hX _ (br_t m2 ?_)
    unfold wpY_sharers
    dsimp only
    exact hY _ (br_t m2 ⟨rfl, rel⟩)
  | some b =>
    obtain ⟨ib, _⟩ := hz b rfl
    have s0 := sg_lt X ib
    have hb := ib.1
    have ht := Y.1 _ hb
    obtain ⟨x1, x2⟩ := X.1 _ ib
    refine hX _ (ja_lt0 (sg_f f b) ?_ rfl)
    refine jr_eq (sg_f f b) 0 s0 (by omega) (fun h => ?_) (fun h => ?_) rfl
    · rw [x1] at h
      unfold wpY_sharers
      dsimp only
      refine hY _ (ja_lt0 b ?_ rfl)
      exact jr_eq b 0 hb (by omega) (fun _ => ⟨rfl, rel⟩) (fun z => absurd h z) rfl
    · rw [x1] at h
      refine jr_eq (sg_f f b) 3 s0 (by omega) (fun h3 => ?_) (fun h3 => ?_) rfl
      · rw [x1] at h3
        obtain ⟨⟨c, hc, e⟩, _⟩ := Y.2.2.1 b hb h3
        have hi : jm_a q (nI (sg_f f b)).toNatClampNeg = nI c := by rw [jm_c (by omega), x2 h, xv_3 h3 e]
        refine ⟨pk_in _ 216 s0 rfl, pk_in c 68 hc hi, ?_⟩
        unfold wpY_sharers
        dsimp only
        refine hY _ (ja_lt0 b ?_ rfl)
        refine jr_eq b 0 hb (by omega) (fun z => absurd z h) (fun _ => ?_) rfl
        refine jr_eq b 3 hb (by omega) (fun _ => ⟨pk_in _ 216 hb rfl, ?_⟩) (fun z => absurd h3 z) rfl
        have e1 : jm_a n (oy_f (some b)).toNatClampNeg = nI (148 + c) := by
          show jm_a n (nI b).toNatClampNeg = nI (148 + c)
          rw [jm_c (by omega), e]
        rw [e1]
        refine yk_ptr (G := G) (yb_w Y) (Or.inr rfl) (by omega) ⟨?_, rel⟩
        show _ = jm_a ho (jm_a q (nI (sg_f f b)).toNatClampNeg).toNatClampNeg
        rw [jm_i c hi, R.2.2.2.2.2.2.1 c hc]
        rfl
      · rw [x1] at h3
        unfold wpY_sharers
        dsimp only
        refine hY _ (ja_lt0 b ?_ rfl)
        refine jr_eq b 0 hb (by omega) (fun z => absurd z h) (fun _ => ?_) rfl
        exact jr_eq b 3 hb (by omega) (fun z => absurd z h3) (fun _ => ⟨rfl, rel⟩) rfl
theorem i_vc_weight {k : Nat} {u : SX} {v : SY} (I : i_Rel k u v) (hk : k + 5 ≤ 2564) (v1 : Int32) (v2 : Int32) (v3 : Int32) : wpX_weight (fun r u' => wpY_weight (fun r' v' => r' = r ∧ i_Rel (k + 5) u' v') v v1 v2 v3) u v1 v2 v3 := by
  refine zz_el (P := fun u v => wpX_weight (fun r u' => wpY_weight (fun r' v' => r' = r ∧ i_Rel (k + 5) u' v') v v1 v2 v3) u v1 v2 v3) ?_ I
  intro K G ft ce li tx q rf fn ho po wk sp lp ls he t n l cp f r FA
  have FA0 := FA
  obtain ⟨⟨c0, c1, c2, c3⟩, R, CE, ST, SD⟩ := FA
  have Y := R.1
  have X := R.2.1
  obtain ⟨z, hz, hX, hY⟩ := lo_pl (K := K) (G := G) (ft := ft) (ce := ce) (li := li) (rf := rf) (fn := fn) (ho := ho) (po := po) (wk := wk) (sp := sp) (lp := lp) (ls := ls) (he := he) (l := l) (cp := cp) (yp := po) Y X c1.2 c0.2 (by have := SD.1; omega) SD.2.1 v1 v2 v3
  have m1 : ¬ (0 : Int32) ≤ -1 := by decide
  unfold wpX_weight
  dsimp only
  cases z with
  | none =>
    refine hX _ (br_f m1 ?_)
    unfold wpY_weight
    dsimp only
    exact hY _ (br_f m1 ⟨rfl, rel_mk FA0⟩)
  | some b =>
    obtain ⟨ib, _⟩ := hz b rfl
    have s0 := sg_lt X ib
    have hb := ib.1
    have ibt := th_ib Y ib
    refine hX _ (ja_ge0 (sg_f f b) ?_ rfl)
    refine xw_value (K := K) (G := G) Y X ib ?_
    refine xw_collect (K := K) (G := G) Y X R.2.2.1 c1.2 ibt fun w A wk1 E hw hwk => ?_
    show wpY_weight _ _ v1 v2 v3
    unfold wpY_weight
    dsimp only
    refine hY _ (ja_ge0 b ?_ rfl)
    refine yk_walk (G := G) Y R.2.2.1 ib fun w' A' l' hh W' E' hw' => ⟨?_, rel_mk FA0⟩
    have rg : ∀ a, sb_f t n (th_f t n b) a → a < 37 := fun a s => (al_r Y (sb_al ibt.1 s)).2
    rw [en_cn E rg, en_cn E' rg]
theorem i_vc_count {k : Nat} {u : SX} {v : SY} (I : i_Rel k u v) (hk : k + 5 ≤ 2564) (v1 : Int32) : wpX_count (fun r => wpY_count (fun r' => r' = r ∧ i_Rel (k + 5) u v) v v1) u v1 := by
  refine zz_el (P := fun u v => wpX_count (fun r => wpY_count (fun r' => r' = r ∧ i_Rel (k + 5) u v) v v1) u v1) ?_ I
  intro K G ft ce li tx q rf fn ho po wk sp lp ls he t n l cp f r FA
  have rel := rel_mk (K := K) (wk := wk) (ls := ls) (he := he) (l := l) (cp := cp) (k := k + 5) FA
  obtain ⟨⟨c0, c1, c2, c3⟩, R, CE, ST, SD⟩ := FA
  have Y := R.1
  have hlp := SD.2.1
  refine br_c (fun h0 => ?_) (fun h0 => br_c (fun h1 => ?_) (fun h1 => br_c (fun h2 => ?_) (fun h2 => br_c (fun h3 => ?_) (fun h3 => br_c (fun h4 => ?_) (fun h4 => ?_)))))
  · subst h0
    refine yk_cnt0 (G := G) (yb_w Y) ⟨?_, rel⟩
    rw [li_b Y, ← R.2.2.2.2.2.2.2]
  · exact br_t h1 ⟨rfl, rel⟩
  · exact br_f h1 (br_t h2 ⟨rfl, rel⟩)
  · refine yk_cnt (G := G) (yb_w Y) h1 h2 (fun e => absurd (h3.symm.trans e) (by decide)) ⟨?_, rel⟩
    rw [CE.1, show (216 : Nat) = 148 + 68 from rfl, cn_apx, cn_z (N := 148) (fun i hi x => by
      rcases x with x | x
      · exact h0 x.1
      · have := x.2.1; omega), Nat.zero_add]
    refine congrArg nI (cn_c fun i hi => ⟨fun x => ?_, fun x => Or.inr ⟨h3, by omega, x⟩⟩)
    rcases x with x | x
    · exact absurd x.1 h0
    · exact x.2.2
  · refine pk_le lp 0 (fun hz => ?_) (fun hz => ⟨pk_in (lp - 1) 4 (by omega) (ja_s1 hz), ?_⟩)
    · exact br_f h1 (br_f h2 (br_t h4 (pk_eq lp 0 (fun _ => ⟨rfl, rel⟩) (fun z => absurd z (by omega)))))
    · exact br_f h1 (br_f h2 (br_t h4 (pk_eq lp 0 (fun z => absurd z (by omega)) (fun _ => ⟨pk_in (lp - 1) 4 (by omega) (ja_s1 hz), rfl, rel⟩))))
  · refine yk_cnt (G := G) (yb_w Y) h1 h2 h4 ⟨?_, rel⟩
    rw [cn_z (fun i hi x => by
      rcases x with x | x
      · exact h0 x.1
      · exact h3 x.1)]
    rfl
end
section
theorem i_vc_pushInt {k : Nat} {u : SX} {v : SY} (I : i_Rel k u v) (hk : k + 5 ≤ 2564) (v1 : Int32) : wpX_pushInt (fun r u' => wpY_pushInt (fun r' v' => r' = r ∧ i_Rel (k + 5) u' v') v v1) u v1 := by
  refine zz_el (P := fun u v => wpX_pushInt (fun r u' => wpY_pushInt (fun r' v' => r' = r ∧ i_Rel (k + 5) u' v') v v1) u v1) ?_ I
  intro K G ft ce li tx q rf fn ho po wk sp lp ls he t n l cp f r FA
  have FA0 := FA
  obtain ⟨⟨c0, c1, c2, c3⟩, R, CE, ST, d1, d2, d3, d4, d5, d6, d7⟩ := FA
  obtain ⟨x, hx, rfl⟩ := wb_of32 v1
  refine pk_lt sp (G 3) (fun hs => ?_) (fun hs => ?_)
  · have h0 : t (8 + sp) = 0 := by
      rcases Classical.em (t (8 + sp) = 0) with z | z
      · exact z
      · have := (d5 (8 + sp) (by omega) (by omega)).mp z
        omega
    have e4 : (136 : Int32) + nI sp = nI (8 + sp + 128) := by
      rw [show 8 + sp + 128 = 136 + sp by omega]; exact nI_add 136 sp
    refine nm_r (e' := nI (8 + sp + 128)) e4 (jw_u (8 + sp + 128) 1 (by omega) (jw_u (8 + sp + 128) x (by omega) (nm_r (ja_p1 sp) ?_) rfl rfl) rfl rfl)
    refine pk_eq sp (G 3) (fun z => absurd z (by omega)) (fun _ => ?_)
    have e5 : (8 : Int32) + nI sp = nI (8 + sp) := nI_add 8 sp
    refine jw_u (8 + sp) 1 (by omega) (jw_u (8 + sp) x (by omega) (nm_r (ja_p1 sp) ⟨rfl, ?_⟩) e5 rfl) e5 rfl
    refine rel_mk (f := f) (r := r) (t := nu_a t (8 + sp) 1) (n := nu_a n (8 + sp) x) ⟨⟨c0, c1, c2, c3⟩, op_int R (by omega) (by omega) h0, ?_, ?_, ?_⟩
    · refine ce_k CE (fun c _ => by rw [nu_n (by omega)]) (fun b hb g => ?_)
      have z : b ≠ 8 + sp := fun z => by rw [z, nu_s] at g; omega
      rw [nu_n z] at g ⊢
      obtain ⟨⟨c, hc, e⟩, _⟩ := R.1.2.2.1 b (by omega) g
      rw [e, nu_n (by omega), ← e]
      exact CE.2 b hb g
    · intro c hc h
      rw [nu_n (by omega)] at h
      rw [← (op_int (x := x) R (b := 8 + sp) (by omega) (by omega) h0).2.2.2.2.2.2.1 c hc, R.2.2.2.2.2.2.1 c hc]
      exact ST c hc h
    · refine ⟨by omega, d2, d3, fun b hb h => ?_, fun b h1 h2 => ?_, fun b h1 h2 => ?_, d7⟩
      · rw [nu_n (by omega)] at h; exact d4 b hb h
      · rcases Classical.em (b = 8 + sp) with z | z
        · rw [z, nu_s]; exact ⟨fun _ => by omega, fun _ => by decide⟩
        · rw [nu_n z, d5 b h1 h2]; omega
      · rw [nu_n (by omega)]; exact d6 b h1 h2
  · refine pk_eq sp (G 3) (fun _ => ⟨rfl, rel_mk FA0⟩) (fun z => absurd z (by omega))
theorem i_vc_pushArray {k : Nat} {u : SX} {v : SY} (I : i_Rel k u v) (hk : k + 5 ≤ 2564) : wpX_pushArray (fun r u' => wpY_pushArray (fun r' v' => r' = r ∧ i_Rel (k + 5) u' v') v) u := by
  refine zz_el (P := fun u v => wpX_pushArray (fun r u' => wpY_pushArray (fun r' v' => r' = r ∧ i_Rel (k + 5) u' v') v) u) ?_ I
  intro K G ft ce li tx q rf fn ho po wk sp lp ls he t n l cp f r FA
  have FA0 := FA
  obtain ⟨⟨c0, c1, c2, c3⟩, R, CE, ST, d1, d2, d3, d4, d5, d6, d7⟩ := FA
  have Y := R.1
  have LI := R.2.2.2.2.2.2.2
  refine pk_le (G 3) sp (fun hs => ?_) (fun hs => pk_lt li (G 2) (fun hl => ?_) (fun hl => ?_))
  · exact pk_eq sp (G 3) (fun _ => ⟨rfl, rel_mk FA0⟩) (fun z => absurd z (by omega))
  · have h0 : t (8 + sp) = 0 := by
      rcases Classical.em (t (8 + sp) = 0) with z | z
      · exact z
      · have := (d5 (8 + sp) (by omega) (by omega)).mp z
        omega
    have hft := nd_free R (by omega)
    have FR := R.2.2.2.2.2.1
    obtain ⟨fr32, fr0⟩ := FR.2.1 (ft - 1) (by omega)
    have e4 : (136 : Int32) + nI sp = nI (8 + sp + 128) := by
      rw [show 8 + sp + 128 = 136 + sp by omega]; exact nI_add 136 sp
    refine nm_r (e' := nI (8 + sp + 128)) e4 ?_
    refine xw_take (K := K) (G := G) hft FR.1 fr32 ?_
    refine jw_u (8 + sp + 128) (fn (ft - 1)) (by omega) (jw_u (8 + sp + 128) 2 (by omega) (nm_r (ja_p1 li) (nm_r (ja_p1 sp) ?_)) rfl rfl) rfl rfl
    refine pk_eq sp (G 3) (fun z => absurd z (by omega)) (fun _ => ?_)
    refine yk_cnt0 (G := G) (yb_w Y) ?_
    rw [li_b Y, ← LI]
    refine pk_lt li (G 2) (fun _ => ?_) (fun z => absurd z (by omega))
    refine yk_free (G := G) (yb_w Y) ?_ fun a a5 a37 ha => ?_
    · -- an array that is nowhere
      rcases Classical.em (∃ a, 5 ≤ a ∧ a < 37 ∧ ∀ b, b < 216 → t b = 2 → n b ≠ 4 * a) with h | h
      · exact h
      · have all : ∀ a, 5 ≤ a → a < 37 → al_v t n a := fun a a5 a37 => by
          rcases Classical.em (al_v t n a) with z | z
          · exact z
          · exact absurd ⟨a, a5, a37, fun b hb g e => z ⟨b, hb, g, e⟩⟩ h
        have := cn_inj (P := fun _ => True) (Q := al_v t n) (N := 32) (M := 37) (fun m => m + 5) (fun m hm _ => ⟨by show m + 5 < 37; omega, all (m + 5) (by omega) (by omega)⟩) (fun i j _ _ _ _ e => by have e : i + 5 = j + 5 := e; omega)
        rw [cn_all (fun _ _ => trivial)] at this
        unfold li_f at LI
        omega
    · have e5 : (8 : Int32) + nI sp = nI (8 + sp) := nI_add 8 sp
      refine jw_u (8 + sp) 2 (by omega) (jw_u (8 + sp) (4 * a) (by omega) (nm_r (ja_p1 sp) ⟨rfl, ?_⟩) e5 rfl) e5 rfl
      have R1 := op_arr R (b := 8 + sp) (by omega) (by omega) h0 a5 a37 ha hft
      refine rel_mk (r := r) ⟨⟨c0, c1, c2, c3⟩, R1, ?_, ?_, ?_⟩
      · refine ce_k CE (fun c _ => by rw [nu_n (by omega)]) (fun b hb g => ?_)
        have z : b ≠ 8 + sp := fun z => by rw [z, nu_s] at g; omega
        rw [nu_n z] at g ⊢
        obtain ⟨⟨c, hc, e⟩, _⟩ := R.1.2.2.1 b (by omega) g
        rw [e, nu_n (by omega), ← e]
        exact CE.2 b hb g
      · intro c hc h
        rw [nu_n (by omega)] at h
        rw [← R1.2.2.2.2.2.2.1 c hc, R.2.2.2.2.2.2.1 c hc]
        exact ST c hc h
      · refine ⟨by omega, d2, by omega, fun b hb h => ?_, fun b h1 h2 => ?_, fun b h1 h2 => ?_, d7⟩
        · rw [nu_n (by omega)] at h; exact d4 b hb h
        · rcases Classical.em (b = 8 + sp) with z | z
          · rw [z, nu_s]; exact ⟨fun _ => by omega, fun _ => by decide⟩
          · rw [nu_n z, d5 b h1 h2]; omega
        · rw [nu_n (by omega)]; exact d6 b h1 h2
  · refine pk_eq sp (G 3) (fun z => absurd z (by omega)) (fun _ => ?_)
    refine yk_cnt0 (G := G) (yb_w Y) ?_
    rw [li_b Y, ← LI]
    exact pk_lt li (G 2) (fun z => absurd z (by omega)) (fun _ => ⟨rfl, rel_mk FA0⟩)
theorem i_vc_drop {k : Nat} {u : SX} {v : SY} (I : i_Rel k u v) (hk : k + 5 ≤ 2564) : wpX_drop (fun r u' => wpY_drop (fun r' v' => r' = r ∧ i_Rel (k + 5) u' v') v) u := by
  refine zz_el (P := fun u v => wpX_drop (fun r u' => wpY_drop (fun r' v' => r' = r ∧ i_Rel (k + 5) u' v') v) u) ?_ I
  intro K G ft ce li tx q rf fn ho po wk sp lp ls he t n l cp f r FA
  have FA0 := FA
  obtain ⟨C, R, CE, ST, SD⟩ := FA
  have Y := R.1
  have X := R.2.1
  have LI := R.2.2.2.2.2.2.2
  have hsp : sp ≤ 8 := by have := SD.1; have := C.2.2.2.2; omega
  refine pk_eq sp 0 (fun hz => ?_) (fun hz => nm_r (ja_s1 (by omega)) ?_)
  · exact pk_eq sp 0 (fun _ => ⟨rfl, rel_mk FA0⟩) (fun z => absurd hz z)
  · have nE : ¬ el_b (8 + (sp - 1)) := fun x => by have := x.1; omega
    have e4 : (136 : Int32) + nI (sp - 1) = nI (sg_f f (8 + (sp - 1))) := by
      rw [sg_b (by omega) (by omega), show 8 + (sp - 1) + 128 = 136 + (sp - 1) by omega]; exact nI_add 136 (sp - 1)
    have h3 : t (8 + (sp - 1)) ≠ 3 := fun z => (Y.2.2.1 _ (by omega) z).2.2 ⟨by omega, by omega⟩
    rw [e4]
    refine xw_drop (K := K) (G := G) R C.2.1.2 (ib_r (by omega) nE) (sn_r X (by omega) nE) h3 (ce_0 Y CE) (ce_l CE) fun ft1 li1 tx1 rf1 fn1 ho1 wk1 R1 => ?_
    have CE1 := ce_dz Y CE (b0 := 8 + (sp - 1)) (by omega)
    refine xw_settle (K := K) (G := G) R1 CE1 C.2.1.2 fun r2 ft2 ce2 li2 tx2 q2 rf2 fn2 ho2 wk2 R2 CE2 => ?_
    refine pk_eq sp 0 (fun z => absurd z hz) (fun _ => nm_r (ja_s1 (by omega)) ?_)
    refine jw_u (8 + (sp - 1)) 0 (by omega) ?_ (nI_add 8 (sp - 1)) rfl
    refine yk_settle (G := G) (sh_of R1 CE1) (sz_drop Y R.2.2.1 (by omega)) ⟨rfl, ?_⟩
    have lz := li_dzl Y (b0 := 8 + (sp - 1)) (by omega)
    exact rel_mk (fa_set C (sh_of R1 CE1) (sd_dropS (n := n) SD (by omega) C.2.2.2.2 (li1 := li_f (dz_f t n (8 + (sp - 1))) n) (by omega)) (by have := SD.2.2.1; omega) R2 CE2)
section
variable {K : Nat → Int32} {G : Nat → Nat} {ft ce li : Nat} {tx q rf fn ho po wk : Nat → Nat} {f r : Nat → Nat} {sp lp ls he : Nat} {t n l cp : Nat → Nat}
/-- the end of a loop, on both sides -/
theorem lo_end {k : Nat} (FA : fa_f G f r t n tx q rf fn ho ft li ce sp lp po) (hz : 0 < lp) {PX : SX → Prop}
    (H : ∀ u', (∀ PY : Int32 → SY → Prop, (∀ v', i_Rel k u' v' → PY 0 v') → wpY_loopEnd PY (mk_Y G sp lp ls he t n l cp po)) → PX u') : wpX_endLoop PX (mk_X K G ft ce li sp lp tx q rf fn ho po wk) := by
  obtain ⟨C, R, CE, ST, SD⟩ := FA
  have Y := R.1
  have X := R.2.1
  have LI := R.2.2.2.2.2.2.2
  have hlp := SD.2.1
  refine nm_r (ja_s1 hz) ?_
  have nE : ¬ el_b (16 + (lp - 1)) := fun x => by have := x.1; omega
  have e4 : (144 : Int32) + nI (lp - 1) = nI (sg_f f (16 + (lp - 1))) := by
    rw [sg_b (by omega) (by omega), show 16 + (lp - 1) + 128 = 144 + (lp - 1) by omega]; exact nI_add 144 (lp - 1)
  have h3 : t (16 + (lp - 1)) ≠ 3 := fun z => (Y.2.2.1 _ (by omega) z).2.2 ⟨by omega, by omega⟩
  rw [e4]
  refine xw_drop (K := K) (G := G) R C.2.1.2 (ib_r (by omega) nE) (sn_r X (by omega) nE) h3 (ce_0 Y CE) (ce_l CE) fun ft1 li1 tx1 rf1 fn1 ho1 wk1 R1 => ?_
  have CE1 := ce_dz Y CE (b0 := 16 + (lp - 1)) (by omega)
  refine xw_settle (K := K) (G := G) R1 CE1 C.2.1.2 fun r2 ft2 ce2 li2 tx2 q2 rf2 fn2 ho2 wk2 R2 CE2 => ?_
  refine H _ fun PY hPY => ?_
  refine pk_eq lp 0 (fun z => absurd z (by omega)) (fun _ => nm_r (ja_s1 hz) ?_)
  refine jw_u (16 + (lp - 1)) 0 (by omega) ?_ (nI_add 16 (lp - 1)) rfl
  refine yk_settle (G := G) (sh_of R1 CE1) (sz_drop Y R.2.2.1 (by omega)) (hPY _ ?_)
  have lz := li_dzl Y (b0 := 16 + (lp - 1)) (by omega)
  exact rel_mk (fa_set C (sh_of R1 CE1) (sd_dropL (n := n) SD hz C.2.2.2.2 (li1 := li_f (dz_f t n (16 + (lp - 1))) n) (by omega)) (by have := SD.2.2.1; omega) R2 CE2)
end
theorem i_vc_loopEnd {k : Nat} {u : SX} {v : SY} (I : i_Rel k u v) (hk : k + 5 ≤ 2564) : wpX_loopEnd (fun r u' => wpY_loopEnd (fun r' v' => r' = r ∧ i_Rel (k + 5) u' v') v) u := by
  refine zz_el (P := fun u v => wpX_loopEnd (fun r u' => wpY_loopEnd (fun r' v' => r' = r ∧ i_Rel (k + 5) u' v') v) u) ?_ I
  intro K G ft ce li tx q rf fn ho po wk sp lp ls he t n l cp f r FA
  have hlp := FA.2.2.2.2.2.1
  refine pk_eq lp 0 (fun hz => ?_) (fun hz => ?_)
  · exact pk_eq lp 0 (fun _ => ⟨rfl, rel_mk FA⟩) (fun z => absurd hz z)
  · refine lo_end (K := K) (G := G) (k := k + 5) (ls := ls) (he := he) (l := l) (cp := cp) FA (by omega) fun u' H => ?_
    rcases u' with ⟨_, _, _, _, _, _, _, _, _, _, _, _, _, _, _, _, _, _, _, _, _, _, _, _⟩
    exact H _ fun v' h => ⟨rfl, h⟩
theorem i_vc_loopBegin {k : Nat} {u : SX} {v : SY} (I : i_Rel k u v) (hk : k + 5 ≤ 2564) : wpX_loopBegin (fun r u' => wpY_loopBegin (fun r' v' => r' = r ∧ i_Rel (k + 5) u' v') v) u := by
  refine zz_el (P := fun u v => wpX_loopBegin (fun r u' => wpY_loopBegin (fun r' v' => r' = r ∧ i_Rel (k + 5) u' v') v) u) ?_ I
  intro K G ft ce li tx q rf fn ho po wk sp lp ls he t n l cp f r FA
  have FA0 := FA
  obtain ⟨C, R, CE, ST, d1, d2, d3, d4, d5, d6, d7⟩ := FA
  have Y := R.1
  have X := R.2.1
  have hsp : sp ≤ 8 := by have := C.2.2.2.2; omega
  refine nm_r (e' := nI (136 + sp - 1)) (ja_as (a := 136) (c := 1) (by omega)) ?_
  refine pk_eq sp 0 (fun hz => ?_) (fun hz => ?_)
  · exact pk_eq sp 0 (fun _ => ⟨rfl, rel_mk FA0⟩) (fun z => absurd hz z)
  · have nE : ¬ el_b (8 + sp - 1) := fun x => by have := x.1; omega
    have ht := Y.1 (8 + sp - 1) (by omega)
    have sg0 : sg_f f (8 + sp - 1) = 136 + sp - 1 := by rw [sg_b (by omega) (by omega)]; omega
    have x1 := (X.1 (8 + sp - 1) (ib_r (by omega) nE)).1
    rw [sg0] at x1
    have e5 : (8 : Int32) + nI sp - 1 = nI (8 + sp - 1) := ja_as (a := 8) (c := 1) (by omega)
    refine jr_eq (136 + sp - 1) 2 (by omega) (by omega) (fun h2 => ?_) (fun h2 => ?_) rfl
    · rw [x1] at h2
      refine pk_lt lp 4 (fun hl => ?_) (fun hl => ?_)
      · have l0 : t (16 + lp) = 0 := (d6 (16 + lp) (by omega) (by omega)).2 (by omega)
        have sg1 : sg_f f (16 + lp) = 144 + lp := by rw [sg_b (by omega) (by omega)]; omega
        obtain ⟨r', R1⟩ := op_mvr R (b0 := 8 + sp - 1) (b1 := 16 + lp) (by omega) (by omega) (by omega) (by omega) (by omega) l0
        rw [sg0, sg1] at R1
        have e6 : (144 : Int32) + nI lp = nI (144 + lp) := nI_add 144 lp
        rw [e6]
        refine xw_move (K := K) (G := G) (by omega) (by omega) ?_
        refine jw_u lp 0 hl (nm_r (ja_s1 (by omega)) (nm_r (ja_p1 lp) ?_)) rfl rfl
        refine pk_eq sp 0 (fun z => absurd z hz) (fun _ => ?_)
        refine jr_eq (8 + sp - 1) 2 (by omega) (by omega) (fun _ => ?_) (fun z => absurd h2 z) e5
        refine pk_eq lp 4 (fun z => absurd z (by omega)) (fun _ => nm_r (ja_s1 (by omega)) ?_)
        have e7 : (8 : Int32) + nI (sp - 1) = nI (8 + sp - 1) := by
          rw [show 8 + sp - 1 = 8 + (sp - 1) by omega]; exact nI_add 8 (sp - 1)
        have e8 : (16 : Int32) + nI lp = nI (16 + lp) := nI_add 16 lp
        rw [e7, e8]
        refine yk_move (G := G) (by omega) (by omega) ?_
        refine jw_u lp 0 hl (nm_r (ja_p1 lp) ⟨rfl, ?_⟩) rfl rfl
        have vo : ∀ y, y ≠ 8 + sp - 1 → y ≠ 16 + lp → nu_a (nu_a t (16 + lp) (t (8 + sp - 1))) (8 + sp - 1) 0 y = t y ∧ nu_a n (16 + lp) (n (8 + sp - 1)) y = n y := fun y z u => by rw [nu_n z, nu_n u, nu_n u]; exact ⟨rfl, rfl⟩
        refine rel_mk ⟨C, R1, ?_, ?_, ?_⟩
        · refine ce_k CE (fun c _ => by rw [(vo (148 + c) (by omega) (by omega)).1]) (fun b hb g => ?_)
          have z0 : b ≠ 8 + sp - 1 := fun z => by rw [z, nu_s] at g; omega
          have z1 : b ≠ 16 + lp := fun z => by rw [z, nu_n (by omega), nu_s] at g; omega
          rw [(vo b z0 z1).1] at g
          rw [(vo b z0 z1).2]
          obtain ⟨⟨c, hc, e⟩, _⟩ := R.1.2.2.1 b (by omega) g
          rw [e, (vo (148 + c) (by omega) (by omega)).1, ← e]
          exact CE.2 b hb g
        · intro c hc h
          rw [(vo (148 + c) (by omega) (by omega)).1] at h
          rw [← R1.2.2.2.2.2.2.1 c hc, R.2.2.2.2.2.2.1 c hc]
          exact ST c hc h
        · refine ⟨by omega, by omega, d3, fun b hb h => ?_, fun b h1 h2 => ?_, fun b h1 h2 => ?_, fun i hi => ?_⟩
          · rw [(vo b (by omega) (by omega)).1] at h; exact d4 b hb h
          · rcases Classical.em (b = 8 + sp - 1) with z | z
            · rw [z, nu_s]; exact ⟨fun x => absurd rfl x, fun x => by omega⟩
            · rw [(vo b z (by omega)).1, d5 b h1 h2]; omega
          · rcases Classical.em (b = 16 + lp) with z | z
            · rw [z, nu_n (by omega), nu_s]
              exact ⟨fun _ => by assumption, fun x => by omega⟩
            · rw [(vo b (by omega) z).1]
              exact ⟨fun x => (d6 b h1 h2).1 (by omega), fun x => (d6 b h1 h2).2 (by omega)⟩
          · rcases Classical.em (i = lp) with z | z
            · rw [z, nu_s]; omega
            · rw [nu_n z]; exact d7 i (by omega)
      · refine pk_eq sp 0 (fun z => absurd z hz) (fun _ => ?_)
        refine jr_eq (8 + sp - 1) 2 (by omega) (by omega) (fun _ => ?_) (fun z => absurd h2 z) e5
        exact pk_eq lp 4 (fun _ => ⟨rfl, rel_mk FA0⟩) (fun z => absurd z (by omega))
    · rw [x1] at h2
      refine pk_eq sp 0 (fun z => absurd z hz) (fun _ => ?_)
      exact jr_eq (8 + sp - 1) 2 (by omega) (by omega) (fun z => absurd z h2) (fun _ => ⟨rfl, rel_mk FA0⟩) e5
end
section
section
variable {K : Nat → Int32} {G : Nat → Nat} {ft ce li : Nat} {tx q rf fn ho po wk : Nat → Nat} {f r : Nat → Nat} {sp lp ls he : Nat} {t n l cp : Nat → Nat}
/-- the relation after a copy was pushed -/
theorem fa_copy (FA : fa_f G f r t n tx q rf fn ho ft li ce sp lp po) {b0 w : Nat} {A B l t1 n1 rf1 ho1 : Nat → Nat} (S : kh_f (G 1) t n b0 (8 + sp) w A l) (ib0 : ib_v t n b0) (I : ki_f t n (8 + sp) (1 + 4 * w) B l t1 n1)
    (hrf : ∀ m, m < 32 → rf1 m = if t b0 = 2 ∧ m = q (sg_f f b0) then rf m + 1 else rf m) (hho : ∀ c, c < 68 → ho1 c = ho c + sm_f (fun a => b0_1 (sb_f t n b0 a) * hb_f t n c a) 54) (hs : sp < G 3) (hl : li + w ≤ G 2) :
    fa_f G (fc_f f A B w) r t1 n1 (nu_a tx (8 + sp + 128) (tx (sg_f f b0))) (nu_a q (8 + sp + 128) (q (sg_f f b0))) rf1 fn ho1 ft (li + w) ce (sp + 1) lp po := by
  obtain ⟨C, R, CE, ST, d1, d2, d3, d4, d5, d6, d7⟩ := FA
  have R1 := op_copy R S ib0 I hrf hho
  obtain ⟨c1, c2, ⟨c3, c3', c3''⟩, c4, c5, c6, c7⟩ := kc_r S I
  have g8 := C.2.2.2.2
  have Y := R.1
  have root : ∀ y, y ≠ 8 + sp → ¬ el_b y → t1 y = t y ∧ n1 y = n y := fun y z hE => c5 y z (fun x => hE x.1)
  have cell : ∀ c, t1 (148 + c) = t (148 + c) := fun c => (root (148 + c) (by omega) (fun x => by have := x.2; omega)).1
  refine ⟨C, R1, ?_, fun c hc h => ?_, by omega, d2, hl, fun b hb h => ?_, fun b h1 h2 => ?_, fun b h1 h2 => ?_, d7⟩
  · refine ce_k CE (fun c _ => by rw [cell]) (fun b hb g => ?_)
    obtain ⟨⟨c, hc, e⟩, _⟩ := R1.1.2.2.1 b (by omega) g
    rw [e, cell]
    rcases Classical.em (b = 8 + sp) with z | z
    · rw [z, c3] at g
      exact absurd g S.2.2.2.2.2.2.2.1
    · rcases Classical.em (el_b b ∧ nw_f B w (b / 4)) with ⟨hE, j, hj, ej⟩ | y
      · have e4 : b = 4 * B j + b % 4 := by omega
        obtain ⟨u1, _, u3⟩ := c4 j (b % 4) hj (by omega)
        rw [← e4] at u1 u3
        have g2 : t (4 * A j + b % 4) = 3 := u1.symm.trans g
        have al := al_r Y (sb_al S.2.2.2.1 (S.2.2.1.1 j hj))
        have := CE.2 (4 * A j + b % 4) (by omega) g2
        rw [u3 (by omega)] at e
        rw [e] at this
        exact this
      · obtain ⟨u1, u2⟩ := c5 b z y
        have := CE.2 b hb (u1.symm.trans g)
        rw [← u2, e] at this
        exact this
  · rw [cell] at h
    rw [← R1.2.2.2.2.2.2.1 c hc, hho c hc, R.2.2.2.2.2.2.1 c hc]
    have := ST c hc h
    omega
  · rw [(root b (by omega) (fun x => by have := x.1; omega)).1] at h
    exact d4 b hb h
  · rcases Classical.em (b = 8 + sp) with z | z
    · rw [z, c3]; exact ⟨fun _ => by omega, fun _ => S.2.2.2.2.2.2.1⟩
    · rw [(root b z (fun x => by have := x.1; omega)).1, d5 b h1 h2]; omega
  · rw [(root b (by omega) (fun x => by have := x.1; omega)).1]; exact d6 b h1 h2
theorem th_nz (Y : yw_f (G 1) t n) (CE : ce_f t n ce) {b : Nat} (hb : b < 216) (h : t b ≠ 0) : t (th_f t n b) ≠ 0 := by
  unfold th_f
  split
  · rename_i g
    exact CE.2 b (Y.2.2.1 b hb g).2.1 g
  · exact h
/-- a copy is pushed, on both sides: the limit, or related states -/
theorem lo_pushc {k : Nat} (FA : fa_f G f r t n tx q rf fn ho ft li ce sp lp po) {b : Nat} (ib : ib_v t n b) (hz : t b ≠ 0) {PX : Int32 → SX → Prop}
    (HL : ∀ wk, (∀ PY : Int32 → SY → Prop, (∀ ls he l, PY (-2) (mk_Y G sp lp ls he t n l cp po)) → wpY_pushCopy PY (mk_Y G sp lp ls he t n l cp po) (nI b)) → PX (-2) (mk_X K G ft ce li sp lp tx q rf fn ho po wk))
    (H : ∀ li tx q rf ho wk, (∀ PY : Int32 → SY → Prop, (∀ f r t n ls he l cp, fa_f G f r t n tx q rf fn ho ft li ce (sp + 1) lp po → PY 0 (mk_Y G (sp + 1) lp ls he t n l cp po)) → wpY_pushCopy PY (mk_Y G sp lp ls he t n l cp po) (nI b)) → PX 0 (mk_X K G ft ce li (sp + 1) lp tx q rf fn ho po wk)) : wpX_pushCopy PX (mk_X K G ft ce li sp lp tx q rf fn ho po wk) (nI (sg_f f b)) := by
  have FA0 := FA
  obtain ⟨C, R, CE, ST, d1, d2, d3, d4, d5, d6, d7⟩ := FA
  have Y := R.1
  have LI := R.2.2.2.2.2.2.2
  have g8 := C.2.2.2.2
  have tz := th_nz Y CE ib.1 hz
  have h0 : sp < G 3 → t (8 + sp) = 0 := fun hs => by
    rcases Classical.em (t (8 + sp) = 0) with z | z
    · exact z
    · have := (d5 (8 + sp) (by omega) (by omega)).mp z
      omega
  refine xw_pushc (K := K) (G := G) R C.2.1.2 C.2.2.1.2 g8 d1 ib h0 tz (ce_0 Y CE) (ce_l CE) (fun hx wk => ?_) (fun h1 h2 rf1 ho1 wk hrf hho => ?_)
  · refine HL wk fun PY hPY => ?_
    refine yk_pushc (G := G) Y R.2.2.1 C.2.2.1.2 g8 d1 ib tz h0 (fun _ ls he l => hPY ls he l) (fun g1 g2 => ?_)
    exfalso
    omega
  · refine H _ _ _ _ _ wk fun PY hPY => ?_
    refine yk_pushc (G := G) Y R.2.2.1 C.2.2.1.2 g8 d1 ib tz h0 (fun g => ?_) (fun _ _ w A l ew S B t1 n1 ls he cp I => ?_)
    · exfalso
      omega
    · subst ew
      exact hPY _ _ _ _ _ _ _ _ (fa_copy FA0 S (th_ib Y ib) I hrf hho h1 h2)
end
theorem i_vc_push {k : Nat} {u : SX} {v : SY} (I : i_Rel k u v) (hk : k + 5 ≤ 2564) (v1 : Int32) (v2 : Int32) (v3 : Int32) : wpX_push (fun r u' => wpY_push (fun r' v' => r' = r ∧ i_Rel (k + 5) u' v') v v1 v2 v3) u v1 v2 v3 := by
  refine zz_el (P := fun u v => wpX_push (fun r u' => wpY_push (fun r' v' => r' = r ∧ i_Rel (k + 5) u' v') v v1 v2 v3) u v1 v2 v3) ?_ I
  intro K G ft ce li tx q rf fn ho po wk sp lp ls he t n l cp f r FA
  have FA0 := FA
  obtain ⟨⟨c0, c1, c2, c3⟩, R, CE, ST, SD⟩ := FA
  have Y := R.1
  have X := R.2.1
  obtain ⟨z, hz, hX, hY⟩ := lo_pl (K := K) (G := G) (ft := ft) (ce := ce) (li := li) (rf := rf) (fn := fn) (ho := ho) (po := po) (wk := wk) (sp := sp) (lp := lp) (ls := ls) (he := he) (l := l) (cp := cp) (yp := po) Y X c1.2 c0.2 (by have := SD.1; omega) SD.2.1 v1 v2 v3
  have m2 : (-1 : Int32) < 0 := by decide
  unfold wpX_push
  dsimp only
  cases z with
  | none =>
    refine hX _ (br_t m2 ?_)
    unfold wpY_push
    dsimp only
    exact hY _ (br_t m2 ⟨rfl, rel_mk FA0⟩)
  | some b =>
    obtain ⟨ib, _⟩ := hz b rfl
    have s0 := sg_lt X ib
    have hb := ib.1
    have ht := Y.1 _ hb
    obtain ⟨x1, x2⟩ := X.1 _ ib
    refine hX _ (ja_lt0 (sg_f f b) ?_ rfl)
    refine jr_eq (sg_f f b) 0 s0 (by omega) (fun h => ?_) (fun h => ?_) rfl
    · rw [x1] at h
      unfold wpY_push
      dsimp only
      refine hY _ (ja_lt0 b ?_ rfl)
      exact jr_eq b 0 hb (by omega) (fun _ => ⟨rfl, rel_mk FA0⟩) (fun z => absurd h z) rfl
    · rw [x1] at h
      refine lo_pushc (K := K) (G := G) (k := k + 5) (ls := ls) (he := he) (l := l) (cp := cp) FA0 ib h (fun wk1 hyp => ?_) (fun li1 tx1 q1 rf1 ho1 wk1 hyp => ?_)
      · show wpY_push _ _ v1 v2 v3
        unfold wpY_push
        dsimp only
        refine hY _ (ja_lt0 b ?_ rfl)
        refine jr_eq b 0 hb (by omega) (fun z => absurd z h) (fun _ => ?_) rfl
        exact hyp _ fun ls1 he1 l1 => ⟨rfl, rel_mk FA0⟩
      · show wpY_push _ _ v1 v2 v3
        unfold wpY_push
        dsimp only
        refine hY _ (ja_lt0 b ?_ rfl)
        refine jr_eq b 0 hb (by omega) (fun z => absurd z h) (fun _ => ?_) rfl
        exact hyp _ fun f2 r2 t2 n2 ls2 he2 l2 cp2 F2 => ⟨rfl, rel_mk F2⟩
section
variable {K : Nat → Int32} {G : Nat → Nat} {ft ce li : Nat} {tx q rf fn ho po wk : Nat → Nat} {f r : Nat → Nat} {sp lp ls he : Nat} {t n l cp : Nat → Nat}
/-- the next element of a loop, on both sides -/
theorem lo_next (Y : yw_f (G 1) t n) (X : xr_f f t n tx q) (hG : G 1 ≤ 4) {a : Nat} (al : al_v t n a) : ∀ d p, G 1 - p < d → p ≤ 4 →
    (∃ m, m < G 1 ∧ t (4 * a + m) ≠ 0 ∧ (∀ post : Int32 → Prop, post (nI m) → wX_nextIndex_33 post (nI (8 + 4 * f a)) (K 0) (K 1) (K 2) (K 3) (K 4) (K 5) (K 6) (K 7) (nI (G 0)) (nI (G 1)) (nI (G 2)) (nI (G 3)) (nI ft) (nI ce) (nI li) (nI sp) (nI lp) (jm_a tx) (jm_a q) (jm_a rf) (jm_a fn) (jm_a ho) (jm_a po) (jm_a wk) d (nI p)) ∧ (∀ post : Int32 → SY → Prop, wY_loopNext_61 post (nI (4 * a)) (nI m) (nI (G 0)) (nI (G 1)) (nI (G 2)) (nI (G 3)) (nI sp) (nI lp) (nI ls) (nI he) (jm_a t) (jm_a n) (jm_a l) (jm_a cp) (jm_a po) → wY_loopNext_36 post (nI (4 * a)) (nI (G 0)) (nI (G 1)) (nI (G 2)) (nI (G 3)) (nI sp) (nI lp) (nI ls) (nI he) (jm_a t) (jm_a n) (jm_a l) (jm_a cp) (jm_a po) d (nI p))) ∨
    (∃ m, G 1 ≤ m ∧ m ≤ 4 ∧ (∀ post : Int32 → Prop, post (nI (G 1)) → wX_nextIndex_33 post (nI (8 + 4 * f a)) (K 0) (K 1) (K 2) (K 3) (K 4) (K 5) (K 6) (K 7) (nI (G 0)) (nI (G 1)) (nI (G 2)) (nI (G 3)) (nI ft) (nI ce) (nI li) (nI sp) (nI lp) (jm_a tx) (jm_a q) (jm_a rf) (jm_a fn) (jm_a ho) (jm_a po) (jm_a wk) d (nI p)) ∧ (∀ post : Int32 → SY → Prop, wY_loopNext_61 post (nI (4 * a)) (nI m) (nI (G 0)) (nI (G 1)) (nI (G 2)) (nI (G 3)) (nI sp) (nI lp) (nI ls) (nI he) (jm_a t) (jm_a n) (jm_a l) (jm_a cp) (jm_a po) → wY_loopNext_36 post (nI (4 * a)) (nI (G 0)) (nI (G 1)) (nI (G 2)) (nI (G 3)) (nI sp) (nI lp) (nI ls) (nI he) (jm_a t) (jm_a n) (jm_a l) (jm_a cp) (jm_a po) d (nI p))) := by
  have ra := al_r Y al
  intro d
  induction d with
  | zero => intro p hd; omega
  | succ d ih =>
    intro p hd hp
    rcases Nat.lt_or_ge p (G 1) with hx | hx
    · obtain ⟨s1, s2, s3⟩ := xe_s Y X (e := p) al (by omega)
      have ht := Y.1 (4 * a + p) (by omega)
      rcases Classical.em (t (4 * a + p) = 0) with hz | hz
      · have stepX : ∀ {B : Prop} {post : Int32 → Prop}, B → (vp_in (nI (8 + 4 * f a) + nI p) 216 ∧ ((jm_a tx (nI (8 + 4 * f a) + nI p).toNatClampNeg = 0 → B) ∧ (¬ jm_a tx (nI (8 + 4 * f a) + nI p).toNatClampNeg = 0 → post (nI p)))) := fun h => jr_eq (8 + 4 * f a + p) 0 s1 (by omega) (fun _ => h) (fun z => absurd (s2.trans hz) z) (nI_add _ _)
        have stepY : ∀ {B C : Prop}, B → (vp_in (nI (4 * a) + nI p) 216 ∧ ((jm_a t (nI (4 * a) + nI p).toNatClampNeg = 0 → B) ∧ (¬ jm_a t (nI (4 * a) + nI p).toNatClampNeg = 0 → C))) := fun h => jr_eq (4 * a + p) 0 (by omega) (by omega) (fun _ => h) (fun z => absurd hz z) (nI_add _ _)
        rcases ih (p + 1) (by omega) (by omega) with ⟨m, m1, m2, hX, hY⟩ | ⟨m, m1, m2, hX, hY⟩
        · refine Or.inl ⟨m, m1, m2, fun post h => ?_, fun post h => ?_⟩
          · exact pk_le (G 1) p (fun z => absurd z (by omega)) (fun _ => stepX (nm_r (ja_p1 p) (hX post h)))
          · exact pk_le (G 1) p (fun z => absurd z (by omega)) (fun _ => stepY (nm_r (ja_p1 p) (hY post h)))
        · refine Or.inr ⟨m, m1, m2, fun post h => ?_, fun post h => ?_⟩
          · exact pk_le (G 1) p (fun z => absurd z (by omega)) (fun _ => stepX (nm_r (ja_p1 p) (hX post h)))
          · exact pk_le (G 1) p (fun z => absurd z (by omega)) (fun _ => stepY (nm_r (ja_p1 p) (hY post h)))
      · refine Or.inl ⟨p, hx, hz, fun post h => ?_, fun post h => ?_⟩
        · exact pk_le (G 1) p (fun z => absurd z (by omega)) (fun _ => jr_eq (8 + 4 * f a + p) 0 s1 (by omega) (fun z => absurd (s2.symm.trans z) hz) (fun _ => h) (nI_add _ _))
        · exact pk_le (G 1) p (fun z => absurd z (by omega)) (fun _ => jr_eq (4 * a + p) 0 (by omega) (by omega) (fun z => absurd z hz) (fun _ => h) (nI_add _ _))
    · exact Or.inr ⟨p, hx, hp, fun post h => pk_le (G 1) p (fun _ => h) (fun z => absurd z (by omega)), fun post h => pk_le (G 1) p (fun _ => h) (fun z => absurd z (by omega))⟩
end
theorem i_vc_loopNext {k : Nat} {u : SX} {v : SY} (I : i_Rel k u v) (hk : k + 5 ≤ 2564) : wpX_loopNext (fun r u' => wpY_loopNext (fun r' v' => r' = r ∧ i_Rel (k + 5) u' v') v) u := by
  refine zz_el (P := fun u v => wpX_loopNext (fun r u' => wpY_loopNext (fun r' v' => r' = r ∧ i_Rel (k + 5) u' v') v) u) ?_ I
  intro K G ft ce li tx q rf fn ho po wk sp lp ls he t n l cp f r FA
  have FA0 := FA
  obtain ⟨C, R, CE, ST, d1, d2, d3, d4, d5, d6, d7⟩ := FA
  have Y := R.1
  have X := R.2.1
  have hG := C.2.1.2
  refine pk_eq lp 0 (fun hz => ?_) (fun hz => ?_)
  · exact pk_eq lp 0 (fun _ => ⟨rfl, rel_mk FA0⟩) (fun z => absurd hz z)
  · have t2 : t (16 + lp - 1) = 2 := (d6 (16 + lp - 1) (by omega) (by omega)).1 (by omega)
    have nE : ¬ el_b (16 + lp - 1) := fun x => by have := x.1; omega
    have ib : ib_v t n (16 + lp - 1) := ib_r (by omega) nE
    obtain ⟨a, a5, a37, ea⟩ := Y.2.1 _ ib.1 t2
    have al : al_v t n a := ⟨_, ib.1, t2, ea⟩
    have sg1 : sg_f f (16 + lp - 1) = 144 + lp - 1 := by rw [sg_b (by omega) (by omega)]; omega
    obtain ⟨p1, p2, p3⟩ := xs_p X Y ib.1 t2 ea
    rw [sg1] at p1 p2 p3
    have th1 : th_f t n (16 + lp - 1) = 16 + lp - 1 := if_neg (by omega)
    have e1 : (144 : Int32) + nI lp - 1 = nI (144 + lp - 1) := ja_as (a := 144) (c := 1) (by omega)
    have e2 : (16 : Int32) + nI lp - 1 = nI (16 + lp - 1) := ja_as (a := 16) (c := 1) (by omega)
    have e3 : nI lp - 1 = nI (lp - 1) := ja_s1 (by omega)
    have hp4 := d7 (lp - 1) (by omega)
    -- Y up to its choice
    have openY : ∀ {post : Int32 → SY → Prop}, wY_loopNext_36 post (nI (4 * a)) (nI (G 0)) (nI (G 1)) (nI (G 2)) (nI (G 3)) (nI sp) (nI lp) (nI ls) (nI he) (jm_a t) (jm_a n) (jm_a l) (jm_a cp) (jm_a po) 5 (nI (po (lp - 1))) → wpY_loopNext post (mk_Y G sp lp ls he t n l cp po) := fun h => by
      refine pk_eq lp 0 (fun z => absurd z hz) (fun _ => ⟨pk_in (16 + lp - 1) 216 (by omega) e2, nm_r (e' := nI (4 * a)) (by rw [jm_i _ e2, ea]) ⟨pk_in (lp - 1) 4 (by omega) e3, nm_r (e' := nI (po (lp - 1))) (jm_i _ e3) ⟨5, h⟩⟩⟩)
    have openX : ∀ {post : Int32 → Prop}, wX_nextIndex_33 post (nI (8 + 4 * f a)) (K 0) (K 1) (K 2) (K 3) (K 4) (K 5) (K 6) (K 7) (nI (G 0)) (nI (G 1)) (nI (G 2)) (nI (G 3)) (nI ft) (nI ce) (nI li) (nI sp) (nI lp) (jm_a tx) (jm_a q) (jm_a rf) (jm_a fn) (jm_a ho) (jm_a po) (jm_a wk) 5 (nI (po (lp - 1))) → wpX_nextIndex post (mk_X K G ft ce li sp lp tx q rf fn ho po wk) := fun h =>
      ⟨pk_in (144 + lp - 1) 216 p1 e1, nm_r (e' := nI (8 + 4 * f a)) (by rw [jm_i _ e1, p3]; exact ja_ma 8 4 _) ⟨pk_in (lp - 1) 4 (by omega) e3, nm_r (e' := nI (po (lp - 1))) (jm_i _ e3) ⟨5, h⟩⟩⟩
    rcases lo_next (K := K) (G := G) (ft := ft) (ce := ce) (li := li) (rf := rf) (fn := fn) (ho := ho) (po := po) (wk := wk) (sp := sp) (lp := lp) (ls := ls) (he := he) (l := l) (cp := cp) Y X hG al 5 (po (lp - 1)) (by omega) hp4 with ⟨m, m1, m2, hX, hY⟩ | ⟨m, m1, m2, hX, hY⟩
    · refine openX (hX _ ?_)
      refine pk_lt m (G 1) (fun _ => ?_) (fun z => absurd z (by omega))
      have hE : el_b (4 * a + m) := ⟨by omega, by omega⟩
      have ibm : ib_v t n (4 * a + m) := ⟨by omega, fun _ => by rw [show (4 * a + m) / 4 = a by omega]; exact al⟩
      obtain ⟨z1, hz1, hX1, _⟩ := lo_el (K := K) (G := G) (ft := ft) (ce := ce) (li := li) (rf := rf) (fn := fn) (ho := ho) (po := po) (wk := wk) (sp := sp) (lp := lp) (ls := ls) (he := he) (l := l) (cp := cp) (yp := po) Y X hG ib (ii := m) (by omega)
      rw [sg1] at hX1
      rw [e1]
      -- the element's slot
      have el : ∀ {post : Int32 → Prop}, post (nI (sg_f f (4 * a + m))) → wpX_element post (mk_X K G ft ce li sp lp tx q rf fn ho po wk) (nI (144 + lp - 1)) (nI m) := fun {post} h => by
        unfold wpX_element
        dsimp only
        have xv := xw_value (K := K) (G := G) (ft := ft) (ce := ce) (li := li) (de := sp) (lo := lp) (rf := rf) (fn := fn) (ho := ho) (po := po) (wk := wk) Y X ib (post := fun r_1 => (vp_in r_1 216 ∧ (((((jm_a tx) r_1.toNatClampNeg) = 2 → (((nI m < nI (G 1) → (vp_in r_1 216 ∧ (post ((8 + (4 * ((jm_a q) r_1.toNatClampNeg))) + nI m)))) ∧ (¬ nI m < nI (G 1) → (post (-1)))))) ∧ (¬ ((jm_a tx) r_1.toNatClampNeg) = 2 → (post (-1))))))) (by
          rw [th1, sg1]
          refine jr_eq (144 + lp - 1) 2 p1 (by omega) (fun _ => pk_lt m (G 1) (fun _ => ⟨pk_in _ 216 p1 rfl, ?_⟩) (fun z => absurd z (by omega))) (fun z => absurd p2 z) rfl
          have e5 : (8 : Int32) + 4 * jm_a q (nI (144 + lp - 1)).toNatClampNeg + nI m = nI (sg_f f (4 * a + m)) := by
            rw [jm_c (by omega), p3, sg_e hE.1 hE.2, show (4 * a + m) / 4 = a by omega, show (4 * a + m) % 4 = m by omega]
            exact ja_mb 8 4 _ m
          rw [e5]
          exact h)
        rw [sg1] at xv
        exact xv
      refine el ?_
      refine lo_pushc (K := K) (G := G) (k := k + 5) (ls := ls) (he := he) (l := l) (cp := cp) FA0 ibm m2 (fun wk1 hyp => ?_) (fun li1 tx1 q1 rf1 ho1 wk1 hyp => ?_)
      · refine br_f (show ¬ (-2 : Int32) = 0 by decide) ?_
        refine openY (hY _ ?_)
        refine pk_lt m (G 1) (fun _ => ?_) (fun z => absurd z (by omega))
        rw [nI_add]
        exact hyp _ fun ls1 he1 l1 => br_f (show ¬ (-2 : Int32) = 0 by decide) ⟨rfl, rel_mk FA0⟩
      · refine br_t rfl ?_
        refine jw_u (lp - 1) (m + 1) (by omega) ?_ e3 (ja_p1 m)
        refine openY (hY _ ?_)
        refine pk_lt m (G 1) (fun _ => ?_) (fun z => absurd z (by omega))
        rw [nI_add]
        refine hyp _ fun f2 r2 t2 n2 ls2 he2 l2 cp2 F2 => br_t rfl ?_
        refine jw_u (lp - 1) (m + 1) (by omega) ⟨rfl, ?_⟩ e3 (ja_p1 m)
        obtain ⟨C2, R2, CE2, ST2, b1, b2, b3, b4, b5, b6, b7⟩ := F2
        refine rel_mk ⟨C2, R2, CE2, ST2, b1, b2, b3, b4, b5, b6, fun i hi => ?_⟩
        rcases Classical.em (i = lp - 1) with z | z
        · rw [z, nu_s]; omega
        · rw [nu_n z]; exact b7 i hi
    · refine openX (hX _ ?_)
      refine pk_lt (G 1) (G 1) (fun z => absurd z (by omega)) (fun _ => ?_)
      refine lo_end (K := K) (G := G) (k := k + 5) (ls := ls) (he := he) (l := l) (cp := cp) FA0 (by omega) fun u' H => ?_
      rcases u' with ⟨_, _, _, _, _, _, _, _, _, _, _, _, _, _, _, _, _, _, _, _, _, _, _, _⟩
      refine openY (hY _ ?_)
      refine pk_lt m (G 1) (fun z => absurd z (by omega)) (fun _ => ?_)
      refine H _ fun v' h => ?_
      rcases v' with ⟨_, _, _, _, _, _, _, _, _, _, _, _, _⟩
      exact ⟨rfl, h⟩
end
section
theorem i_vc_unset {k : Nat} {u : SX} {v : SY} (I : i_Rel k u v) (hk : k + 5 ≤ 2564) (v1 : Int32) (v2 : Int32) (v3 : Int32) : wpX_unset (fun r u' => wpY_unset (fun r' v' => r' = r ∧ i_Rel (k + 5) u' v') v v1 v2 v3) u v1 v2 v3 := by
  refine zz_el (P := fun u v => wpX_unset (fun r u' => wpY_unset (fun r' v' => r' = r ∧ i_Rel (k + 5) u' v') v v1 v2 v3) u v1 v2 v3) ?_ I
  intro K G ft ce li tx q rf fn ho po wk sp lp ls he t n l cp f r FA
  have FA0 := FA
  obtain ⟨C, R, CE, ST, SD⟩ := FA
  have Y := R.1
  have X := R.2.1
  have LI := R.2.2.2.2.2.2.2
  have hG := C.2.1.2
  obtain ⟨z, hz, hX, hY⟩ := lo_plv (K := K) (G := G) (ft := ft) (ce := ce) (li := li) (rf := rf) (fn := fn) (ho := ho) (po := po) (wk := wk) (sp := sp) (lp := lp) (ls := ls) (he := he) (l := l) (cp := cp) (yp := po) Y X hG C.1.2 (by have := SD.1; have := C.2.2.2.2; omega) SD.2.1 v1 v2 v3
  have m1 : ¬ (0 : Int32) ≤ -1 := by decide
  unfold wpX_unset
  dsimp only
  cases z with
  | none =>
    refine hX _ (br_f m1 ?_)
    exact hY _ (br_f m1 ⟨rfl, rel_mk FA0⟩)
  | some b =>
    obtain ⟨ib, vn, hvn, ev, P⟩ := hz b rfl
    subst ev
    have s0 := sg_lt X ib
    have hb := ib.1
    have ht := Y.1 _ hb
    obtain ⟨x1, x2⟩ := X.1 _ ib
    have v8 : vn < 8 := by have := C.1.2; omega
    obtain ⟨b148, b820, bv⟩ := pt_rt Y v8 hG P
    have S := sh_of R CE
    refine hX _ (ja_ge0 (sg_f f b) ?_ rfl)
    refine jr_eq (sg_f f b) 0 s0 (by omega) (fun h => ?_) (fun h => ?_) rfl
    · rw [x1] at h
      refine hY _ (ja_ge0 b ?_ rfl)
      refine jw_u b 0 hb ?_ rfl rfl
      have e0 : nu_a t b 0 = t := funext fun y => by
        rcases Classical.em (y = b) with z | z
        · rw [z, nu_s, h]
        · rw [nu_n z]
      have sid := sT_id S ST 68 (by omega)
      refine yk_settle (G := G) (t := t) (n := n) S (by rw [e0]; exact sz_r (yb_w Y)) ⟨rfl, ?_⟩
      rw [sid.1, sid.2]
      exact rel_mk FA0
    · rw [x1] at h
      refine xw_reach (K := K) (G := G) R hG (by have := SD.2.2.1; have := C.2.2.1.2; omega) v8 P fun f1 r1 ft1 tx1 q1 rf1 R1 sn1 ib1 => ?_
      refine xw_clear (K := K) (G := G) R1 hG ib1 sn1 (ce_0 Y CE) (ce_l CE) fun ft2 li2 tx2 rf2 fn2 ho2 wk2 R2 => ?_
      have CE2 := ce_dz Y CE (b0 := b) b148
      refine xw_settle (K := K) (G := G) R2 CE2 hG fun r3 ft3 ce3 li3 tx3 q3 rf3 fn3 ho3 wk3 R3 CE3 => ?_
      refine hY _ (ja_ge0 b ?_ rfl)
      refine jw_u b 0 hb ?_ rfl rfl
      refine yk_settle (G := G) (sh_of R2 CE2) (sz_drop Y R.2.2.1 b148) ⟨rfl, ?_⟩
      have lz := li_dzl Y (b0 := b) hb
      have l2 := SD.2.2.1
      refine rel_mk (fa_set C (sh_of R2 CE2) (sd_k (li1 := li_f (dz_f t n b) n) SD (by omega) (fun y g1 g2 => dz_ne (by omega) (fun x => by have := x.1; omega)) (fun y g1 g2 => ?_)) (by omega) R3 CE3)
      exact SD.2.2.2.1 y g1 (fun z => g2 (by
        rcases Classical.em (dz_f t n b y = 0) with k | k
        · exact k
        · rw [(dz_i k).1]; exact z))
section
variable {w : Nat} {f r t n tx q rf fn ho : Nat → Nat} {ft li ce : Nat}
/-- a place isn't under the stack -/
theorem pt_sb (Y : yw_f w t n) (hw : w ≤ 4) {v b : Nat} (hv : v < 8) {i j : Int32} (P : pt_f w t n v i j b) (hE : el_b b) {x : Nat} (h8 : 8 ≤ x) (h20 : x < 20) : ¬ sb_f t n x (b / 4) := by
  have rv : ¬ el_b v := fun y => by have := y.1; omega
  have ibv : ib_v t n v := ib_r (by omega) rv
  have thr : ∀ y, ib_v t n y → (el_b (th_f t n y) → th_f t n y = y) ∧ (th_f t n y = y ∨ 148 ≤ th_f t n y) ∧ th_f t n y < 216 := fun y iy => by
    have h1 := (th_ib (G := fun _ => w) Y iy).1
    unfold th_f at h1 ⊢
    split
    · rename_i g
      obtain ⟨⟨c, hc, e⟩, _⟩ := Y.2.2.1 y iy.1 g
      rw [if_pos g] at h1
      exact ⟨fun z => by have := z.2; omega, Or.inr (by omega), h1⟩
    · rename_i g
      rw [if_neg g] at h1
      exact ⟨fun _ => rfl, Or.inl rfl, h1⟩
  have top : ∀ a, t (th_f t n v) = 2 → n (th_f t n v) = 4 * a → ¬ sb_f t n x a := fun a g e s => by
    obtain ⟨t1, t2, t3⟩ := thr v ibv
    have nv : ¬ el_b (th_f t n v) := fun z => rv (t1 z ▸ z)
    rcases sb_i s with ⟨g1, g2⟩ | ⟨b', hE', _, g1, g2⟩
    · have := al_u Y (b := x) (by omega) t3 g1 g g2 e
      omega
    · have := al_u Y (el_lt hE') t3 g1 g g2 e
      exact nv (this ▸ hE')
  rcases P with ⟨_, e⟩ | ⟨ii, a, h1, _, h2, ea, ⟨_, e⟩ | ⟨jj, a', h3, _, h4, ea', e⟩⟩
  · exact absurd (e ▸ hE) rv
  · rw [e, show (4 * a + ii) / 4 = a by omega]
    exact top a h2 ea
  · have al : al_v t n a := ⟨_, (thr v ibv).2.2, h2, ea⟩
    have ra := al_r Y al
    have hE1 : el_b (4 * a + ii) := ⟨by omega, by omega⟩
    have ib1 : ib_v t n (4 * a + ii) := ⟨el_lt hE1, fun _ => by rw [show (4 * a + ii) / 4 = a by omega]; exact al⟩
    obtain ⟨t1, t2, t3⟩ := thr (4 * a + ii) ib1
    rw [e, show (4 * a' + jj) / 4 = a' by omega]
    intro s
    rcases sb_i s with ⟨g1, g2⟩ | ⟨b', hE', s', g1, g2⟩
    · have := al_u Y (b := x) (by omega) t3 g1 h4 g2 ea'
      omega
    · have := al_u Y (el_lt hE') t3 g1 h4 g2 ea'
      have hE2 : el_b (th_f t n (4 * a + ii)) := this ▸ hE'
      rw [this, t1 hE2, show (4 * a + ii) / 4 = a by omega] at s'
      exact top a h2 ea s'
theorem sb_dzm {b1 x a : Nat} (h : sb_f (dz_f t n b1) n x a) : sb_f t n x a :=
  h (fun a => sb_f t n x a) (fun g a' e => sb_0 (dz_v g (by decide)) e) (fun b' a' hE s g e => sb_s hE s (dz_v g (by decide)) e)
/-- the stored value, in Y's state and in X's -/
noncomputable def vT_f (t n : Nat → Nat) (g top : Nat) : Nat → Nat := nu_a (nu_a (dz_f t n g) g (dz_f t n g top)) top 0
theorem op_store (R : r0_f w f r t n tx q rf fn ho ft li) (CE : ce_f t n ce) (hw : w ≤ 4) {v b top : Nat} (hv : v < 8) {i j : Int32} (P : pt_f w t n v i j b) (ib : ib_v t n b) (sn : sn_f f t n b) (h8 : 8 ≤ top) (h16 : top < 16) (h0 : t top ≠ 0)
    (KC : ¬ hd_f t n top ∨ (t b ≠ 3 ∧ np_f w t n v i j b)) {tx1 q1 rf1 fn1 ho1 : Nat → Nat} {ft1 li1 : Nat} (R1 : r0_f w f r (dz_f t n (th_f t n b)) n tx1 q1 rf1 fn1 ho1 ft1 li1) :
    (∃ r', r0_f w f r' (vT_f t n (th_f t n b) top) (nu_a n (th_f t n b) (n top)) (nu_a (nu_a tx1 (sg_f f (th_f t n b)) (tx1 (sg_f f top))) (sg_f f top) 0) (nu_a q1 (sg_f f (th_f t n b)) (q1 (sg_f f top))) rf1 fn1 ho1 ft1 li1) ∧ ce_f (vT_f t n (th_f t n b) top) (nu_a n (th_f t n b) (n top)) ce ∧
    sz_f (nu_a (nu_a t (th_f t n b) (t top)) top 0) (vT_f t n (th_f t n b) top) (nu_a n (th_f t n b) (n top)) := by
  have Y := R.1
  have X := R.2.1
  have RK := R.2.2.1
  obtain ⟨b148, b820, bv⟩ := pt_rt Y hv hw P
  have wd := pt_wd hw hv P
  have tE : ¬ el_b top := fun x => by have := x.1; omega
  have ibg := th_ib (G := fun _ => w) Y ib
  have n3 := th_n3 (G := fun _ => w) Y ib.1
  -- the target: the place itself or a cell
  have gk : (th_f t n b = b ∧ t b ≠ 3) ∨ (t b = 3 ∧ 148 ≤ th_f t n b) := by
    unfold th_f
    split
    · rename_i h3
      obtain ⟨⟨c, hc, e⟩, _⟩ := Y.2.2.1 b ib.1 h3
      exact Or.inr ⟨h3, by omega⟩
    · rename_i h3
      exact Or.inl ⟨rfl, h3⟩
  have gE : el_b (th_f t n b) → th_f t n b = b := fun hE => by
    rcases gk with z | z
    · exact z.1
    · have := hE.2; omega
  have gz : t b = 3 → t (th_f t n b) ≠ 0 := fun h3 => by
    unfold th_f
    rw [if_pos h3]
    exact CE.2 b b148 h3
  have sng : sn_f f t n (th_f t n b) := by
    rcases gk with ⟨z, _⟩ | ⟨_, z⟩
    · rw [z]; exact sn
    · exact sn_r X ibg.1 (fun hE => by have := hE.2; omega)
  have gtop : top ≠ th_f t n b := by
    rcases gk with ⟨z, _⟩ | ⟨_, z⟩ <;> omega
  have KM : kk_f (fun a => ∃ c, c < 68 ∧ sb_f t n (148 + c) a) t n := by
    obtain ⟨K0, K0h⟩ := R.2.2.2.1
    exact kk_m Y.2.1 K0h
  generalize hg : th_f t n b = g at *
  have dtop : dz_f t n g top = t top := dz_ne gtop tE
  have dg : dz_f t n g g = 0 := dz_z (Or.inl rfl)
  have t3 : t top ≠ 3 := fun z => (Y.2.2.1 top (by omega) z).2.2 ⟨h8, by omega⟩
  have vg : vT_f t n g top g = t top := by unfold vT_f; rw [nu_n (fun e => gtop e.symm), nu_s, dtop]
  have vt : vT_f t n g top top = 0 := by unfold vT_f; rw [nu_s]
  have vo : ∀ y, y ≠ g → y ≠ top → vT_f t n g top y = dz_f t n g y := fun y z u => by unfold vT_f; rw [nu_n u, nu_n z]
  have mg : nu_a n g (n top) g = n top := nu_s
  have mo : ∀ y, y ≠ g → nu_a n g (n top) y = n y := fun y z => nu_n z
  have v2 : ∀ y k, vT_f t n g top y = k → k ≠ 0 → y ≠ g → t y = k := fun y k e hk z => by
    have u : y ≠ top := fun u => by rw [u, vt] at e; exact hk e.symm
    rw [vo y z u] at e
    exact dz_v e hk
  have sb2 : t top = 2 → sb_f t n top (n top / 4) := fun g2 => by
    obtain ⟨a, _, _, e⟩ := Y.2.1 top (by omega) g2
    rw [e, Nat.mul_div_cancel_left _ (by decide)]
    exact sb_0 g2 e
  have sbs : ∀ x, el_b x → sb_f t n top (x / 4) → t x = 2 → sb_f t n top (n x / 4) := fun x hE s g2 => by
    obtain ⟨a, _, _, e⟩ := Y.2.1 x (el_lt hE) g2
    rw [e, Nat.mul_div_cancel_left _ (by decide)]
    exact sb_s hE s g2 e
  have KK' : ∃ K, kk_f K (vT_f t n g top) (nu_a n g (n top)) := by
    rcases KC with nh | ⟨b3, np⟩
    · refine ⟨fun a => (∃ c, c < 68 ∧ sb_f t n (148 + c) a) ∨ sb_f t n top a, fun c hc e => ?_, fun x hE hk e => ?_, fun x hE hk e => ?_⟩
      · rcases Classical.em (148 + c = g) with z | z
        · rw [z] at e ⊢
          rw [vg] at e
          rw [mg]
          exact Or.inr (sb2 e)
        · rw [mo _ z]
          exact Or.inl (KM.1 c hc (v2 _ 2 e (by decide) z))
      · rcases Classical.em (x = g) with z | z
        · rw [z, vg] at e
          rw [z, mg]
          exact Or.inr (sb2 e)
        · rw [mo x z]
          have e2 := v2 x 2 e (by decide) z
          exact hk.elim (fun y => Or.inl (KM.2.1 x hE y e2)) (fun y => Or.inr (sbs x hE y e2))
      · rcases Classical.em (x = g) with z | z
        · rw [z, vg] at e
          exact t3 e
        · have e2 := v2 x 3 e (by decide) z
          exact hk.elim (fun y => KM.2.2 x hE y e2) (fun y => nh ⟨x, hE, y, e2⟩)
    · have gb : g = b := by
        rcases gk with z | z
        · exact z.1
        · exact absurd z.1 b3
      have nK : ∀ x, el_b x → (∃ c, c < 68 ∧ sb_f t n (148 + c) (x / 4)) → x ≠ g := fun x hE ⟨c, hc, s⟩ z => by
        rw [z, gb] at hE s
        exact np_sb Y hw hv np hE (x := 148 + c) (by omega) (by omega) (fun y => by have := y.2; omega) s
      refine ⟨fun a => ∃ c, c < 68 ∧ sb_f t n (148 + c) a, fun c hc e => ?_, fun x hE hk e => ?_, fun x hE hk e => ?_⟩
      · have z : 148 + c ≠ g := by omega
        rw [mo _ z]
        exact KM.1 c hc (v2 _ 2 e (by decide) z)
      · have z := nK x hE hk
        rw [mo x z]
        exact KM.2.1 x hE hk (v2 x 2 e (by decide) z)
      · exact KM.2.2 x hE hk (v2 x 3 e (by decide) (nK x hE hk))
  have ib1 : ib_v (dz_f t n g) n g := ⟨ibg.1, fun hE => (al_dz Y ibg.1 _).mpr ⟨ibg.2 hE, sb_ne RK hE⟩⟩
  have sn1 : sn_f f (dz_f t n g) n g := fun b' ib' e => sng b' ⟨ib'.1, fun hE => ((al_dz Y ibg.1 _).mp (ib'.2 hE)).1⟩ e
  have sn0 : sn_f f (dz_f t n g) n top := sn_r R1.2.1 (by omega) tE
  have HO1 := R1.2.2.2.2.2.2.1
  refine ⟨?_, ?_, ?_⟩
  · refine op_mv R1 (b0 := top) (b1 := g) (ib_r (by omega) tE) sn0 ib1 sn1 gtop (by rw [dtop]; exact h0) (by rw [dtop]; exact t3) (by rw [dg]; decide) (fun hE => by have e := gE hE; rw [e] at hE ⊢; exact wd hE) (fun hE a sa ef => ?_) KK' (fun c hc => ?_)
    · have sa := sb_dzm sa
      have gb := gE hE
      have al := sb_al (b := top) (by omega) sa
      have ra := al_r Y al
      have hE2 : el_b (4 * a + g % 4) := ⟨by omega, by omega⟩
      have d2 : (4 * a + g % 4) / 4 = a := by omega
      have m2 : (4 * a + g % 4) % 4 = g % 4 := by omega
      have := sng (4 * a + g % 4) ⟨el_lt hE2, fun _ => by rw [d2]; exact al⟩ (by rw [sg_e hE2.1 hE2.2, sg_e hE.1 hE.2, d2, m2, ef])
      have ag : a = g / 4 := by omega
      rw [ag, gb] at sa
      exact pt_sb Y hw hv P (gb ▸ hE) h8 (by omega) sa
    · rw [HO1 c hc]
      refine cn_c fun y hy => ?_
      show (dz_f t n g y = 3 ∧ n y = 148 + c) ↔ (vT_f t n g top y = 3 ∧ nu_a n g (n top) y = 148 + c)
      rcases Classical.em (y = g) with z | z
      · rw [z, dg, vg]
        exact ⟨fun u => absurd u.1 (by decide), fun u => absurd u.1 t3⟩
      · rcases Classical.em (y = top) with u | u
        · rw [u, dtop, vt]
          exact ⟨fun k => absurd k.1 t3, fun k => absurd k.1 (by decide)⟩
        · rw [vo y z u, mo y z]
  · have cell : ∀ c, c < 68 → (vT_f t n g top (148 + c) ≠ 0 ↔ t (148 + c) ≠ 0) := fun c hc => by
      rcases Classical.em (148 + c = g) with z | z
      · rw [z, vg]
        refine ⟨fun _ => ?_, fun _ => h0⟩
        rcases gk with u | u
        · omega
        · exact gz u.1
      · rw [vo _ z (by omega), dz_ne z (fun y => by have := y.2; omega)]
    refine ce_k CE cell (fun y hy e => ?_)
    have z : y ≠ g := fun z => by rw [z, vg] at e; exact t3 e
    have e2 := v2 y 3 e (by decide) z
    rw [mo y z]
    obtain ⟨⟨c, hc, ec⟩, _⟩ := Y.2.2.1 y (by omega) e2
    rw [ec]
    refine (cell c hc).mpr ?_
    rw [← ec]
    exact CE.2 y hy e2
  · have B := yb_w Y
    have og : nu_a (nu_a t g (t top)) top 0 g = t top := by rw [nu_n (fun e => gtop e.symm), nu_s]
    have ot : nu_a (nu_a t g (t top)) top 0 top = 0 := nu_s
    have oo : ∀ y, y ≠ g → y ≠ top → nu_a (nu_a t g (t top)) top 0 y = t y := fun y z u => by rw [nu_n u, nu_n z]
    have le : ∀ y, ¬ (el_b y ∧ sb_f t n g (y / 4)) → vT_f t n g top y = nu_a (nu_a t g (t top)) top 0 y := fun y h => by
      rcases Classical.em (y = g) with z | z
      · rw [z, vg, og]
      · rcases Classical.em (y = top) with u | u
        · rw [u, vt, ot]
        · rw [vo y z u, oo y z u, dz_k (fun x => x.elim z h)]
    refine ⟨fun y hy => ?_, fun y hy => ?_, fun y hy => ?_, fun T XT y hy h => ?_⟩
    · rcases Classical.em (y = g) with z | z
      · rw [z, og, mg]; exact B top (by omega)
      · rw [mo y z]
        rcases Classical.em (y = top) with u | u
        · rw [u, ot]; exact ⟨by omega, fun x => by omega⟩
        · rw [oo y z u]; exact B y hy
    · rcases Classical.em (el_b y ∧ sb_f t n g (y / 4)) with z | z
      · refine Or.inr ?_
        have u1 : y ≠ top := fun e => tE (e ▸ z.1)
        have u2 : y ≠ g := fun e => sb_ne RK (e ▸ z.1) (e ▸ z.2)
        rw [vo y u2 u1, dz_z (Or.inr z)]
      · exact Or.inl (le y z)
    · refine le y fun z => ?_
      have h1 := z.1.1
      have h2 := z.1.2
      omega
    · rcases Classical.em (el_b y ∧ sb_f t n g (y / 4)) with z | z
      · refine sz_d Y RK ibg.1 (fun x a hx e1 e2 s => ?_) XT y z.1 z.2
        have inv : t x = 2 → n x = 4 * a → x ≠ g → el_b x ∧ sb_f t n g (x / 4) ∧ t x = 2 ∧ n x = 4 * a := fun k1 k2 k3 => by
          rcases sb_i s with ⟨g1, g2⟩ | ⟨b', hE', s', g1, g2⟩
          · exact absurd (al_u Y hx ibg.1 k1 g1 k2 g2) k3
          · have := al_u Y hx (el_lt hE') k1 g1 k2 g2
            subst this
            exact ⟨hE', s', k1, k2⟩
        rcases Classical.em (x = g) with u | u
        · rw [u, og] at e1
          rw [u, mg] at e2
          exfalso
          rcases sb_i s with ⟨g1, g2⟩ | ⟨b', hE', s', g1, g2⟩
          · exact gtop (al_u Y (b := top) (by omega) ibg.1 e1 g1 e2 g2)
          · have := al_u Y (b := top) (by omega) (el_lt hE') e1 g1 e2 g2
            exact tE (this ▸ hE')
        · rcases Classical.em (x = top) with k | k
          · rw [k, ot] at e1; omega
          · rw [oo x u k] at e1
            rw [mo x u] at e2
            exact inv e1 e2 u
      · rw [le y z] at h
        rcases XT.1 y hy with u | u
        · rw [u, h]
        · exact u
end
end
section
section
variable {K : Nat → Int32} {G : Nat → Nat} {ft ce li : Nat} {tx q rf fn ho po wk : Nat → Nat} {f r : Nat → Nat} {sp lp ls he : Nat} {t n l cp : Nat → Nat}
/-- the store itself, on both sides -/
theorem lo_store {k : Nat} (FA : fa_f G f r t n tx q rf fn ho ft li ce sp lp po) (hs : 0 < sp) {vn b : Nat} (hvn : vn < G 0) {i j : Int32} (P : pt_f (G 1) t n vn i j b) (ib : ib_v t n b) (KC : ¬ hd_f t n (8 + sp - 1) ∨ (t b ≠ 3 ∧ np_f (G 1) t n vn i j b)) {PX : Int32 → SX → Prop}
    (H : ∀ u', (∀ ls he l, ∀ PY : Int32 → SY → Prop, (∀ v', i_Rel k u' v' → PY 0 v') → wY_store_76 PY (nI b) (nI (G 0)) (nI (G 1)) (nI (G 2)) (nI (G 3)) (nI sp) (nI lp) (nI ls) (nI he) (jm_a t) (jm_a n) (jm_a l) (jm_a cp) (jm_a po)) → PX 0 u') : wX_store_80 PX (nI vn) i j (nI (136 + sp - 1)) (K 0) (K 1) (K 2) (K 3) (K 4) (K 5) (K 6) (K 7) (nI (G 0)) (nI (G 1)) (nI (G 2)) (nI (G 3)) (nI ft) (nI ce) (nI li) (nI sp) (nI lp) (jm_a tx) (jm_a q) (jm_a rf) (jm_a fn) (jm_a ho) (jm_a po) (jm_a wk) := by
  obtain ⟨C, R, CE, ST, SD⟩ := FA
  have SD0 := SD
  obtain ⟨d1, d2, d3, d4, d5, d6, d7⟩ := SD
  have Y := R.1
  have hG := C.2.1.2
  have v8 : vn < 8 := by have := C.1.2; omega
  have hsp : sp ≤ 8 := by have := C.2.2.2.2; omega
  obtain ⟨b148, b820, bv⟩ := pt_rt Y v8 hG P
  have top0 : t (8 + sp - 1) ≠ 0 := (d5 (8 + sp - 1) (by omega) (by omega)).mpr (by omega)
  have ibt := th_ib Y ib
  have n3 := th_n3 Y ib.1
  unfold wX_store_80
  refine xw_reach (K := K) (G := G) R hG (by have := C.2.2.1.2; omega) v8 P fun f1 r1 ft1 tx1 q1 rf1 R1 sn1 ib1 => ?_
  refine xw_value (K := K) (G := G) Y R1.2.1 ib ?_
  have snt : sn_f f1 t n (th_f t n b) := by
    unfold th_f
    split
    · rename_i h3
      obtain ⟨⟨c, hc, e⟩, _⟩ := Y.2.2.1 b ib.1 h3
      exact sn_r R1.2.1 (by omega) (by unfold el_b; omega)
    · exact sn1
  refine xw_drop (K := K) (G := G) R1 hG ibt snt n3 (ce_0 Y CE) (ce_l CE) fun ft2 li2 tx2 rf2 fn2 ho2 wk2 R2 => ?_
  obtain ⟨⟨r3, R3⟩, CE3, Z⟩ := op_store R1 CE hG v8 P ib sn1 (top := 8 + sp - 1) (by omega) (by omega) top0 KC R2
  have sgt : sg_f f1 (8 + sp - 1) = 136 + sp - 1 := by rw [sg_b (by omega) (by omega)]; omega
  rw [sgt] at R3
  refine xw_move (K := K) (G := G) (by omega) (sg_lt R1.2.1 ibt) (nm_r (ja_s1 hs) ?_)
  refine xw_settle (K := K) (G := G) R3 CE3 hG fun r4 ft4 ce4 li4 tx4 q4 rf4 fn4 ho4 wk4 R4 CE4 => ?_
  refine H _ fun ls he l PY hPY => ?_
  unfold wY_store_76
  refine yk_thr (G := G) Y ib.1 (nm_r (ja_s1 hs) ?_)
  have e5 : (8 : Int32) + nI (sp - 1) = nI (8 + sp - 1) := by
    rw [show 8 + sp - 1 = 8 + (sp - 1) by omega]; exact nI_add 8 (sp - 1)
  rw [e5]
  refine yk_move (G := G) (by omega) ibt.1 ?_
  refine yk_settle (G := G) (sh_of R3 CE3) Z (hPY _ ?_)
  have lz := li_dzl Y (b0 := th_f t n b) ibt.1
  have LI := R.2.2.2.2.2.2.2
  have l3 : li_f (vT_f t n (th_f t n b) (8 + sp - 1)) (nu_a n (th_f t n b) (n (8 + sp - 1))) = li2 := R3.2.2.2.2.2.2.2.symm
  have l2 : li2 = li_f (dz_f t n (th_f t n b)) n := R2.2.2.2.2.2.2.2
  -- the target is a variable, an element or a cell
  have gk : th_f t n b = b ∨ 148 ≤ th_f t n b := by
    unfold th_f
    split
    · rename_i h3
      obtain ⟨⟨c, hc, e⟩, _⟩ := Y.2.2.1 b ib.1 h3
      exact Or.inr (by omega)
    · exact Or.inl rfl
  have vo : ∀ y, y < 20 → y ≠ th_f t n b → y ≠ 8 + sp - 1 → vT_f t n (th_f t n b) (8 + sp - 1) y = t y := fun y g1 z u => by
    unfold vT_f
    rw [nu_n u, nu_n z, dz_ne z (fun x => by have := x.1; omega)]
  have SD3 : sd_f G (sp - 1) lp li2 (vT_f t n (th_f t n b) (8 + sp - 1)) po := by
    refine ⟨by omega, d2, by omega, fun y g1 g2 => ?_, fun y g1 g2 => ?_, fun y g1 g2 => ?_, d7⟩
    · rcases Classical.em (y = th_f t n b) with z | z
      · have : y = vn := by
          rcases gk with e | e
          · rw [e] at z
            have := bv (fun x => by have := x.1; omega)
            omega
          · omega
        omega
      · rw [vo y (by omega) z (by omega)] at g2
        exact d4 y g1 g2
    · rcases Classical.em (y = 8 + sp - 1) with z | z
      · have e0 : vT_f t n (th_f t n b) (8 + sp - 1) y = 0 := by
          unfold vT_f
          rw [z, nu_s]
        rw [e0]
        exact ⟨fun x => absurd rfl x, fun x => by omega⟩
      · rw [vo y (by omega) (by rcases gk with e | e <;> omega) z, d5 y g1 g2]
        omega
    · rw [vo y (by omega) (by rcases gk with e | e <;> omega) (by omega)]
      exact d6 y g1 g2
  exact rel_mk (fa_set C (sh_of R3 CE3) SD3 (by omega) R4 CE4)
end
theorem lo_01 {x y : Int32} (hx : x = 0 ∨ x = 1) (hy : y = 0 ∨ y = 1) (h : x = 1 ↔ y = 1) : x = y := by
  rcases hx with a | a
  · rcases hy with b | b
    · rw [a, b]
    · have := h.mpr b
      rw [this, b]
  · rw [a, h.mp a]
theorem i_vc_store {k : Nat} {u : SX} {v : SY} (I : i_Rel k u v) (hk : k + 5 ≤ 2564) (v1 : Int32) (v2 : Int32) (v3 : Int32) : wpX_store (fun r u' => wpY_store (fun r' v' => r' = r ∧ i_Rel (k + 5) u' v') v v1 v2 v3) u v1 v2 v3 := by
  refine zz_el (P := fun u v => wpX_store (fun r u' => wpY_store (fun r' v' => r' = r ∧ i_Rel (k + 5) u' v') v v1 v2 v3) u v1 v2 v3) ?_ I
  intro K G ft ce li tx q rf fn ho po wk sp lp ls he t n l cp f r FA
  have FA0 := FA
  obtain ⟨C, R, CE, ST, SD⟩ := FA
  have Y := R.1
  have X := R.2.1
  have hG := C.2.1.2
  have hsp : sp ≤ 8 := by have := C.2.2.2.2; have := SD.1; omega
  obtain ⟨z, hz, hX, hY⟩ := lo_plv (K := K) (G := G) (ft := ft) (ce := ce) (li := li) (rf := rf) (fn := fn) (ho := ho) (po := po) (wk := wk) (sp := sp) (lp := lp) (ls := ls) (he := he) (l := l) (cp := cp) (yp := po) Y X hG C.1.2 hsp SD.2.1 v1 v2 v3
  have m2 : (-1 : Int32) < 0 := by decide
  have d10 : ¬ (1 : Int32) = 0 := by decide
  unfold wpX_store
  dsimp only
  cases z with
  | none =>
    refine hX _ (br_t m2 ?_)
    exact hY _ (br_t m2 ⟨rfl, rel_mk FA0⟩)
  | some b =>
    obtain ⟨ib, vn, hvn, ev, P⟩ := hz b rfl
    subst ev
    have s0 := sg_lt X ib
    have hb := ib.1
    have ht := Y.1 _ hb
    have x1 := (X.1 _ ib).1
    have v8 : vn < 8 := by have := C.1.2; omega
    refine hX _ (ja_lt0 (sg_f f b) ?_ rfl)
    refine pk_eq sp 0 (fun hs => ?_) (fun hs => nm_r (e' := nI (136 + sp - 1)) (ja_as (a := 136) (c := 1) (by omega)) ?_)
    · exact hY _ (ja_lt0 b (pk_eq sp 0 (fun _ => ⟨rfl, rel_mk FA0⟩) (fun z => absurd hs z)) rfl)
    · have tE : ¬ el_b (8 + sp - 1) := fun x => by have := x.1; omega
      have ibt : ib_v t n (8 + sp - 1) := ib_r (by omega) tE
      have t3 : t (8 + sp - 1) ≠ 3 := fun z => (Y.2.2.1 _ (by omega) z).2.2 ⟨by omega, by omega⟩
      have tht : th_f t n (8 + sp - 1) = 8 + sp - 1 := if_neg t3
      have sgt : sg_f f (8 + sp - 1) = 136 + sp - 1 := by rw [sg_b (by omega) (by omega)]; omega
      have e2 : (8 : Int32) + nI sp - 1 = nI (8 + sp - 1) := ja_as (a := 8) (c := 1) (by omega)
      obtain ⟨zp, hp01, pX, _, pn, pi⟩ := lo_ps (K := K) (G := G) (ft := ft) (ce := ce) (li := li) (rf := rf) (fn := fn) (ho := ho) (po := po) (wk := wk) (sp := sp) (lp := lp) (ls := ls) (he := he) (l := l) (cp := cp) (yp := po) Y X hG v8 v2 v3
      -- Y up to its own test: held is 0 or not
      have openY : ∀ {PY : Int32 → SY → Prop}, (¬ hd_f t n (8 + sp - 1) → ∀ ls he l, wY_store_76 PY (nI b) (nI (G 0)) (nI (G 1)) (nI (G 2)) (nI (G 3)) (nI sp) (nI lp) (nI ls) (nI he) (jm_a t) (jm_a n) (jm_a l) (jm_a cp) (jm_a po)) →
          (hd_f t n (8 + sp - 1) → ∀ ls he l, (t b = 3 ∨ zp ≠ 0 → PY (-3) (mk_Y G sp lp ls he t n l cp po)) ∧ (t b ≠ 3 ∧ zp = 0 → wY_store_76 PY (nI b) (nI (G 0)) (nI (G 1)) (nI (G 2)) (nI (G 3)) (nI sp) (nI lp) (nI ls) (nI he) (jm_a t) (jm_a n) (jm_a l) (jm_a cp) (jm_a po))) → wpY_store PY (mk_Y G sp lp ls he t n l cp po) (nI vn) v2 v3 := fun {PY} h0 h1 => by
        refine hY _ (ja_lt0 b (pk_eq sp 0 (fun z => absurd z hs) (fun _ => ?_)) rfl)
        rw [e2]
        refine yk_walk (G := G) Y R.2.2.1 ibt fun w A l1 hh W E hw => ?_
        rw [tht] at W E
        have hhd := wi_hd Y ibt.1 t3 W E
        have hle := W.2.2.2.2.1
        refine pk_le hh 0 (fun hz => h0 (hhd.mp (by omega)) _ _ _) (fun hz => ?_)
        have hd : hd_f t n (8 + sp - 1) := Classical.byContradiction fun x => by
          have := hhd.mpr x
          omega
        refine jr_eq b 3 hb (by omega) (fun h3 => (h1 hd _ _ _).1 (Or.inl h3)) (fun h3 => ?_) rfl
        obtain ⟨zq, hq01, _, qY, _, qi⟩ := lo_ps (K := K) (G := G) (ft := ft) (ce := ce) (li := li) (rf := rf) (fn := fn) (ho := ho) (po := po) (wk := wk) (sp := sp) (lp := lp) (ls := 1 + 4 * w) (he := hh) (l := l1) (cp := cp) (yp := po) Y X hG v8 v2 v3
        have eq : zq = zp := lo_01 hq01 hp01 (qi.trans pi.symm)
        refine qY _ (br_c (fun hz0 => ?_) (fun hz0 => ?_))
        · exact (h1 hd _ _ _).2 ⟨h3, eq.symm.trans hz0⟩
        · exact (h1 hd _ _ _).1 (Or.inr (fun e => hz0 (eq.trans e)))
      have st : ∀ wk, (¬ hd_f t n (8 + sp - 1) ∨ (t b ≠ 3 ∧ zp = 0)) → wX_store_80 (fun r u' => wpY_store (fun r' v' => r' = r ∧ i_Rel (k + 5) u' v') (mk_Y G sp lp ls he t n l cp po) (nI vn) v2 v3) (nI vn) v2 v3 (nI (136 + sp - 1)) (K 0) (K 1) (K 2) (K 3) (K 4) (K 5) (K 6) (K 7) (nI (G 0)) (nI (G 1)) (nI (G 2)) (nI (G 3)) (nI ft) (nI ce) (nI li) (nI sp) (nI lp) (jm_a tx) (jm_a q) (jm_a rf) (jm_a fn) (jm_a ho) (jm_a po) (jm_a wk) := fun wk KC => by
        refine lo_store (K := K) (G := G) (k := k + 5) (cp := cp) FA0 (by omega) hvn P ib (KC.elim Or.inl (fun x => Or.inr ⟨x.1, pn x.2 b P⟩)) fun u' hyp => ?_
        refine openY (fun _ ls1 he1 l1 => hyp ls1 he1 l1 _ fun v' h => ⟨rfl, h⟩) (fun hd ls1 he1 l1 => ⟨fun x => ?_, fun _ => hyp ls1 he1 l1 _ fun v' h => ⟨rfl, h⟩⟩)
        exfalso
        rcases KC with y | y
        · exact y hd
        · rcases x with x | x
          · exact y.1 x
          · exact x y.2
      have hcl := ce_l CE
      have hc : ∀ {PX : Int32 → SX → Prop}, (hd_f t n (8 + sp - 1) → ∀ wk, PX 1 (mk_X K G ft ce li sp lp tx q rf fn ho po wk)) → (¬ hd_f t n (8 + sp - 1) → ∀ wk, PX 0 (mk_X K G ft ce li sp lp tx q rf fn ho po wk)) → wpX_holdsCells PX (mk_X K G ft ce li sp lp tx q rf fn ho po wk) (nI (136 + sp - 1)) := fun {PX} h1 h0 => by
        have := xw_holds (K := K) (G := G) (ft := ft) (ce := ce) (li := li) (de := sp) (lo := lp) (tx := tx) (q := q) (rf := rf) (fn := fn) (ho := ho) (po := po) (wk := wk) (post := PX) Y X R.2.2.1 hG ibt (ce_0 Y CE) hcl (by rw [tht]; exact h1) (by rw [tht]; exact h0)
        rw [sgt] at this
        exact this
      -- X's own test
      have into : (t b = 3 ∨ zp ≠ 0) → wX_store_61 (fun r u' => wpY_store (fun r' v' => r' = r ∧ i_Rel (k + 5) u' v') (mk_Y G sp lp ls he t n l cp po) (nI vn) v2 v3) (nI vn) v2 v3 (nI (136 + sp - 1)) 1 (K 0) (K 1) (K 2) (K 3) (K 4) (K 5) (K 6) (K 7) (nI (G 0)) (nI (G 1)) (nI (G 2)) (nI (G 3)) (nI ft) (nI ce) (nI li) (nI sp) (nI lp) (jm_a tx) (jm_a q) (jm_a rf) (jm_a fn) (jm_a ho) (jm_a po) (jm_a wk) := fun hin => by
        refine br_f d10 (hc (fun hd wk1 => br_f d10 ?_) (fun hd wk1 => br_t rfl (st wk1 (Or.inl hd))))
        refine openY (fun x => absurd hd x) (fun _ ls1 he1 l1 => ⟨fun _ => ⟨rfl, rel_mk FA0⟩, fun x => ?_⟩)
        exfalso
        rcases hin with y | y
        · exact x.1 y
        · exact y x.2
      refine jr_eq (sg_f f b) 3 s0 (by omega) (fun h3 => into (Or.inl (by rw [← x1]; exact h3))) (fun h3 => pX _ ?_) rfl
      rw [x1] at h3
      refine br_c (fun hz0 => ?_) (fun hz0 => into (Or.inr hz0))
      exact br_t rfl (st wk (Or.inr ⟨h3, hz0⟩))
end
section
section
variable {w : Nat} {f r t n : Nat → Nat}
theorem al_enc {b c : Nat} (hb : b < 148) (hc : c < 68) (hz : t (148 + c) = 0) (a : Nat) : al_v (eT_f t b c) (eN_f n b c) a ↔ al_v t n a := by
  constructor
  · rintro ⟨x, hx, g, e⟩
    rcases Classical.em (x = b) with z | z
    · rw [z, eT_b] at g; omega
    · rcases Classical.em (x = 148 + c) with y | y
      · rw [y, (eT_c (t := t) (n := n) hb).1] at g
        rw [y, (eT_c (t := t) (n := n) hb).2] at e
        exact ⟨b, by omega, g, e⟩
      · rw [(eT_o (t := t) (n := n) z y).1] at g
        rw [(eT_o (t := t) (n := n) z y).2] at e
        exact ⟨x, hx, g, e⟩
  · rintro ⟨x, hx, g, e⟩
    rcases Classical.em (x = b) with z | z
    · subst z
      exact ⟨148 + c, by omega, (eT_c (t := t) (n := n) hb).1.trans g, (eT_c (t := t) (n := n) hb).2.trans e⟩
    · have y : x ≠ 148 + c := fun y => by rw [y, hz] at g; omega
      exact ⟨x, hx, (eT_o (t := t) (n := n) z y).1.trans g, (eT_o (t := t) (n := n) z y).2.trans e⟩
/-- a step below a box, in the new state and in the old -/
theorem sb_encs {b c x a : Nat} {P : Nat → Prop} (h0 : eT_f t b c x = 2 → ∀ a', eN_f n b c x = 4 * a' → P a') (hs : ∀ b' a', el_b b' → P (b' / 4) → t b' = 2 → n b' = 4 * a' → P a') (s : sb_f (eT_f t b c) (eN_f n b c) x a) : P a := by
  refine s P h0 fun b' a' hE hp g e => ?_
  have z : b' ≠ b := fun z => by rw [z, eT_b] at g; omega
  have y : b' ≠ 148 + c := fun y => by have := hE.2; omega
  rw [(eT_o (t := t) (n := n) z y).1] at g
  rw [(eT_o (t := t) (n := n) z y).2] at e
  exact hs b' a' hE hp g e
theorem sb_enc1 {b c x a : Nat} (h1 : x ≠ b) (h2 : x ≠ 148 + c) (s : sb_f (eT_f t b c) (eN_f n b c) x a) : sb_f t n x a := by
  refine sb_encs (P := fun a => sb_f t n x a) (fun g a' e => ?_) (fun b' a' hE hp g e => sb_s hE hp g e) s
  rw [(eT_o (t := t) (n := n) h1 h2).1] at g
  rw [(eT_o (t := t) (n := n) h1 h2).2] at e
  exact sb_0 g e
theorem sb_enc2 {b c a : Nat} (hb : b < 148) (s : sb_f (eT_f t b c) (eN_f n b c) (148 + c) a) : sb_f t n b a := by
  refine sb_encs (P := fun a => sb_f t n b a) (fun g a' e => ?_) (fun b' a' hE hp g e => sb_s hE hp g e) s
  rw [(eT_c (t := t) (n := n) hb).1] at g
  rw [(eT_c (t := t) (n := n) hb).2] at e
  exact sb_0 g e
end
section
variable {K : Nat → Int32} {G : Nat → Nat} {ft ce li : Nat} {tx q rf fn ho po wk : Nat → Nat} {f r : Nat → Nat} {sp lp : Nat} {t n cp : Nat → Nat}
/-- the taker takes, on both sides -/
theorem lo_sh1 {k' : Nat} (C : cg_f G) (R : r0_f (G 1) f r t n tx q rf fn ho ft li) (CE : ce_f t n ce) (SD : sd_f G sp lp li t po) {g k c : Nat} (hg3 : t g = 3) (hgn : n g = 148 + c) (hg : g < 148) (hc : c < 68) (ne : g ≠ k) (ng : ¬ (el_b g ∧ sb_f t n k (g / 4))) (ibk : ib_v t n k) (snk : sn_f f t n k) (hk : k < 148) (hk2 : ¬ (8 ≤ k ∧ k < 20)) (kv : k < 8 → k < G 0) (hw : el_b k → k % 4 < G 1)
    (nk : el_b k → ∀ c', c' < 68 → ¬ sb_f t n (148 + c') (k / 4)) {PX : SX → Prop}
    (H : ∀ u', (∀ ls he l, ∀ PY : Int32 → SY → Prop, (∀ v', i_Rel k' u' v' → PY 0 v') → wY_share_153 PY (nI g) (nI k) (nI (G 0)) (nI (G 1)) (nI (G 2)) (nI (G 3)) (nI sp) (nI lp) (nI ls) (nI he) (jm_a t) (jm_a n) (jm_a l) (jm_a cp) (jm_a po)) → PX u') : wX_share_15 PX (nI (sg_f f g)) (nI (sg_f f k)) (K 0) (K 1) (K 2) (K 3) (K 4) (K 5) (K 6) (K 7) (nI (G 0)) (nI (G 1)) (nI (G 2)) (nI (G 3)) (nI ft) (nI ce) (nI li) (nI sp) (nI lp) (jm_a tx) (jm_a q) (jm_a rf) (jm_a fn) (jm_a ho) (jm_a po) (jm_a wk) := by
  refine xw_sh15 (K := K) (G := G) R CE C.2.1.2 hg3 hgn hg hc ne ng ibk snk hk hk2 hw nk fun r3 ft3 ce3 li3 tx3 q3 rf3 fn3 ho3 wk3 S R3 CE3 => ?_
  refine H _ fun ls he l PY hPY => ?_
  refine yk_sh153 (G := G) (by omega) ibk.1 hgn S (sz_take R ibk hk hc) (hPY _ ?_)
  have vo : ∀ y, y ≠ k → ¬ el_b y → hT_f t n k y = t y := fun y z hE => by unfold hT_f; rw [nu_n z, dz_ne z hE]
  have lz : li_f (hT_f t n k) (nu_a n k (148 + c)) ≤ li_f t n := cn_mono fun a _ ⟨x, hx, e1, e2⟩ => by
    have z : x ≠ k := fun z => by
      unfold hT_f at e1
      rw [z, nu_s] at e1
      omega
    unfold hT_f at e1
    rw [nu_n z] at e1 e2
    exact ⟨x, hx, dz_v e1 (by decide), e2⟩
  have LI := R.2.2.2.2.2.2.2
  have d3 := SD.2.2.1
  refine rel_mk (fa_set C S (sd_k (li1 := li_f (hT_f t n k) (nu_a n k (148 + c))) SD (by omega) (fun y g1 g2 => vo y (by omega) (fun x => by have := x.1; omega)) (fun y g1 g2 => ?_)) (by omega) R3 CE3)
  rcases Classical.em (y = k) with z | z
  · rw [z] at g1 ⊢
    exact kv g1
  · rw [vo y z (fun x => by have := x.1; omega)] at g2
    exact SD.2.2.2.1 y g1 g2
/-- giver and taker share a cell, on both sides -/
theorem lo_sh {k' : Nat} (C : cg_f G) (R : r0_f (G 1) f r t n tx q rf fn ho ft li) (CE : ce_f t n ce) (ST : st_f t n) (SD : sd_f G sp lp li t po) {g k : Nat} (ibg : ib_v t n g) (sng : sn_f f t n g) (h0 : t g ≠ 0) (hg : g < 148) (hg2 : ¬ (8 ≤ g ∧ g < 20)) (gv : g < 8 → g < G 0) (gw : el_b g → g % 4 < G 1)
    (ibk : ib_v t n k) (snk : sn_f f t n k) (hk : k < 148) (hk2 : ¬ (8 ≤ k ∧ k < 20)) (kv : k < 8 → k < G 0) (kw : el_b k → k % 4 < G 1) (ne : g ≠ k) (nh : t g ≠ 3 → ¬ hd_f t n g)
    (nkg : el_b g → ∀ c', c' < 68 → ¬ sb_f t n (148 + c') (g / 4)) (nkk : el_b k → ∀ c', c' < 68 → ¬ sb_f t n (148 + c') (k / 4)) (gk : ¬ (el_b g ∧ sb_f t n k (g / 4))) (kg : ¬ (el_b k ∧ sb_f t n g (k / 4))) {PX : SX → Prop}
    (H : ∀ u', (∀ ls he l, ∀ PY : Int32 → SY → Prop, (∀ v', i_Rel k' u' v' → PY 0 v') → (vp_in (nI g) 216 ∧ ((jm_a t (nI g).toNatClampNeg = 3 → wY_share_153 PY (nI g) (nI k) (nI (G 0)) (nI (G 1)) (nI (G 2)) (nI (G 3)) (nI sp) (nI lp) (nI ls) (nI he) (jm_a t) (jm_a n) (jm_a l) (jm_a cp) (jm_a po)) ∧ (¬ jm_a t (nI g).toNatClampNeg = 3 → ∃ d, wY_share_107 PY (nI g) (nI k) (nI (G 0)) (nI (G 1)) (nI (G 2)) (nI (G 3)) (nI sp) (nI lp) (nI ls) (nI he) (jm_a t) (jm_a n) (jm_a l) (jm_a cp) (jm_a po) d 148)))) → PX u') : wpX_share PX (mk_X K G ft ce li sp lp tx q rf fn ho po wk) (nI (sg_f f g)) (nI (sg_f f k)) := by
  have Y := R.1
  have X := R.2.1
  have s1 := sg_lt X ibg
  have x1 := (X.1 g ibg).1
  have ht := Y.1 g ibg.1
  refine jr_eq (sg_f f g) 3 s1 (by omega) (fun h3 => ?_) (fun h3 => ?_) rfl
  · rw [x1] at h3
    obtain ⟨⟨c, hc, ec⟩, _⟩ := Y.2.2.1 g ibg.1 h3
    refine lo_sh1 (K := K) (G := G) (k' := k') (cp := cp) C R CE SD h3 ec hg hc ne gk ibk snk hk hk2 kv kw nkk fun u' hyp => ?_
    refine H u' fun ls he l PY hPY => ?_
    exact jr_eq g 3 ibg.1 (by omega) (fun _ => hyp ls he l PY hPY) (fun z => absurd h3 z) rfl
  · rw [x1] at h3
    have hex := fc_ex Y ST hg hg2 h3
    refine xw_enc (K := K) (G := G) R CE ibg sng h0 h3 hg hg2 gw hex (nh h3) nkg fun c hc hz hf r1 tx1 q1 ho1 R1 CE1 => ?_
    have al := al_enc (t := t) (n := n) (b := g) (c := c) hg hc hz
    have ibk1 : ib_v (eT_f t g c) (eN_f n g c) k := ⟨ibk.1, fun hE => (al _).mpr (ibk.2 hE)⟩
    have snk1 : sn_f f (eT_f t g c) (eN_f n g c) k := fun b' ib' e => snk b' ⟨ib'.1, fun hE => (al _).mp (ib'.2 hE)⟩ e
    have SD1 : sd_f G sp lp li (eT_f t g c) po := sd_k SD SD.2.2.1 (fun y g1 g2 => (eT_o (t := t) (n := n) (by omega) (by omega)).1) (fun y g1 g2 => by
      rcases Classical.em (y = g) with z | z
      · rw [z] at g1 ⊢
        exact gv g1
      · rw [(eT_o (t := t) (n := n) z (by omega)).1] at g2
        exact SD.2.2.2.1 y g1 g2)
    refine lo_sh1 (K := K) (G := G) (k' := k') (cp := cp) C R1 CE1 SD1 eT_b eN_b hg hc ne (fun x => gk ⟨x.1, sb_enc1 (fun e => ne e.symm) (by omega) x.2⟩) ibk1 snk1 hk hk2 kv kw (fun hE c' hc' s => ?_) fun u' hyp => ?_
    · rcases Classical.em (c' = c) with z | z
      · subst z
        exact kg ⟨hE, sb_enc2 hg s⟩
      · exact nkk hE c' hc' (sb_enc1 (by omega) (by omega) s)
    · refine H u' fun ls he l PY hPY => ?_
      refine jr_eq g 3 ibg.1 (by omega) (fun z => absurd z h3) (fun _ => ⟨69, ?_⟩) rfl
      refine yk_sh107 (G := G) Y hg hk (fun c2 hc2 hz2 hf2 => ?_) 69 0 (by omega) (by omega) (fun c' hc' => absurd hc' (by omega)) hex
      have : c2 = c := by
        rcases Nat.lt_trichotomy c2 c with u | u | u
        · exact absurd hz2 (hf c2 u)
        · exact u
        · exact absurd hz (hf2 c u)
      subst this
      exact hyp ls he l PY hPY
end
end
section
/-- the two places share already -/
def sa_f (t n : Nat → Nat) (b k : Nat) : Prop := b = k ∨ (t b = 3 ∧ t k = 3 ∧ n b = n k)
section
variable {K : Nat → Int32} {G : Nat → Nat} {ft ce li de lo : Nat} {tx q rf fn ho po wk : Nat → Nat} {f r : Nat → Nat} {sp lp ls he : Nat} {t n l cp yp : Nat → Nat}
theorem xw_already (Y : yw_f (G 1) t n) (X : xr_f f t n tx q) {b wn : Nat} (ib : ib_v t n b) (hw : wn < 8) {post : Int32 → Prop} (H1 : sa_f t n b wn → post 1) (H0 : ¬ sa_f t n b wn → post 0) : wpX_shareAlready post (mk_X K G ft ce li de lo tx q rf fn ho po wk) (nI (sg_f f b)) (nI wn) := by
  have rt : ¬ el_b wn := fun x => by have := x.1; omega
  have ibw : ib_v t n wn := ib_r (by omega) rt
  have sw : sg_f f wn = wn := sg_a hw
  have s0 := sg_lt X ib
  obtain ⟨x1, x2⟩ := X.1 b ib
  obtain ⟨y1, y2⟩ := X.1 wn ibw
  rw [sw] at y1 y2
  have tb := Y.1 b ib.1
  have tw := Y.1 wn ibw.1
  refine pk_eq (sg_f f b) wn (fun e => H1 (Or.inl (sn_r X (by omega) rt b ib (by rw [sw]; exact e)))) (fun e => ?_)
  have ne : b ≠ wn := fun z => e (by rw [z, sw])
  refine jr_eq (sg_f f b) 3 s0 (by omega) (fun h3 => ?_) (fun h3 => H0 (fun z => z.elim ne (fun z => h3 (x1.trans z.1)))) rfl
  rw [x1] at h3
  refine jr_eq wn 3 (by omega) (by omega) (fun g3 => ?_) (fun g3 => H0 (fun z => z.elim ne (fun z => g3 (y1.trans z.2.1)))) rfl
  rw [y1] at g3
  obtain ⟨⟨c, hc, ec⟩, _⟩ := Y.2.2.1 b ib.1 h3
  obtain ⟨⟨c', hc', ec'⟩, _⟩ := Y.2.2.1 wn (by omega) g3
  have q1 : q (sg_f f b) = c := (x2 (by omega)).trans (xv_3 h3 ec)
  have q2 : q wn = c' := (y2 (by omega)).trans (xv_3 g3 ec')
  refine ⟨pk_in _ 216 s0 rfl, pk_in _ 216 (by omega) rfl, pk_eq c c' (fun z => H1 (Or.inr ⟨h3, g3, by omega⟩)) (fun z => H0 (fun y => y.elim ne (fun y => z (by have := y.2.2; omega)))) ?_ ?_⟩
  · rw [jm_c (by omega), q1]
  · rw [jm_c (by omega), q2]
theorem yk_share {g k : Nat} (Y : yw_f (G 1) t n) (hg : g < 216) (hk : k < 216) {x3 x4 x5 x6 : Int32} {post : Int32 → SY → Prop} (HA : t g = 0 → post (-1) (mk_Y G sp lp ls he t n l cp yp)) (H1 : t g ≠ 0 → sa_f t n g k → post 0 (mk_Y G sp lp ls he t n l cp yp)) (H0 : t g ≠ 0 → ¬ sa_f t n g k → wY_share_55 post (nI g) (nI k) x3 x4 x5 x6 (nI (G 0)) (nI (G 1)) (nI (G 2)) (nI (G 3)) (nI sp) (nI lp) (nI ls) (nI he) (jm_a t) (jm_a n) (jm_a l) (jm_a cp) (jm_a yp)) : wpY_share post (mk_Y G sp lp ls he t n l cp yp) (nI g) (nI k) x3 x4 x5 x6 := by
  have tg := Y.1 g hg
  have tk := Y.1 k hk
  refine jr_eq g 0 hg (by omega) HA (fun h0 => pk_eq g k (fun e => H1 h0 (Or.inl e)) (fun ne => ?_)) rfl
  refine jr_eq g 3 hg (by omega) (fun h3 => ?_) (fun h3 => H0 h0 (fun z => z.elim ne (fun z => h3 z.1))) rfl
  refine jr_eq k 3 hk (by omega) (fun g3 => ?_) (fun g3 => H0 h0 (fun z => z.elim ne (fun z => g3 z.2.1))) rfl
  obtain ⟨⟨c, hc, ec⟩, _⟩ := Y.2.2.1 g hg h3
  obtain ⟨⟨c', hc', ec'⟩, _⟩ := Y.2.2.1 k hk g3
  refine ⟨pk_in _ 216 hg rfl, pk_in _ 216 hk rfl, pk_eq (n g) (n k) (fun z => H1 h0 (Or.inr ⟨h3, g3, z⟩)) (fun z => H0 h0 (fun y => y.elim ne (fun y => z y.2.2))) (jm_c (by omega)) (jm_c (by omega))⟩
/-- Y's tests ahead of the sharing itself -/
theorem yk_sh55 (Y : yw_f (G 1) t n) (X : xr_f f t n tx q) (RK : rk_f f t n r) (hG : G 1 ≤ 4) {g k vn wn : Nat} (hv : vn < 8) (hw : wn < 8) (ibg : ib_v t n g) {i j zp : Int32} (hp01 : zp = 0 ∨ zp = 1) (pi : zp = 1 ↔ pp_f (G 1) t n vn i j) {post : Int32 → SY → Prop}
    (HN : ∀ ls he l, (vn = wn ∨ zp ≠ 0 ∨ hd_f t n (th_f t n g)) → post (-3) (mk_Y G sp lp ls he t n l cp yp))
    (H : vn ≠ wn → zp = 0 → ¬ hd_f t n (th_f t n g) → ∀ ls he l, (vp_in (nI g) 216 ∧ ((jm_a t (nI g).toNatClampNeg = 3 → wY_share_153 post (nI g) (nI k) (nI (G 0)) (nI (G 1)) (nI (G 2)) (nI (G 3)) (nI sp) (nI lp) (nI ls) (nI he) (jm_a t) (jm_a n) (jm_a l) (jm_a cp) (jm_a yp)) ∧ (¬ jm_a t (nI g).toNatClampNeg = 3 → ∃ d, wY_share_107 post (nI g) (nI k) (nI (G 0)) (nI (G 1)) (nI (G 2)) (nI (G 3)) (nI sp) (nI lp) (nI ls) (nI he) (jm_a t) (jm_a n) (jm_a l) (jm_a cp) (jm_a yp) d 148)))) :
    wY_share_55 post (nI g) (nI k) (nI vn) i j (nI wn) (nI (G 0)) (nI (G 1)) (nI (G 2)) (nI (G 3)) (nI sp) (nI lp) (nI ls) (nI he) (jm_a t) (jm_a n) (jm_a l) (jm_a cp) (jm_a yp) := by
  refine pk_eq vn wn (fun e => HN _ _ _ (Or.inl e)) (fun ne => ?_)
  obtain ⟨zq, hq01, _, qY, _, qi⟩ := lo_ps (K := fun _ => 0) (G := G) (ft := 0) (ce := 0) (li := 0) (rf := fun _ => 0) (fn := fun _ => 0) (ho := fun _ => 0) (po := fun _ => 0) (wk := fun _ => 0) (sp := sp) (lp := lp) (ls := ls) (he := he) (l := l) (cp := cp) (yp := yp) Y X hG hv i j
  have eq : zq = zp := lo_01 hq01 hp01 (qi.trans pi.symm)
  refine qY _ (br_c (fun hz => ?_) (fun hz => HN _ _ _ (Or.inr (Or.inl (fun e => hz (eq.trans e))))))
  refine yk_walk (G := G) Y RK ibg fun w A l1 hh W E hw => ?_
  have hhd := wi_hd Y (th_ib Y ibg).1 (th_n3 Y ibg.1) W E
  have hle := W.2.2.2.2.1
  refine pk_le hh 0 (fun h0 => H ne (eq.symm.trans hz) (hhd.mp (by omega)) _ _ _) (fun h0 => HN _ _ _ (Or.inr (Or.inr ?_)))
  exact Classical.byContradiction fun x => by
    have := hhd.mpr x
    omega
end
end
section
theorem sa_s {t n : Nat → Nat} {b k : Nat} (h : sa_f t n b k) : sa_f t n k b := h.elim (fun e => Or.inl e.symm) (fun x => Or.inr ⟨x.2.1, x.1, x.2.2.symm⟩)
theorem i_vc_bind {k : Nat} {u : SX} {v : SY} (I : i_Rel k u v) (hk : k + 5 ≤ 2564) (v1 : Int32) (v2 : Int32) (v3 : Int32) (v4 : Int32) : wpX_bind (fun r u' => wpY_bind (fun r' v' => r' = r ∧ i_Rel (k + 5) u' v') v v1 v2 v3 v4) u v1 v2 v3 v4 := by
  refine zz_el (P := fun u v => wpX_bind (fun r u' => wpY_bind (fun r' v' => r' = r ∧ i_Rel (k + 5) u' v') v v1 v2 v3 v4) u v1 v2 v3 v4) ?_ I
  intro K G ft ce li tx q rf fn ho po wk sp lp ls he t n l cp f r FA
  have FA0 := FA
  obtain ⟨C, R, CE, ST, SD⟩ := FA
  have Y := R.1
  have X := R.2.1
  have hG := C.2.1.2
  have hsp : sp ≤ 8 := by have := C.2.2.2.2; have := SD.1; omega
  obtain ⟨z, hz, hX, hY⟩ := lo_plv (K := K) (G := G) (ft := ft) (ce := ce) (li := li) (rf := rf) (fn := fn) (ho := ho) (po := po) (wk := wk) (sp := sp) (lp := lp) (ls := ls) (he := he) (l := l) (cp := cp) (yp := po) Y X hG C.1.2 hsp SD.2.1 v1 v2 v3
  have m2 : (-1 : Int32) < 0 := by decide
  have d10 : ¬ (1 : Int32) = 0 := by decide
  unfold wpX_bind
  dsimp only
  cases z with
  | none =>
    refine hX _ (br_t m2 ?_)
    exact hY _ (br_t m2 ⟨rfl, rel_mk FA0⟩)
  | some b =>
    obtain ⟨ib, vn, hvn, ev, P⟩ := hz b rfl
    subst ev
    have s0 := sg_lt X ib
    have hb := ib.1
    have ht := Y.1 _ hb
    have x1 := (X.1 _ ib).1
    have g08 := C.1.2
    have v8 : vn < 8 := by omega
    obtain ⟨b148, b820, bv⟩ := pt_rt Y v8 hG P
    have wd := pt_wd hG v8 P
    refine hX _ (ja_lt0 (sg_f f b) ?_ rfl)
    refine br_c (fun h4 => ?_) (fun h4 => ?_)
    · exact hY _ (ja_lt0 b (br_t h4 ⟨rfl, rel_mk FA0⟩) rfl)
    · obtain ⟨wn, hwn, ew⟩ := nI_of h4
      subst ew
      refine pk_le (G 0) wn (fun hx => ?_) (fun hx => ?_)
      · exact hY _ (ja_lt0 b (br_f h4 (pk_lt wn (G 0) (fun z => absurd z (by omega)) (fun _ => ⟨rfl, rel_mk FA0⟩))) rfl)
      · have w8 : wn < 8 := by have := C.1.2; omega
        have rtw : ¬ el_b wn := fun x => by have := x.1; omega
        have ibw : ib_v t n wn := ib_r (by omega) rtw
        have sw : ∀ f, sg_f f wn = wn := fun f => sg_a w8
        have xw := (X.1 wn ibw).1
        rw [sw] at xw
        have tw := Y.1 wn (by omega)
        obtain ⟨zp, hp01, pX, _, pn, pi⟩ := lo_ps (K := K) (G := G) (ft := ft) (ce := ce) (li := li) (rf := rf) (fn := fn) (ho := ho) (po := po) (wk := wk) (sp := sp) (lp := lp) (ls := ls) (he := he) (l := l) (cp := cp) (yp := po) Y X hG v8 v2 v3
        have openY : ∀ {PY : Int32 → SY → Prop}, (t wn = 0 → PY (-1) (mk_Y G sp lp ls he t n l cp po)) → (t wn ≠ 0 → sa_f t n b wn → PY 0 (mk_Y G sp lp ls he t n l cp po)) →
            (t wn ≠ 0 → ¬ sa_f t n b wn → (vn = wn ∨ zp ≠ 0 ∨ hd_f t n (th_f t n wn)) → ∀ ls he l, PY (-3) (mk_Y G sp lp ls he t n l cp po)) →
            (t wn ≠ 0 → ¬ sa_f t n b wn → vn ≠ wn → zp = 0 → ¬ hd_f t n (th_f t n wn) → ∀ ls he l, ∀ PY' : Int32 → SY → Prop, (∀ v', PY 0 v' → PY' 0 v') → (vp_in (nI wn) 216 ∧ ((jm_a t (nI wn).toNatClampNeg = 3 → wY_share_153 PY' (nI wn) (nI b) (nI (G 0)) (nI (G 1)) (nI (G 2)) (nI (G 3)) (nI sp) (nI lp) (nI ls) (nI he) (jm_a t) (jm_a n) (jm_a l) (jm_a cp) (jm_a po)) ∧ (¬ jm_a t (nI wn).toNatClampNeg = 3 → ∃ d, wY_share_107 PY' (nI wn) (nI b) (nI (G 0)) (nI (G 1)) (nI (G 2)) (nI (G 3)) (nI sp) (nI lp) (nI ls) (nI he) (jm_a t) (jm_a n) (jm_a l) (jm_a cp) (jm_a po) d 148)))) → wpY_bind PY (mk_Y G sp lp ls he t n l cp po) (nI vn) v2 v3 (nI wn) := fun {PY} h1 h2 h3 h5 => by
          refine hY _ (ja_lt0 b (br_f h4 (pk_lt wn (G 0) (fun _ => ?_) (fun z => absurd z (by omega)))) rfl)
          refine yk_share (G := G) Y (g := wn) (k := b) (by omega) (by omega) h1 (fun g0 sa => h2 g0 (sa_s sa)) (fun g0 nsa => ?_)
          refine yk_sh55 (G := G) Y X R.2.2.1 hG v8 w8 ibw hp01 pi (fun ls he l x => h3 g0 (fun x => nsa (sa_s x)) x ls he l) (fun ne z0 nh ls he l => ?_)
          refine h5 g0 (fun x => nsa (sa_s x)) ne z0 nh ls he l _ fun v' h => ?_
          rcases v' with ⟨_, _, _, _, _, _, _, _, _, _, _, _, _⟩
          exact h
        refine jr_eq wn 0 (by omega) (by omega) (fun h0 => ?_) (fun h0 => ?_) rfl
        · rw [xw] at h0
          exact openY (fun _ => ⟨rfl, rel_mk FA0⟩) (fun x => absurd h0 x) (fun x => absurd h0 x) (fun x => absurd h0 x)
        · rw [xw] at h0
          refine xw_already (K := K) (G := G) Y X ib w8 (fun sa => br_f d10 ?_) (fun nsa => br_t rfl ?_)
          · exact openY (fun x => absurd x h0) (fun _ _ => ⟨rfl, rel_mk FA0⟩) (fun _ x => absurd sa x) (fun _ x => absurd sa x)
          · have no : ∀ {wk : Nat → Nat}, (vn = wn ∨ zp ≠ 0 ∨ hd_f t n (th_f t n wn)) → wpY_bind (fun r' v' => r' = -3 ∧ i_Rel (k + 5) (mk_X K G ft ce li sp lp tx q rf fn ho po wk) v') (mk_Y G sp lp ls he t n l cp po) (nI vn) v2 v3 (nI wn) := fun {wk} hn => by
              refine openY (fun x => absurd x h0) (fun _ x => absurd x nsa) (fun _ _ _ ls he l => ⟨rfl, rel_mk FA0⟩) (fun _ _ ne z0 nh => ?_)
              exfalso
              rcases hn with y | y | y
              · exact ne y
              · exact y z0
              · exact nh y
            refine pk_eq vn wn (fun e => no (Or.inl e)) (fun ne => pX _ (br_c (fun z0 => ?_) (fun z0 => no (Or.inr (Or.inl z0)))))
            have hold := xw_holds (K := K) (G := G) (ft := ft) (ce := ce) (li := li) (de := sp) (lo := lp) (tx := tx) (q := q) (rf := rf) (fn := fn) (ho := ho) (po := po) (wk := wk) Y X R.2.2.1 hG ibw (ce_0 Y CE) (ce_l CE) (post := fun r_84 u => ((r_84 = 0 → (wpX_reach (fun r_110 u => (wpX_share (fun u => (wpY_bind (fun r' v' => r' = 0 ∧ i_Rel (k + 5) u v') (mk_Y G sp lp ls he t n l cp po) (nI vn) v2 v3 (nI wn))) u (nI wn) r_110)) u (nI vn) v2 v3)) ∧ (¬ r_84 = 0 → (wpY_bind (fun r' v' => r' = -3 ∧ i_Rel (k + 5) u v') (mk_Y G sp lp ls he t n l cp po) (nI vn) v2 v3 (nI wn))))) (fun hd wk1 => br_f d10 (no (Or.inr (Or.inr hd)))) (fun nh wk1 => br_t rfl ?_)
            · rw [sw] at hold
              exact hold
            · refine xw_reach (K := K) (G := G) R hG (by have := SD.2.2.1; have := C.2.2.1.2; omega) v8 P fun f1 r1 ft1 tx1 q1 rf1 R1 sn1 ib1 => ?_
              have np := pn z0 b P
              have bw : b ≠ wn := fun e => nsa (Or.inl e)
              have nkb : el_b b → ∀ c', c' < 68 → ¬ sb_f t n (148 + c') (b / 4) := fun hE c' hc' => np_sb Y hG v8 np hE (by omega) (by omega) (fun x => by have := x.2; omega)
              have nwb : ¬ (el_b b ∧ sb_f t n wn (b / 4)) := fun x => np_sb Y hG v8 np x.1 (x := wn) (by omega) (fun e => ne e.symm) rtw x.2
              have snw : sn_f f1 t n wn := sn_r R1.2.1 (by omega) rtw
              have bG : b < 8 → b < G 0 := fun y => by
                have := bv (fun x => by have := x.1; omega)
                omega
              have L := lo_sh (K := K) (G := G) (wk := wk1) (k' := k + 5) (cp := cp) (PX := fun u => wpY_bind (fun r' v' => r' = 0 ∧ i_Rel (k + 5) u v') (mk_Y G sp lp ls he t n l cp po) (nI vn) v2 v3 (nI wn)) C R1 CE ST SD ibw snw h0 (by omega) (by omega) (fun _ => by omega) (fun x => absurd x rtw) ib sn1 b148 b820 bG wd (fun e => bw e.symm) (fun g3 => ?_) (fun x => absurd x rtw) nkb (fun x => absurd x.1 rtw) nwb fun u' hyp => ?_
              · rw [sw f1] at L
                exact L
              · have e3 : th_f t n wn = wn := if_neg g3
                rw [e3] at nh
                exact nh
              · show wpY_bind (fun r' v' => r' = 0 ∧ i_Rel (k + 5) u' v') (mk_Y G sp lp ls he t n l cp po) (nI vn) v2 v3 (nI wn)
                exact openY (fun x => absurd x h0) (fun _ x => absurd x nsa) (fun _ _ hn ls he l => by
                  exfalso
                  rcases hn with y | y | y
                  · exact ne y
                  · exact y z0
                  · exact nh y) (fun _ _ _ _ _ ls he l PY' h => hyp ls he l PY' fun v' hv => h v' ⟨rfl, hv⟩)
theorem i_vc_alias {k : Nat} {u : SX} {v : SY} (I : i_Rel k u v) (hk : k + 5 ≤ 2564) (v1 : Int32) (v2 : Int32) (v3 : Int32) (v4 : Int32) : wpX_alias (fun r u' => wpY_alias (fun r' v' => r' = r ∧ i_Rel (k + 5) u' v') v v1 v2 v3 v4) u v1 v2 v3 v4 := by
  refine zz_el (P := fun u v => wpX_alias (fun r u' => wpY_alias (fun r' v' => r' = r ∧ i_Rel (k + 5) u' v') v v1 v2 v3 v4) u v1 v2 v3 v4) ?_ I
  intro K G ft ce li tx q rf fn ho po wk sp lp ls he t n l cp f r FA
  have FA0 := FA
  obtain ⟨C, R, CE, ST, SD⟩ := FA
  have Y := R.1
  have X := R.2.1
  have hG := C.2.1.2
  have hsp : sp ≤ 8 := by have := C.2.2.2.2; have := SD.1; omega
  obtain ⟨z, hz, hX, hY⟩ := lo_plv (K := K) (G := G) (ft := ft) (ce := ce) (li := li) (rf := rf) (fn := fn) (ho := ho) (po := po) (wk := wk) (sp := sp) (lp := lp) (ls := ls) (he := he) (l := l) (cp := cp) (yp := po) Y X hG C.1.2 hsp SD.2.1 v1 v2 v3
  have m2 : (-1 : Int32) < 0 := by decide
  have d10 : ¬ (1 : Int32) = 0 := by decide
  unfold wpX_alias
  dsimp only
  cases z with
  | none =>
    refine hX _ (br_t m2 ?_)
    exact hY _ (br_t m2 ⟨rfl, rel_mk FA0⟩)
  | some b =>
    obtain ⟨ib, vn, hvn, ev, P⟩ := hz b rfl
    subst ev
    have s0 := sg_lt X ib
    have hb := ib.1
    have ht := Y.1 _ hb
    have x1 := (X.1 _ ib).1
    have g08 := C.1.2
    have v8 : vn < 8 := by omega
    obtain ⟨b148, b820, bv⟩ := pt_rt Y v8 hG P
    have wd := pt_wd hG v8 P
    refine hX _ (ja_lt0 (sg_f f b) ?_ rfl)
    refine br_c (fun h4 => ?_) (fun h4 => ?_)
    · exact hY _ (ja_lt0 b (br_t h4 ⟨rfl, rel_mk FA0⟩) rfl)
    · obtain ⟨wn, hwn, ew⟩ := nI_of h4
      subst ew
      refine pk_le (G 0) wn (fun hx => ?_) (fun hx => ?_)
      · exact hY _ (ja_lt0 b (br_f h4 (pk_lt wn (G 0) (fun z => absurd z (by omega)) (fun _ => ⟨rfl, rel_mk FA0⟩))) rfl)
      · have w8 : wn < 8 := by have := C.1.2; omega
        have rtw : ¬ el_b wn := fun x => by have := x.1; omega
        have ibw : ib_v t n wn := ib_r (by omega) rtw
        have sw : ∀ f, sg_f f wn = wn := fun f => sg_a w8
        have xw := (X.1 wn ibw).1
        rw [sw] at xw
        have tw := Y.1 wn (by omega)
        obtain ⟨zp, hp01, pX, _, pn, pi⟩ := lo_ps (K := K) (G := G) (ft := ft) (ce := ce) (li := li) (rf := rf) (fn := fn) (ho := ho) (po := po) (wk := wk) (sp := sp) (lp := lp) (ls := ls) (he := he) (l := l) (cp := cp) (yp := po) Y X hG v8 v2 v3
        have openY : ∀ {PY : Int32 → SY → Prop}, (t b = 0 → PY (-1) (mk_Y G sp lp ls he t n l cp po)) → (t b ≠ 0 → sa_f t n b wn → PY 0 (mk_Y G sp lp ls he t n l cp po)) →
            (t b ≠ 0 → ¬ sa_f t n b wn → (vn = wn ∨ zp ≠ 0 ∨ hd_f t n (th_f t n b)) → ∀ ls he l, PY (-3) (mk_Y G sp lp ls he t n l cp po)) →
            (t b ≠ 0 → ¬ sa_f t n b wn → vn ≠ wn → zp = 0 → ¬ hd_f t n (th_f t n b) → ∀ ls he l, ∀ PY' : Int32 → SY → Prop, (∀ v', PY 0 v' → PY' 0 v') → (vp_in (nI b) 216 ∧ ((jm_a t (nI b).toNatClampNeg = 3 → wY_share_153 PY' (nI b) (nI wn) (nI (G 0)) (nI (G 1)) (nI (G 2)) (nI (G 3)) (nI sp) (nI lp) (nI ls) (nI he) (jm_a t) (jm_a n) (jm_a l) (jm_a cp) (jm_a po)) ∧ (¬ jm_a t (nI b).toNatClampNeg = 3 → ∃ d, wY_share_107 PY' (nI b) (nI wn) (nI (G 0)) (nI (G 1)) (nI (G 2)) (nI (G 3)) (nI sp) (nI lp) (nI ls) (nI he) (jm_a t) (jm_a n) (jm_a l) (jm_a cp) (jm_a po) d 148)))) → wpY_alias PY (mk_Y G sp lp ls he t n l cp po) (nI vn) v2 v3 (nI wn) := fun {PY} h1 h2 h3 h5 => by
          refine hY _ (ja_lt0 b (br_f h4 (pk_lt wn (G 0) (fun _ => ?_) (fun z => absurd z (by omega)))) rfl)
          refine yk_share (G := G) Y (g := b) (k := wn) (by omega) (by omega) h1 (fun g0 sa => h2 g0 sa) (fun g0 nsa => ?_)
          refine yk_sh55 (G := G) Y X R.2.2.1 hG v8 w8 ib hp01 pi (fun ls he l x => h3 g0 nsa x ls he l) (fun ne z0 nh ls he l => ?_)
          refine h5 g0 nsa ne z0 nh ls he l _ fun v' h => ?_
          rcases v' with ⟨_, _, _, _, _, _, _, _, _, _, _, _, _⟩
          exact h
        refine jr_eq (sg_f f b) 0 s0 (by omega) (fun h0 => ?_) (fun h0 => ?_) rfl
        · rw [x1] at h0
          exact openY (fun _ => ⟨rfl, rel_mk FA0⟩) (fun x => absurd h0 x) (fun x => absurd h0 x) (fun x => absurd h0 x)
        · rw [x1] at h0
          refine xw_already (K := K) (G := G) Y X ib w8 (fun sa => br_f d10 ?_) (fun nsa => br_t rfl ?_)
          · exact openY (fun x => absurd x h0) (fun _ _ => ⟨rfl, rel_mk FA0⟩) (fun _ x => absurd sa x) (fun _ x => absurd sa x)
          · have no : ∀ {wk : Nat → Nat}, (vn = wn ∨ zp ≠ 0 ∨ hd_f t n (th_f t n b)) → wpY_alias (fun r' v' => r' = -3 ∧ i_Rel (k + 5) (mk_X K G ft ce li sp lp tx q rf fn ho po wk) v') (mk_Y G sp lp ls he t n l cp po) (nI vn) v2 v3 (nI wn) := fun {wk} hn => by
              refine openY (fun x => absurd x h0) (fun _ x => absurd x nsa) (fun _ _ _ ls he l => ⟨rfl, rel_mk FA0⟩) (fun _ _ ne z0 nh => ?_)
              exfalso
              rcases hn with y | y | y
              · exact ne y
              · exact y z0
              · exact nh y
            refine pk_eq vn wn (fun e => no (Or.inl e)) (fun ne => pX _ (br_c (fun z0 => ?_) (fun z0 => no (Or.inr (Or.inl z0)))))
            have hold := xw_holds (K := K) (G := G) (ft := ft) (ce := ce) (li := li) (de := sp) (lo := lp) (tx := tx) (q := q) (rf := rf) (fn := fn) (ho := ho) (po := po) (wk := wk) Y X R.2.2.1 hG ib (ce_0 Y CE) (ce_l CE) (post := fun r_84 u => ((r_84 = 0 → (wpX_reach (fun r_110 u => (wpX_share (fun u => (wpY_alias (fun r' v' => r' = 0 ∧ i_Rel (k + 5) u v') (mk_Y G sp lp ls he t n l cp po) (nI vn) v2 v3 (nI wn))) u r_110 (nI wn))) u (nI vn) v2 v3)) ∧ (¬ r_84 = 0 → (wpY_alias (fun r' v' => r' = -3 ∧ i_Rel (k + 5) u v') (mk_Y G sp lp ls he t n l cp po) (nI vn) v2 v3 (nI wn))))) (fun hd wk1 => br_f d10 (no (Or.inr (Or.inr hd)))) (fun nh wk1 => br_t rfl ?_)
            · skip
              exact hold
            · refine xw_reach (K := K) (G := G) R hG (by have := SD.2.2.1; have := C.2.2.1.2; omega) v8 P fun f1 r1 ft1 tx1 q1 rf1 R1 sn1 ib1 => ?_
              have np := pn z0 b P
              have bw : b ≠ wn := fun e => nsa (Or.inl e)
              have nkb : el_b b → ∀ c', c' < 68 → ¬ sb_f t n (148 + c') (b / 4) := fun hE c' hc' => np_sb Y hG v8 np hE (by omega) (by omega) (fun x => by have := x.2; omega)
              have nwb : ¬ (el_b b ∧ sb_f t n wn (b / 4)) := fun x => np_sb Y hG v8 np x.1 (x := wn) (by omega) (fun e => ne e.symm) rtw x.2
              have snw : sn_f f1 t n wn := sn_r R1.2.1 (by omega) rtw
              have bG : b < 8 → b < G 0 := fun y => by
                have := bv (fun x => by have := x.1; omega)
                omega
              have L := lo_sh (K := K) (G := G) (wk := wk1) (k' := k + 5) (cp := cp) (PX := fun u => wpY_alias (fun r' v' => r' = 0 ∧ i_Rel (k + 5) u v') (mk_Y G sp lp ls he t n l cp po) (nI vn) v2 v3 (nI wn)) C R1 CE ST SD ib sn1 h0 b148 b820 bG wd ibw snw (by omega) (by omega) (fun _ => by omega) (fun x => absurd x rtw) bw (fun g3 => ?_) nkb (fun x => absurd x rtw) nwb (fun x => absurd x.1 rtw) fun u' hyp => ?_
              · rw [sw f1] at L
                exact L
              · have e3 : th_f t n b = b := if_neg g3
                rw [e3] at nh
                exact nh
              · show wpY_alias (fun r' v' => r' = 0 ∧ i_Rel (k + 5) u' v') (mk_Y G sp lp ls he t n l cp po) (nI vn) v2 v3 (nI wn)
                exact openY (fun x => absurd x h0) (fun _ x => absurd x nsa) (fun _ _ hn ls he l => by
                  exfalso
                  rcases hn with y | y | y
                  · exact ne y
                  · exact y z0
                  · exact nh y) (fun _ _ _ _ _ ls he l PY' h => hyp ls he l PY' fun v' hv => h v' ⟨rfl, hv⟩)
end
