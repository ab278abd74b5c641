section
/-! rows taken from the kit (kit/rows) -/
theorem pk_us {f : Nat → Int32} {k : Nat} {x : Int32} : upd f k x k = x := if_pos rfl
theorem pk_un {f : Nat → Int32} {k j : Nat} {x : Int32} (h : j ≠ k) : upd f k x j = f j := if_neg h
theorem pk_sub {a b : Nat} (h : b ≤ a) : nI a - nI b = nI (a - b) := by
  obtain ⟨c, rfl⟩ : ∃ c, a = c + b := ⟨a - b, by omega⟩
  rw [← nI_add, Int32.add_sub_cancel, Nat.add_sub_cancel]
theorem pk_m1 (n : Nat) : nI (n + 1) + (-1) = nI n := by
  rw [← nI_1, Int32.add_assoc, show (1 : Int32) + (-1) = 0 from rfl, Int32.add_zero]
theorem pk_mul (a b : Nat) : nI a * nI b = nI (a * b) := (Int32.ofNat_mul a b).symm
theorem pk_div {a d : Nat} (ha : a < 2 ^ 31) (h0 : 0 < d) (hd : d < 2 ^ 31) : nI a / nI d = nI (a / d) := by
  apply Int32.toInt_inj.mp
  rw [lg_idiv_nonneg (by rw [nI_toInt ha]; omega) (by rw [nI_toInt hd]; omega), nI_toInt ha, nI_toInt hd, nI_toInt (Nat.lt_of_le_of_lt (Nat.div_le_self a d) ha)]
  first | rfl | exact (Int.natCast_ediv _ _).symm
theorem pk_rem {a d : Nat} (ha : a < 2 ^ 31) (h0 : 0 < d) (hd : d < 2 ^ 31) : nI a - nI a / nI d * nI d = nI (a % d) := by
  rw [pk_div ha h0 hd, pk_mul, pk_sub (Nat.div_mul_le_self a d)]
  exact congrArg nI (by have := Nat.div_add_mod' a d; omega)
theorem pk_ix (x : Int32) {n : Nat} (hn : n < 2 ^ 31) : x < 0 ∨ nI n ≤ x ∨ ∃ j : Nat, j < n ∧ x = nI j := by
  by_cases h : x < 0
  · exact Or.inl h
  · obtain ⟨j, hj, rfl⟩ := nI_of h
    by_cases h2 : j < n
    · exact Or.inr (Or.inr ⟨j, h2, rfl⟩)
    · exact Or.inr (Or.inl (nI_le (by omega) hj))
theorem pk_le {x y : Int32} {A B : Prop} (a b : Nat) (f : a ≤ b → A) (g : b < a → B) (hx : x = nI a := by rfl) (hy : y = nI b := by rfl) (ha : a < 2 ^ 31 := by omega) (hb : b < 2 ^ 31 := by omega) : (x ≤ y → A) ∧ (¬ x ≤ y → B) := by
  subst hx hy
  rw [nI_leI ha hb]
  exact ⟨f, fun z => g (by omega)⟩
theorem pk_lt {x y : Int32} {A B : Prop} (a b : Nat) (f : a < b → A) (g : b ≤ a → B) (hx : x = nI a := by rfl) (hy : y = nI b := by rfl) (ha : a < 2 ^ 31 := by omega) (hb : b < 2 ^ 31 := by omega) : (x < y → A) ∧ (¬ x < y → B) := by
  subst hx hy
  rw [nI_ltI ha hb]
  exact ⟨f, fun z => g (by omega)⟩
theorem pk_eq {x y : Int32} {A B : Prop} (a b : Nat) (f : a = b → A) (g : a ≠ b → B) (hx : x = nI a := by rfl) (hy : y = nI b := by rfl) (ha : a < 2 ^ 31 := by omega) (hb : b < 2 ^ 31 := by omega) : (x = y → A) ∧ (¬ x = y → B) := by
  subst hx hy
  rw [nI_eq ha hb]
  exact ⟨f, g⟩
theorem pk_in {x : Int32} (n N : Nat) (h : n < N) (hx : x = nI n := by rfl) (hN : N < 2 ^ 31 := by omega) : vp_in x N := by
  subst hx
  exact vp_in_nI h hN
theorem pk_cl {x : Int32} (n : Nat) (hx : x = nI n := by rfl) (h : n < 2 ^ 31 := by omega) : x.toNatClampNeg = n := by
  subst hx
  exact nI_clamp h
theorem pk_tn {n : Nat} (h : n < 2 ^ 32) : (nI n).toBitVec.toNat = n := Nat.mod_eq_of_lt h
theorem pk_and (x : Int32) {m : Int32} (k : Nat) (hm : m.toBitVec.toNat = 2 ^ k - 1) : x &&& m = nI (x.toBitVec.toNat % 2 ^ k) := by
  apply Int32.toBitVec_inj.mp
  apply BitVec.eq_of_toNat_eq
  rw [Int32.toBitVec_and, BitVec.toNat_and, hm, Nat.and_two_pow_sub_one_eq_mod]
  show _ = (BitVec.ofNat 32 _).toNat
  rw [BitVec.toNat_ofNat]
  exact (Nat.mod_eq_of_lt (Nat.lt_of_le_of_lt (Nat.mod_le _ _) x.toBitVec.isLt)).symm
theorem pk_andN {n : Nat} (h : n < 2 ^ 32) {m : Int32} (k : Nat) (hm : m.toBitVec.toNat = 2 ^ k - 1) : nI n &&& m = nI (n % 2 ^ k) := by
  rw [pk_and _ k hm, pk_tn h]
theorem pk_shr (a s : Int32) (k : Nat) (hs : (s.toBitVec.smod 32).toNat = k) : (a >>> s).toInt = a.toInt >>> k := by
  show (a.toBitVec.sshiftRight (s.toBitVec.smod 32).toNat).toInt = _
  rw [hs, BitVec.toInt_sshiftRight]
  rfl
theorem pk_shrN {n : Nat} (h : n < 2 ^ 31) (s : Int32) (k : Nat) (hs : (s.toBitVec.smod 32).toNat = k) : nI n >>> s = nI (n / 2 ^ k) := by
  apply Int32.toInt_inj.mp
  have h2 : n / 2 ^ k ≤ n := Nat.div_le_self _ _
  rw [pk_shr _ _ k hs, nI_toInt h, nI_toInt (by omega), Int.shiftRight_eq_div_pow]
  rfl
theorem sb_negT {w : Nat} (h : w < 2 ^ 31) : (-nI w).toInt = -(w : Int) := by
  rw [Int32.toInt_neg, nI_toInt h]
  exact Int.bmod_eq_of_le (by omega) (by omega)
theorem nx_xor (a b : Nat) : nI a ^^^ nI b = nI (a ^^^ b) := by
  apply Int32.toBitVec_inj.1
  show BitVec.ofNat 32 a ^^^ BitVec.ofNat 32 b = BitVec.ofNat 32 (a ^^^ b)
  apply BitVec.eq_of_getLsbD_eq
  intro i hi
  simp [hi]
end
section
/-! the octagons: codes, points, tables (no program in sight) -/
/-- the opposite code -/
def oc_n (s : Nat) : Nat := if s % 2 = 0 then s + 1 else s - 1
/-- a code's value at a point -/
def oc_g (p : Nat → Int) (s : Nat) : Int := if s % 2 = 0 then p (s / 2) else - p (s / 2)
theorem oc_n0 {s : Nat} (h : s % 2 = 0) : oc_n s = s + 1 := if_pos h
theorem oc_n1 {s : Nat} (h : ¬ s % 2 = 0) : oc_n s = s - 1 := if_neg h
theorem oc_g0 {p : Nat → Int} {s : Nat} (h : s % 2 = 0) : oc_g p s = p (s / 2) := if_pos h
theorem oc_g1 {p : Nat → Int} {s : Nat} (h : ¬ s % 2 = 0) : oc_g p s = - p (s / 2) := if_neg h
theorem oc_nn (s : Nat) : oc_n (oc_n s) = s := by
  by_cases h : s % 2 = 0
  · rw [oc_n0 h, oc_n1 (by omega)]; omega
  · rw [oc_n1 h, oc_n0 (by omega)]; omega
theorem oc_nd (s : Nat) : oc_n s / 2 = s / 2 := by
  by_cases h : s % 2 = 0
  · rw [oc_n0 h]; omega
  · rw [oc_n1 h]; omega
theorem oc_ne (s : Nat) : oc_n s ≠ s := by
  by_cases h : s % 2 = 0
  · rw [oc_n0 h]; omega
  · rw [oc_n1 h]; omega
theorem oc_nlt {N s : Nat} (hN : N % 2 = 0) (h : s < N) : oc_n s < N := by
  by_cases h2 : s % 2 = 0
  · rw [oc_n0 h2]; omega
  · rw [oc_n1 h2]; omega
theorem oc_gn (p : Nat → Int) (s : Nat) : oc_g p (oc_n s) = - oc_g p s := by
  by_cases h : s % 2 = 0
  · rw [oc_g1 (by rw [oc_n0 h]; omega), oc_g0 h, oc_nd]
  · rw [oc_g0 (by rw [oc_n1 h]; omega), oc_g1 h, oc_nd]; omega
theorem oc_same {s t : Nat} (h : s / 2 = t / 2) : s = t ∨ s = oc_n t := by
  by_cases h2 : t % 2 = 0
  · rw [oc_n0 h2]; omega
  · rw [oc_n1 h2]; omega
theorem oc_gcongr {p q : Nat → Int} {s : Nat} (h : p (s / 2) = q (s / 2)) : oc_g p s = oc_g q s := by
  by_cases h2 : s % 2 = 0
  · rw [oc_g0 h2, oc_g0 h2, h]
  · rw [oc_g1 h2, oc_g1 h2, h]
/-- the states of a table -/
def oc_Gam (N : Nat) (M : Nat → Nat → Int) (p : Nat → Int) : Prop := ∀ s, s < N → ∀ t, t < N → oc_g p s + oc_g p t ≤ M s t
def oc_Sym (N : Nat) (M : Nat → Nat → Int) : Prop := ∀ s, s < N → ∀ t, t < N → M s t = M t s
def oc_Clo (N : Nat) (M : Nat → Nat → Int) : Prop := ∀ s, s < N → ∀ t, t < N → ∀ k, k < N → M s t ≤ M s k + M (oc_n k) t
/-- tightly closed -/
def oc_T (N : Nat) (M : Nat → Nat → Int) : Prop :=
  oc_Sym N M ∧ oc_Clo N M ∧ (∀ s, s < N → ∀ t, t < N → 2 * M s t ≤ M s s + M t t) ∧ (∀ s, s < N → M s s % 2 = 0) ∧ (∀ s, s < N → M s (oc_n s) = 0)
theorem oc_Gam_congr {N : Nat} {M : Nat → Nat → Int} {p q : Nat → Int} (h : ∀ v, 2 * v < N → p v = q v) (hp : oc_Gam N M p) : oc_Gam N M q := by
  intro s hs t ht
  have := hp s hs t ht
  rw [oc_gcongr (h (s / 2) (by omega)), oc_gcongr (h (t / 2) (by omega))] at this
  exact this
theorem oc_helly (lb ub : Nat → Int) : ∀ N : Nat, (∀ i, i < N → ∀ j, j < N → lb i ≤ ub j) → ∃ E : Int, ∀ i, i < N → lb i ≤ E ∧ E ≤ ub i := by
  intro N
  induction N with
  | zero => intro _; exact ⟨0, fun i hi => absurd hi (Nat.not_lt_zero i)⟩
  | succ N ih =>
    intro h
    have hmax : ∃ E : Int, (∃ i, i < N + 1 ∧ E = lb i) ∧ ∀ i, i < N + 1 → lb i ≤ E := by
      clear ih h
      induction N with
      | zero =>
        refine ⟨lb 0, ⟨0, by omega, rfl⟩, fun i hi => ?_⟩
        have e : i = 0 := by omega
        rw [e]; exact Int.le_refl _
      | succ N ih2 =>
        obtain ⟨E, ⟨i, hi, e⟩, hE⟩ := ih2
        by_cases hc : lb (N + 1) ≤ E
        · refine ⟨E, ⟨i, by omega, e⟩, fun j hj => ?_⟩
          by_cases hj2 : j = N + 1
          · subst hj2; exact hc
          · exact hE j (by omega)
        · refine ⟨lb (N + 1), ⟨N + 1, by omega, rfl⟩, fun j hj => ?_⟩
          by_cases hj2 : j = N + 1
          · subst hj2; exact Int.le_refl _
          · have := hE j (by omega); omega
    obtain ⟨E, ⟨i, hi, e⟩, hE⟩ := hmax
    exact ⟨E, fun j hj => ⟨hE j hj, by rw [e]; exact h i hi j hj⟩⟩
/-- a point with another value for one variable -/
def oc_u (p : Nat → Int) (v : Nat) (y : Int) : Nat → Int := fun i => if i = v then y else p i
theorem oc_us (p : Nat → Int) (v : Nat) (y : Int) : oc_u p v y v = y := if_pos rfl
theorem oc_un {p : Nat → Int} {v i : Nat} {y : Int} (h : i ≠ v) : oc_u p v y i = p i := if_neg h
theorem oc_gus {p : Nat → Int} {v s : Nat} {y : Int} (h : s / 2 ≠ v) : oc_g (oc_u p v y) s = oc_g p s := oc_gcongr (oc_un h)
theorem oc_gu0 (p : Nat → Int) (v : Nat) (y : Int) : oc_g (oc_u p v y) (2 * v) = y := by
  rw [oc_g0 (by omega), show 2 * v / 2 = v by omega, oc_us]
theorem oc_gu1 (p : Nat → Int) (v : Nat) (y : Int) : oc_g (oc_u p v y) (2 * v + 1) = - y := by
  rw [oc_g1 (by omega), show (2 * v + 1) / 2 = v by omega, oc_us]
/-- a point of some variables of a tightly closed table is extended by one variable -/
theorem oc_ext {N : Nat} {M : Nat → Nat → Int} (hN : N % 2 = 0) (T : oc_T N M) (D : Nat → Prop) (v : Nat) (hv : 2 * v < N) (hD : ¬ D v) (p : Nat → Int)
    (hp : ∀ s, s < N → ∀ t, t < N → D (s / 2) → D (t / 2) → oc_g p s + oc_g p t ≤ M s t) :
    ∃ y : Int, ∀ s, s < N → ∀ t, t < N → (D (s / 2) ∨ s / 2 = v) → (D (t / 2) ∨ t / 2 = v) → oc_g (oc_u p v y) s + oc_g (oc_u p v y) t ≤ M s t := by
  obtain ⟨hS, hC, hG, hE, hZ⟩ := T
  have he : 2 * v < N := hv
  have hne : 2 * v + 1 < N := by omega
  have en : oc_n (2 * v) = 2 * v + 1 := oc_n0 (by omega)
  have en2 : oc_n (2 * v + 1) = 2 * v := by rw [oc_n1 (by omega)]; omega
  have z0 := hZ _ he
  rw [en] at z0
  have k1 : ∃ lb : Nat → Int, (∀ i, D (i / 2) → lb i = oc_g p i - M (2 * v + 1) i) ∧ (∀ i, ¬ D (i / 2) → lb i = - (M (2 * v + 1) (2 * v + 1) / 2)) := by
    refine ⟨fun i => @ite _ (D (i / 2)) (Classical.propDecidable _) (oc_g p i - M (2 * v + 1) i) (- (M (2 * v + 1) (2 * v + 1) / 2)), fun i h => ?_, fun i h => ?_⟩
    · exact if_pos h
    · exact if_neg h
  have k2 : ∃ ub : Nat → Int, (∀ i, D (i / 2) → ub i = M (2 * v) i - oc_g p i) ∧ (∀ i, ¬ D (i / 2) → ub i = M (2 * v) (2 * v) / 2) := by
    refine ⟨fun i => @ite _ (D (i / 2)) (Classical.propDecidable _) (M (2 * v) i - oc_g p i) (M (2 * v) (2 * v) / 2), fun i h => ?_, fun i h => ?_⟩
    · exact if_pos h
    · exact if_neg h
  obtain ⟨lb, l1, l2⟩ := k1
  obtain ⟨ub, u1, u2⟩ := k2
  have e1 := hE _ he
  have e2 := hE _ hne
  have g0 := hG _ he _ hne
  have hh : ∀ i, i < N → ∀ j, j < N → lb i ≤ ub j := by
    intro i hi j hj
    by_cases di : D (i / 2)
    · by_cases dj : D (j / 2)
      · rw [l1 i di, u1 j dj]
        have a1 := hp j hj i hi dj di
        have a2 := hC j hj i hi _ he
        have a3 := hS j hj _ he
        rw [en] at a2
        omega
      · rw [l1 i di, u2 j dj]
        have a1 := hp i hi i hi di di
        have a2 := hC i hi i hi _ he
        have a3 := hG i hi _ he
        have a4 := hE i hi
        rw [en] at a2
        omega
    · by_cases dj : D (j / 2)
      · rw [l2 i di, u1 j dj]
        have a1 := hp j hj j hj dj dj
        have a2 := hC j hj j hj _ he
        have a3 := hG _ hne j hj
        have a4 := hE j hj
        have a5 := hS j hj _ he
        rw [en] at a2
        omega
      · rw [l2 i di, u2 j dj]
        omega
  obtain ⟨y, hy⟩ := oc_helly lb ub N hh
  have hve : y ≤ M (2 * v) (2 * v) / 2 := by
    have := (hy _ he).2
    rwa [u2 _ (by rw [show 2 * v / 2 = v by omega]; exact hD)] at this
  have hvn : - (M (2 * v + 1) (2 * v + 1) / 2) ≤ y := by
    have := (hy _ he).1
    rwa [l2 _ (by rw [show 2 * v / 2 = v by omega]; exact hD)] at this
  have mixed : ∀ s, s < N → ∀ t, t < N → D (s / 2) → t / 2 = v → oc_g (oc_u p v y) s + oc_g (oc_u p v y) t ≤ M s t := by
    intro s hs t ht ds et
    have nv : s / 2 ≠ v := fun z => hD (z ▸ ds)
    have h1 := hy s hs
    rw [l1 s ds, u1 s ds] at h1
    rw [oc_gus nv]
    have hc : t = 2 * v ∨ t = 2 * v + 1 := by omega
    rcases hc with rfl | rfl
    · rw [oc_gu0]
      have := hS s hs _ he
      omega
    · rw [oc_gu1]
      have := hS s hs _ hne
      omega
  refine ⟨y, fun s hs t ht ds dt => ?_⟩
  rcases ds with ds | ds
  · rcases dt with dt | dt
    · have nv : s / 2 ≠ v := fun z => hD (z ▸ ds)
      have nv2 : t / 2 ≠ v := fun z => hD (z ▸ dt)
      rw [oc_gus nv, oc_gus nv2]
      exact hp s hs t ht ds dt
    · exact mixed s hs t ht ds dt
  · rcases dt with dt | dt
    · have := mixed t ht s hs dt ds
      rw [hS s hs t ht]
      omega
    · have hc : s = 2 * v ∨ s = 2 * v + 1 := by omega
      have hc2 : t = 2 * v ∨ t = 2 * v + 1 := by omega
      have z1 := hS _ he _ hne
      rcases hc with rfl | rfl <;> rcases hc2 with rfl | rfl <;> simp only [oc_gu0, oc_gu1] <;> omega
/-- a point of some variables is extended to all variables -/
theorem oc_extAll {N : Nat} {M : Nat → Nat → Int} (hN : N % 2 = 0) (T : oc_T N M) (D : Nat → Prop) (p : Nat → Int)
    (hp : ∀ s, s < N → ∀ t, t < N → D (s / 2) → D (t / 2) → oc_g p s + oc_g p t ≤ M s t) :
    ∀ m : Nat, 2 * m ≤ N → ∃ q : Nat → Int, (∀ i, D i → q i = p i) ∧ ∀ s, s < N → ∀ t, t < N → (D (s / 2) ∨ s / 2 < m) → (D (t / 2) ∨ t / 2 < m) → oc_g q s + oc_g q t ≤ M s t := by
  intro m
  induction m with
  | zero =>
    intro _
    refine ⟨p, fun _ _ => rfl, fun s hs t ht ds dt => hp s hs t ht ?_ ?_⟩
    · exact ds.resolve_right (Nat.not_lt_zero _)
    · exact dt.resolve_right (Nat.not_lt_zero _)
  | succ m ih =>
    intro hm
    obtain ⟨q, hq, hq2⟩ := ih (by omega)
    by_cases dm : D m
    · refine ⟨q, hq, fun s hs t ht ds dt => hq2 s hs t ht ?_ ?_⟩
      · rcases ds with ds | ds
        · exact Or.inl ds
        · by_cases e : s / 2 = m
          · exact Or.inl (by rw [e]; exact dm)
          · exact Or.inr (by omega)
      · rcases dt with dt | dt
        · exact Or.inl dt
        · by_cases e : t / 2 = m
          · exact Or.inl (by rw [e]; exact dm)
          · exact Or.inr (by omega)
    · obtain ⟨y, hy⟩ := oc_ext hN T (fun i => D i ∨ i < m) m (by omega) (by rintro (h | h); exact dm h; omega) q hq2
      refine ⟨oc_u q m y, fun i di => ?_, fun s hs t ht ds dt => hy s hs t ht ?_ ?_⟩
      · have e : i ≠ m := fun z => dm (by rw [← z]; exact di)
        rw [oc_un e, hq i di]
      · rcases ds with ds | ds
        · exact Or.inl (Or.inl ds)
        · by_cases e : s / 2 = m
          · exact Or.inr e
          · exact Or.inl (Or.inr (by omega))
      · rcases dt with dt | dt
        · exact Or.inl (Or.inl dt)
        · by_cases e : t / 2 = m
          · exact Or.inr e
          · exact Or.inl (Or.inr (by omega))
/-- the arithmetic of two variables -/
theorem oc_two_ar {ab ad cb cd aa bb cc dd : Int} (e1 : aa % 2 = 0) (e2 : bb % 2 = 0) (e3 : cc % 2 = 0) (e4 : dd % 2 = 0)
    (g1 : 2 * ab ≤ aa + bb) (g2 : 2 * ad ≤ aa + dd) (g3 : 2 * cb ≤ cc + bb) (g4 : 2 * cd ≤ cc + dd)
    (c1 : ab ≤ aa + cb) (c2 : ab ≤ ad + bb) (c3 : aa ≤ ab + ad) (c4 : bb ≤ ab + cb) (c5 : 0 ≤ ab + cd) (c6 : 0 ≤ ad + cb) (c7 : 0 ≤ aa + cc) (c8 : 0 ≤ bb + dd) (c9 : ad ≤ ab + dd) :
    ∃ A B : Int, A + B = ab ∧ 2 * A ≤ aa ∧ - (2 * A) ≤ cc ∧ 2 * B ≤ bb ∧ - (2 * B) ≤ dd ∧ A - B ≤ ad ∧ B - A ≤ cb ∧ - A - B ≤ cd := by
  have h : ∃ A : Int, A ≤ aa / 2 ∧ A ≤ ab + dd / 2 ∧ A ≤ (ad + ab) / 2 ∧ (A = aa / 2 ∨ A = ab + dd / 2 ∨ A = (ad + ab) / 2) := by
    by_cases h1 : aa / 2 ≤ ab + dd / 2
    · by_cases h2 : aa / 2 ≤ (ad + ab) / 2
      · exact ⟨aa / 2, by omega, by omega, by omega, by omega⟩
      · exact ⟨(ad + ab) / 2, by omega, by omega, by omega, by omega⟩
    · by_cases h2 : ab + dd / 2 ≤ (ad + ab) / 2
      · exact ⟨ab + dd / 2, by omega, by omega, by omega, by omega⟩
      · exact ⟨(ad + ab) / 2, by omega, by omega, by omega, by omega⟩
  obtain ⟨A, h1, h2, h3, h4⟩ := h
  refine ⟨A, ab - A, by omega, by omega, ?_, ?_, by omega, by omega, ?_, by omega⟩
  · rcases h4 with h4 | h4 | h4 <;> omega
  · rcases h4 with h4 | h4 | h4 <;> omega
  · rcases h4 with h4 | h4 | h4 <;> omega
/-- every entry of a tightly closed table is attained -/
theorem oc_att {N : Nat} {M : Nat → Nat → Int} (hN : N % 2 = 0) (T : oc_T N M) {a b : Nat} (ha : a < N) (hb : b < N) : ∃ p, oc_Gam N M p ∧ oc_g p a + oc_g p b = M a b := by
  have T0 := T
  obtain ⟨hS, hC, hG, hE, hZ⟩ := T
  have hna := oc_nlt hN ha
  have hnb := oc_nlt hN hb
  by_cases hab : a / 2 = b / 2
  · -- one variable
    have hp : ∃ p : Nat → Int, ∀ s, s < N → ∀ t, t < N → s / 2 = a / 2 → t / 2 = a / 2 → oc_g p s + oc_g p t ≤ M s t ∧ 2 * oc_g p a = M a a := by
      refine ⟨fun _ => if a % 2 = 0 then M a a / 2 else - (M a a / 2), fun s hs t ht es et => ?_⟩
      have ga : oc_g (fun _ => if a % 2 = 0 then M a a / 2 else - (M a a / 2)) a = M a a / 2 := by
        by_cases h : a % 2 = 0
        · rw [oc_g0 h]; exact if_pos h
        · rw [oc_g1 h, if_neg h]; omega
      have gna := oc_gn (fun _ => if a % 2 = 0 then M a a / 2 else - (M a a / 2)) a
      have e1 := hE a ha
      have e2 := hE _ hna
      have z := hZ a ha
      have z2 := hZ _ hna
      rw [oc_nn] at z2
      have g := hG a ha _ hna
      refine ⟨?_, by omega⟩
      rcases oc_same es with rfl | rfl <;> rcases oc_same et with rfl | rfl <;> omega
    obtain ⟨p, hp⟩ := hp
    obtain ⟨q, hq, hq2⟩ := oc_extAll hN T0 (fun i => i = a / 2) p (fun s hs t ht es et => (hp s hs t ht es et).1) (N / 2) (by omega)
    refine ⟨q, fun s hs t ht => hq2 s hs t ht (Or.inr (by omega)) (Or.inr (by omega)), ?_⟩
    have e := (hp a ha a ha rfl rfl).2
    rw [← oc_gcongr (hq (a / 2) rfl)] at e
    rcases oc_same hab.symm with rfl | rfl
    · omega
    · rw [oc_gn, hZ a ha]; omega
  · -- two variables
    have e1 := hE a ha
    have e2 := hE b hb
    have e3 := hE _ hna
    have e4 := hE _ hnb
    have zab := hZ a ha
    have zb := hZ b hb
    have sb := hS b hb _ hnb
    have sa := hS a ha _ hna
    have s1 := hS a ha b hb
    have s2 := hS a ha _ hnb
    have s3 := hS _ hna b hb
    have s4 := hS _ hna _ hnb
    have c1 := hC a ha b hb a ha
    have c2 := hC a ha b hb _ hnb
    rw [oc_nn] at c2
    have c3 := hC a ha a ha b hb
    have c4 := hC b hb b hb a ha
    have c5 := hC a ha _ hna b hb
    have c6 := hC a ha _ hna _ hnb
    rw [oc_nn] at c6
    have c9 := hC a ha _ hnb b hb
    have g7 := hG a ha _ hna
    have g8 := hG b hb _ hnb
    obtain ⟨A, B, h1, h2, h3, h4, h5, h6, h7, h8⟩ := oc_two_ar (ab := M a b) (ad := M a (oc_n b)) (cb := M (oc_n a) b) (cd := M (oc_n a) (oc_n b)) (aa := M a a) (bb := M b b) (cc := M (oc_n a) (oc_n a)) (dd := M (oc_n b) (oc_n b)) e1 e2 e3 e4
      (hG a ha b hb) (hG a ha _ hnb) (hG _ hna b hb) (hG _ hna _ hnb) c1 c2 (by omega) (by omega) (by omega) (by omega) (by omega) (by omega) (by omega)
    have hp : ∃ p : Nat → Int, oc_g p a = A ∧ oc_g p b = B := by
      refine ⟨fun i => if i = a / 2 then (if a % 2 = 0 then A else - A) else (if b % 2 = 0 then B else - B), ?_, ?_⟩
      · by_cases h : a % 2 = 0
        · rw [oc_g0 h, if_pos rfl, if_pos h]
        · rw [oc_g1 h, if_pos rfl, if_neg h]; omega
      · by_cases h : b % 2 = 0
        · rw [oc_g0 h, if_neg (fun z => hab z.symm), if_pos h]
        · rw [oc_g1 h, if_neg (fun z => hab z.symm), if_neg h]; omega
    obtain ⟨p, pa, pb⟩ := hp
    have pna := oc_gn p a
    have pnb := oc_gn p b
    obtain ⟨q, hq, hq2⟩ := oc_extAll hN T0 (fun i => i = a / 2 ∨ i = b / 2) p (fun s hs t ht es et => by
      have sv : s = a ∨ s = oc_n a ∨ s = b ∨ s = oc_n b := by
        rcases es with es | es
        · rcases oc_same es with h | h
          · exact Or.inl h
          · exact Or.inr (Or.inl h)
        · rcases oc_same es with h | h
          · exact Or.inr (Or.inr (Or.inl h))
          · exact Or.inr (Or.inr (Or.inr h))
      have tv : t = a ∨ t = oc_n a ∨ t = b ∨ t = oc_n b := by
        rcases et with es | es
        · rcases oc_same es with h | h
          · exact Or.inl h
          · exact Or.inr (Or.inl h)
        · rcases oc_same es with h | h
          · exact Or.inr (Or.inr (Or.inl h))
          · exact Or.inr (Or.inr (Or.inr h))
      rcases sv with h | h | h | h <;> rcases tv with h' | h' | h' | h' <;> rw [h, h'] <;> omega) (N / 2) (by omega)
    refine ⟨q, fun s hs t ht => hq2 s hs t ht (Or.inr (by omega)) (Or.inr (by omega)), ?_⟩
    rw [oc_gcongr (hq (a / 2) (Or.inl rfl)), oc_gcongr (hq (b / 2) (Or.inr rfl))]
    omega
end
section
/-! operations on tables -/
/-- rounding of the doubled bounds, and their pairs -/
def oc_sh (D : Nat → Nat → Int) (i j : Nat) : Int := min (D i j) (D i i / 2 + D j j / 2)
theorem oc_half {N : Nat} {D : Nat → Nat → Int} {q : Nat → Int} (hq : oc_Gam N D q) {k : Nat} (hk : k < N) : oc_g q k ≤ D k k / 2 := by
  have := hq k hk k hk
  omega
theorem oc_shT {N : Nat} {D : Nat → Nat → Int} (hN : N % 2 = 0) (hS : oc_Sym N D) (hC : oc_Clo N D) (hZ : ∀ s, s < N → D s (oc_n s) ≤ 0) {q : Nat → Int} (hq : oc_Gam N D q) : oc_T N (oc_sh D) := by
  have hk : ∀ k, k < N → 0 ≤ D k k / 2 + D (oc_n k) (oc_n k) / 2 := by
    intro k hk
    have a := oc_half hq hk
    have b := oc_half hq (oc_nlt hN hk)
    rw [oc_gn] at b
    omega
  refine ⟨?_, ?_, ?_, ?_, ?_⟩
  · intro s hs t ht
    have := hS s hs t ht
    simp only [oc_sh]
    omega
  · intro i hi j hj k hk'
    have hnk := oc_nlt hN hk'
    have h0 := hk k hk'
    have c0 := hC i hi j hj k hk'
    have c1 := hC i hi i hi k hk'
    have c2 := hC _ hnk i hi _ hnk
    rw [oc_nn] at c2
    have s1 := hS k hk' i hi
    have c3 := hC j hj j hj _ hnk
    rw [oc_nn] at c3
    have c4 := hC k hk' j hj k hk'
    have s2 := hS j hj _ hnk
    simp only [oc_sh]
    omega
  · intro s hs t ht
    simp only [oc_sh]
    omega
  · intro s hs
    simp only [oc_sh]
    omega
  · intro s hs
    have a := hZ s hs
    have b := hk s hs
    have c := hq s hs _ (oc_nlt hN hs)
    rw [oc_gn] at c
    simp only [oc_sh]
    omega
theorem oc_shG {N : Nat} {D : Nat → Nat → Int} {p : Nat → Int} : oc_Gam N (oc_sh D) p ↔ oc_Gam N D p := by
  constructor
  · intro h s hs t ht
    have := h s hs t ht
    simp only [oc_sh] at this
    omega
  · intro h s hs t ht
    have a := h s hs t ht
    have b := oc_half h hs
    have c := oc_half h ht
    simp only [oc_sh]
    omega
/-- the least of five -/
def oc_m5 (a b c d e : Int) : Int := min a (min (min b c) (min d e))
theorem oc_m5c (a b c d e : Int) : oc_m5 a b c d e = a ∨ oc_m5 a b c d e = b ∨ oc_m5 a b c d e = c ∨ oc_m5 a b c d e = d ∨ oc_m5 a b c d e = e := by
  simp only [oc_m5]; omega
theorem oc_m5l (a b c d e : Int) : oc_m5 a b c d e ≤ a ∧ oc_m5 a b c d e ≤ b ∧ oc_m5 a b c d e ≤ c ∧ oc_m5 a b c d e ≤ d ∧ oc_m5 a b c d e ≤ e := by
  simp only [oc_m5]; omega
theorem oc_m5g {a b c d e x : Int} (ha : x ≤ a) (hb : x ≤ b) (hc : x ≤ c) (hd : x ≤ d) (he : x ≤ e) : x ≤ oc_m5 a b c d e := by
  rcases oc_m5c a b c d e with h | h | h | h | h <;> rw [h] <;> assumption
/-- paths through a new constraint -/
def oc_R (M : Nat → Nat → Int) (a b : Nat) (c : Int) (i j : Nat) : Int :=
  oc_m5 (M i j) (M i (oc_n a) + c + M (oc_n b) j) (M i (oc_n b) + c + M (oc_n a) j)
    (M i (oc_n a) + (2 * c + M (oc_n b) (oc_n b)) + M (oc_n a) j) (M i (oc_n b) + (2 * c + M (oc_n a) (oc_n a)) + M (oc_n b) j)
theorem oc_Rl (M : Nat → Nat → Int) (a b : Nat) (c : Int) (i j : Nat) : oc_R M a b c i j ≤ M i j ∧ oc_R M a b c i j ≤ M i (oc_n a) + c + M (oc_n b) j :=
  ⟨(oc_m5l _ _ _ _ _).1, (oc_m5l _ _ _ _ _).2.1⟩
theorem oc_RG {N : Nat} {M : Nat → Nat → Int} (hN : N % 2 = 0) (T : oc_T N M) {a b : Nat} (ha : a < N) (hb : b < N) {c : Int} {p : Nat → Int} :
    oc_Gam N (oc_R M a b c) p ↔ oc_Gam N M p ∧ oc_g p a + oc_g p b ≤ c := by
  obtain ⟨hS, hC, hG, hE, hZ⟩ := T
  have hna := oc_nlt hN ha
  have hnb := oc_nlt hN hb
  have ga := oc_gn p a
  have gb := oc_gn p b
  constructor
  · intro h
    refine ⟨fun s hs t ht => Int.le_trans (h s hs t ht) (oc_Rl M a b c s t).1, ?_⟩
    have h1 := h a ha b hb
    have h2 := (oc_Rl M a b c a b).2
    have z1 := hZ a ha
    have z2 := hZ b hb
    have z3 := hS b hb _ hnb
    omega
  · rintro ⟨h, hc⟩ i hi j hj
    have a0 := h i hi j hj
    have a1 := h i hi _ hna
    have a2 := h _ hnb j hj
    have a3 := h i hi _ hnb
    have a4 := h _ hna j hj
    have a5 := h _ hnb _ hnb
    have a6 := h _ hna _ hna
    exact oc_m5g (by omega) (by omega) (by omega) (by omega) (by omega)
theorem oc_RS {N : Nat} {M : Nat → Nat → Int} (hN : N % 2 = 0) (T : oc_T N M) {a b : Nat} (ha : a < N) (hb : b < N) {c : Int} : oc_Sym N (oc_R M a b c) := by
  obtain ⟨hS, hC, hG, hE, hZ⟩ := T
  have hna := oc_nlt hN ha
  have hnb := oc_nlt hN hb
  have half : ∀ i, i < N → ∀ j, j < N → oc_R M a b c i j ≤ oc_R M a b c j i := by
    intro i hi j hj
    have a0 := hS i hi j hj
    have a1 := hS i hi _ hna
    have a2 := hS i hi _ hnb
    have a3 := hS j hj _ hna
    have a4 := hS j hj _ hnb
    obtain ⟨l1, l2, l3, l4, l5⟩ := oc_m5l (M i j) (M i (oc_n a) + c + M (oc_n b) j) (M i (oc_n b) + c + M (oc_n a) j) (M i (oc_n a) + (2 * c + M (oc_n b) (oc_n b)) + M (oc_n a) j) (M i (oc_n b) + (2 * c + M (oc_n a) (oc_n a)) + M (oc_n b) j)
    exact oc_m5g (by simp only [oc_R]; omega) (by simp only [oc_R]; omega) (by simp only [oc_R]; omega) (by simp only [oc_R]; omega) (by simp only [oc_R]; omega)
  intro i hi j hj
  have := half i hi j hj
  have := half j hj i hi
  omega
theorem oc_R_ar {ij ia ib aj bj ik kj ka kb ak bk xaa xbb xab xba c : Int} (hc : - xab ≤ c) (gab : 2 * xab ≤ xaa + xbb) (sab : xab = xba)
    (d0 : ij ≤ ik + kj) (d1 : ia ≤ ik + ka) (d2 : ib ≤ ik + kb) (d3 : aj ≤ ak + kj) (d4 : bj ≤ bk + kj) (d5 : xaa ≤ ak + ka) (d6 : xab ≤ ak + kb) (d7 : xba ≤ bk + ka) (d8 : xbb ≤ bk + kb) {x y : Int}
    (hx : x = ik ∨ x = ia + c + bk ∨ x = ib + c + ak ∨ x = ia + (2 * c + xbb) + ak ∨ x = ib + (2 * c + xaa) + bk) (hy : y = kj ∨ y = ka + c + bj ∨ y = kb + c + aj ∨ y = ka + (2 * c + xbb) + aj ∨ y = kb + (2 * c + xaa) + bj) :
    ij ≤ x + y ∨ ia + c + bj ≤ x + y ∨ ib + c + aj ≤ x + y ∨ ia + (2 * c + xbb) + aj ≤ x + y ∨ ib + (2 * c + xaa) + bj ≤ x + y := by
  rcases hx with rfl | rfl | rfl | rfl | rfl <;> rcases hy with rfl | rfl | rfl | rfl | rfl <;> omega
theorem oc_RC {N : Nat} {M : Nat → Nat → Int} (hN : N % 2 = 0) (T : oc_T N M) {a b : Nat} (ha : a < N) (hb : b < N) {c : Int} (hc : - M (oc_n a) (oc_n b) ≤ c) : oc_Clo N (oc_R M a b c) := by
  obtain ⟨hS, hC, hG, hE, hZ⟩ := T
  have hna := oc_nlt hN ha
  have hnb := oc_nlt hN hb
  intro i hi j hj k hk
  have key := oc_R_ar hc (hG _ hna _ hnb) (hS _ hna _ hnb) (hC i hi j hj k hk) (hC i hi _ hna k hk) (hC i hi _ hnb k hk) (hC _ hna j hj k hk) (hC _ hnb j hj k hk) (hC _ hna _ hna k hk) (hC _ hna _ hnb k hk) (hC _ hnb _ hna k hk) (hC _ hnb _ hnb k hk) (oc_m5c _ _ _ _ _) (oc_m5c _ _ _ _ _)
  obtain ⟨l1, l2, l3, l4, l5⟩ := oc_m5l (M i j) (M i (oc_n a) + c + M (oc_n b) j) (M i (oc_n b) + c + M (oc_n a) j) (M i (oc_n a) + (2 * c + M (oc_n b) (oc_n b)) + M (oc_n a) j) (M i (oc_n b) + (2 * c + M (oc_n a) (oc_n a)) + M (oc_n b) j)
  rcases key with h | h | h | h | h
  · exact Int.le_trans l1 h
  · exact Int.le_trans l2 h
  · exact Int.le_trans l3 h
  · exact Int.le_trans l4 h
  · exact Int.le_trans l5 h
/-- the table restricted by g a + g b at most c -/
def oc_K (M : Nat → Nat → Int) (a b : Nat) (c : Int) : Nat → Nat → Int := oc_sh (oc_R M a b c)
theorem oc_KG {N : Nat} {M : Nat → Nat → Int} (hN : N % 2 = 0) (T : oc_T N M) {a b : Nat} (ha : a < N) (hb : b < N) {c : Int} {p : Nat → Int} :
    oc_Gam N (oc_K M a b c) p ↔ oc_Gam N M p ∧ oc_g p a + oc_g p b ≤ c := by
  rw [oc_K, oc_shG, oc_RG hN T ha hb]
theorem oc_KT {N : Nat} {M : Nat → Nat → Int} (hN : N % 2 = 0) (T : oc_T N M) {a b : Nat} (ha : a < N) (hb : b < N) {c : Int} (hc : - M (oc_n a) (oc_n b) ≤ c) : oc_T N (oc_K M a b c) := by
  obtain ⟨q, hq, e⟩ := oc_att hN T (oc_nlt hN ha) (oc_nlt hN hb)
  rw [oc_gn, oc_gn] at e
  refine oc_shT hN (oc_RS hN T ha hb) (oc_RC hN T ha hb hc) (fun s hs => ?_) ((oc_RG hN T ha hb).mpr ⟨hq, by omega⟩)
  have h1 := T.2.2.2.2 s hs
  have h2 := (oc_Rl M a b c s (oc_n s)).1
  omega
theorem oc_shl (D : Nat → Nat → Int) (i j : Nat) : oc_sh D i j ≤ D i j := by
  simp only [oc_sh]; omega
theorem oc_KM {M : Nat → Nat → Int} {a b : Nat} {c : Int} (i j : Nat) : oc_K M a b c i j ≤ M i j :=
  Int.le_trans (oc_shl _ i j) (oc_Rl M a b c i j).1
theorem oc_Kab {N : Nat} {M : Nat → Nat → Int} (hN : N % 2 = 0) (T : oc_T N M) {a b : Nat} (ha : a < N) (hb : b < N) {c : Int} : oc_K M a b c a b ≤ c := by
  have z1 := T.2.2.2.2 a ha
  have z2 := T.2.2.2.2 b hb
  have z3 := T.1 b hb _ (oc_nlt hN hb)
  have h1 := oc_shl (oc_R M a b c) a b
  have h2 := (oc_Rl M a b c a b).2
  simp only [oc_K]
  omega
/-- the join -/
theorem oc_maxT {N : Nat} {A B : Nat → Nat → Int} (hN : N % 2 = 0) (TA : oc_T N A) (TB : oc_T N B) : oc_T N (fun i j => max (A i j) (B i j)) := by
  obtain ⟨hS, hC, hG, hE, hZ⟩ := TA
  obtain ⟨hS', hC', hG', hE', hZ'⟩ := TB
  refine ⟨?_, ?_, ?_, ?_, ?_⟩
  · intro s hs t ht
    have := hS s hs t ht
    have := hS' s hs t ht
    dsimp only
    omega
  · intro s hs t ht k hk
    have := hC s hs t ht k hk
    have := hC' s hs t ht k hk
    dsimp only
    omega
  · intro s hs t ht
    have := hG s hs t ht
    have := hG' s hs t ht
    dsimp only
    omega
  · intro s hs
    have := hE s hs
    have := hE' s hs
    dsimp only
    omega
  · intro s hs
    have := hZ s hs
    have := hZ' s hs
    dsimp only
    omega
theorem oc_T_congr {N : Nat} {A B : Nat → Nat → Int} (hN : N % 2 = 0) (h : ∀ s, s < N → ∀ t, t < N → B s t = A s t) (T : oc_T N A) : oc_T N B := by
  obtain ⟨hS, hC, hG, hE, hZ⟩ := T
  refine ⟨?_, ?_, ?_, ?_, ?_⟩
  · intro s hs t ht
    rw [h s hs t ht, h t ht s hs]; exact hS s hs t ht
  · intro s hs t ht k hk
    rw [h s hs t ht, h s hs k hk, h _ (oc_nlt hN hk) t ht]; exact hC s hs t ht k hk
  · intro s hs t ht
    rw [h s hs t ht, h s hs s hs, h t ht t ht]; exact hG s hs t ht
  · intro s hs
    rw [h s hs s hs]; exact hE s hs
  · intro s hs
    rw [h s hs _ (oc_nlt hN hs)]; exact hZ s hs
theorem oc_G_congr {N : Nat} {A B : Nat → Nat → Int} (h : ∀ s, s < N → ∀ t, t < N → B s t = A s t) (p : Nat → Int) : oc_Gam N B p ↔ oc_Gam N A p := by
  constructor
  · intro H s hs t ht
    rw [← h s hs t ht]; exact H s hs t ht
  · intro H s hs t ht
    rw [h s hs t ht]; exact H s hs t ht
/-- a variable takes every value of the box -/
def oc_rel (M : Nat → Nat → Int) (v : Nat) (L : Int) (i j : Nat) : Int :=
  if i / 2 = v then (if j / 2 = v then (if i = j then 2 * L else 0) else L + M j j / 2) else (if j / 2 = v then L + M i i / 2 else M i j)
theorem oc_rel1 {M : Nat → Nat → Int} {v : Nat} {L : Int} {i : Nat} (h : i / 2 = v) : oc_rel M v L i i = 2 * L := by
  simp only [oc_rel]; rw [if_pos h, if_pos h, if_pos trivial]
theorem oc_rel2 {M : Nat → Nat → Int} {v : Nat} {L : Int} {i j : Nat} (h : i / 2 = v) (h2 : j / 2 = v) (h3 : i ≠ j) : oc_rel M v L i j = 0 := by
  simp only [oc_rel]; rw [if_pos h, if_pos h2, if_neg h3]
theorem oc_rel3 {M : Nat → Nat → Int} {v : Nat} {L : Int} {i j : Nat} (h : i / 2 = v) (h2 : j / 2 ≠ v) : oc_rel M v L i j = L + M j j / 2 := by
  simp only [oc_rel]; rw [if_pos h, if_neg h2]
theorem oc_rel4 {M : Nat → Nat → Int} {v : Nat} {L : Int} {i j : Nat} (h : i / 2 ≠ v) (h2 : j / 2 = v) : oc_rel M v L i j = L + M i i / 2 := by
  simp only [oc_rel]; rw [if_neg h, if_pos h2]
theorem oc_rel5 {M : Nat → Nat → Int} {v : Nat} {L : Int} {i j : Nat} (h : i / 2 ≠ v) (h2 : j / 2 ≠ v) : oc_rel M v L i j = M i j := by
  simp only [oc_rel]; rw [if_neg h, if_neg h2]
theorem oc_relT {N : Nat} {M : Nat → Nat → Int} (hN : N % 2 = 0) (T : oc_T N M) (v : Nat) {L : Int} (hL : 0 ≤ L) : oc_T N (oc_rel M v L) := by
  obtain ⟨hS, hC, hG, hE, hZ⟩ := T
  have hk0 : ∀ k, k < N → 0 ≤ M k k / 2 + M (oc_n k) (oc_n k) / 2 := by
    intro k hk
    have a := hG k hk _ (oc_nlt hN hk)
    have b := hZ k hk
    have e1 := hE k hk
    have e2 := hE _ (oc_nlt hN hk)
    omega
  refine ⟨?_, ?_, ?_, ?_, ?_⟩
  · intro s hs t ht
    have h0 := hS s hs t ht
    simp only [oc_rel]
    by_cases a : s / 2 = v <;> by_cases b : t / 2 = v <;> simp only [a, b, if_true, if_false]
    · by_cases c : s = t
      · rw [if_pos c, if_pos c.symm]
      · rw [if_neg c, if_neg (fun z => c z.symm)]
    · exact h0
  · intro i hi j hj k hk
    have hnk := oc_nlt hN hk
    have h0 := hk0 k hk
    have c0 := hC i hi j hj k hk
    have g1 := hG i hi j hj
    have g2 := hG i hi k hk
    have g3 := hG _ hnk j hj
    have i1 := hE i hi
    have i2 := hE j hj
    have c1 := hC i hi i hi k hk
    have c2 := hC _ hnk i hi _ hnk
    rw [oc_nn] at c2
    have s1 := hS k hk i hi
    have c3 := hC j hj j hj _ hnk
    rw [oc_nn] at c3
    have c4 := hC k hk j hj k hk
    have s2 := hS j hj _ hnk
    have hi0 := hk0 i hi
    have hj0 := hk0 j hj
    have dk := oc_nd k
    have e1 := hE _ hnk
    have e2 := hE k hk
    by_cases a : i / 2 = v <;> by_cases b : j / 2 = v <;> by_cases c : k / 2 = v
    · by_cases ij : i = j
      · subst ij
        rw [oc_rel1 a]
        rcases oc_same (a.trans c.symm) with h | h
        · subst h
          rw [oc_rel1 a, oc_rel2 (dk.trans c) b (oc_ne i)]; omega
        · subst h
          rw [oc_rel2 a c (oc_ne k), oc_rel1 (dk.trans c)]; omega
      · rw [oc_rel2 a b ij]
        have r1 : 0 ≤ oc_rel M v L i k := by
          by_cases ik : i = k
          · subst ik; rw [oc_rel1 a]; omega
          · rw [oc_rel2 a c ik]; omega
        have r2 : 0 ≤ oc_rel M v L (oc_n k) j := by
          by_cases ik : oc_n k = j
          · subst ik; rw [oc_rel1 b]; omega
          · rw [oc_rel2 (dk.trans c) b ik]; omega
        omega
    · have cn : oc_n k / 2 ≠ v := by rw [dk]; exact c
      rw [oc_rel3 a c, oc_rel4 cn b]
      by_cases ij : i = j
      · subst ij; rw [oc_rel1 a]; omega
      · rw [oc_rel2 a b ij]; omega
    · rw [oc_rel3 a b, oc_rel3 (dk.trans c) b]
      have r1 : 0 ≤ oc_rel M v L i k := by
        by_cases ik : i = k
        · subst ik; rw [oc_rel1 a]; omega
        · rw [oc_rel2 a c ik]; omega
      omega
    · have cn : oc_n k / 2 ≠ v := by rw [dk]; exact c
      rw [oc_rel3 a b, oc_rel3 a c, oc_rel5 cn b]; omega
    · rw [oc_rel4 a b, oc_rel4 a c]
      have r2 : 0 ≤ oc_rel M v L (oc_n k) j := by
        by_cases ik : oc_n k = j
        · subst ik; rw [oc_rel1 b]; omega
        · rw [oc_rel2 (dk.trans c) b ik]; omega
      omega
    · have cn : oc_n k / 2 ≠ v := by rw [dk]; exact c
      rw [oc_rel4 a b, oc_rel5 a c, oc_rel4 cn b]; omega
    · rw [oc_rel5 a b, oc_rel4 a c, oc_rel3 (dk.trans c) b]; omega
    · have cn : oc_n k / 2 ≠ v := by rw [dk]; exact c
      rw [oc_rel5 a b, oc_rel5 a c, oc_rel5 cn b]; exact c0
  · intro s hs t ht
    have g := hG s hs t ht
    have e1 := hE s hs
    have e2 := hE t ht
    by_cases a : s / 2 = v <;> by_cases b : t / 2 = v
    · rw [oc_rel1 a, oc_rel1 b]
      by_cases c : s = t
      · subst c; rw [oc_rel1 a]; omega
      · rw [oc_rel2 a b c]; omega
    · rw [oc_rel1 a, oc_rel3 a b, oc_rel5 b b]; omega
    · rw [oc_rel1 b, oc_rel4 a b, oc_rel5 a a]; omega
    · rw [oc_rel5 a b, oc_rel5 a a, oc_rel5 b b]; exact g
  · intro s hs
    by_cases a : s / 2 = v
    · rw [oc_rel1 a]; omega
    · rw [oc_rel5 a a]; exact hE s hs
  · intro s hs
    by_cases a : s / 2 = v
    · exact oc_rel2 a ((oc_nd s).trans a) (fun z => oc_ne s z.symm)
    · rw [oc_rel5 a (by rw [oc_nd]; exact a)]; exact hZ s hs
theorem oc_uu (p : Nat → Int) (v : Nat) : oc_u p v (p v) = p := by
  funext i
  by_cases h : i = v
  · subst h; exact oc_us p i (p i)
  · exact oc_un h
theorem oc_uuu (p : Nat → Int) (v : Nat) (x y : Int) : oc_u (oc_u p v x) v y = oc_u p v y := by
  funext i
  by_cases h : i = v
  · subst h; rw [oc_us, oc_us]
  · rw [oc_un h, oc_un h, oc_un h]
theorem oc_relG {N : Nat} {M : Nat → Nat → Int} (hN : N % 2 = 0) (T : oc_T N M) {v : Nat} (hv : 2 * v < N) {L : Int} {p : Nat → Int} :
    oc_Gam N (oc_rel M v L) p ↔ (- L ≤ p v ∧ p v ≤ L) ∧ ∃ y : Int, oc_Gam N M (oc_u p v y) := by
  have v0 : (2 * v) / 2 = v := by omega
  have v1 : (2 * v + 1) / 2 = v := by omega
  constructor
  · intro h
    have a := h (2 * v) hv (2 * v) hv
    have b := h (2 * v + 1) (by omega) (2 * v + 1) (by omega)
    rw [oc_rel1 v0, oc_g0 (by omega), v0] at a
    rw [oc_rel1 v1, oc_g1 (by omega), v1] at b
    refine ⟨⟨by omega, by omega⟩, ?_⟩
    obtain ⟨y, hy⟩ := oc_ext hN T (fun i => i ≠ v) v hv (fun z => z rfl) p (fun s hs t ht ds dt => by
      have := h s hs t ht
      rwa [oc_rel5 ds dt] at this)
    exact ⟨y, fun s hs t ht => hy s hs t ht (Classical.em (s / 2 = v) |>.symm) (Classical.em (t / 2 = v) |>.symm)⟩
  · rintro ⟨⟨a, b⟩, y, hy⟩ s hs t ht
    have gs : s / 2 = v → - L ≤ oc_g p s ∧ oc_g p s ≤ L := by
      intro e
      by_cases h : s % 2 = 0
      · rw [oc_g0 h, e]; exact ⟨a, b⟩
      · rw [oc_g1 h, e]; omega
    have gt : t / 2 = v → - L ≤ oc_g p t ∧ oc_g p t ≤ L := by
      intro e
      by_cases h : t % 2 = 0
      · rw [oc_g0 h, e]; exact ⟨a, b⟩
      · rw [oc_g1 h, e]; omega
    by_cases c : s / 2 = v <;> by_cases d : t / 2 = v
    · by_cases e : s = t
      · subst e
        rw [oc_rel1 c]
        have := gs c
        omega
      · rw [oc_rel2 c d e]
        rcases oc_same (c.trans d.symm) with h | h
        · exact absurd h e
        · rw [h, oc_gn]; omega
    · rw [oc_rel3 c d]
      have := gs c
      have h2 := oc_half hy ht
      rw [oc_gus d] at h2
      omega
    · rw [oc_rel4 c d]
      have := gt d
      have h2 := oc_half hy hs
      rw [oc_gus c] at h2
      omega
    · rw [oc_rel5 c d]
      have := hy s hs t ht
      rwa [oc_gus c, oc_gus d] at this
/-- a variable's negation -/
def oc_sg (v s : Nat) : Nat := if s / 2 = v then oc_n s else s
def oc_mir (M : Nat → Nat → Int) (v i j : Nat) : Int := M (oc_sg v i) (oc_sg v j)
theorem oc_sg1 {v s : Nat} (h : s / 2 = v) : oc_sg v s = oc_n s := if_pos h
theorem oc_sg2 {v s : Nat} (h : s / 2 ≠ v) : oc_sg v s = s := if_neg h
theorem oc_sgn (v s : Nat) : oc_sg v (oc_n s) = oc_n (oc_sg v s) := by
  by_cases h : s / 2 = v
  · rw [oc_sg1 h, oc_sg1 ((oc_nd s).trans h)]
  · rw [oc_sg2 h, oc_sg2 (by rw [oc_nd]; exact h)]
theorem oc_sgl {N v s : Nat} (hN : N % 2 = 0) (h : s < N) : oc_sg v s < N := by
  by_cases h2 : s / 2 = v
  · rw [oc_sg1 h2]; exact oc_nlt hN h
  · rw [oc_sg2 h2]; exact h
theorem oc_sgg {N v s : Nat} : oc_sg v (oc_sg v s) = s := by
  by_cases h2 : s / 2 = v
  · rw [oc_sg1 h2, oc_sg1 ((oc_nd s).trans h2), oc_nn]
  · rw [oc_sg2 h2, oc_sg2 h2]
theorem oc_mirT {N : Nat} {M : Nat → Nat → Int} (hN : N % 2 = 0) (T : oc_T N M) (v : Nat) : oc_T N (oc_mir M v) := by
  obtain ⟨hS, hC, hG, hE, hZ⟩ := T
  refine ⟨?_, ?_, ?_, ?_, ?_⟩
  · intro s hs t ht
    exact hS _ (oc_sgl hN hs) _ (oc_sgl hN ht)
  · intro s hs t ht k hk
    have := hC _ (oc_sgl (v := v) hN hs) _ (oc_sgl (v := v) hN ht) _ (oc_sgl (v := v) hN hk)
    simp only [oc_mir]
    rw [oc_sgn]; exact this
  · intro s hs t ht
    exact hG _ (oc_sgl hN hs) _ (oc_sgl hN ht)
  · intro s hs
    exact hE _ (oc_sgl hN hs)
  · intro s hs
    simp only [oc_mir]
    rw [oc_sgn]; exact hZ _ (oc_sgl hN hs)
theorem oc_mirg (p : Nat → Int) (v s : Nat) : oc_g (oc_u p v (- p v)) s = oc_g p (oc_sg v s) := by
  by_cases h : s / 2 = v
  · rw [oc_sg1 h, oc_gn]
    by_cases h2 : s % 2 = 0
    · rw [oc_g0 h2, oc_g0 h2, h, oc_us]
    · rw [oc_g1 h2, oc_g1 h2, h, oc_us]
  · rw [oc_sg2 h, oc_gus h]
theorem oc_mirG {N : Nat} {M : Nat → Nat → Int} (hN : N % 2 = 0) {v : Nat} {p : Nat → Int} : oc_Gam N (oc_mir M v) p ↔ oc_Gam N M (oc_u p v (- p v)) := by
  constructor
  · intro h s hs t ht
    have := h _ (oc_sgl (v := v) hN hs) _ (oc_sgl (v := v) hN ht)
    simp only [oc_mir] at this
    rw [oc_sgg (N := N), oc_sgg (N := N)] at this
    rw [oc_mirg, oc_mirg]; exact this
  · intro h s hs t ht
    have := h _ (oc_sgl (v := v) hN hs) _ (oc_sgl (v := v) hN ht)
    rw [oc_mirg, oc_mirg, oc_sgg (N := N), oc_sgg (N := N)] at this
    exact this
/-- a variable's shift -/
def oc_w (v : Nat) (c : Int) (s : Nat) : Int := if s / 2 = v then (if s % 2 = 0 then c else - c) else 0
def oc_shf (M : Nat → Nat → Int) (v : Nat) (c : Int) (i j : Nat) : Int := M i j + oc_w v c i + oc_w v c j
theorem oc_w0 {v s : Nat} {c : Int} (h : s / 2 ≠ v) : oc_w v c s = 0 := if_neg h
theorem oc_w1 {v s : Nat} {c : Int} (h : s / 2 = v) (h2 : s % 2 = 0) : oc_w v c s = c := by simp only [oc_w]; rw [if_pos h, if_pos h2]
theorem oc_w2 {v s : Nat} {c : Int} (h : s / 2 = v) (h2 : ¬ s % 2 = 0) : oc_w v c s = - c := by simp only [oc_w]; rw [if_pos h, if_neg h2]
theorem oc_wn (v : Nat) (c : Int) (s : Nat) : oc_w v c (oc_n s) = - oc_w v c s := by
  by_cases h : s / 2 = v
  · by_cases h2 : s % 2 = 0
    · rw [oc_w1 h h2, oc_w2 ((oc_nd s).trans h) (by rw [oc_n0 h2]; omega)]
    · rw [oc_w2 h h2, oc_w1 ((oc_nd s).trans h) (by rw [oc_n1 h2]; omega)]; omega
  · rw [oc_w0 h, oc_w0 (by rw [oc_nd]; exact h)]; rfl
theorem oc_shfT {N : Nat} {M : Nat → Nat → Int} (hN : N % 2 = 0) (T : oc_T N M) (v : Nat) (c : Int) : oc_T N (oc_shf M v c) := by
  obtain ⟨hS, hC, hG, hE, hZ⟩ := T
  refine ⟨?_, ?_, ?_, ?_, ?_⟩
  · intro s hs t ht
    have := hS s hs t ht
    simp only [oc_shf]; omega
  · intro s hs t ht k hk
    have := hC s hs t ht k hk
    simp only [oc_shf]
    rw [oc_wn]; omega
  · intro s hs t ht
    have := hG s hs t ht
    simp only [oc_shf]; omega
  · intro s hs
    have := hE s hs
    simp only [oc_shf]; omega
  · intro s hs
    have := hZ s hs
    simp only [oc_shf]
    rw [oc_wn]; omega
theorem oc_shfg (p : Nat → Int) (v : Nat) (c : Int) (s : Nat) : oc_g (oc_u p v (p v - c)) s = oc_g p s - oc_w v c s := by
  by_cases h : s / 2 = v
  · by_cases h2 : s % 2 = 0
    · rw [oc_w1 h h2, oc_g0 h2, oc_g0 h2, h, oc_us]
    · rw [oc_w2 h h2, oc_g1 h2, oc_g1 h2, h, oc_us]; omega
  · rw [oc_w0 h, oc_gus h]; omega
theorem oc_shfG {N : Nat} {M : Nat → Nat → Int} {v : Nat} {c : Int} {p : Nat → Int} : oc_Gam N (oc_shf M v c) p ↔ oc_Gam N M (oc_u p v (p v - c)) := by
  constructor
  · intro h s hs t ht
    have := h s hs t ht
    simp only [oc_shf] at this
    rw [oc_shfg, oc_shfg]; omega
  · intro h s hs t ht
    have := h s hs t ht
    rw [oc_shfg, oc_shfg] at this
    simp only [oc_shf]; omega
/-- one phase of the full closure -/
def oc_ph (k : Nat) (D : Nat → Nat → Int) (i j : Nat) : Int := min (D i j) (D i k + D (oc_n k) j)
def oc_fw (D : Nat → Nat → Int) : Nat → Nat → Nat → Int
  | 0 => D
  | k + 1 => oc_ph k (oc_fw D k)
theorem oc_fwLe (D : Nat → Nat → Int) (k i j : Nat) : oc_fw D k i j ≤ D i j := by
  induction k generalizing i j with
  | zero => exact Int.le_refl _
  | succ k ih =>
    have := ih i j
    simp only [oc_fw, oc_ph]; omega
theorem oc_fwGe {N : Nat} (hN : N % 2 = 0) {C D : Nat → Nat → Int} (hC : oc_Clo N C) (h : ∀ i, i < N → ∀ j, j < N → C i j ≤ D i j) : ∀ k, k ≤ N → ∀ i, i < N → ∀ j, j < N → C i j ≤ oc_fw D k i j := by
  intro k
  induction k with
  | zero => intro _ i hi j hj; exact h i hi j hj
  | succ k ih =>
    intro hk i hi j hj
    have a := ih (by omega) i hi j hj
    have b := ih (by omega) i hi k (by omega)
    have c := ih (by omega) _ (oc_nlt (s := k) hN (by omega)) j hj
    have d := hC i hi j hj k (by omega)
    simp only [oc_fw, oc_ph]; omega
theorem oc_fwG {N : Nat} (hN : N % 2 = 0) {D : Nat → Nat → Int} {p : Nat → Int} (h : oc_Gam N D p) : ∀ k, k ≤ N → oc_Gam N (oc_fw D k) p := by
  intro k hk i hi j hj
  refine oc_fwGe (C := fun i j => oc_g p i + oc_g p j) hN ?_ h k hk i hi j hj
  intro s hs t ht k hk
  dsimp only
  rw [oc_gn]; omega
theorem oc_fwC {N : Nat} (hN : N % 2 = 0) {D : Nat → Nat → Int} {p : Nat → Int} (h : oc_Gam N D p) : ∀ k, k ≤ N → ∀ m, m < k → ∀ i, i < N → ∀ j, j < N → oc_fw D k i j ≤ oc_fw D k i m + oc_fw D k (oc_n m) j := by
  intro k
  induction k with
  | zero => intro _ m hm; exact absurd hm (Nat.not_lt_zero m)
  | succ k ih =>
    intro hk m hm i hi j hj
    have G := oc_fwG hN h k (by omega)
    have hk' : k < N := by omega
    have hnk := oc_nlt hN hk'
    have z := G _ hnk k hk'
    rw [oc_gn] at z
    simp only [oc_fw, oc_ph]
    by_cases e : m = k
    · subst e
      omega
    · have hm' : m < k := by omega
      have hnm := oc_nlt (s := m) hN (by omega)
      have c1 := ih (by omega) m hm' i hi j hj
      have c2 := ih (by omega) m hm' i hi k hk'
      have c3 := ih (by omega) m hm' _ hnk j hj
      have c4 := ih (by omega) m hm' _ hnk k hk'
      omega
theorem oc_fwT {N : Nat} (hN : N % 2 = 0) {D : Nat → Nat → Int} (hS : oc_Sym N D) (hZ : ∀ s, s < N → D s (oc_n s) ≤ 0) {p : Nat → Int} (h : oc_Gam N D p) : oc_T N (oc_sh (oc_fw D N)) := by
  have hC : oc_Clo N (oc_fw D N) := fun s hs t ht k hk => oc_fwC hN h N (Nat.le_refl _) k hk s hs t ht
  refine oc_shT hN ?_ hC (fun s hs => Int.le_trans (oc_fwLe D N s _) (hZ s hs)) (oc_fwG hN h N (Nat.le_refl _))
  have hT : oc_Clo N (fun i j => oc_fw D N j i) := by
    intro s hs t ht k hk
    have := hC t ht s hs _ (oc_nlt hN hk)
    rw [oc_nn] at this
    dsimp only
    omega
  have key : ∀ i, i < N → ∀ j, j < N → oc_fw D N j i ≤ oc_fw D N i j := by
    refine oc_fwGe hN hT ?_ N (Nat.le_refl _)
    intro i hi j hj
    rw [hS i hi j hj]
    exact oc_fwLe D N j i
  intro s hs t ht
  have a := key s hs t ht
  have b := key t ht s hs
  omega
theorem oc_fwGam {N : Nat} (hN : N % 2 = 0) {D : Nat → Nat → Int} {p : Nat → Int} : oc_Gam N (oc_sh (oc_fw D N)) p ↔ oc_Gam N D p := by
  rw [oc_shG]
  constructor
  · intro h s hs t ht
    exact Int.le_trans (h s hs t ht) (oc_fwLe D N s t)
  · intro h
    exact oc_fwG hN h N (Nat.le_refl _)
end
section
/-! Int32 against Int -/
theorem oz_add {x y : Int32} (h : -2147483648 ≤ x.toInt + y.toInt) (h2 : x.toInt + y.toInt ≤ 2147483647) : (x + y).toInt = x.toInt + y.toInt := by
  rw [Int32.toInt_add]
  exact Int.bmod_eq_of_le (by omega) (by omega)
theorem oz_sub {x y : Int32} (h : -2147483648 ≤ x.toInt - y.toInt) (h2 : x.toInt - y.toInt ≤ 2147483647) : (x - y).toInt = x.toInt - y.toInt := by
  rw [Int32.toInt_sub]
  exact Int.bmod_eq_of_le (by omega) (by omega)
theorem oz_mul {x y : Int32} {z : Int} (e : x.toInt * y.toInt = z) (h : -2147483648 ≤ z) (h2 : z ≤ 2147483647) : (x * y).toInt = z := by
  rw [Int32.toInt_mul, e]
  exact Int.bmod_eq_of_le (by omega) (by omega)
theorem oz_neg {x : Int32} (h : -2147483647 ≤ x.toInt) : (-x).toInt = - x.toInt := by
  have := x.toInt_lt
  rw [Int32.toInt_neg]
  exact Int.bmod_eq_of_le (by omega) (by omega)
theorem oz_2 : (2 : Int32).toInt = 2 := by decide
theorem oz_m2 : (-2 : Int32).toInt = -2 := by decide
theorem oz_0 : (0 : Int32).toInt = 0 := by decide
theorem oz_1 : (1 : Int32).toInt = 1 := by decide
theorem oz_tw {x : Int32} (h : -1000000 ≤ x.toInt) (h2 : x.toInt ≤ 1000000) : (2 * x).toInt = 2 * x.toInt := by
  refine oz_mul (by rw [oz_2]) (by omega) (by omega)
theorem oz_mtw {x : Int32} (h : -1000000 ≤ x.toInt) (h2 : x.toInt ≤ 1000000) : ((-2) * x).toInt = -2 * x.toInt := by
  refine oz_mul (by rw [oz_m2]) (by omega) (by omega)
theorem oz_shr1 (x : Int32) : (x >>> ((1 : Int32) &&& 31)).toInt = x.toInt / 2 := by
  rw [pk_shr _ _ 1 (by decide), Int.shiftRight_eq_div_pow]
  rfl
theorem oz_and1 (x : Int32) : (x &&& 1).toInt = x.toInt % 2 := by
  rw [pk_and x 1 (by decide), nI_toInt (by omega)]
  have e : x.toInt = x.toBitVec.toInt := rfl
  rw [e, BitVec.toInt_eq_toNat_cond]
  split <;> omega
theorem oz_ev (x : Int32) : (x - (x &&& 1)).toInt = 2 * (x.toInt / 2) := by
  have h := oz_and1 x
  have h1 := x.le_toInt
  have h2 := x.toInt_lt
  rw [oz_sub (by omega) (by omega), h]
  omega
theorem oz_xn : ∀ s, s < 6 → s ^^^ 1 = oc_n s := by decide
theorem oz_xor {s : Nat} (h : s < 6) : nI s ^^^ 1 = nI (oc_n s) := by
  rw [← oz_xn s h]
  exact nx_xor s 1
theorem oz_half {s : Nat} (h : s < 64) : nI s >>> ((1 : Int32) &&& 31) = nI (s / 2) := pk_shrN (by omega) _ 1 (by decide)
theorem oz_odd {s : Nat} (h : s < 64) : nI s &&& 1 = nI (s % 2) := pk_andN (by omega) 1 (by decide)
theorem oz_i6 (s t : Nat) : nI s * 6 + nI t = nI (s * 6 + t) := by
  show nI s * nI 6 + nI t = _
  rw [pk_mul, nI_add]
theorem oz_i36 (s t : Nat) : nI s * 36 + nI t = nI (s * 36 + t) := by
  show nI s * nI 36 + nI t = _
  rw [pk_mul, nI_add]
theorem oz_i366 (q s t : Nat) : nI q * 36 + nI s * 6 + nI t = nI (q * 36 + s * 6 + t) := by
  show nI q * nI 36 + nI s * nI 6 + nI t = _
  rw [pk_mul, pk_mul, nI_add, nI_add]
theorem oz_i5 (s t : Nat) : nI s * 5 + nI t = nI (s * 5 + t) := by
  show nI s * nI 5 + nI t = _
  rw [pk_mul, nI_add]
theorem oz_i50 (s : Nat) : nI s * 5 = nI (s * 5) := by
  show nI s * nI 5 = _
  rw [pk_mul]
theorem oz_d2 (s : Nat) : 2 * nI s = nI (2 * s) := by
  show nI 2 * nI s = _
  rw [pk_mul]
/-- a table in an array: the work table, a slot's table -/
def oz_w (w : Nat → Int32) (s t : Nat) : Int := (w (s * 6 + t)).toInt
def oz_s (a : Nat → Int32) (q s t : Nat) : Int := (a (q * 36 + s * 6 + t)).toInt
theorem oz_updS {w : Nat → Int32} {a b s t : Nat} {x : Int32} (hb : b < 6) (ht : t < 6) : upd w (a * 6 + b) x (s * 6 + t) = if s = a ∧ t = b then x else w (s * 6 + t) := by
  by_cases h : s = a ∧ t = b
  · rw [if_pos h, h.1, h.2]; exact pk_us
  · rw [if_neg h]; exact pk_un (by omega)
theorem oz_nar0 : vp_nar .boolean 0 = 0 := rfl
theorem oz_nar1 : vp_nar .boolean 1 = 1 := rfl
theorem oz_b01 {x : Int32} (h : x = 0 ∨ x = 1) : narrow .boolean (.int x) = .int x ∧ fits .boolean (.int x) = true ∧ vp_nar .boolean x = x := by
  rcases h with rfl | rfl
  · exact ⟨rfl, rfl, rfl⟩
  · exact ⟨rfl, rfl, rfl⟩
end
section
/-! the component's work table: at, lower, put, relax, sharpen, restrict -/
abbrev oxJ10 : Type := Int32 → Int32 → Int32 → Int32 → Int32 → Int32 → Int32 → Int32 → Int32 → Int32 → (Nat → Int32) → (Nat → Int32) → (Nat → Int32) → (Nat → Int32) → (Nat → Int32) → (Nat → Int32) → (Nat → Int32) → (Nat → Int32) → Prop
abbrev oxJ1 : Type := Int32 → (Nat → Int32) → (Nat → Int32) → (Nat → Int32) → (Nat → Int32) → (Nat → Int32) → (Nat → Int32) → (Nat → Int32) → (Nat → Int32) → Prop
/-- cells that are no code cells are as before -/
def ox_Ot (N : Nat) (w0 w : Nat → Int32) : Prop := ∀ j, ¬ (j / 6 < N ∧ j % 6 < N) → w j = w0 j
theorem ox_Ot_rf (N : Nat) (w : Nat → Int32) : ox_Ot N w w := fun _ _ => rfl
theorem ox_Ot_tr {N : Nat} {w0 w1 w2 : Nat → Int32} (h : ox_Ot N w0 w1) (h2 : ox_Ot N w1 w2) : ox_Ot N w0 w2 := fun j hj => (h2 j hj).trans (h j hj)
def ox_lw (w w' : Nat → Int32) (a b : Nat) (x : Int32) : Prop := (∀ j, j ≠ a * 6 + b → w' j = w j) ∧ (w' (a * 6 + b)).toInt = min (w (a * 6 + b)).toInt x.toInt
theorem ox_lw_cell {w w' : Nat → Int32} {a b : Nat} {x : Int32} (h : ox_lw w w' a b x) (hb : b < 6) {s t : Nat} (ht : t < 6) : oz_w w' s t = if s = a ∧ t = b then min (oz_w w a b) x.toInt else oz_w w s t := by
  by_cases e : s = a ∧ t = b
  · rw [if_pos e, e.1, e.2]; exact h.2
  · rw [if_neg e]; exact congrArg Int32.toInt (h.1 _ (by omega))
theorem ox_lw_Ot {N : Nat} {w w' : Nat → Int32} {a b : Nat} {x : Int32} (h : ox_lw w w' a b x) (ha : a < N) (hb : b < N) (hN : N ≤ 6) : ox_Ot N w w' := by
  intro j hj
  refine h.1 j (fun e => hj ?_)
  subst e
  exact ⟨by omega, by omega⟩
def ox_pt (w : Nat → Int32) (a b : Nat) (x : Int32) : Nat → Int32 := upd (upd w (a * 6 + b) x) (b * 6 + a) x
theorem ox_pt_cell {w : Nat → Int32} {a b : Nat} {x : Int32} (ha : a < 6) (hb : b < 6) {s t : Nat} (ht : t < 6) : oz_w (ox_pt w a b x) s t = if (s = a ∧ t = b) ∨ (s = b ∧ t = a) then x.toInt else oz_w w s t := by
  simp only [oz_w, ox_pt]
  by_cases e : s = b ∧ t = a
  · rw [if_pos (Or.inr e), e.1, e.2, pk_us]
  · rw [pk_un (by omega)]
    by_cases e2 : s = a ∧ t = b
    · rw [if_pos (Or.inl e2), e2.1, e2.2, pk_us]
    · rw [if_neg (by rintro (h | h); exact e2 h; exact e h), pk_un (by omega)]
theorem ox_pt_Ot {N : Nat} {w : Nat → Int32} {a b : Nat} {x : Int32} (ha : a < N) (hb : b < N) (hN : N ≤ 6) : ox_Ot N w (ox_pt w a b x) := by
  intro j hj
  simp only [ox_pt]
  rw [pk_un, pk_un]
  · intro e; subst e; exact hj ⟨by omega, by omega⟩
  · intro e; subst e; exact hj ⟨by omega, by omega⟩
section
variable {f_n f_limit f_size f_codes f_length f_begun f_hollow f_running f_where : Int32} {a_program a_head a_stored a_tight a_vacant a_waiting a_work a_values : Nat → Int32}
variable {post : SX → Prop}
theorem ox_at {post : Int32 → Prop} {s t : Nat} (hs : s < 6) (ht : t < 6) (h : post (a_work (s * 6 + t))) : wpX_at post (f_n, f_limit, f_size, f_codes, f_length, f_begun, f_hollow, f_running, f_where, a_program, a_head, a_stored, a_tight, a_vacant, a_waiting, a_work, a_values) (nI s) (nI t) := by
  show vp_in (nI s * 6 + nI t) 36 ∧ post (a_work (nI s * 6 + nI t).toNatClampNeg)
  rw [oz_i6, nI_clamp (by omega)]
  exact ⟨vp_in_nI (by omega) (by decide), h⟩
theorem ox_lower {s t : Nat} (hs : s < 6) (ht : t < 6) {x : Int32} (h : ∀ w', ox_lw a_work w' s t x → post (f_n, f_limit, f_size, f_codes, f_length, f_begun, f_hollow, f_running, f_where, a_program, a_head, a_stored, a_tight, a_vacant, a_waiting, w', a_values)) : wpX_lower post (f_n, f_limit, f_size, f_codes, f_length, f_begun, f_hollow, f_running, f_where, a_program, a_head, a_stored, a_tight, a_vacant, a_waiting, a_work, a_values) (nI s) (nI t) x := by
  have hin : vp_in (nI (s * 6 + t)) 36 := vp_in_nI (by omega) (by decide)
  show vp_in (nI s * 6 + nI t) 36 ∧ ((a_work (nI s * 6 + nI t).toNatClampNeg ≤ x → post (f_n, f_limit, f_size, f_codes, f_length, f_begun, f_hollow, f_running, f_where, a_program, a_head, a_stored, a_tight, a_vacant, a_waiting, a_work, a_values)) ∧ (¬ a_work (nI s * 6 + nI t).toNatClampNeg ≤ x → (vp_in (nI s * 6 + nI t) 36 ∧ ∀ w' : Nat → Int32, w' = upd a_work (nI s * 6 + nI t).toNatClampNeg x → post (f_n, f_limit, f_size, f_codes, f_length, f_begun, f_hollow, f_running, f_where, a_program, a_head, a_stored, a_tight, a_vacant, a_waiting, w', a_values))))
  rw [oz_i6, nI_clamp (by omega)]
  refine ⟨hin, fun c => h _ ⟨fun _ _ => rfl, ?_⟩, fun c => ⟨hin, fun w' e => h w' ⟨fun j hj => ?_, ?_⟩⟩⟩
  · rw [Int32.le_iff_toInt_le] at c; omega
  · rw [e]; exact pk_un hj
  · rw [e, pk_us]; rw [Int32.le_iff_toInt_le] at c; omega
theorem ox_put {s t : Nat} (hs : s < 6) (ht : t < 6) {x : Int32} (h : post (f_n, f_limit, f_size, f_codes, f_length, f_begun, f_hollow, f_running, f_where, a_program, a_head, a_stored, a_tight, a_vacant, a_waiting, ox_pt a_work s t x, a_values)) : wpX_put post (f_n, f_limit, f_size, f_codes, f_length, f_begun, f_hollow, f_running, f_where, a_program, a_head, a_stored, a_tight, a_vacant, a_waiting, a_work, a_values) (nI s) (nI t) x := by
  have hin : vp_in (nI (s * 6 + t)) 36 := vp_in_nI (by omega) (by decide)
  have hin2 : vp_in (nI (t * 6 + s)) 36 := vp_in_nI (by omega) (by decide)
  show vp_in (nI s * 6 + nI t) 36 ∧ ∀ w1 : Nat → Int32, w1 = upd a_work (nI s * 6 + nI t).toNatClampNeg x → (vp_in (nI t * 6 + nI s) 36 ∧ ∀ w2 : Nat → Int32, w2 = upd w1 (nI t * 6 + nI s).toNatClampNeg x → post (f_n, f_limit, f_size, f_codes, f_length, f_begun, f_hollow, f_running, f_where, a_program, a_head, a_stored, a_tight, a_vacant, a_waiting, w2, a_values))
  rw [oz_i6, oz_i6, nI_clamp (by omega), nI_clamp (by omega)]
  exact ⟨hin, nm_e ⟨hin2, nm_e h⟩⟩
/-- the relaxing loops: between K and M, what is done below R -/
def ox_rlI (N : Nat) (K M R : Nat → Nat → Int) (w0 : Nat → Int32) (i j : Nat) (w : Nat → Int32) : Prop :=
  (∀ s, s < N → ∀ t, t < N → K s t ≤ oz_w w s t ∧ oz_w w s t ≤ M s t ∧ ((s < i ∨ s = i ∧ t < j) → oz_w w s t ≤ R s t)) ∧ ox_Ot N w0 w
theorem ox_rl_lw {N : Nat} {K M R : Nat → Nat → Int} {w0 w w' : Nat → Int32} {i j : Nat} {x : Int32} (I : ox_rlI N K M R w0 i j w) (hN : N ≤ 6) (hi : i < N) (hj : j < N) (hx : K i j ≤ x.toInt) (h : ox_lw w w' i j x) :
    ox_rlI N K M R w0 i j w' ∧ oz_w w' i j ≤ x.toInt ∧ oz_w w' i j ≤ oz_w w i j := by
  have cell : ∀ s t, t < N → oz_w w' s t = if s = i ∧ t = j then min (oz_w w i j) x.toInt else oz_w w s t := fun s t ht => ox_lw_cell h (by omega) (by omega)
  refine ⟨⟨fun s hs t ht => ?_, ox_Ot_tr I.2 (ox_lw_Ot h hi hj hN)⟩, ?_, ?_⟩
  · have I0 := I.1 s hs t ht
    rw [cell s t ht]
    by_cases e : s = i ∧ t = j
    · rw [if_pos e]
      obtain ⟨rfl, rfl⟩ := e
      refine ⟨by omega, by omega, fun z => ?_⟩
      have := I0.2.2 z
      omega
    · rw [if_neg e]; exact I0
  · rw [cell i j hj, if_pos ⟨rfl, rfl⟩]; omega
  · rw [cell i j hj, if_pos ⟨rfl, rfl⟩]; omega
def ox_cx (N : Nat) (K M : Nat → Nat → Int) (a b : Nat) (c : Int32) : Prop :=
  N ≤ 6 ∧ N % 2 = 0 ∧ oc_T N K ∧ a < N ∧ b < N ∧ K a b ≤ c.toInt ∧ -1000 ≤ c.toInt ∧ c.toInt ≤ 1000 ∧ ∀ s, s < N → ∀ t, t < N → -1000 ≤ K s t ∧ K s t ≤ M s t ∧ M s t ≤ 1000
theorem ox_relax73 {J : oxJ10} {N : Nat} {K M : Nat → Nat → Int} {a b : Nat} {c : Int32} (C : ox_cx N K M a b c) {w0 : Nat → Int32} {i : Nat} (hi : i < N) {x6 x7 x9 x10 : Int32}
    (e6 : x6.toInt = 2 * c.toInt + M (oc_n b) (oc_n b)) (e7 : x7.toInt = 2 * c.toInt + M (oc_n a) (oc_n a)) (e9 : K i (oc_n a) ≤ x9.toInt ∧ x9.toInt ≤ M i (oc_n a)) (e10 : K i (oc_n b) ≤ x10.toInt ∧ x10.toInt ≤ M i (oc_n b))
    (hJ : ∀ w', ox_rlI N K M (oc_R M a b c.toInt) w0 (i + 1) 0 w' → J (nI (i + 1)) f_n f_limit f_size (nI N) f_length f_begun f_hollow f_running f_where a_program a_head a_stored a_tight a_vacant a_waiting w' a_values) :
    ∀ d j w n, j + d = N → d < n → ox_rlI N K M (oc_R M a b c.toInt) w0 i j w → wX_relax_73 post J c (nI (oc_n a)) (nI (oc_n b)) x6 x7 (nI i) x9 x10 n (nI j) f_n f_limit f_size (nI N) f_length f_begun f_hollow f_running f_where a_program a_head a_stored a_tight a_vacant a_waiting w a_values := by
  obtain ⟨h6, hN, T, ha, hb, hab, hc1, hc2, hB⟩ := C
  have hna := oc_nlt hN ha
  have hnb := oc_nlt hN hb
  intro d
  induction d with
  | zero =>
    intro j w n hj hn I
    obtain ⟨m, rfl⟩ : ∃ m, n = m + 1 := ⟨n - 1, by omega⟩
    have ej : j = N := by omega
    subst ej
    exact br_t (nI_le (Nat.le_refl _) (by omega)) (nm_r (nI_1 i) (hJ w ⟨fun s hs t ht => ⟨(I.1 s hs t ht).1, (I.1 s hs t ht).2.1, fun z => (I.1 s hs t ht).2.2 (by omega)⟩, I.2⟩))
  | succ d ih =>
    intro j w n hj hn I
    obtain ⟨m, rfl⟩ : ∃ m, n = m + 1 := ⟨n - 1, by omega⟩
    have hjN : j < N := by omega
    have fA := I.1 _ hna j hjN
    have fB := I.1 _ hnb j hjN
    obtain ⟨hS, hC, -, -, -⟩ := T
    -- soundness of the four paths
    have p1 := hC i hi j hjN _ hna
    have p2 := hC a ha j hjN b hb
    have p3 := hC i hi j hjN _ hnb
    have p4 := hC b hb j hjN a ha
    rw [oc_nn] at p1 p3
    have p5 := hS a ha b hb
    have p6 := hC _ hnb j hjN _ hnb
    have p7 := hC _ hna j hjN _ hna
    rw [oc_nn] at p6 p7
    have bA := hB _ hna j hjN
    have bB := hB _ hnb j hjN
    have b1 := hB i hi _ hna
    have b2 := hB i hi _ hnb
    have b3 := hB _ hna _ hna
    have b4 := hB _ hnb _ hnb
    have b5 := hB i hi j hjN
    have v1 : ((x9 + c) + w (oc_n b * 6 + j)).toInt = x9.toInt + c.toInt + oz_w w (oc_n b) j := by
      have q : (w (oc_n b * 6 + j)).toInt = oz_w w (oc_n b) j := rfl
      have q2 := oz_add (x := x9) (y := c) (by omega) (by omega)
      rw [oz_add (by omega) (by omega), q2, q]
    have v2 : ((x10 + c) + w (oc_n a * 6 + j)).toInt = x10.toInt + c.toInt + oz_w w (oc_n a) j := by
      have q : (w (oc_n a * 6 + j)).toInt = oz_w w (oc_n a) j := rfl
      have q2 := oz_add (x := x10) (y := c) (by omega) (by omega)
      rw [oz_add (by omega) (by omega), q2, q]
    have v3 : ((x9 + x6) + w (oc_n a * 6 + j)).toInt = x9.toInt + x6.toInt + oz_w w (oc_n a) j := by
      have q : (w (oc_n a * 6 + j)).toInt = oz_w w (oc_n a) j := rfl
      have q2 := oz_add (x := x9) (y := x6) (by omega) (by omega)
      rw [oz_add (by omega) (by omega), q2, q]
    have v4 : ((x10 + x7) + w (oc_n b * 6 + j)).toInt = x10.toInt + x7.toInt + oz_w w (oc_n b) j := by
      have q : (w (oc_n b * 6 + j)).toInt = oz_w w (oc_n b) j := rfl
      have q2 := oz_add (x := x10) (y := x7) (by omega) (by omega)
      rw [oz_add (by omega) (by omega), q2, q]
    refine br_f (nI_ge hjN (by omega)) ?_
    refine ox_at (by omega) (by omega) ?_
    refine ox_at (by omega) (by omega) ?_
    refine ox_lower (by omega) (by omega) (fun w1 h1 => ?_)
    obtain ⟨I1, l1, m1⟩ := ox_rl_lw I h6 hi hjN (by omega) h1
    refine ox_lower (by omega) (by omega) (fun w2 h2 => ?_)
    obtain ⟨I2, l2, m2⟩ := ox_rl_lw I1 h6 hi hjN (by omega) h2
    refine ox_lower (by omega) (by omega) (fun w3 h3 => ?_)
    obtain ⟨I3, l3, m3⟩ := ox_rl_lw I2 h6 hi hjN (by omega) h3
    refine ox_lower (by omega) (by omega) (fun w4 h4 => ?_)
    obtain ⟨I4, l4, m4⟩ := ox_rl_lw I3 h6 hi hjN (by omega) h4
    refine nm_r (nI_1 j) (ih (j + 1) w4 m (by omega) (by omega) ⟨fun s hs t ht => ?_, I4.2⟩)
    have J0 := I4.1 s hs t ht
    refine ⟨J0.1, J0.2.1, fun z => ?_⟩
    by_cases e : s = i ∧ t = j
    · obtain ⟨rfl, rfl⟩ := e
      have m0 := (I.1 s hs t ht).2.1
      exact oc_m5g (by omega) (by omega) (by omega) (by omega) (by omega)
    · exact J0.2.2 (by omega)
theorem ox_relax41 {N : Nat} {K M : Nat → Nat → Int} {a b : Nat} {c : Int32} (C : ox_cx N K M a b c) {w0 : Nat → Int32} {x6 x7 : Int32}
    (e6 : x6.toInt = 2 * c.toInt + M (oc_n b) (oc_n b)) (e7 : x7.toInt = 2 * c.toInt + M (oc_n a) (oc_n a))
    (hp : ∀ w', ox_rlI N K M (oc_R M a b c.toInt) w0 N 0 w' → post (f_n, f_limit, f_size, nI N, f_length, f_begun, f_hollow, f_running, f_where, a_program, a_head, a_stored, a_tight, a_vacant, a_waiting, w', a_values)) :
    ∀ d i w n, i + d = N → d < n → ox_rlI N K M (oc_R M a b c.toInt) w0 i 0 w → wX_relax_41 post c (nI (oc_n a)) (nI (oc_n b)) x6 x7 n (nI i) f_n f_limit f_size (nI N) f_length f_begun f_hollow f_running f_where a_program a_head a_stored a_tight a_vacant a_waiting w a_values := by
  have C0 := C
  obtain ⟨h6, hN, T, ha, hb, hab, hc1, hc2, hB⟩ := C
  have hna := oc_nlt hN ha
  have hnb := oc_nlt hN hb
  intro d
  induction d with
  | zero =>
    intro i w n hi hn I
    obtain ⟨m, rfl⟩ : ∃ m, n = m + 1 := ⟨n - 1, by omega⟩
    have ei : i = N := by omega
    subst ei
    exact br_t (nI_le (Nat.le_refl _) (by omega)) (hp w I)
  | succ d ih =>
    intro i w n hi hn I
    obtain ⟨m, rfl⟩ : ∃ m, n = m + 1 := ⟨n - 1, by omega⟩
    have hiN : i < N := by omega
    refine br_f (nI_ge hiN (by omega)) ?_
    refine ox_at (by omega) (by omega) ?_
    refine ox_at (by omega) (by omega) ?_
    refine ⟨N + 1, ?_⟩
    have q1 := I.1 i hiN _ hna
    have q2 := I.1 i hiN _ hnb
    exact ox_relax73 C0 hiN e6 e7 ⟨q1.1, q1.2.1⟩ ⟨q2.1, q2.2.1⟩ (fun w' I' => ih (i + 1) w' m (by omega) (by omega) I') N 0 w (N + 1) (by omega) (by omega) I
theorem ox_relax {N : Nat} {K : Nat → Nat → Int} {a b : Nat} {c : Int32} (C : ox_cx N K (oz_w a_work) a b c)
    (hp : ∀ w', ox_rlI N K (oz_w a_work) (oc_R (oz_w a_work) a b c.toInt) a_work N 0 w' → post (f_n, f_limit, f_size, nI N, f_length, f_begun, f_hollow, f_running, f_where, a_program, a_head, a_stored, a_tight, a_vacant, a_waiting, w', a_values)) : wpX_relax post (f_n, f_limit, f_size, nI N, f_length, f_begun, f_hollow, f_running, f_where, a_program, a_head, a_stored, a_tight, a_vacant, a_waiting, a_work, a_values) (nI a) (nI b) c := by
  have C0 := C
  obtain ⟨h6, hN, T, ha, hb, hab, hc1, hc2, hB⟩ := C
  have hna := oc_nlt hN ha
  have hnb := oc_nlt hN hb
  have b3 := hB _ hna _ hna
  have b4 := hB _ hnb _ hnb
  have q := oz_tw (x := c) (by omega) (by omega)
  have q3 : (a_work (oc_n a * 6 + oc_n a)).toInt = oz_w a_work (oc_n a) (oc_n a) := rfl
  have q4 : (a_work (oc_n b * 6 + oc_n b)).toInt = oz_w a_work (oc_n b) (oc_n b) := rfl
  refine nm_r (oz_xor (by omega)) (nm_r (oz_xor (by omega)) ?_)
  refine ox_at (by omega) (by omega) ?_
  intro x6 h6'
  refine ox_at (by omega) (by omega) ?_
  intro x7 h7'
  refine ⟨N + 1, ?_⟩
  refine ox_relax41 C0 ?_ ?_ hp N 0 a_work (N + 1) (by omega) (by omega) ⟨fun s hs t ht => ?_, ox_Ot_rf N a_work⟩
  · rw [h6', oz_add (by omega) (by omega), q, q4]
  · rw [h7', oz_add (by omega) (by omega), q, q3]
  · exact ⟨(hB s hs t ht).2.1, Int.le_refl _, fun z => by omega⟩
end
end
section
/-! sharpen, restrict -/
/-- the doubled bounds rounded -/
def ox_D1 (D : Nat → Nat → Int) (s t : Nat) : Int := if s = t then 2 * (D s s / 2) else D s t
theorem ox_D1s (D : Nat → Nat → Int) (s : Nat) : ox_D1 D s s = 2 * (D s s / 2) := if_pos rfl
theorem ox_D1n {D : Nat → Nat → Int} {s t : Nat} (h : s ≠ t) : ox_D1 D s t = D s t := if_neg h
theorem ox_shs (D : Nat → Nat → Int) (s : Nat) : oc_sh D s s = 2 * (D s s / 2) := by simp only [oc_sh]; omega
def ox_sI1 (N : Nat) (D : Nat → Nat → Int) (w0 : Nat → Int32) (i : Nat) (w : Nat → Int32) : Prop :=
  (∀ s, s < N → ∀ t, t < N → oz_w w s t = if s < i then ox_D1 D s t else D s t) ∧ ox_Ot N w0 w
def ox_sI2 (N : Nat) (D : Nat → Nat → Int) (w0 : Nat → Int32) (i j : Nat) (w : Nat → Int32) : Prop :=
  (∀ s, s < N → ∀ t, t < N → oz_w w s t = if s < i ∨ s = i ∧ t < j then oc_sh D s t else ox_D1 D s t) ∧ ox_Ot N w0 w
theorem ox_sI2d {N : Nat} {D : Nat → Nat → Int} {w0 : Nat → Int32} {i j : Nat} {w : Nat → Int32} (I : ox_sI2 N D w0 i j w) {s : Nat} (hs : s < N) : oz_w w s s = 2 * (D s s / 2) := by
  rw [I.1 s hs s hs]
  split
  · exact ox_shs D s
  · exact ox_D1s D s
section
variable {f_n f_limit f_size f_codes f_length f_begun f_hollow f_running f_where : Int32} {a_program a_head a_stored a_tight a_vacant a_waiting a_work a_values : Nat → Int32}
variable {post : SX → Prop}
theorem ox_sharp55 {J : oxJ10} {N : Nat} {D : Nat → Nat → Int} (h6 : N ≤ 6) (hB : ∀ s, s < N → ∀ t, t < N → -2000 ≤ D s t ∧ D s t ≤ 2000) {w0 : Nat → Int32} {i : Nat} (hi : i < N) {x2 : Int32} (e2 : x2.toInt = D i i / 2)
    (hJ : ∀ w', ox_sI2 N D w0 (i + 1) 0 w' → J (nI (i + 1)) f_n f_limit f_size (nI N) f_length f_begun f_hollow f_running f_where a_program a_head a_stored a_tight a_vacant a_waiting w' a_values) :
    ∀ d j w n, j + d = N → d < n → ox_sI2 N D w0 i j w → wX_sharpen_55 post J (nI i) x2 n (nI j) f_n f_limit f_size (nI N) f_length f_begun f_hollow f_running f_where a_program a_head a_stored a_tight a_vacant a_waiting w a_values := by
  intro d
  induction d with
  | zero =>
    intro j w n hj hn I
    obtain ⟨m, rfl⟩ : ∃ m, n = m + 1 := ⟨n - 1, by omega⟩
    have ej : j = N := by omega
    subst ej
    refine br_t (nI_le (Nat.le_refl _) (by omega)) (nm_r (nI_1 i) (hJ w ⟨fun s hs t ht => ?_, I.2⟩))
    rw [I.1 s hs t ht]
    by_cases h : s < i ∨ s = i ∧ t < j
    · rw [if_pos h, if_pos (by omega)]
    · rw [if_neg h, if_neg (by omega)]
  | succ d ih =>
    intro j w n hj hn I
    obtain ⟨m, rfl⟩ : ∃ m, n = m + 1 := ⟨n - 1, by omega⟩
    have hjN : j < N := by omega
    refine br_f (nI_ge hjN (by omega)) ?_
    refine ox_at (by omega) (by omega) ?_
    intro x4 h4
    have q4 : (w (j * 6 + j)).toInt = oz_w w j j := rfl
    have d4 : x4.toInt = D j j / 2 := by
      rw [h4, oz_shr1, q4, ox_sI2d I hjN]; omega
    have bj := hB j hjN j hjN
    have bi := hB i hi i hi
    have s4 : (x2 + x4).toInt = D i i / 2 + D j j / 2 := by
      rw [oz_add (by omega) (by omega), e2, d4]
    refine ox_lower (by omega) (by omega) (fun w1 h1 => ?_)
    refine nm_r (nI_1 j) (ih (j + 1) w1 m (by omega) (by omega) ⟨fun s hs t ht => ?_, ox_Ot_tr I.2 (ox_lw_Ot h1 hi hjN h6)⟩)
    rw [ox_lw_cell h1 (by omega) (by omega), s4]
    by_cases e : s = i ∧ t = j
    · obtain ⟨rfl, rfl⟩ := e
      rw [if_pos ⟨rfl, rfl⟩, if_pos (by omega), I.1 s hs t ht, if_neg (by omega)]
      by_cases e : s = t
      · subst e; rw [ox_D1s, ox_shs]; omega
      · rw [ox_D1n e]; rfl
    · rw [if_neg e, I.1 s hs t ht]
      by_cases h : s < i ∨ s = i ∧ t < j
      · rw [if_pos h, if_pos (by omega)]
      · rw [if_neg h, if_neg (by omega)]
theorem ox_sharp36 {N : Nat} {D : Nat → Nat → Int} (h6 : N ≤ 6) (hB : ∀ s, s < N → ∀ t, t < N → -2000 ≤ D s t ∧ D s t ≤ 2000) {w0 : Nat → Int32}
    (hp : ∀ w', ox_sI2 N D w0 N 0 w' → post (f_n, f_limit, f_size, nI N, f_length, f_begun, f_hollow, f_running, f_where, a_program, a_head, a_stored, a_tight, a_vacant, a_waiting, w', a_values)) :
    ∀ d i w n, i + d = N → d < n → ox_sI2 N D w0 i 0 w → wX_sharpen_36 post n (nI i) f_n f_limit f_size (nI N) f_length f_begun f_hollow f_running f_where a_program a_head a_stored a_tight a_vacant a_waiting w a_values := by
  intro d
  induction d with
  | zero =>
    intro i w n hi hn I
    obtain ⟨m, rfl⟩ : ∃ m, n = m + 1 := ⟨n - 1, by omega⟩
    have ei : i = N := by omega
    subst ei
    exact br_t (nI_le (Nat.le_refl _) (by omega)) (hp w I)
  | succ d ih =>
    intro i w n hi hn I
    obtain ⟨m, rfl⟩ : ∃ m, n = m + 1 := ⟨n - 1, by omega⟩
    have hiN : i < N := by omega
    refine br_f (nI_ge hiN (by omega)) ?_
    refine ox_at (by omega) (by omega) ?_
    intro x2 h2
    have q4 : (w (i * 6 + i)).toInt = oz_w w i i := rfl
    have d2 : x2.toInt = D i i / 2 := by
      rw [h2, oz_shr1, q4, ox_sI2d I hiN]; omega
    exact ⟨N + 1, ox_sharp55 h6 hB hiN d2 (fun w' I' => ih (i + 1) w' m (by omega) (by omega) I') N 0 w (N + 1) (by omega) (by omega) I⟩
theorem ox_sharp2 {N : Nat} {D : Nat → Nat → Int} (h6 : N ≤ 6) (hB : ∀ s, s < N → ∀ t, t < N → -2000 ≤ D s t ∧ D s t ≤ 2000) {w0 : Nat → Int32}
    (hp : ∀ w', ox_sI2 N D w0 N 0 w' → post (f_n, f_limit, f_size, nI N, f_length, f_begun, f_hollow, f_running, f_where, a_program, a_head, a_stored, a_tight, a_vacant, a_waiting, w', a_values)) :
    ∀ d i w n, i + d = N → d < n → ox_sI1 N D w0 i w → wX_sharpen_2 post n (nI i) f_n f_limit f_size (nI N) f_length f_begun f_hollow f_running f_where a_program a_head a_stored a_tight a_vacant a_waiting w a_values := by
  intro d
  induction d with
  | zero =>
    intro i w n hi hn I
    obtain ⟨m, rfl⟩ : ∃ m, n = m + 1 := ⟨n - 1, by omega⟩
    have ei : i = N := by omega
    subst ei
    refine br_t (nI_le (Nat.le_refl _) (by omega)) ⟨i + 1, ?_⟩
    refine ox_sharp36 h6 hB hp i 0 w (i + 1) (by omega) (by omega) ⟨fun s hs t ht => ?_, I.2⟩
    rw [I.1 s hs t ht, if_pos hs, if_neg (by omega)]
  | succ d ih =>
    intro i w n hi hn I
    obtain ⟨m, rfl⟩ : ∃ m, n = m + 1 := ⟨n - 1, by omega⟩
    have hiN : i < N := by omega
    refine br_f (nI_ge hiN (by omega)) ?_
    refine ox_at (by omega) (by omega) ?_
    refine ox_put (by omega) (by omega) ?_
    refine nm_r (nI_1 i) (ih (i + 1) _ m (by omega) (by omega) ⟨fun s hs t ht => ?_, ox_Ot_tr I.2 (ox_pt_Ot hiN hiN h6)⟩)
    have q4 : (w (i * 6 + i)).toInt = oz_w w i i := rfl
    rw [ox_pt_cell (by omega) (by omega) (by omega), oz_ev, q4]
    by_cases e : s = i ∧ t = i
    · obtain ⟨rfl, rfl⟩ := e
      rw [if_pos (by omega), if_pos (by omega), I.1 _ hs _ hs, if_neg (by omega), ox_D1s]
    · rw [if_neg (by omega), I.1 s hs t ht]
      by_cases h : s < i
      · rw [if_pos h, if_pos (by omega)]
      · rw [if_neg h]
        by_cases h2 : s < i + 1
        · rw [if_pos h2, ox_D1n (by omega)]
        · rw [if_neg h2]
theorem ox_sharpen {N : Nat} (h6 : N ≤ 6) (hB : ∀ s, s < N → ∀ t, t < N → -2000 ≤ oz_w a_work s t ∧ oz_w a_work s t ≤ 2000)
    (hp : ∀ w', (∀ s, s < N → ∀ t, t < N → oz_w w' s t = oc_sh (oz_w a_work) s t) → ox_Ot N a_work w' → post (f_n, f_limit, f_size, nI N, f_length, f_begun, f_hollow, f_running, f_where, a_program, a_head, a_stored, a_tight, a_vacant, a_waiting, w', a_values)) : wpX_sharpen post (f_n, f_limit, f_size, nI N, f_length, f_begun, f_hollow, f_running, f_where, a_program, a_head, a_stored, a_tight, a_vacant, a_waiting, a_work, a_values) := by
  refine ⟨N + 1, ox_sharp2 h6 hB (fun w' I => hp w' (fun s hs t ht => ?_) I.2) N 0 a_work (N + 1) (by omega) (by omega) ⟨fun s hs t ht => ?_, ox_Ot_rf N a_work⟩⟩
  · rw [I.1 s hs t ht, if_pos (by omega)]
  · rw [if_neg (by omega)]
end
/-- the work table holds the hull of a set of points -/
def ox_Wk (N : Nat) (w : Nat → Int32) (S : (Nat → Int) → Prop) : Prop :=
  oc_T N (oz_w w) ∧ (∀ p, oc_Gam N (oz_w w) p ↔ S p) ∧ ∀ s, s < N → ∀ t, t < N → oz_w w s t ≤ 100
/-- hollow and no point, or the hull -/
def ox_Out (N : Nat) (hol : Int32) (w : Nat → Int32) (S : (Nat → Int) → Prop) : Prop :=
  (hol = 1 ∧ ∀ p, ¬ S p) ∨ (hol = 0 ∧ ox_Wk N w S)
theorem oc_lowT {N : Nat} {M : Nat → Nat → Int} (hN : N % 2 = 0) (T : oc_T N M) {B : Int} (h : ∀ s, s < N → ∀ t, t < N → M s t ≤ B) {s t : Nat} (hs : s < N) (ht : t < N) : - B ≤ M s t := by
  have a := T.2.1 s hs _ (oc_nlt hN hs) t ht
  have b := T.2.2.2.2 s hs
  have c := h _ (oc_nlt hN ht) _ (oc_nlt hN hs)
  omega
theorem oc_sandwich {N : Nat} {K R W : Nat → Nat → Int} (T : oc_T N K) (e : ∀ s, s < N → ∀ t, t < N → K s t = oc_sh R s t) (h1 : ∀ s, s < N → ∀ t, t < N → K s t ≤ W s t) (h2 : ∀ s, s < N → ∀ t, t < N → W s t ≤ R s t) : ∀ s, s < N → ∀ t, t < N → oc_sh W s t = K s t := by
  intro s hs t ht
  have a := h1 s hs t ht
  have b := h1 s hs s hs
  have c := h1 t ht t ht
  have a2 := h2 s hs t ht
  have b2 := h2 s hs s hs
  have c2 := h2 t ht t ht
  have g := T.2.2.1 s hs t ht
  have e1 := T.2.2.2.1 s hs
  have e2 := T.2.2.2.1 t ht
  have ee := e s hs t ht
  simp only [oc_sh] at ee ⊢
  omega
section
variable {f_n f_limit f_size f_codes f_length f_begun f_hollow f_running f_where : Int32} {a_program a_head a_stored a_tight a_vacant a_waiting a_work a_values : Nat → Int32}
variable {post : SX → Prop}
theorem ox_restrict {N : Nat} (hN : N = 4 ∨ N = 6) {S : (Nat → Int) → Prop} (O : ox_Out N f_hollow a_work S) {a b : Nat} (ha : a < N) (hb : b < N) {c : Int32}
    (k : ∀ hol w, ox_Out N hol w (fun p => S p ∧ oc_g p a + oc_g p b ≤ c.toInt) → ox_Ot N a_work w → post (f_n, f_limit, f_size, nI N, f_length, f_begun, hol, f_running, f_where, a_program, a_head, a_stored, a_tight, a_vacant, a_waiting, w, a_values)) :
    wpX_restrict post (f_n, f_limit, f_size, nI N, f_length, f_begun, f_hollow, f_running, f_where, a_program, a_head, a_stored, a_tight, a_vacant, a_waiting, a_work, a_values) (nI a) (nI b) c := by
  have hN2 : N % 2 = 0 := by omega
  have h6 : N ≤ 6 := by omega
  have hna := oc_nlt hN2 ha
  have hnb := oc_nlt hN2 hb
  rcases O with ⟨rfl, hE⟩ | ⟨rfl, W⟩
  · exact br_f (by decide) (k 1 a_work (Or.inl ⟨rfl, fun p hp => hE p hp.1⟩) (ox_Ot_rf N a_work))
  · obtain ⟨T, G, B⟩ := W
    have qab : (a_work (a * 6 + b)).toInt = oz_w a_work a b := rfl
    have qn : (a_work (oc_n a * 6 + oc_n b)).toInt = oz_w a_work (oc_n a) (oc_n b) := rfl
    have bab := B a ha b hb
    have bn := B _ hna _ hnb
    have bn2 := oc_lowT hN2 T B hna hnb
    have bab2 := oc_lowT hN2 T B ha hb
    refine br_t rfl ?_
    refine ox_at (by omega) (by omega) ?_
    refine br_c (fun h1 => ?_) (fun h1 => ?_)
    · rw [Int32.lt_iff_toInt_lt, qab] at h1
      rw [oz_xor (by omega), oz_xor (by omega)]
      refine ox_at (by omega) (by omega) ?_
      have qneg := oz_neg (x := a_work (oc_n a * 6 + oc_n b)) (by omega)
      refine br_c (fun h2 => ?_) (fun h2 => ?_)
      · rw [Int32.le_iff_toInt_le, qneg, qn] at h2
        have TK := oc_KT hN2 T ha hb (c := c.toInt) (by omega)
        have BK : ∀ s, s < N → ∀ t, t < N → oc_K (oz_w a_work) a b c.toInt s t ≤ 100 := fun s hs t ht => Int.le_trans (oc_KM s t) (B s hs t ht)
        refine ox_relax (K := oc_K (oz_w a_work) a b c.toInt) ⟨h6, hN2, TK, ha, hb, oc_Kab hN2 T ha hb, by omega, by omega, fun s hs t ht => ?_⟩ (fun w' I => ?_)
        · have := oc_lowT hN2 TK BK hs ht
          have := B s hs t ht
          exact ⟨by omega, oc_KM s t, by omega⟩
        · refine ox_sharpen h6 (fun s hs t ht => ?_) (fun w2 e2 o2 => ?_)
          · have i0 := I.1 s hs t ht
            have := oc_lowT hN2 TK BK hs ht
            have := B s hs t ht
            omega
          · have ee := oc_sandwich (W := oz_w w') (R := oc_R (oz_w a_work) a b c.toInt) TK (fun s _ t _ => rfl) (fun s hs t ht => (I.1 s hs t ht).1) (fun s hs t ht => (I.1 s hs t ht).2.2 (Or.inl hs))
            have e3 : ∀ s, s < N → ∀ t, t < N → oz_w w2 s t = oc_K (oz_w a_work) a b c.toInt s t := fun s hs t ht => (e2 s hs t ht).trans (ee s hs t ht)
            refine k 0 w2 (Or.inr ⟨rfl, oc_T_congr hN2 e3 TK, fun p => ?_, fun s hs t ht => ?_⟩) (ox_Ot_tr I.2 o2)
            · rw [oc_G_congr e3, oc_KG hN2 T ha hb, G]
            · rw [e3 s hs t ht]; exact BK s hs t ht
      · rw [Int32.le_iff_toInt_le, qneg, qn] at h2
        refine k 1 a_work (Or.inl ⟨rfl, fun p hp => ?_⟩) (ox_Ot_rf N a_work)
        have := ((G p).mpr hp.1) _ hna _ hnb
        rw [oc_gn, oc_gn] at this
        omega
    · rw [Int32.lt_iff_toInt_lt, qab] at h1
      refine k 0 a_work (Or.inr ⟨rfl, T, fun p => ?_, B⟩) (ox_Ot_rf N a_work)
      constructor
      · intro h
        refine ⟨(G p).mp h, ?_⟩
        have := h a ha b hb
        omega
      · exact fun h => (G p).mpr h.1
end
end
section
/-! release, mirror, shift -/
theorem oz_hb {A B : Prop} {t v : Nat} (ht : t < 64) (hv : v < 64) (f : t / 2 = v → A) (g : t / 2 ≠ v → B) : (nI t >>> ((1 : Int32) &&& 31) = nI v → A) ∧ (¬ nI t >>> ((1 : Int32) &&& 31) = nI v → B) :=
  pk_eq (t / 2) v f g (oz_half ht) rfl (by omega) (by omega)
/-- a table that is changed in the rows and columns of variable v, from M to F; t0 columns are done -/
def ox_vI (N v : Nat) (M F : Nat → Nat → Int) (w0 : Nat → Int32) (t0 : Nat) (w : Nat → Int32) : Prop :=
  (∀ s, s < N → ∀ t, t < N → (s / 2 ≠ v → t / 2 ≠ v → oz_w w s t = M s t) ∧ (s / 2 = v → t / 2 = v → oz_w w s t = F s t) ∧
    (s / 2 = v → t / 2 ≠ v → t < t0 → oz_w w s t = F s t ∧ oz_w w t s = F t s) ∧ (s / 2 = v → t / 2 ≠ v → t0 ≤ t → oz_w w s t = M s t)) ∧ ox_Ot N w0 w
theorem ox_v0 {N v : Nat} {M F : Nat → Nat → Int} {w : Nat → Int32} {x y : Int32} (h6 : N ≤ 6) (hv : 2 * v + 1 < N) (hM : ∀ s, s < N → ∀ t, t < N → oz_w w s t = M s t)
    (ex : x.toInt = F (2 * v) (2 * v)) (ey : y.toInt = F (2 * v + 1) (2 * v + 1)) (z1 : M (2 * v) (2 * v + 1) = F (2 * v) (2 * v + 1)) (z2 : M (2 * v + 1) (2 * v) = F (2 * v + 1) (2 * v)) :
    ox_vI N v M F w 0 (ox_pt (ox_pt w (2 * v) (2 * v) x) (2 * v + 1) (2 * v + 1) y) := by
  refine ⟨fun s hs t ht => ?_, ox_Ot_tr (ox_pt_Ot (by omega) (by omega) h6) (ox_pt_Ot (by omega) (by omega) h6)⟩
  have c : oz_w (ox_pt (ox_pt w (2 * v) (2 * v) x) (2 * v + 1) (2 * v + 1) y) s t = if s = 2 * v + 1 ∧ t = 2 * v + 1 then y.toInt else if s = 2 * v ∧ t = 2 * v then x.toInt else M s t := by
    rw [ox_pt_cell (by omega) (by omega) (by omega), ox_pt_cell (by omega) (by omega) (by omega), hM s hs t ht]
    simp only [or_self]
  rw [c]
  refine ⟨fun a b => ?_, fun a b => ?_, fun _ _ h => absurd h (Nat.not_lt_zero _), fun a b _ => ?_⟩
  · rw [if_neg (by omega), if_neg (by omega)]
  · have hs2 : s = 2 * v ∨ s = 2 * v + 1 := by omega
    have ht2 : t = 2 * v ∨ t = 2 * v + 1 := by omega
    rcases hs2 with rfl | rfl <;> rcases ht2 with rfl | rfl
    · rw [if_neg (by omega), if_pos (by omega), ex]
    · rw [if_neg (by omega), if_neg (by omega), z1]
    · rw [if_neg (by omega), if_neg (by omega), z2]
    · rw [if_pos (by omega), ey]
  · rw [if_neg (by omega), if_neg (by omega)]
theorem ox_vS {N v : Nat} {M F : Nat → Nat → Int} {w0 w : Nat → Int32} {t0 : Nat} {x y : Int32} (h6 : N ≤ 6) (hv : 2 * v + 1 < N) (ht0 : t0 < N) (hn : t0 / 2 ≠ v) (I : ox_vI N v M F w0 t0 w)
    (ex : x.toInt = F (2 * v) t0) (ex2 : x.toInt = F t0 (2 * v)) (ey : y.toInt = F (2 * v + 1) t0) (ey2 : y.toInt = F t0 (2 * v + 1)) :
    ox_vI N v M F w0 (t0 + 1) (ox_pt (ox_pt w (2 * v) t0 x) (2 * v + 1) t0 y) := by
  refine ⟨fun s hs t ht => ?_, ox_Ot_tr I.2 (ox_Ot_tr (ox_pt_Ot (by omega) (by omega) h6) (ox_pt_Ot (by omega) (by omega) h6))⟩
  have c : ∀ s, s < N → ∀ t, t < N → oz_w (ox_pt (ox_pt w (2 * v) t0 x) (2 * v + 1) t0 y) s t = if (s = 2 * v + 1 ∧ t = t0) ∨ (s = t0 ∧ t = 2 * v + 1) then y.toInt else if (s = 2 * v ∧ t = t0) ∨ (s = t0 ∧ t = 2 * v) then x.toInt else oz_w w s t := by
    intro s hs t ht
    rw [ox_pt_cell (by omega) (by omega) (by omega), ox_pt_cell (by omega) (by omega) (by omega)]
  have J := I.1 s hs t ht
  refine ⟨fun a b => ?_, fun a b => ?_, fun a b h => ?_, fun a b h => ?_⟩
  · rw [c s hs t ht, if_neg (by omega), if_neg (by omega)]; exact J.1 a b
  · rw [c s hs t ht, if_neg (by omega), if_neg (by omega)]; exact J.2.1 a b
  · rw [c s hs t ht, c t ht s hs]
    by_cases e : t = t0
    · subst e
      have hs2 : s = 2 * v ∨ s = 2 * v + 1 := by omega
      rcases hs2 with rfl | rfl
      · rw [if_neg (by omega), if_pos (by omega), if_neg (by omega), if_pos (by omega)]; exact ⟨ex, ex2⟩
      · rw [if_pos (by omega), if_pos (by omega)]; exact ⟨ey, ey2⟩
    · rw [if_neg (by omega), if_neg (by omega), if_neg (by omega), if_neg (by omega)]
      exact J.2.2.1 a b (by omega)
  · rw [c s hs t ht, if_neg (by omega), if_neg (by omega)]
    exact J.2.2.2 a b (by omega)
theorem ox_vN {N v : Nat} {M F : Nat → Nat → Int} {w0 w : Nat → Int32} {t0 : Nat} (hn : t0 / 2 = v) (I : ox_vI N v M F w0 t0 w) : ox_vI N v M F w0 (t0 + 1) w :=
  ⟨fun s hs t ht => ⟨(I.1 s hs t ht).1, (I.1 s hs t ht).2.1, fun a b h => (I.1 s hs t ht).2.2.1 a b (by omega), fun a b h => (I.1 s hs t ht).2.2.2 a b (by omega)⟩, I.2⟩
theorem ox_vE {N v : Nat} {M F : Nat → Nat → Int} {w0 w : Nat → Int32} (I : ox_vI N v M F w0 N w) (hF : ∀ s t, s / 2 ≠ v → t / 2 ≠ v → F s t = M s t) : ∀ s, s < N → ∀ t, t < N → oz_w w s t = F s t := by
  intro s hs t ht
  have J := I.1 s hs t ht
  by_cases a : s / 2 = v <;> by_cases b : t / 2 = v
  · exact J.2.1 a b
  · exact (J.2.2.1 a b ht).1
  · exact ((I.1 t ht s hs).2.2.1 b a hs).2
  · rw [hF s t a b]; exact J.1 a b
section
variable {f_n f_limit f_size f_codes f_length f_begun f_hollow f_running f_where : Int32} {a_program a_head a_stored a_tight a_vacant a_waiting a_work a_values : Nat → Int32}
variable {post : SX → Prop}
theorem ox_putE {x1 x2 : Int32} {s t : Nat} (e1 : x1 = nI s) (e2 : x2 = nI t) (hs : s < 6) (ht : t < 6) {x : Int32} (h : post (f_n, f_limit, f_size, f_codes, f_length, f_begun, f_hollow, f_running, f_where, a_program, a_head, a_stored, a_tight, a_vacant, a_waiting, ox_pt a_work s t x, a_values)) : wpX_put post (f_n, f_limit, f_size, f_codes, f_length, f_begun, f_hollow, f_running, f_where, a_program, a_head, a_stored, a_tight, a_vacant, a_waiting, a_work, a_values) x1 x2 x := by
  subst e1 e2; exact ox_put hs ht h
theorem ox_atE {post : Int32 → Prop} {x1 x2 : Int32} {s t : Nat} (e1 : x1 = nI s) (e2 : x2 = nI t) (hs : s < 6) (ht : t < 6) (h : post (a_work (s * 6 + t))) : wpX_at post (f_n, f_limit, f_size, f_codes, f_length, f_begun, f_hollow, f_running, f_where, a_program, a_head, a_stored, a_tight, a_vacant, a_waiting, a_work, a_values) x1 x2 := by
  subst e1 e2; exact ox_at hs ht h
theorem ox_release34 {N v L : Nat} (h6 : N ≤ 6) (hv : 2 * v + 1 < N) (hL : L ≤ 4) {H : Prop} {M : Nat → Nat → Int} {w0 : Nat → Int32} (hB : H → ∀ s, s < N → -1000 ≤ M s s ∧ M s s ≤ 1000)
    (hp : ∀ w, (H → ox_vI N v M (oc_rel M v L) w0 N w) → post (f_n, nI L, f_size, nI N, f_length, f_begun, f_hollow, f_running, f_where, a_program, a_head, a_stored, a_tight, a_vacant, a_waiting, w, a_values)) :
    ∀ d t w n, t + d = N → d < n → (H → ox_vI N v M (oc_rel M v L) w0 t w) → wX_release_34 post (nI v) (nI (2 * v)) n (nI t) f_n (nI L) f_size (nI N) f_length f_begun f_hollow f_running f_where a_program a_head a_stored a_tight a_vacant a_waiting w a_values := by
  intro d
  induction d with
  | zero =>
    intro t w n ht hn I
    obtain ⟨m, rfl⟩ : ∃ m, n = m + 1 := ⟨n - 1, by omega⟩
    have et : t = N := by omega
    subst et
    exact br_t (nI_le (Nat.le_refl _) (by omega)) (hp w I)
  | succ d ih =>
    intro t w n ht hn I
    obtain ⟨m, rfl⟩ : ∃ m, n = m + 1 := ⟨n - 1, by omega⟩
    have htN : t < N := by omega
    refine br_f (nI_ge htN (by omega)) (oz_hb (by omega) (by omega) (fun e => ?_) (fun e => ?_))
    · exact nm_r (nI_1 t) (ih (t + 1) w m (by omega) (by omega) (fun h => ox_vN e (I h)))
    · refine ox_at (by omega) (by omega) ?_
      intro x4 h4
      refine ox_put (by omega) (by omega) ?_
      refine ox_putE (nI_1 _) rfl (by omega) (by omega) ?_
      refine nm_r (nI_1 t) (ih (t + 1) _ m (by omega) (by omega) (fun h => ?_))
      have I0 := I h
      have e4 : x4.toInt = L + M t t / 2 := by
        have q : (w (t * 6 + t)).toInt = oz_w w t t := rfl
        have q2 := (I0.1 t htN t htN).1 e e
        have q3 := hB h t htN
        have q4 := oz_shr1 (w (t * 6 + t))
        have q5 : (nI L).toInt = L := nI_toInt (by omega)
        rw [h4, oz_add (by omega) (by omega), q4, q5, q, q2]
      refine ox_vS h6 hv htN e I0 ?_ ?_ ?_ ?_
      · rw [oc_rel3 (by omega) e, e4]
      · rw [oc_rel4 e (by omega), e4]
      · rw [oc_rel3 (by omega) e, e4]
      · rw [oc_rel4 e (by omega), e4]
theorem ox_release {N v L : Nat} (hN : N = 4 ∨ N = 6) (hv : 2 * v < N) (hL : L ≤ 4) {H : Prop} (hH : H → oc_T N (oz_w a_work) ∧ ∀ s, s < N → ∀ t, t < N → oz_w a_work s t ≤ 100)
    (k : ∀ w, (H → (∀ s, s < N → ∀ t, t < N → oz_w w s t = oc_rel (oz_w a_work) v L s t) ∧ ox_Ot N a_work w) → post (f_n, nI L, f_size, nI N, f_length, f_begun, f_hollow, f_running, f_where, a_program, a_head, a_stored, a_tight, a_vacant, a_waiting, w, a_values)) :
    wpX_release post (f_n, nI L, f_size, nI N, f_length, f_begun, f_hollow, f_running, f_where, a_program, a_head, a_stored, a_tight, a_vacant, a_waiting, a_work, a_values) (nI v) := by
  have h6 : N ≤ 6 := by omega
  have hN2 : N % 2 = 0 := by omega
  have hv1 : 2 * v + 1 < N := by omega
  have e2 : (2 * nI L).toInt = 2 * (L : Int) := by
    rw [oz_d2, nI_toInt (by omega)]; omega
  refine nm_r (oz_d2 v) ?_
  refine ox_put (by omega) (by omega) ?_
  refine ox_putE (nI_1 _) (nI_1 _) (by omega) (by omega) ?_
  refine ⟨N + 1, ox_release34 (H := H) (M := oz_w a_work) (w0 := a_work) h6 hv1 hL (fun h s hs => ?_) (fun w I => k w (fun h => ⟨ox_vE (I h) (fun s t a b => oc_rel5 a b), (I h).2⟩)) N 0 _ (N + 1) (by omega) (by omega) (fun h => ?_)⟩
  · have := oc_lowT hN2 (hH h).1 (hH h).2 hs hs
    have := (hH h).2 s hs s hs
    omega
  · have T := (hH h).1
    have z := T.2.2.2.2 (2 * v) hv
    rw [oc_n0 (by omega)] at z
    have z2 := T.1 (2 * v) hv (2 * v + 1) hv1
    refine ox_v0 h6 hv1 (fun s _ t _ => rfl) ?_ ?_ ?_ ?_
    · rw [oc_rel1 (by omega), e2]
    · rw [oc_rel1 (by omega), e2]
    · rw [oc_rel2 (by omega) (by omega) (by omega), z]
    · rw [oc_rel2 (by omega) (by omega) (by omega), ← z2, z]
theorem ox_mirror45 {N v : Nat} (h6 : N ≤ 6) (hN2 : N % 2 = 0) (hv : 2 * v + 1 < N) {M : Nat → Nat → Int} {w0 : Nat → Int32} (T : oc_T N M)
    (hp : ∀ w, ox_vI N v M (oc_mir M v) w0 N w → post (f_n, f_limit, f_size, nI N, f_length, f_begun, f_hollow, f_running, f_where, a_program, a_head, a_stored, a_tight, a_vacant, a_waiting, w, a_values)) :
    ∀ d t w n, t + d = N → d < n → ox_vI N v M (oc_mir M v) w0 t w → wX_mirror_45 post (nI v) (nI (2 * v)) n (nI t) f_n f_limit f_size (nI N) f_length f_begun f_hollow f_running f_where a_program a_head a_stored a_tight a_vacant a_waiting w a_values := by
  intro d
  induction d with
  | zero =>
    intro t w n ht hn I
    obtain ⟨m, rfl⟩ : ∃ m, n = m + 1 := ⟨n - 1, by omega⟩
    have et : t = N := by omega
    subst et
    exact br_t (nI_le (Nat.le_refl _) (by omega)) (hp w I)
  | succ d ih =>
    intro t w n ht hn I
    obtain ⟨m, rfl⟩ : ∃ m, n = m + 1 := ⟨n - 1, by omega⟩
    have htN : t < N := by omega
    refine br_f (nI_ge htN (by omega)) (oz_hb (by omega) (by omega) (fun e => ?_) (fun e => ?_))
    · exact nm_r (nI_1 t) (ih (t + 1) w m (by omega) (by omega) (ox_vN e I))
    · refine ox_at (by omega) (by omega) ?_
      refine ox_atE (nI_1 _) rfl (by omega) (by omega) ?_
      refine ox_put (by omega) (by omega) ?_
      refine ox_putE (nI_1 _) rfl (by omega) (by omega) ?_
      refine nm_r (nI_1 t) (ih (t + 1) _ m (by omega) (by omega) ?_)
      have q1 := (I.1 (2 * v) (by omega) t htN).2.2.2 (by omega) e (Nat.le_refl _)
      have q2 := (I.1 (2 * v + 1) (by omega) t htN).2.2.2 (by omega) e (Nat.le_refl _)
      have g1 : oc_sg v (2 * v) = 2 * v + 1 := by rw [oc_sg1 (by omega), oc_n0 (by omega)]
      have g2 : oc_sg v (2 * v + 1) = 2 * v := by rw [oc_sg1 (by omega), oc_n1 (by omega)]; omega
      have g3 : oc_sg v t = t := oc_sg2 e
      have s1 := T.1 (2 * v) (by omega) t htN
      have s2 := T.1 (2 * v + 1) (by omega) t htN
      refine ox_vS h6 hv htN e I ?_ ?_ ?_ ?_
      · simp only [oc_mir, g1, g3]; exact q2
      · simp only [oc_mir, g1, g3]; exact q2.trans s2
      · simp only [oc_mir, g2, g3]; exact q1
      · simp only [oc_mir, g2, g3]; exact q1.trans s1
theorem ox_mirror {N v : Nat} (hN : N = 4 ∨ N = 6) (hv : 2 * v < N) (T : oc_T N (oz_w a_work))
    (k : ∀ w, (∀ s, s < N → ∀ t, t < N → oz_w w s t = oc_mir (oz_w a_work) v s t) → ox_Ot N a_work w → post (f_n, f_limit, f_size, nI N, f_length, f_begun, f_hollow, f_running, f_where, a_program, a_head, a_stored, a_tight, a_vacant, a_waiting, w, a_values)) :
    wpX_mirror post (f_n, f_limit, f_size, nI N, f_length, f_begun, f_hollow, f_running, f_where, a_program, a_head, a_stored, a_tight, a_vacant, a_waiting, a_work, a_values) (nI v) := by
  have h6 : N ≤ 6 := by omega
  have hN2 : N % 2 = 0 := by omega
  have hv1 : 2 * v + 1 < N := by omega
  have g1 : oc_sg v (2 * v) = 2 * v + 1 := by rw [oc_sg1 (by omega), oc_n0 (by omega)]
  have g2 : oc_sg v (2 * v + 1) = 2 * v := by rw [oc_sg1 (by omega), oc_n1 (by omega)]; omega
  refine nm_r (oz_d2 v) ?_
  refine ox_at (by omega) (by omega) ?_
  refine ox_atE (nI_1 _) (nI_1 _) (by omega) (by omega) ?_
  refine ox_put (by omega) (by omega) ?_
  refine ox_putE (nI_1 _) (nI_1 _) (by omega) (by omega) ?_
  refine ⟨N + 1, ox_mirror45 (M := oz_w a_work) (w0 := a_work) h6 hN2 hv1 T (fun w I => k w (ox_vE I (fun s t a b => ?_)) I.2) N 0 _ (N + 1) (by omega) (by omega) ?_⟩
  · simp only [oc_mir, oc_sg2 a, oc_sg2 b]
  · have s1 := T.1 (2 * v) (by omega) (2 * v + 1) hv1
    refine ox_v0 h6 hv1 (fun s _ t _ => rfl) ?_ ?_ ?_ ?_
    · simp only [oc_mir, g1]; rfl
    · simp only [oc_mir, g2]; rfl
    · simp only [oc_mir, g1, g2]; exact s1
    · simp only [oc_mir, g1, g2]; exact s1.symm
theorem ox_shift55 {N v : Nat} (h6 : N ≤ 6) (hN2 : N % 2 = 0) (hv : 2 * v + 1 < N) {c : Int32} (hc : -1000 ≤ c.toInt ∧ c.toInt ≤ 1000) {M : Nat → Nat → Int} {w0 : Nat → Int32} (T : oc_T N M) (hB : ∀ s, s < N → ∀ t, t < N → -1000 ≤ M s t ∧ M s t ≤ 1000)
    (hp : ∀ w, ox_vI N v M (oc_shf M v c.toInt) w0 N w → post (f_n, f_limit, f_size, nI N, f_length, f_begun, f_hollow, f_running, f_where, a_program, a_head, a_stored, a_tight, a_vacant, a_waiting, w, a_values)) :
    ∀ d t w n, t + d = N → d < n → ox_vI N v M (oc_shf M v c.toInt) w0 t w → wX_shift_55 post (nI v) c (nI (2 * v)) n (nI t) f_n f_limit f_size (nI N) f_length f_begun f_hollow f_running f_where a_program a_head a_stored a_tight a_vacant a_waiting w a_values := by
  intro d
  induction d with
  | zero =>
    intro t w n ht hn I
    obtain ⟨m, rfl⟩ : ∃ m, n = m + 1 := ⟨n - 1, by omega⟩
    have et : t = N := by omega
    subst et
    exact br_t (nI_le (Nat.le_refl _) (by omega)) (hp w I)
  | succ d ih =>
    intro t w n ht hn I
    obtain ⟨m, rfl⟩ : ∃ m, n = m + 1 := ⟨n - 1, by omega⟩
    have htN : t < N := by omega
    refine br_f (nI_ge htN (by omega)) (oz_hb (by omega) (by omega) (fun e => ?_) (fun e => ?_))
    · exact nm_r (nI_1 t) (ih (t + 1) w m (by omega) (by omega) (ox_vN e I))
    · refine ox_at (by omega) (by omega) ?_
      refine ox_atE (nI_1 _) rfl (by omega) (by omega) ?_
      refine ox_put (by omega) (by omega) ?_
      refine ox_putE (nI_1 _) rfl (by omega) (by omega) ?_
      refine nm_r (nI_1 t) (ih (t + 1) _ m (by omega) (by omega) ?_)
      have q1 : (w (2 * v * 6 + t)).toInt = M (2 * v) t := (I.1 (2 * v) (by omega) t htN).2.2.2 (by omega) e (Nat.le_refl _)
      have q2 : (w ((2 * v + 1) * 6 + t)).toInt = M (2 * v + 1) t := (I.1 (2 * v + 1) (by omega) t htN).2.2.2 (by omega) e (Nat.le_refl _)
      have b1 := hB (2 * v) (by omega) t htN
      have b2 := hB (2 * v + 1) (by omega) t htN
      have g1 : oc_w v c.toInt (2 * v) = c.toInt := oc_w1 (by omega) (by omega)
      have g2 : oc_w v c.toInt (2 * v + 1) = - c.toInt := oc_w2 (by omega) (by omega)
      have g3 : oc_w v c.toInt t = 0 := oc_w0 e
      have s1 := T.1 (2 * v) (by omega) t htN
      have s2 := T.1 (2 * v + 1) (by omega) t htN
      have r1 := oz_add (x := w (2 * v * 6 + t)) (y := c) (by omega) (by omega)
      have r2 := oz_sub (x := w ((2 * v + 1) * 6 + t)) (y := c) (by omega) (by omega)
      refine ox_vS h6 hv htN e I ?_ ?_ ?_ ?_
      · simp only [oc_shf]; omega
      · simp only [oc_shf]; omega
      · simp only [oc_shf]; omega
      · simp only [oc_shf]; omega
theorem ox_shift {N v : Nat} (hN : N = 4 ∨ N = 6) (hv : 2 * v < N) {c : Int32} (hc : -1000 ≤ c.toInt ∧ c.toInt ≤ 1000) (T : oc_T N (oz_w a_work)) (hB : ∀ s, s < N → ∀ t, t < N → oz_w a_work s t ≤ 100)
    (k : ∀ w, (∀ s, s < N → ∀ t, t < N → oz_w w s t = oc_shf (oz_w a_work) v c.toInt s t) → ox_Ot N a_work w → post (f_n, f_limit, f_size, nI N, f_length, f_begun, f_hollow, f_running, f_where, a_program, a_head, a_stored, a_tight, a_vacant, a_waiting, w, a_values)) :
    wpX_shift post (f_n, f_limit, f_size, nI N, f_length, f_begun, f_hollow, f_running, f_where, a_program, a_head, a_stored, a_tight, a_vacant, a_waiting, a_work, a_values) (nI v) c := by
  have h6 : N ≤ 6 := by omega
  have hN2 : N % 2 = 0 := by omega
  have hv1 : 2 * v + 1 < N := by omega
  have hB2 : ∀ s, s < N → ∀ t, t < N → -1000 ≤ oz_w a_work s t ∧ oz_w a_work s t ≤ 1000 := by
    intro s hs t ht
    have := oc_lowT hN2 T hB hs ht
    have := hB s hs t ht
    omega
  have g1 : oc_w v c.toInt (2 * v) = c.toInt := oc_w1 (by omega) (by omega)
  have g2 : oc_w v c.toInt (2 * v + 1) = - c.toInt := oc_w2 (by omega) (by omega)
  have b1 := hB2 (2 * v) hv (2 * v) hv
  have b2 := hB2 (2 * v + 1) hv1 (2 * v + 1) hv1
  have q1 : (a_work (2 * v * 6 + 2 * v)).toInt = oz_w a_work (2 * v) (2 * v) := rfl
  have q2 : (a_work ((2 * v + 1) * 6 + (2 * v + 1))).toInt = oz_w a_work (2 * v + 1) (2 * v + 1) := rfl
  have c2 := oz_tw (x := c) (by omega) (by omega)
  have r1 := oz_add (x := a_work (2 * v * 6 + 2 * v)) (y := 2 * c) (by omega) (by omega)
  have r2 := oz_sub (x := a_work ((2 * v + 1) * 6 + (2 * v + 1))) (y := 2 * c) (by omega) (by omega)
  refine nm_r (oz_d2 v) ?_
  refine ox_at (by omega) (by omega) ?_
  refine ox_atE (nI_1 _) (nI_1 _) (by omega) (by omega) ?_
  refine ox_put (by omega) (by omega) ?_
  refine ox_putE (nI_1 _) (nI_1 _) (by omega) (by omega) ?_
  refine ⟨N + 1, ox_shift55 (M := oz_w a_work) (w0 := a_work) h6 hN2 hv1 hc T hB2 (fun w I => k w (ox_vE I (fun s t a b => ?_)) I.2) N 0 _ (N + 1) (by omega) (by omega) ?_⟩
  · simp only [oc_shf, oc_w0 a, oc_w0 b]; omega
  · refine ox_v0 h6 hv1 (fun s _ t _ => rfl) ?_ ?_ ?_ ?_
    · simp only [oc_shf]; omega
    · simp only [oc_shf]; omega
    · simp only [oc_shf]; omega
    · simp only [oc_shf]; omega
end
end
section
/-! the transform of an ASSIGN -/
def oc_Box (N : Nat) (L : Int) (S : (Nat → Int) → Prop) : Prop := ∀ p, S p → ∀ u, 2 * u < N → -L ≤ p u ∧ p u ≤ L
theorem oc_gbox {p : Nat → Int} {L : Int} {s : Nat} (h : -L ≤ p (s / 2) ∧ p (s / 2) ≤ L) : -L ≤ oc_g p s ∧ oc_g p s ≤ L := by
  by_cases e : s % 2 = 0
  · rw [oc_g0 e]; exact h
  · rw [oc_g1 e]; omega
theorem oc_box {N : Nat} {M : Nat → Nat → Int} (hN : N % 2 = 0) (T : oc_T N M) {L : Int} (h : oc_Box N L (oc_Gam N M)) {s t : Nat} (hs : s < N) (ht : t < N) : M s t ≤ 2 * L := by
  obtain ⟨p, hp, e⟩ := oc_att hN T hs ht
  have a := oc_gbox (h p hp (s / 2) (by omega))
  have b := oc_gbox (h p hp (t / 2) (by omega))
  omega
theorem ox_Wk_mk {N : Nat} (hN : N % 2 = 0) {w : Nat → Int32} {S : (Nat → Int) → Prop} {B : Int} (T : oc_T N (oz_w w)) (G : ∀ p, oc_Gam N (oz_w w) p ↔ S p) (hB : oc_Box N B S) (h : B ≤ 50) : ox_Wk N w S :=
  ⟨T, G, fun s hs t ht => by
    have := oc_box hN T (L := B) (fun p hp => hB p ((G p).mp hp)) hs ht
    omega⟩
theorem ox_Wk_box {N : Nat} (hN : N % 2 = 0) {w : Nat → Int32} {S : (Nat → Int) → Prop} {B : Int} (W : ox_Wk N w S) (hB : oc_Box N B S) {s t : Nat} (hs : s < N) (ht : t < N) : oz_w w s t ≤ 2 * B :=
  oc_box hN W.1 (fun p hp => hB p ((W.2.1 p).mp hp)) hs ht
theorem ox_Out_congr {N : Nat} {hol : Int32} {w : Nat → Int32} {S S' : (Nat → Int) → Prop} (h : ∀ p, S p ↔ S' p) (O : ox_Out N hol w S) : ox_Out N hol w S' := by
  rcases O with ⟨a, b⟩ | ⟨a, b, c, d⟩
  · exact Or.inl ⟨a, fun p hp => b p ((h p).mpr hp)⟩
  · exact Or.inr ⟨a, b, fun p => (c p).trans (h p), d⟩
/-- the value that an ASSIGN gives, and the image of a set under it -/
def oc_asg (s : Nat) (c : Int) (q : Nat → Int) (inp : Int) : Int := if s = 9 then inp else if s = 8 then c else oc_g q s + c
def oc_img (L : Int) (v s : Nat) (c : Int) (S : (Nat → Int) → Prop) (p : Nat → Int) : Prop :=
  (-L ≤ p v ∧ p v ≤ L) ∧ ∃ y inp : Int, (-L ≤ inp ∧ inp ≤ L) ∧ S (oc_u p v y) ∧ p v = oc_asg s c (oc_u p v y) inp
theorem oc_asg9 (c : Int) (q : Nat → Int) (inp : Int) : oc_asg 9 c q inp = inp := if_pos rfl
theorem oc_asg8 (c : Int) (q : Nat → Int) (inp : Int) : oc_asg 8 c q inp = c := by simp only [oc_asg]; rw [if_neg (by decide), if_pos trivial]
theorem oc_asgN {s : Nat} (h : s < 8) (c : Int) (q : Nat → Int) (inp : Int) : oc_asg s c q inp = oc_g q s + c := by simp only [oc_asg]; rw [if_neg (by omega), if_neg (by omega)]
section
variable {f_n f_limit f_size f_codes f_length f_begun f_hollow f_running f_where : Int32} {a_program a_head a_stored a_tight a_vacant a_waiting a_work a_values : Nat → Int32}
variable {post : SX → Prop}
theorem ox_isCode1 {post : Int32 → Prop} {N s : Nat} (hN : N ≤ 6) (hs : s < N) (h : post 1) : wpX_isCode post (f_n, f_limit, f_size, nI N, f_length, f_begun, f_hollow, f_running, f_where, a_program, a_head, a_stored, a_tight, a_vacant, a_waiting, a_work, a_values) (nI s) :=
  br_f (nI_pos (by omega)) (br_f (nI_ge hs (by omega)) h)
theorem ox_isCode0 {post : Int32 → Prop} {N s : Nat} (hN : N ≤ 6) (hs : N ≤ s) (hs2 : s < 2 ^ 31) (h : post 0) : wpX_isCode post (f_n, f_limit, f_size, nI N, f_length, f_begun, f_hollow, f_running, f_where, a_program, a_head, a_stored, a_tight, a_vacant, a_waiting, a_work, a_values) (nI s) :=
  br_f (nI_pos hs2) (br_t (nI_le hs hs2) h)
theorem ox_isCode {post : Int32 → Prop} {N : Nat} (hN : N ≤ 6) (x : Int32) (h1 : ∀ s, s < N → x = nI s → post 1) (h0 : (∀ s, s < N → x ≠ nI s) → post 0) : wpX_isCode post (f_n, f_limit, f_size, nI N, f_length, f_begun, f_hollow, f_running, f_where, a_program, a_head, a_stored, a_tight, a_vacant, a_waiting, a_work, a_values) x := by
  refine br_c (fun h => h0 (fun s hs e => ?_)) (fun h => br_c (fun h2 => h0 (fun s hs e => ?_)) (fun h2 => ?_))
  · rw [e] at h; exact nI_pos (by omega) h
  · rw [e] at h2; exact nI_ge hs (by omega) h2
  · obtain ⟨s, hs, rfl⟩ := nI_of h
    rw [nI_leI (by omega) hs] at h2
    exact h1 s (by omega) rfl
theorem ox_isVariable {post : Int32 → Prop} {n : Nat} (hn : n ≤ 3) (x : Int32) (h1 : ∀ s, s < n → x = nI s → post 1) (h0 : (∀ s, s < n → x ≠ nI s) → post 0) : wpX_isVariable post (nI n, f_limit, f_size, f_codes, f_length, f_begun, f_hollow, f_running, f_where, a_program, a_head, a_stored, a_tight, a_vacant, a_waiting, a_work, a_values) x := by
  refine br_c (fun h => h0 (fun s hs e => ?_)) (fun h => br_c (fun h2 => h0 (fun s hs e => ?_)) (fun h2 => ?_))
  · rw [e] at h; exact nI_pos (by omega) h
  · rw [e] at h2; exact nI_ge hs (by omega) h2
  · obtain ⟨s, hs, rfl⟩ := nI_of h
    rw [nI_leI (by omega) hs] at h2
    exact h1 s (by omega) rfl
theorem ox_restrictE {N : Nat} (hN : N = 4 ∨ N = 6) {S : (Nat → Int) → Prop} (O : ox_Out N f_hollow a_work S) {x1 x2 : Int32} {a b : Nat} (e1 : x1 = nI a) (e2 : x2 = nI b) (ha : a < N) (hb : b < N) {c : Int32}
    (k : ∀ hol w, ox_Out N hol w (fun p => S p ∧ oc_g p a + oc_g p b ≤ c.toInt) → ox_Ot N a_work w → post (f_n, f_limit, f_size, nI N, f_length, f_begun, hol, f_running, f_where, a_program, a_head, a_stored, a_tight, a_vacant, a_waiting, w, a_values)) :
    wpX_restrict post (f_n, f_limit, f_size, nI N, f_length, f_begun, f_hollow, f_running, f_where, a_program, a_head, a_stored, a_tight, a_vacant, a_waiting, a_work, a_values) x1 x2 c := by
  subst e1 e2; exact ox_restrict hN O ha hb k
theorem ox_tr106 {N L v s : Nat} (hN : N = 4 ∨ N = 6) (hL : L ≤ 4) (hv : 2 * v < N) (hs : (s < N ∧ s / 2 ≠ v) ∨ s = 8 ∨ s = 9) {c : Int32} (hc : -10 ≤ c.toInt ∧ c.toInt ≤ 10) {S : (Nat → Int) → Prop} (W : ox_Wk N a_work S) (hS : oc_Box N L S)
    (k : ∀ hol w, ox_Out N hol w (oc_img L v s c.toInt S) → ox_Ot N a_work w → post (f_n, nI L, f_size, nI N, f_length, f_begun, hol, f_running, f_where, a_program, a_head, a_stored, a_tight, a_vacant, a_waiting, w, a_values)) :
    wX_transform_106 post (nI v) (nI s) c (nI (2 * v)) f_n (nI L) f_size (nI N) f_length f_begun 0 f_running f_where a_program a_head a_stored a_tight a_vacant a_waiting a_work a_values := by
  have hN2 : N % 2 = 0 := by omega
  have g0 : ∀ p : Nat → Int, oc_g p (2 * v) = p v := fun p => by rw [oc_g0 (by omega), show 2 * v / 2 = v by omega]
  have g1 : ∀ p : Nat → Int, oc_g p (2 * v + 1) = - p v := fun p => by rw [oc_g1 (by omega), show (2 * v + 1) / 2 = v by omega]
  have T := W.1
  refine ox_release (H := True) hN hv hL (fun _ => ⟨W.1, W.2.2⟩) (fun w hw => ?_)
  obtain ⟨e, o⟩ := hw trivial
  have O1 : ox_Out N 0 w (fun p => (-(L : Int) ≤ p v ∧ p v ≤ L) ∧ ∃ y, S (oc_u p v y)) := by
    refine Or.inr ⟨rfl, ox_Wk_mk hN2 (B := L) (oc_T_congr hN2 e (oc_relT hN2 T v (by omega))) (fun p => ?_) (fun p hp u hu => ?_) (by omega)⟩
    · rw [oc_G_congr e, oc_relG hN2 T hv]
      constructor
      · rintro ⟨a, y, b⟩; exact ⟨a, y, (W.2.1 _).mp b⟩
      · rintro ⟨a, y, b⟩; exact ⟨a, y, (W.2.1 _).mpr b⟩
    · obtain ⟨a, y, b⟩ := hp
      by_cases h : u = v
      · subst h; exact a
      · have := hS _ b u hu
        rwa [oc_un h] at this
  rcases hs with ⟨hs, hsv⟩ | rfl | rfl
  · have ne8 : ¬ nI s = 8 := fun z => by
      have := (nI_eq (a := s) (b := 8) (by omega) (by omega)).mp z
      omega
    have ne9 : ¬ nI s = 9 := fun z => by
      have := (nI_eq (a := s) (b := 9) (by omega) (by omega)).mp z
      omega
    refine br_f ne8 (br_f ne9 ?_)
    refine ox_restrictE hN O1 rfl (oz_xor (by omega)) hv (oc_nlt hN2 hs) (fun h1 w1 O2 o2 => ?_)
    refine ox_restrictE hN O2 (nI_1 _) rfl (by omega) hs (fun h2 w2 O3 o3 => ?_)
    refine k h2 w2 (ox_Out_congr (fun p => ?_) O3) (ox_Ot_tr (ox_Ot_tr o o2) o3)
    have cn := oz_neg (x := c) (by omega)
    have gn := oc_gn p s
    have G0 := g0 p
    have G1 := g1 p
    constructor
    · rintro ⟨⟨⟨a, y, b⟩, c1⟩, c2⟩
      refine ⟨a, y, 0, by omega, b, ?_⟩
      rw [oc_asgN (by omega), oc_gus hsv]
      omega
    · rintro ⟨a, y, inp, hi, b, e⟩
      rw [oc_asgN (by omega), oc_gus hsv] at e
      exact ⟨⟨⟨a, y, b⟩, by omega⟩, by omega⟩
  · refine br_t rfl ?_
    refine ox_restrictE hN O1 rfl rfl hv hv (fun h1 w1 O2 o2 => ?_)
    refine ox_restrictE hN O2 (nI_1 _) (nI_1 _) (by omega) (by omega) (fun h2 w2 O3 o3 => ?_)
    refine k h2 w2 (ox_Out_congr (fun p => ?_) O3) (ox_Ot_tr (ox_Ot_tr o o2) o3)
    have c2 := oz_tw (x := c) (by omega) (by omega)
    have c3 := oz_mtw (x := c) (by omega) (by omega)
    have G0 := g0 p
    have G1 := g1 p
    constructor
    · rintro ⟨⟨⟨a, y, b⟩, c1⟩, c2⟩
      refine ⟨a, y, 0, by omega, b, ?_⟩
      rw [oc_asg8]
      omega
    · rintro ⟨a, y, inp, hi, b, e⟩
      rw [oc_asg8] at e
      exact ⟨⟨⟨a, y, b⟩, by omega⟩, by omega⟩
  · refine br_f (by decide) (br_t rfl ?_)
    refine k 0 w (ox_Out_congr (fun p => ?_) O1) o
    constructor
    · rintro ⟨a, y, b⟩
      exact ⟨a, y, p v, a, b, (oc_asg9 _ _ _).symm⟩
    · rintro ⟨a, y, inp, hi, b, e⟩
      exact ⟨a, y, b⟩
theorem ox_tr66 {N L v : Nat} (hN : N = 4 ∨ N = 6) (hL : L ≤ 4) (hv : 2 * v < N) {c : Int32} (hc : -10 ≤ c.toInt ∧ c.toInt ≤ 10) {S : (Nat → Int) → Prop} (W : ox_Wk N a_work S) (hS : oc_Box N L S)
    (k : ∀ hol w, ox_Out N hol w (fun p => (-(L : Int) ≤ p v ∧ p v ≤ L) ∧ S (oc_u p v (p v - c.toInt))) → ox_Ot N a_work w → post (f_n, nI L, f_size, nI N, f_length, f_begun, hol, f_running, f_where, a_program, a_head, a_stored, a_tight, a_vacant, a_waiting, w, a_values)) :
    wX_transform_66 post (nI v) c (nI (2 * v)) f_n (nI L) f_size (nI N) f_length f_begun 0 f_running f_where a_program a_head a_stored a_tight a_vacant a_waiting a_work a_values := by
  have hN2 : N % 2 = 0 := by omega
  have g0 : ∀ p : Nat → Int, oc_g p (2 * v) = p v := fun p => by rw [oc_g0 (by omega), show 2 * v / 2 = v by omega]
  have g1 : ∀ p : Nat → Int, oc_g p (2 * v + 1) = - p v := fun p => by rw [oc_g1 (by omega), show (2 * v + 1) / 2 = v by omega]
  have e2 : (2 * nI L).toInt = 2 * (L : Int) := by
    rw [oz_d2, nI_toInt (by omega)]; omega
  have T := W.1
  refine ox_shift hN hv ⟨by omega, by omega⟩ W.1 W.2.2 (fun w e o => ?_)
  have O1 : ox_Out N 0 w (fun p => S (oc_u p v (p v - c.toInt))) := by
    refine Or.inr ⟨rfl, ox_Wk_mk hN2 (B := 14) (oc_T_congr hN2 e (oc_shfT hN2 T v _)) (fun p => ?_) (fun p hp u hu => ?_) (by omega)⟩
    · rw [oc_G_congr e, oc_shfG, W.2.1]
    · have := hS _ hp u hu
      by_cases h : u = v
      · subst h; rw [oc_us] at this; omega
      · rw [oc_un h] at this; omega
  refine ox_restrictE hN O1 rfl rfl hv hv (fun h1 w1 O2 o2 => ?_)
  refine ox_restrictE hN O2 (nI_1 _) (nI_1 _) (by omega) (by omega) (fun h2 w2 O3 o3 => ?_)
  refine k h2 w2 (ox_Out_congr (fun p => ?_) O3) (ox_Ot_tr (ox_Ot_tr o o2) o3)
  have G0 := g0 p
  have G1 := g1 p
  constructor
  · rintro ⟨⟨b, c1⟩, c2⟩
    exact ⟨by omega, b⟩
  · rintro ⟨a, b⟩
    exact ⟨⟨b, by omega⟩, by omega⟩
theorem ox_transform {N L v s q : Nat} (hN : N = 4 ∨ N = 6) (hL : L ≤ 4) (hv : 2 * v < N) (hs : s < N ∨ s = 8 ∨ s = 9) {c : Int32} (hc : -10 ≤ c.toInt ∧ c.toInt ≤ 10) (hq : q < 10)
    (p1 : a_program (q * 5 + 1) = nI v) (p2 : a_program (q * 5 + 2) = nI s) (p3 : a_program (q * 5 + 3) = c) {S : (Nat → Int) → Prop} (W : ox_Wk N a_work S) (hS : oc_Box N L S)
    (k : ∀ hol w, ox_Out N hol w (oc_img L v s c.toInt S) → ox_Ot N a_work w → post (f_n, nI L, f_size, nI N, f_length, f_begun, hol, f_running, f_where, a_program, a_head, a_stored, a_tight, a_vacant, a_waiting, w, a_values)) :
    wpX_transform post (f_n, nI L, f_size, nI N, f_length, f_begun, 0, f_running, f_where, a_program, a_head, a_stored, a_tight, a_vacant, a_waiting, a_work, a_values) (nI q) := by
  have hN2 : N % 2 = 0 := by omega
  have T := W.1
  refine ⟨pk_in (q * 5 + 1) 50 (by omega) (oz_i5 q 1), nm_r ((congrArg a_program (pk_cl (q * 5 + 1) (oz_i5 q 1))).trans p1) ?_⟩
  refine ⟨pk_in (q * 5 + 2) 50 (by omega) (oz_i5 q 2), nm_r ((congrArg a_program (pk_cl (q * 5 + 2) (oz_i5 q 2))).trans p2) ?_⟩
  refine ⟨pk_in (q * 5 + 3) 50 (by omega) (oz_i5 q 3), nm_r ((congrArg a_program (pk_cl (q * 5 + 3) (oz_i5 q 3))).trans p3) ?_⟩
  refine nm_r (oz_d2 v) ?_
  by_cases hsN : s < N
  · refine ox_isCode1 (by omega) hsN (br_f (by decide) ?_)
    refine oz_hb (by omega) (by omega) (fun e => ?_) (fun e => ?_)
    · have gu : ∀ (p : Nat → Int) (y : Int), s % 2 = 0 → oc_g (oc_u p v y) s = y := fun p y h => by rw [oc_g0 h, e, oc_us]
      have gu1 : ∀ (p : Nat → Int) (y : Int), ¬ s % 2 = 0 → oc_g (oc_u p v y) s = - y := fun p y h => by rw [oc_g1 h, e, oc_us]
      refine pk_eq (s % 2) 1 (fun h => ?_) (fun h => ?_) (oz_odd (by omega)) rfl
      · refine ox_mirror hN hv W.1 (fun w1 e1 o1 => ?_)
        have W1 : ox_Wk N w1 (fun p => S (oc_u p v (- p v))) := by
          refine ox_Wk_mk hN2 (B := L) (oc_T_congr hN2 e1 (oc_mirT hN2 T v)) (fun p => ?_) (fun p hp u hu => ?_) (by omega)
          · rw [oc_G_congr e1, oc_mirG hN2, W.2.1]
          · have := hS _ hp u hu
            by_cases h : u = v
            · subst h; rw [oc_us] at this; omega
            · rw [oc_un h] at this; omega
        refine ox_tr66 hN hL hv hc W1 (fun p hp u hu => ?_) (fun hol w O o => k hol w (ox_Out_congr (fun p => ?_) O) (ox_Ot_tr o1 o))
        · have := hS _ hp u hu
          by_cases h : u = v
          · subst h; rw [oc_us] at this; omega
          · rw [oc_un h] at this; omega
        · rw [oc_uuu, oc_us]
          constructor
          · rintro ⟨a, b⟩
            refine ⟨a, _, 0, by omega, b, ?_⟩
            rw [oc_asgN (by omega), gu1 _ _ (by omega)]; omega
          · rintro ⟨a, y, inp, hi, b, e⟩
            rw [oc_asgN (by omega), gu1 _ _ (by omega)] at e
            have ey : y = -(p v - c.toInt) := by omega
            rw [ey] at b
            exact ⟨a, b⟩
      · refine ox_tr66 hN hL hv hc W hS (fun hol w O o => k hol w (ox_Out_congr (fun p => ?_) O) o)
        constructor
        · rintro ⟨a, b⟩
          refine ⟨a, _, 0, by omega, b, ?_⟩
          rw [oc_asgN (by omega), gu _ _ (by omega)]; omega
        · rintro ⟨a, y, inp, hi, b, e⟩
          rw [oc_asgN (by omega), gu _ _ (by omega)] at e
          have ey : y = p v - c.toInt := by omega
          rw [ey] at b
          exact ⟨a, b⟩
    · exact ox_tr106 hN hL hv (Or.inl ⟨hsN, e⟩) hc W hS k
  · refine ox_isCode0 (by omega) (by omega) (by omega) (br_t rfl ?_)
    exact ox_tr106 hN hL hv (by omega) hc W hS k
end
end
section
/-! load, keep, commit -/
def ox_cp (q : Nat) (w a0 a : Nat → Int32) (i : Nat) : Prop := (∀ j, j < i → a (q * 36 + j) = w j) ∧ ∀ j, (j < q * 36 ∨ q * 36 + 36 ≤ j) → a j = a0 j
theorem ox_cp0 (q : Nat) (w a : Nat → Int32) : ox_cp q w a a 0 := ⟨fun j hj => absurd hj (Nat.not_lt_zero j), fun _ _ => rfl⟩
theorem ox_cpS {q : Nat} {w a0 a : Nat → Int32} {i : Nat} (h : ox_cp q w a0 a i) (hi : i < 36) : ox_cp q w a0 (upd a (q * 36 + i) (w i)) (i + 1) := by
  refine ⟨fun j hj => ?_, fun j hj => ?_⟩
  · by_cases e : j = i
    · subst e; exact pk_us
    · rw [pk_un (by omega)]; exact h.1 j (by omega)
  · rw [pk_un (by omega)]; exact h.2 j hj
section
variable {f_n f_limit f_size f_codes f_length f_begun f_hollow f_running f_where : Int32} {a_program a_head a_stored a_tight a_vacant a_waiting a_work a_values : Nat → Int32}
variable {post : SX → Prop}
theorem ox_load12 {q : Nat} (hq : q < 12) (hp : ∀ w, (∀ j, j < 36 → w j = a_tight (q * 36 + j)) → post (f_n, f_limit, f_size, f_codes, f_length, f_begun, f_hollow, f_running, f_where, a_program, a_head, a_stored, a_tight, a_vacant, a_waiting, w, a_values)) :
    ∀ d i w n, i + d = 36 → d < n → (∀ j, j < i → w j = a_tight (q * 36 + j)) → wX_load_12 post (nI q) f_n f_limit f_size f_codes f_length f_begun f_hollow f_running f_where n (nI i) a_program a_head a_stored a_tight a_vacant a_waiting w a_values := by
  intro d
  induction d with
  | zero =>
    intro i w n hi hn I
    obtain ⟨m, rfl⟩ : ∃ m, n = m + 1 := ⟨n - 1, by omega⟩
    have ei : i = 36 := by omega
    subst ei
    exact br_t (nI_le (a := 36) (Nat.le_refl _) (by omega)) (hp w I)
  | succ d ih =>
    intro i w n hi hn I
    obtain ⟨m, rfl⟩ : ∃ m, n = m + 1 := ⟨n - 1, by omega⟩
    refine br_f (nI_ge (b := 36) (by omega) (by decide)) ⟨pk_in (q * 36 + i) 432 (by omega) (oz_i36 q i), pk_in i 36 (by omega), ?_⟩
    refine nm_e (nm_r (nI_1 i) (ih (i + 1) _ m (by omega) (by omega) (fun j hj => ?_)))
    rw [nI_clamp (by omega), pk_cl (q * 36 + i) (oz_i36 q i)]
    by_cases e : j = i
    · subst e; exact pk_us
    · rw [pk_un e]; exact I j (by omega)
theorem ox_load {q : Nat} (hq : q < 12) (hv : a_vacant q = 0 ∨ a_vacant q = 1) (hp : ∀ w, (∀ j, j < 36 → w j = a_tight (q * 36 + j)) → post (f_n, f_limit, f_size, f_codes, f_length, f_begun, a_vacant q, f_running, f_where, a_program, a_head, a_stored, a_tight, a_vacant, a_waiting, w, a_values)) : wpX_load post (f_n, f_limit, f_size, f_codes, f_length, f_begun, f_hollow, f_running, f_where, a_program, a_head, a_stored, a_tight, a_vacant, a_waiting, a_work, a_values) (nI q) := by
  refine ⟨pk_in q 12 hq, nm_r (congrArg a_vacant (nI_clamp (by omega))) ⟨(oz_b01 hv).1, (oz_b01 hv).2.1, 37, ?_⟩⟩
  exact ox_load12 hq hp 36 0 a_work 37 (by omega) (by omega) (fun j hj => absurd hj (Nat.not_lt_zero j))
theorem ox_keep9 {q : Nat} (hq : q < 12) {s0 t0 : Nat → Int32} (hp : ∀ st ti, ox_cp q a_work s0 st 36 → ox_cp q a_work t0 ti 36 → post (f_n, f_limit, f_size, f_codes, f_length, f_begun, f_hollow, f_running, f_where, a_program, a_head, st, ti, a_vacant, a_waiting, a_work, a_values)) :
    ∀ d i st ti n, i + d = 36 → d < n → ox_cp q a_work s0 st i → ox_cp q a_work t0 ti i → wX_keep_9 post (nI q) f_n f_limit f_size f_codes f_length f_begun f_hollow f_running f_where n (nI i) a_program a_head st ti a_vacant a_waiting a_work a_values := by
  intro d
  induction d with
  | zero =>
    intro i st ti n hi hn I1 I2
    obtain ⟨m, rfl⟩ : ∃ m, n = m + 1 := ⟨n - 1, by omega⟩
    have ei : i = 36 := by omega
    subst ei
    exact br_t (nI_le (a := 36) (Nat.le_refl _) (by omega)) (hp st ti I1 I2)
  | succ d ih =>
    intro i st ti n hi hn I1 I2
    obtain ⟨m, rfl⟩ : ∃ m, n = m + 1 := ⟨n - 1, by omega⟩
    have e1 : (nI i).toNatClampNeg = i := nI_clamp (by omega)
    have e2 : (nI q * 36 + nI i).toNatClampNeg = q * 36 + i := pk_cl (q * 36 + i) (oz_i36 q i)
    refine br_f (nI_ge (b := 36) (by omega) (by decide)) ⟨pk_in i 36 (by omega), pk_in (q * 36 + i) 432 (by omega) (oz_i36 q i), ?_⟩
    refine nm_e ⟨pk_in i 36 (by omega), pk_in (q * 36 + i) 432 (by omega) (oz_i36 q i), nm_e (nm_r (nI_1 i) (ih (i + 1) _ _ m (by omega) (by omega) ?_ ?_))⟩
    · rw [e1, e2]; exact ox_cpS I1 (by omega)
    · rw [e1, e2]; exact ox_cpS I2 (by omega)
theorem ox_keep {q : Nat} (hq : q < 12) (hp : ∀ st ti, ox_cp q a_work a_stored st 36 → ox_cp q a_work a_tight ti 36 → post (f_n, f_limit, f_size, f_codes, f_length, f_begun, f_hollow, f_running, f_where, a_program, a_head, st, ti, upd a_vacant q 0, a_waiting, a_work, a_values)) : wpX_keep post (f_n, f_limit, f_size, f_codes, f_length, f_begun, f_hollow, f_running, f_where, a_program, a_head, a_stored, a_tight, a_vacant, a_waiting, a_work, a_values) (nI q) := by
  have e1 : (nI q).toNatClampNeg = q := nI_clamp (by omega)
  refine ⟨pk_in q 12 hq, nm_r (e' := upd a_vacant q 0) (by rw [e1, oz_nar0]) ⟨37, ?_⟩⟩
  exact ox_keep9 hq hp 36 0 a_stored a_tight 37 (by omega) (by omega) (ox_cp0 _ _ _) (ox_cp0 _ _ _)
theorem ox_commit22 {post : Int32 → SX → Prop} (k : ∀ r st ti, (r = 0 ∧ (∀ j, j < 36 → a_work j = a_stored (396 + j)) ∨ r = 1 ∧ (∃ j, j < 36 ∧ a_work j ≠ a_stored (396 + j))) → ox_cp 11 a_work a_stored st 36 → ox_cp 11 a_work a_tight ti 36 → post r (f_n, f_limit, f_size, f_codes, f_length, f_begun, f_hollow, f_running, f_where, a_program, a_head, st, ti, upd a_vacant 11 0, a_waiting, a_work, a_values)) :
    ∀ d i (x1 : Int32) n, i + d = 36 → d < n → (x1 = 1 ∧ (∀ j, j < i → a_work j = a_stored (396 + j)) ∨ x1 = 0 ∧ (∃ j, j < 36 ∧ a_work j ≠ a_stored (396 + j))) → wX_commit_22 post f_n f_limit f_size f_codes f_length f_begun f_hollow f_running f_where a_program a_head a_stored a_tight a_vacant a_waiting a_work a_values n x1 (nI i) := by
  intro d
  induction d with
  | zero =>
    intro i x1 n hi hn I
    obtain ⟨m, rfl⟩ : ∃ m, n = m + 1 := ⟨n - 1, by omega⟩
    have ei : i = 36 := by omega
    subst ei
    refine br_t (nI_le (a := 36) (Nat.le_refl _) (by omega)) ?_
    refine ox_keep (q := 11) (by decide) (fun st ti h1 h2 => ?_)
    rcases I with ⟨rfl, h⟩ | ⟨rfl, h⟩
    · exact br_f (by decide) (k 0 st ti (Or.inl ⟨rfl, h⟩) h1 h2)
    · exact br_t rfl (k 1 st ti (Or.inr ⟨rfl, h⟩) h1 h2)
  | succ d ih =>
    intro i x1 n hi hn I
    obtain ⟨m, rfl⟩ : ∃ m, n = m + 1 := ⟨n - 1, by omega⟩
    have e1 : (nI i).toNatClampNeg = i := nI_clamp (by omega)
    have e2 : (396 + nI i).toNatClampNeg = 396 + i := pk_cl (396 + i) (nI_add 396 i)
    refine br_f (nI_ge (b := 36) (by omega) (by decide)) ?_
    rcases I with ⟨rfl, h⟩ | ⟨rfl, h⟩
    · refine br_f (by decide) ⟨pk_in i 36 (by omega), pk_in (396 + i) 432 (by omega) (nI_add 396 i), ?_⟩
      rw [e1, e2]
      refine br_c (fun c => ?_) (fun c => ?_)
      · refine nm_r (nI_1 i) (ih (i + 1) 1 m (by omega) (by omega) (Or.inl ⟨rfl, fun j hj => ?_⟩))
        by_cases e : j = i
        · subst e; exact c
        · exact h j (by omega)
      · exact nm_r (nI_1 i) (ih (i + 1) 0 m (by omega) (by omega) (Or.inr ⟨rfl, i, by omega, c⟩))
    · exact br_t rfl (nm_r (nI_1 i) (ih (i + 1) 0 m (by omega) (by omega) (Or.inr ⟨rfl, h⟩)))
theorem ox_commit {post : Int32 → SX → Prop} (k1 : post 98 (f_n, f_limit, f_size, f_codes, f_length, f_begun, 1, f_running, f_where, a_program, a_head, a_stored, a_tight, upd a_vacant 11 1, a_waiting, a_work, a_values))
    (k0 : ∀ r st ti, (r = 0 ∧ (∀ j, j < 36 → a_work j = a_stored (396 + j)) ∨ r = 1 ∧ (∃ j, j < 36 ∧ a_work j ≠ a_stored (396 + j))) → ox_cp 11 a_work a_stored st 36 → ox_cp 11 a_work a_tight ti 36 → post r (f_n, f_limit, f_size, f_codes, f_length, f_begun, 0, f_running, f_where, a_program, a_head, st, ti, upd a_vacant 11 0, a_waiting, a_work, a_values)) :
    wpX_commit post (f_n, f_limit, f_size, f_codes, f_length, f_begun, 1, f_running, f_where, a_program, a_head, a_stored, a_tight, a_vacant, a_waiting, a_work, a_values) ∧ wpX_commit post (f_n, f_limit, f_size, f_codes, f_length, f_begun, 0, f_running, f_where, a_program, a_head, a_stored, a_tight, a_vacant, a_waiting, a_work, a_values) := by
  refine ⟨br_f (by decide) (nm_r (e' := upd a_vacant 11 1) (by rw [oz_nar1]) k1), br_t rfl ⟨37, ?_⟩⟩
  exact ox_commit22 k0 36 0 1 37 (by omega) (by omega) (Or.inl ⟨rfl, fun j hj => absurd hj (Nat.not_lt_zero j)⟩)
/-! close -/
def ox_fI (N k : Nat) (D : Nat → Nat → Int) (w0 : Nat → Int32) (i j : Nat) (w : Nat → Int32) : Prop :=
  (∀ s, s < N → ∀ t, t < N → oz_w w s t = if s < i ∨ s = i ∧ t < j then oc_ph k D s t else D s t) ∧ ox_Ot N w0 w
theorem ox_close22 {J2 J : oxJ10} {N k : Nat} (h6 : N ≤ 6) (hN2 : N % 2 = 0) {D : Nat → Nat → Int} (hk : k < N) (hz : 0 ≤ D (oc_n k) k) (hB : ∀ s, s < N → ∀ t, t < N → -1000 ≤ D s t ∧ D s t ≤ 1000) {w0 : Nat → Int32} {i : Nat} (hi : i < N)
    (hJ : ∀ w', ox_fI N k D w0 (i + 1) 0 w' → J (nI (i + 1)) f_n f_limit f_size (nI N) f_length f_begun f_hollow f_running f_where a_program a_head a_stored a_tight a_vacant a_waiting w' a_values) :
    ∀ d j w n, j + d = N → d < n → ox_fI N k D w0 i j w → wX_close_22 post J2 J (nI k) (nI i) n (nI j) f_n f_limit f_size (nI N) f_length f_begun f_hollow f_running f_where a_program a_head a_stored a_tight a_vacant a_waiting w a_values := by
  have hnk := oc_nlt hN2 hk
  intro d
  induction d with
  | zero =>
    intro j w n hj hn I
    obtain ⟨m, rfl⟩ : ∃ m, n = m + 1 := ⟨n - 1, by omega⟩
    have ej : j = N := by omega
    subst ej
    refine br_t (nI_le (Nat.le_refl _) (by omega)) (nm_r (nI_1 i) (hJ w ⟨fun s hs t ht => ?_, I.2⟩))
    rw [I.1 s hs t ht]
    by_cases h : s < i ∨ s = i ∧ t < j
    · rw [if_pos h, if_pos (by omega)]
    · rw [if_neg h, if_neg (by omega)]
  | succ d ih =>
    intro j w n hj hn I
    obtain ⟨m, rfl⟩ : ∃ m, n = m + 1 := ⟨n - 1, by omega⟩
    have hjN : j < N := by omega
    have r1 : (w (i * 6 + k)).toInt = D i k := by
      have h := I.1 i hi k hk
      simp only [oz_w] at h
      rw [h]
      split
      · simp only [oc_ph]; omega
      · rfl
    have r2 : (w (oc_n k * 6 + j)).toInt = D (oc_n k) j := by
      have h := I.1 _ hnk j hjN
      simp only [oz_w] at h
      rw [h]
      split
      · simp only [oc_ph]; omega
      · rfl
    have b1 := hB i hi k hk
    have b2 := hB _ hnk j hjN
    refine br_f (nI_ge hjN (by omega)) ?_
    refine ox_at (by omega) (by omega) ?_
    refine ox_atE (oz_xor (by omega)) rfl (by omega) (by omega) ?_
    intro x4 h4
    have e4 : x4.toInt = D i k + D (oc_n k) j := by
      rw [h4, oz_add (by omega) (by omega), r1, r2]
    refine ox_lower (by omega) (by omega) (fun w1 h1 => ?_)
    refine nm_r (nI_1 j) (ih (j + 1) w1 m (by omega) (by omega) ⟨fun s hs t ht => ?_, ox_Ot_tr I.2 (ox_lw_Ot h1 hi hjN h6)⟩)
    rw [ox_lw_cell h1 (by omega) (by omega), e4]
    by_cases e : s = i ∧ t = j
    · rw [if_pos e, if_pos (by omega), I.1 i hi j hjN, if_neg (by omega), e.1, e.2]; rfl
    · rw [if_neg e, I.1 s hs t ht]
      by_cases h : s < i ∨ s = i ∧ t < j
      · rw [if_pos h, if_pos (by omega)]
      · rw [if_neg h, if_neg (by omega)]
theorem ox_close12 {J : oxJ10} {N k : Nat} (h6 : N ≤ 6) (hN2 : N % 2 = 0) {D : Nat → Nat → Int} (hk : k < N) (hz : 0 ≤ D (oc_n k) k) (hB : ∀ s, s < N → ∀ t, t < N → -1000 ≤ D s t ∧ D s t ≤ 1000) {w0 : Nat → Int32}
    (hJ : ∀ w', ox_fI N k D w0 N 0 w' → J (nI (k + 1)) f_n f_limit f_size (nI N) f_length f_begun f_hollow f_running f_where a_program a_head a_stored a_tight a_vacant a_waiting w' a_values) :
    ∀ d i w n, i + d = N → d < n → ox_fI N k D w0 i 0 w → wX_close_12 post J (nI k) n (nI i) f_n f_limit f_size (nI N) f_length f_begun f_hollow f_running f_where a_program a_head a_stored a_tight a_vacant a_waiting w a_values := by
  intro d
  induction d with
  | zero =>
    intro i w n hi hn I
    obtain ⟨m, rfl⟩ : ∃ m, n = m + 1 := ⟨n - 1, by omega⟩
    have ei : i = N := by omega
    subst ei
    exact br_t (nI_le (Nat.le_refl _) (by omega)) (nm_r (nI_1 k) (hJ w I))
  | succ d ih =>
    intro i w n hi hn I
    obtain ⟨m, rfl⟩ : ∃ m, n = m + 1 := ⟨n - 1, by omega⟩
    have hiN : i < N := by omega
    exact br_f (nI_ge hiN (by omega)) ⟨N + 1, ox_close22 h6 hN2 hk hz hB hiN (fun w' I' => ih (i + 1) w' m (by omega) (by omega) I') N 0 w (N + 1) (by omega) (by omega) I⟩
theorem ox_close2 {N : Nat} (h6 : N ≤ 6) (hN2 : N % 2 = 0) {D : Nat → Nat → Int} {p : Nat → Int} (hp : oc_Gam N D p) (hb : ∀ u, 2 * u < N → -50 ≤ p u ∧ p u ≤ 50) (hB : ∀ s, s < N → ∀ t, t < N → D s t ≤ 100) {w0 : Nat → Int32}
    (hP : ∀ w', (∀ s, s < N → ∀ t, t < N → oz_w w' s t = oc_sh (oc_fw D N) s t) → ox_Ot N w0 w' → post (f_n, f_limit, f_size, nI N, f_length, f_begun, f_hollow, f_running, f_where, a_program, a_head, a_stored, a_tight, a_vacant, a_waiting, w', a_values)) :
    ∀ d k w n, k + d = N → d < n → (∀ s, s < N → ∀ t, t < N → oz_w w s t = oc_fw D k s t) → ox_Ot N w0 w → wX_close_2 post n (nI k) f_n f_limit f_size (nI N) f_length f_begun f_hollow f_running f_where a_program a_head a_stored a_tight a_vacant a_waiting w a_values := by
  have bnd : ∀ k, k ≤ N → ∀ s, s < N → ∀ t, t < N → -1000 ≤ oc_fw D k s t ∧ oc_fw D k s t ≤ 1000 := by
    intro k hk s hs t ht
    have a := oc_fwLe D k s t
    have b := hB s hs t ht
    have c := oc_fwG hN2 hp k hk s hs t ht
    have d1 := oc_gbox (hb (s / 2) (by omega))
    have d2 := oc_gbox (hb (t / 2) (by omega))
    omega
  intro d
  induction d with
  | zero =>
    intro k w n hk hn I O
    obtain ⟨m, rfl⟩ : ∃ m, n = m + 1 := ⟨n - 1, by omega⟩
    have ek : k = N := by omega
    subst ek
    refine br_t (nI_le (Nat.le_refl _) (by omega)) ?_
    refine ox_sharpen h6 (fun s hs t ht => ?_) (fun w2 e2 o2 => ?_)
    · rw [I s hs t ht]
      have := bnd k (Nat.le_refl _) s hs t ht
      omega
    · refine hP w2 (fun s hs t ht => ?_) (ox_Ot_tr O o2)
      rw [e2 s hs t ht]
      simp only [oc_sh]
      rw [I s hs t ht, I s hs s hs, I t ht t ht]
  | succ d ih =>
    intro k w n hk hn I O
    obtain ⟨m, rfl⟩ : ∃ m, n = m + 1 := ⟨n - 1, by omega⟩
    have hkN : k < N := by omega
    have z := oc_fwG hN2 hp k (by omega) _ (oc_nlt hN2 hkN) k hkN
    rw [oc_gn] at z
    refine br_f (nI_ge hkN (by omega)) ⟨N + 1, ox_close12 (D := oc_fw D k) (w0 := w0) h6 hN2 hkN (by omega) (bnd k (by omega)) (fun w' I' => ih (k + 1) w' m (by omega) (by omega) (fun s hs t ht => ?_) I'.2) N 0 w (N + 1) (by omega) (by omega) ⟨fun s hs t ht => ?_, O⟩⟩
    · rw [I'.1 s hs t ht, if_pos (Or.inl hs)]; rfl
    · rw [if_neg (by omega)]; exact I s hs t ht
theorem ox_close {N : Nat} (hN : N = 4 ∨ N = 6) {p : Nat → Int} (hp : oc_Gam N (oz_w a_work) p) (hb : ∀ u, 2 * u < N → -50 ≤ p u ∧ p u ≤ 50) (hB : ∀ s, s < N → ∀ t, t < N → oz_w a_work s t ≤ 100)
    (hP : ∀ w', (∀ s, s < N → ∀ t, t < N → oz_w w' s t = oc_sh (oc_fw (oz_w a_work) N) s t) → ox_Ot N a_work w' → post (f_n, f_limit, f_size, nI N, f_length, f_begun, f_hollow, f_running, f_where, a_program, a_head, a_stored, a_tight, a_vacant, a_waiting, w', a_values)) : wpX_close post (f_n, f_limit, f_size, nI N, f_length, f_begun, f_hollow, f_running, f_where, a_program, a_head, a_stored, a_tight, a_vacant, a_waiting, a_work, a_values) :=
  ⟨N + 1, ox_close2 (by omega) (by omega) hp hb hB hP N 0 a_work (N + 1) (by omega) (by omega) (fun _ _ _ _ => rfl) (ox_Ot_rf N a_work)⟩
end
end
section
/-! full, refresh, merge, deliver -/
def ox_full (L s t : Nat) : Int32 := if s = oc_n t then 0 else nI (2 * L)
def ox_mg (hd : Int32) (L : Nat) (off st : Int32) (s t : Nat) : Int32 := if off ≤ st then st else if hd = 0 then off else ox_full L s t
def ox_wt (len q : Nat) (wt : Nat → Int32) : Nat → Int32 := if q < len then upd wt q 1 else wt
abbrev oxJ2 : Type := Int32 → Int32 → (Nat → Int32) → (Nat → Int32) → (Nat → Int32) → (Nat → Int32) → (Nat → Int32) → (Nat → Int32) → (Nat → Int32) → (Nat → Int32) → Prop
/-- the merged cells so far -/
def ox_mI (b0 : Int32) (N q : Nat) (hd : Int32) (L : Nat) (w s0 : Nat → Int32) (i j : Nat) (x2 : Int32) (st : Nat → Int32) : Prop :=
  (∀ s, s < N → ∀ t, t < N → st (q * 36 + s * 6 + t) = if s < i ∨ s = i ∧ t < j then ox_mg hd L (w (s * 6 + t)) (s0 (q * 36 + s * 6 + t)) s t else s0 (q * 36 + s * 6 + t)) ∧
  (∀ l, (l < q * 36 ∨ q * 36 + 36 ≤ l) → st l = s0 l) ∧
  ((x2 = b0 ∧ st = s0 ∧ ∀ s, s < N → ∀ t, t < N → (s < i ∨ s = i ∧ t < j) → w (s * 6 + t) ≤ s0 (q * 36 + s * 6 + t)) ∨
   (x2 = 1 ∧ ∃ s t, s < N ∧ t < N ∧ ¬ w (s * 6 + t) ≤ s0 (q * 36 + s * 6 + t)))
theorem ox_mI_skip {b0 : Int32} {N q : Nat} {hd : Int32} {L : Nat} {w s0 : Nat → Int32} {i j : Nat} {x2 : Int32} {st : Nat → Int32} (I : ox_mI b0 N q hd L w s0 i j x2 st) (c : w (i * 6 + j) ≤ s0 (q * 36 + i * 6 + j)) : ox_mI b0 N q hd L w s0 i (j + 1) x2 st := by
  obtain ⟨a, b, d⟩ := I
  refine ⟨fun s hs t ht => ?_, b, ?_⟩
  · rw [a s hs t ht]
    by_cases e : s = i ∧ t = j
    · rw [if_neg (by omega), if_pos (by omega), e.1, e.2]
      simp only [ox_mg]
      rw [if_pos c]
    · by_cases h : s < i ∨ s = i ∧ t < j
      · rw [if_pos h, if_pos (by omega)]
      · rw [if_neg h, if_neg (by omega)]
  · rcases d with ⟨d1, d2, d3⟩ | d
    · refine Or.inl ⟨d1, d2, fun s hs t ht h => ?_⟩
      by_cases e : s = i ∧ t = j
      · rw [e.1, e.2]; exact c
      · exact d3 s hs t ht (by omega)
    · exact Or.inr d
theorem ox_mI_put {b0 : Int32} {N q : Nat} {hd : Int32} {L : Nat} {w s0 : Nat → Int32} {i j : Nat} {x2 : Int32} {st : Nat → Int32} (h6 : N ≤ 6) (hi : i < N) (hj : j < N) (I : ox_mI b0 N q hd L w s0 i j x2 st) (c : ¬ w (i * 6 + j) ≤ s0 (q * 36 + i * 6 + j)) {x : Int32} (hx : x = if hd = 0 then w (i * 6 + j) else ox_full L i j) : ox_mI b0 N q hd L w s0 i (j + 1) 1 (upd st (q * 36 + i * 6 + j) x) := by
  obtain ⟨a, b, d⟩ := I
  refine ⟨fun s hs t ht => ?_, fun l hl => ?_, Or.inr ⟨rfl, i, j, hi, hj, c⟩⟩
  · by_cases e : s = i ∧ t = j
    · rw [if_pos (by omega), e.1, e.2, pk_us]
      simp only [ox_mg]
      rw [if_neg c]
      exact hx
    · rw [pk_un (by omega), a s hs t ht]
      by_cases h : s < i ∨ s = i ∧ t < j
      · rw [if_pos h, if_pos (by omega)]
      · rw [if_neg h, if_neg (by omega)]
  · rw [pk_un (by omega)]; exact b l hl
theorem ox_mI_row {b0 : Int32} {N q : Nat} {hd : Int32} {L : Nat} {w s0 : Nat → Int32} {i : Nat} {x2 : Int32} {st : Nat → Int32} (I : ox_mI b0 N q hd L w s0 i N x2 st) : ox_mI b0 N q hd L w s0 (i + 1) 0 x2 st := by
  obtain ⟨a, b, d⟩ := I
  refine ⟨fun s hs t ht => ?_, b, ?_⟩
  · rw [a s hs t ht]
    by_cases h : s < i ∨ s = i ∧ t < N
    · rw [if_pos h, if_pos (by omega)]
    · rw [if_neg h, if_neg (by omega)]
  · rcases d with ⟨d1, d2, d3⟩ | d
    · exact Or.inl ⟨d1, d2, fun s hs t ht h => d3 s hs t ht (by omega)⟩
    · exact Or.inr d
theorem ox_mI_0 {b0 : Int32} {N q : Nat} {hd : Int32} {L : Nat} {w s0 : Nat → Int32} : ox_mI b0 N q hd L w s0 0 0 b0 s0 :=
  ⟨fun s hs t ht => by rw [if_neg (by omega)], fun _ _ => rfl, Or.inl ⟨rfl, rfl, fun s hs t ht h => by omega⟩⟩
section
variable {f_n f_limit f_size f_codes f_length f_begun f_hollow f_running f_where : Int32} {a_program a_head a_stored a_tight a_vacant a_waiting a_work a_values : Nat → Int32}
variable {post : SX → Prop}
theorem ox_fullw {post : Int32 → Prop} {L s t : Nat} (hL : L ≤ 4) (hs : s < 6) (ht : t < 6) (h : post (ox_full L s t)) : wpX_full post (f_n, nI L, f_size, f_codes, f_length, f_begun, f_hollow, f_running, f_where, a_program, a_head, a_stored, a_tight, a_vacant, a_waiting, a_work, a_values) (nI s) (nI t) := by
  refine pk_eq s (oc_n t) (fun e => ?_) (fun e => ?_) rfl (oz_xor ht) (by omega) (by have := oc_nlt (N := 6) (by omega) ht; omega)
  · rw [ox_full, if_pos e] at h; exact h
  · rw [ox_full, if_neg e, ← oz_d2] at h; exact h
theorem ox_refresh46 {q : Nat} (hq : q < 12) {t0 : Nat → Int32} (hp : ∀ ti, ox_cp q a_work t0 ti 36 → post (f_n, f_limit, f_size, f_codes, f_length, f_begun, f_hollow, f_running, f_where, a_program, a_head, a_stored, ti, a_vacant, a_waiting, a_work, a_values)) :
    ∀ d i ti n, i + d = 36 → d < n → ox_cp q a_work t0 ti i → wX_refresh_46 post (nI q) f_n f_limit f_size f_codes f_length f_begun f_hollow f_running f_where n (nI i) a_program a_head a_stored ti a_vacant a_waiting a_work a_values := by
  intro d
  induction d with
  | zero =>
    intro i ti n hi hn I
    obtain ⟨m, rfl⟩ : ∃ m, n = m + 1 := ⟨n - 1, by omega⟩
    have ei : i = 36 := by omega
    subst ei
    exact br_t (nI_le (a := 36) (Nat.le_refl _) (by omega)) (hp ti I)
  | succ d ih =>
    intro i ti n hi hn I
    obtain ⟨m, rfl⟩ : ∃ m, n = m + 1 := ⟨n - 1, by omega⟩
    have e1 : (nI i).toNatClampNeg = i := nI_clamp (by omega)
    have e2 : (nI q * 36 + nI i).toNatClampNeg = q * 36 + i := pk_cl (q * 36 + i) (oz_i36 q i)
    refine br_f (nI_ge (b := 36) (by omega) (by decide)) ⟨pk_in i 36 (by omega), pk_in (q * 36 + i) 432 (by omega) (oz_i36 q i), ?_⟩
    refine nm_e (nm_r (nI_1 i) (ih (i + 1) _ m (by omega) (by omega) ?_))
    rw [e1, e2]; exact ox_cpS I (by omega)
theorem ox_refresh2 {N q : Nat} (hN : N = 4 ∨ N = 6) (hq : q < 11) {p : Nat → Int} (hp : oc_Gam N (oz_s a_stored q) p) (hb : ∀ u, 2 * u < N → -50 ≤ p u ∧ p u ≤ 50) (hB : ∀ s, s < N → ∀ t, t < N → oz_s a_stored q s t ≤ 100)
    (k : ∀ w ti, (∀ s, s < N → ∀ t, t < N → oz_w w s t = if a_head q = 0 then oz_s a_stored q s t else oc_sh (oc_fw (oz_s a_stored q) N) s t) → ox_cp q w a_tight ti 36 → post (f_n, f_limit, f_size, nI N, f_length, f_begun, f_hollow, f_running, f_where, a_program, a_head, a_stored, ti, a_vacant, a_waiting, w, a_values)) :
    ∀ d i w n, i + d = 36 → d < n → (∀ j, j < i → w j = a_stored (q * 36 + j)) → wX_refresh_2 post (nI q) f_n f_limit f_size (nI N) f_length f_begun f_hollow f_running f_where n (nI i) a_program a_head a_stored a_tight a_vacant a_waiting w a_values := by
  intro d
  induction d with
  | zero =>
    intro i w n hi hn I
    obtain ⟨m, rfl⟩ : ∃ m, n = m + 1 := ⟨n - 1, by omega⟩
    have ei : i = 36 := by omega
    subst ei
    have e1 : (nI q).toNatClampNeg = q := nI_clamp (by omega)
    have hw : ∀ s, s < N → ∀ t, t < N → oz_w w s t = oz_s a_stored q s t := by
      intro s hs t ht
      simp only [oz_w, oz_s]
      rw [I _ (by omega), Nat.add_assoc]
    refine br_t (nI_le (a := 36) (Nat.le_refl _) (by omega)) ⟨pk_in q 11 hq, ?_⟩
    rw [e1]
    refine br_c (fun c => ⟨37, ?_⟩) (fun c => ?_)
    · refine ox_refresh46 (by omega) (fun ti h => k w ti (fun s hs t ht => ?_) h) 36 0 a_tight 37 (by omega) (by omega) (ox_cp0 _ _ _)
      rw [if_pos c]; exact hw s hs t ht
    · refine ⟨N + 1, ox_close2 (D := oz_s a_stored q) (w0 := w) (by omega) (by omega) hp hb hB (fun w2 e2 o2 => ⟨37, ?_⟩) N 0 w (N + 1) (by omega) (by omega) hw (ox_Ot_rf N w)⟩
      refine ox_refresh46 (by omega) (fun ti h => k w2 ti (fun s hs t ht => ?_) h) 36 0 a_tight 37 (by omega) (by omega) (ox_cp0 _ _ _)
      rw [if_neg c]; exact e2 s hs t ht
  | succ d ih =>
    intro i w n hi hn I
    obtain ⟨m, rfl⟩ : ∃ m, n = m + 1 := ⟨n - 1, by omega⟩
    refine br_f (nI_ge (b := 36) (by omega) (by decide)) ⟨pk_in (q * 36 + i) 432 (by omega) (oz_i36 q i), pk_in i 36 (by omega), ?_⟩
    refine nm_e (nm_r (nI_1 i) (ih (i + 1) _ m (by omega) (by omega) (fun j hj => ?_)))
    rw [nI_clamp (by omega), pk_cl (q * 36 + i) (oz_i36 q i)]
    by_cases e : j = i
    · subst e; exact pk_us
    · rw [pk_un e]; exact I j (by omega)
theorem ox_refresh {N q : Nat} (hN : N = 4 ∨ N = 6) (hq : q < 11) {p : Nat → Int} (hp : oc_Gam N (oz_s a_stored q) p) (hb : ∀ u, 2 * u < N → -50 ≤ p u ∧ p u ≤ 50) (hB : ∀ s, s < N → ∀ t, t < N → oz_s a_stored q s t ≤ 100)
    (k : ∀ w ti, (∀ s, s < N → ∀ t, t < N → oz_w w s t = if a_head q = 0 then oz_s a_stored q s t else oc_sh (oc_fw (oz_s a_stored q) N) s t) → ox_cp q w a_tight ti 36 → post (f_n, f_limit, f_size, nI N, f_length, f_begun, f_hollow, f_running, f_where, a_program, a_head, a_stored, ti, a_vacant, a_waiting, w, a_values)) :
    wpX_refresh post (f_n, f_limit, f_size, nI N, f_length, f_begun, f_hollow, f_running, f_where, a_program, a_head, a_stored, a_tight, a_vacant, a_waiting, a_work, a_values) (nI q) :=
  ⟨37, ox_refresh2 hN hq hp hb hB k 36 0 a_work 37 (by omega) (by omega) (fun j hj => absurd hj (Nat.not_lt_zero j))⟩
theorem ox_merge15 {post : Int32 → SX → Prop} {J : oxJ2} {N L q i : Nat} (h6 : N ≤ 6) (hL : L ≤ 4) (hq : q < 11) (hi : i < N) {s0 : Nat → Int32}
    (hJ : ∀ x2 st, ox_mI 0 N q (a_head q) L a_work s0 (i + 1) 0 x2 st → J x2 (nI (i + 1)) a_program a_head st a_tight a_vacant a_waiting a_work a_values) :
    ∀ d j x2 st n, j + d = N → d < n → ox_mI 0 N q (a_head q) L a_work s0 i j x2 st → wX_merge_15 post J (nI q) (nI i) f_n (nI L) f_size (nI N) f_length f_begun f_hollow f_running f_where n x2 (nI j) a_program a_head st a_tight a_vacant a_waiting a_work a_values := by
  intro d
  induction d with
  | zero =>
    intro j x2 st n hj hn I
    obtain ⟨m, rfl⟩ : ∃ m, n = m + 1 := ⟨n - 1, by omega⟩
    have ej : j = N := by omega
    subst ej
    exact br_t (nI_le (Nat.le_refl _) (by omega)) (nm_r (nI_1 i) (hJ x2 st (ox_mI_row I)))
  | succ d ih =>
    intro j x2 st n hj hn I
    obtain ⟨m, rfl⟩ : ∃ m, n = m + 1 := ⟨n - 1, by omega⟩
    have hjN : j < N := by omega
    have e1 : (nI q).toNatClampNeg = q := nI_clamp (by omega)
    have e2 : (nI (q * 36 + i * 6 + j)).toNatClampNeg = q * 36 + i * 6 + j := nI_clamp (by omega)
    have old : st (q * 36 + i * 6 + j) = s0 (q * 36 + i * 6 + j) := by rw [I.1 i hi j hjN, if_neg (by omega)]
    have inx : vp_in (nI (q * 36 + i * 6 + j)) 432 := vp_in_nI (by omega) (by decide)
    refine br_f (nI_ge hjN (by omega)) ?_
    refine nm_r (oz_i366 q i j) ?_
    refine ox_at (by omega) (by omega) ?_
    refine ⟨inx, ?_⟩
    rw [e1, e2, old]
    refine br_c (fun c => ?_) (fun c => ⟨pk_in q 11 hq, br_c (fun c2 => ?_) (fun c2 => ?_)⟩)
    · exact nm_r (nI_1 j) (ih (j + 1) x2 st m (by omega) (by omega) (ox_mI_skip I c))
    · exact ⟨inx, nm_e (nm_r (nI_1 j) (ih (j + 1) 1 _ m (by omega) (by omega) (ox_mI_put h6 hi hjN I c (by rw [if_pos c2]))))⟩
    · refine ox_fullw hL (by omega) (by omega) ?_
      exact ⟨inx, nm_e (nm_r (nI_1 j) (ih (j + 1) 1 _ m (by omega) (by omega) (ox_mI_put h6 hi hjN I c (by rw [if_neg c2]))))⟩
theorem ox_merge {post : Int32 → SX → Prop} {N L q : Nat} (hN : N = 4 ∨ N = 6) (hL : L ≤ 4) (hq : q < 11)
    (hR : ∀ st, (∀ s, s < N → ∀ t, t < N → st (q * 36 + s * 6 + t) = ox_mg (a_head q) L (a_work (s * 6 + t)) (a_stored (q * 36 + s * 6 + t)) s t) → ∃ p, oc_Gam N (oz_s st q) p ∧ (∀ u, 2 * u < N → -50 ≤ p u ∧ p u ≤ 50) ∧ ∀ s, s < N → ∀ t, t < N → oz_s st q s t ≤ 100)
    (k0 : (∀ s, s < N → ∀ t, t < N → a_work (s * 6 + t) ≤ a_stored (q * 36 + s * 6 + t)) → post 0 (f_n, nI L, f_size, nI N, f_length, f_begun, f_hollow, f_running, f_where, a_program, a_head, a_stored, a_tight, a_vacant, a_waiting, a_work, a_values))
    (k1 : (∃ s t, s < N ∧ t < N ∧ ¬ a_work (s * 6 + t) ≤ a_stored (q * 36 + s * 6 + t)) → ∀ st w ti, (∀ s, s < N → ∀ t, t < N → st (q * 36 + s * 6 + t) = ox_mg (a_head q) L (a_work (s * 6 + t)) (a_stored (q * 36 + s * 6 + t)) s t) → (∀ l, (l < q * 36 ∨ q * 36 + 36 ≤ l) → st l = a_stored l) →
      (∀ s, s < N → ∀ t, t < N → oz_w w s t = if a_head q = 0 then oz_s st q s t else oc_sh (oc_fw (oz_s st q) N) s t) → ox_cp q w a_tight ti 36 → post 1 (f_n, nI L, f_size, nI N, f_length, f_begun, f_hollow, f_running, f_where, a_program, a_head, st, ti, a_vacant, a_waiting, w, a_values)) :
    wpX_merge post (f_n, nI L, f_size, nI N, f_length, f_begun, f_hollow, f_running, f_where, a_program, a_head, a_stored, a_tight, a_vacant, a_waiting, a_work, a_values) (nI q) := by
  have key : ∀ d i x2 st n, i + d = N → d < n → ox_mI 0 N q (a_head q) L a_work a_stored i 0 x2 st → wX_merge_4 post (nI q) f_n (nI L) f_size (nI N) f_length f_begun f_hollow f_running f_where n x2 (nI i) a_program a_head st a_tight a_vacant a_waiting a_work a_values := by
    intro d
    induction d with
    | zero =>
      intro i x2 st n hi hn I
      obtain ⟨m, rfl⟩ : ∃ m, n = m + 1 := ⟨n - 1, by omega⟩
      have ei : i = N := by omega
      subst ei
      refine br_t (nI_le (Nat.le_refl _) (by omega)) ?_
      obtain ⟨a, b, d⟩ := I
      rcases d with ⟨rfl, rfl, d3⟩ | ⟨rfl, d⟩
      · exact br_t rfl ⟨rfl, k0 (fun s hs t ht => d3 s hs t ht (Or.inl hs))⟩
      · have a' : ∀ s, s < i → ∀ t, t < i → st (q * 36 + s * 6 + t) = ox_mg (a_head q) L (a_work (s * 6 + t)) (a_stored (q * 36 + s * 6 + t)) s t := fun s hs t ht => by rw [a s hs t ht, if_pos (Or.inl hs)]
        obtain ⟨p, p1, p2, p3⟩ := hR st a'
        refine br_f (by decide) ?_
        refine ox_refresh hN hq p1 p2 p3 (fun w ti h1 h2 => ⟨rfl, k1 d st w ti a' b h1 h2⟩)
    | succ d ih =>
      intro i x2 st n hi hn I
      obtain ⟨m, rfl⟩ : ∃ m, n = m + 1 := ⟨n - 1, by omega⟩
      have hiN : i < N := by omega
      exact br_f (nI_ge hiN (by omega)) ⟨N + 1, ox_merge15 (by omega) hL hq hiN (fun x2 st I' => ih (i + 1) x2 st m (by omega) (by omega) I') N 0 x2 st (N + 1) (by omega) (by omega) I⟩
  exact ⟨N + 1, key N 0 0 a_stored (N + 1) (by omega) (by omega) ox_mI_0⟩
theorem ox_deliver33 {q len : Nat} (hq : q < 11) (hl : len ≤ 10) (h : post (f_n, f_limit, f_size, f_codes, nI len, f_begun, f_hollow, f_running, f_where, a_program, a_head, a_stored, a_tight, a_vacant, ox_wt len q a_waiting, a_work, a_values)) : wX_deliver_33 post (nI q) 1 f_n f_limit f_size f_codes (nI len) f_begun f_hollow f_running f_where a_program a_head a_stored a_tight a_vacant a_waiting a_work a_values := by
  refine br_f (by decide) (pk_le len q (fun c => ?_) (fun c => ?_))
  · rw [ox_wt, if_neg (by omega)] at h; exact h
  · rw [ox_wt, if_pos c] at h
    exact ⟨pk_in q 11 hq, nm_r (e' := upd a_waiting q 1) (by rw [nI_clamp (by omega), oz_nar1]) h⟩
theorem ox_deliver {N L q len : Nat} (hN : N = 4 ∨ N = 6) (hL : L ≤ 4) (hq : q < 11) (hl : len ≤ 10)
    (hR : a_vacant q = 0 → ∀ st, (∀ s, s < N → ∀ t, t < N → st (q * 36 + s * 6 + t) = ox_mg (a_head q) L (a_work (s * 6 + t)) (a_stored (q * 36 + s * 6 + t)) s t) → ∃ p, oc_Gam N (oz_s st q) p ∧ (∀ u, 2 * u < N → -50 ≤ p u ∧ p u ≤ 50) ∧ ∀ s, s < N → ∀ t, t < N → oz_s st q s t ≤ 100)
    (kV : a_vacant q ≠ 0 → ∀ st ti, ox_cp q a_work a_stored st 36 → ox_cp q a_work a_tight ti 36 → post (f_n, nI L, f_size, nI N, nI len, f_begun, 0, f_running, f_where, a_program, a_head, st, ti, upd a_vacant q 0, ox_wt len q a_waiting, a_work, a_values))
    (k0 : a_vacant q = 0 → (∀ s, s < N → ∀ t, t < N → a_work (s * 6 + t) ≤ a_stored (q * 36 + s * 6 + t)) → post (f_n, nI L, f_size, nI N, nI len, f_begun, 0, f_running, f_where, a_program, a_head, a_stored, a_tight, a_vacant, a_waiting, a_work, a_values))
    (k1 : a_vacant q = 0 → (∃ s t, s < N ∧ t < N ∧ ¬ a_work (s * 6 + t) ≤ a_stored (q * 36 + s * 6 + t)) → ∀ st w ti, (∀ s, s < N → ∀ t, t < N → st (q * 36 + s * 6 + t) = ox_mg (a_head q) L (a_work (s * 6 + t)) (a_stored (q * 36 + s * 6 + t)) s t) → (∀ l, (l < q * 36 ∨ q * 36 + 36 ≤ l) → st l = a_stored l) →
      (∀ s, s < N → ∀ t, t < N → oz_w w s t = if a_head q = 0 then oz_s st q s t else oc_sh (oc_fw (oz_s st q) N) s t) → ox_cp q w a_tight ti 36 → post (f_n, nI L, f_size, nI N, nI len, f_begun, 0, f_running, f_where, a_program, a_head, st, ti, a_vacant, ox_wt len q a_waiting, w, a_values)) :
    wpX_deliver post (f_n, nI L, f_size, nI N, nI len, f_begun, 0, f_running, f_where, a_program, a_head, a_stored, a_tight, a_vacant, a_waiting, a_work, a_values) (nI q) := by
  have e1 : (nI q).toNatClampNeg = q := nI_clamp (by omega)
  refine br_t rfl ⟨pk_in q 12 (by omega), ?_⟩
  rw [e1]
  refine br_c (fun c => ?_) (fun c => ?_)
  · refine ox_merge hN hL hq (hR c) (fun h => br_t rfl (k0 c h)) (fun h st w ti a b d e => ?_)
    exact ox_deliver33 hq hl (k1 c h st w ti a b d e)
  · refine ox_keep (by omega) (fun st ti h1 h2 => ?_)
    exact ox_deliver33 hq hl (kV c st ti h1 h2)
end
end
section
/-! the component's other walks -/
def ox_app (pr : Nat → Int32) (b : Nat) (x0 x1 x2 x3 x4 : Int32) : Nat → Int32 := upd (upd (upd (upd (upd pr b x0) (b + 1) x1) (b + 2) x2) (b + 3) x3) (b + 4) x4
section
variable {f_n f_limit f_size f_codes f_length f_begun f_hollow f_running f_where : Int32} {a_program a_head a_stored a_tight a_vacant a_waiting a_work a_values : Nat → Int32}
variable {post : SX → Prop}
theorem ox_append {post : Int32 → SX → Prop} {len : Nat} (hl : len < 10) {x0 x1 x2 x3 x4 : Int32} (h : post (nI len) (f_n, f_limit, f_size, f_codes, nI (len + 1), f_begun, f_hollow, f_running, f_where, ox_app a_program (len * 5) x0 x1 x2 x3 x4, a_head, a_stored, a_tight, a_vacant, a_waiting, a_work, a_values)) : wpX_append post (f_n, f_limit, f_size, f_codes, nI len, f_begun, f_hollow, f_running, f_where, a_program, a_head, a_stored, a_tight, a_vacant, a_waiting, a_work, a_values) x0 x1 x2 x3 x4 := by
  refine nm_r (oz_i50 len) ⟨pk_in (len * 5) 50 (by omega), ?_⟩
  refine nm_r (e' := upd a_program (len * 5) x0) (by rw [nI_clamp (by omega)]) ⟨pk_in (len * 5 + 1) 50 (by omega) (nI_add (len * 5) 1), ?_⟩
  refine nm_r (e' := upd (upd a_program (len * 5) x0) (len * 5 + 1) x1) (congrArg (fun i => upd (upd a_program (len * 5) x0) i x1) (pk_cl (len * 5 + 1) (nI_add (len * 5) 1))) ⟨pk_in (len * 5 + 2) 50 (by omega) (nI_add (len * 5) 2), ?_⟩
  refine nm_r (e' := upd (upd (upd a_program (len * 5) x0) (len * 5 + 1) x1) (len * 5 + 2) x2) (congrArg (fun i => upd (upd (upd a_program (len * 5) x0) (len * 5 + 1) x1) i x2) (pk_cl (len * 5 + 2) (nI_add (len * 5) 2))) ⟨pk_in (len * 5 + 3) 50 (by omega) (nI_add (len * 5) 3), ?_⟩
  refine nm_r (e' := upd (upd (upd (upd a_program (len * 5) x0) (len * 5 + 1) x1) (len * 5 + 2) x2) (len * 5 + 3) x3) (congrArg (fun i => upd (upd (upd (upd a_program (len * 5) x0) (len * 5 + 1) x1) (len * 5 + 2) x2) i x3) (pk_cl (len * 5 + 3) (nI_add (len * 5) 3))) ⟨pk_in (len * 5 + 4) 50 (by omega) (nI_add (len * 5) 4), ?_⟩
  refine nm_r (e' := ox_app a_program (len * 5) x0 x1 x2 x3 x4) (congrArg (fun i => upd (upd (upd (upd (upd a_program (len * 5) x0) (len * 5 + 1) x1) (len * 5 + 2) x2) (len * 5 + 3) x3) i x4) (pk_cl (len * 5 + 4) (nI_add (len * 5) 4))) (nm_r (nI_1 len) ?_)
  rw [nI_pred]; exact h
theorem ox_clear2 {va0 : Int32} (k : ∀ va wt, (∀ j, j < 11 → va j = 1) → va 11 = va0 → (∀ j, j < 11 → wt j = 0) → post (f_n, f_limit, f_size, f_codes, f_length, f_begun, f_hollow, f_running, f_where, a_program, a_head, a_stored, a_tight, va, wt, a_work, a_values)) :
    ∀ d i va wt n, i + d = 11 → d < n → (∀ j, j < i → va j = 1) → va 11 = va0 → (∀ j, j < i → wt j = 0) → wX_clearPoints_2 post f_n f_limit f_size f_codes f_length f_begun f_hollow f_running f_where n (nI i) a_program a_head a_stored a_tight va wt a_work a_values := by
  intro d
  induction d with
  | zero =>
    intro i va wt n hi hn I1 I2 I3
    obtain ⟨m, rfl⟩ : ∃ m, n = m + 1 := ⟨n - 1, by omega⟩
    have ei : i = 11 := by omega
    subst ei
    exact br_t (nI_le (a := 11) (Nat.le_refl _) (by omega)) (k va wt I1 I2 I3)
  | succ d ih =>
    intro i va wt n hi hn I1 I2 I3
    obtain ⟨m, rfl⟩ : ∃ m, n = m + 1 := ⟨n - 1, by omega⟩
    have e1 : (nI i).toNatClampNeg = i := nI_clamp (by omega)
    refine br_f (nI_ge (b := 11) (by omega) (by decide)) ⟨pk_in i 12 (by omega), nm_r (e' := upd va i 1) (by rw [e1, oz_nar1]) ⟨pk_in i 11 (by omega), nm_r (e' := upd wt i 0) (by rw [e1, oz_nar0]) (nm_r (nI_1 i) (ih (i + 1) _ _ m (by omega) (by omega) (fun j hj => ?_) ?_ (fun j hj => ?_)))⟩⟩
    · by_cases e : j = i
      · subst e; exact pk_us
      · rw [pk_un e]; exact I1 j (by omega)
    · rw [pk_un (by omega)]; exact I2
    · by_cases e : j = i
      · subst e; exact pk_us
      · rw [pk_un e]; exact I3 j (by omega)
theorem ox_clear (k : ∀ va wt, (∀ j, j < 11 → va j = 1) → va 11 = a_vacant 11 → (∀ j, j < 11 → wt j = 0) → post (f_n, f_limit, f_size, f_codes, f_length, f_begun, f_hollow, f_running, f_where, a_program, a_head, a_stored, a_tight, va, wt, a_work, a_values)) : wpX_clearPoints post (f_n, f_limit, f_size, f_codes, f_length, f_begun, f_hollow, f_running, f_where, a_program, a_head, a_stored, a_tight, a_vacant, a_waiting, a_work, a_values) :=
  ⟨12, ox_clear2 k 11 0 a_vacant a_waiting 12 (by omega) (by omega) (fun j hj => absurd hj (Nat.not_lt_zero j)) rfl (fun j hj => absurd hj (Nat.not_lt_zero j))⟩
theorem ox_wipe57 {J : oxJ1} {N L i : Nat} (h6 : N ≤ 6) (hL : L ≤ 4) (hi : i < N)
    (hJ : ∀ w, (∀ s, s < N → ∀ t, t < N → s < i + 1 → w (s * 6 + t) = ox_full L s t) → J (nI (i + 1)) a_program a_head a_stored a_tight a_vacant a_waiting w a_values) :
    ∀ d j w n, j + d = N → d < n → (∀ s, s < N → ∀ t, t < N → (s < i ∨ s = i ∧ t < j) → w (s * 6 + t) = ox_full L s t) → wX_wipe_57 post J (nI i) f_n (nI L) f_size (nI N) f_length f_begun f_hollow f_running f_where n (nI j) a_program a_head a_stored a_tight a_vacant a_waiting w a_values := by
  intro d
  induction d with
  | zero =>
    intro j w n hj hn I
    obtain ⟨m, rfl⟩ : ∃ m, n = m + 1 := ⟨n - 1, by omega⟩
    have ej : j = N := by omega
    subst ej
    exact br_t (nI_le (Nat.le_refl _) (by omega)) (nm_r (nI_1 i) (hJ w (fun s hs t ht h => I s hs t ht (by omega))))
  | succ d ih =>
    intro j w n hj hn I
    obtain ⟨m, rfl⟩ : ∃ m, n = m + 1 := ⟨n - 1, by omega⟩
    have hjN : j < N := by omega
    refine br_f (nI_ge hjN (by omega)) ?_
    refine ox_fullw hL (by omega) (by omega) ?_
    refine ⟨pk_in (i * 6 + j) 36 (by omega) (oz_i6 i j), nm_r (e' := upd w (i * 6 + j) (ox_full L i j)) (by rw [pk_cl (i * 6 + j) (oz_i6 i j)]) (nm_r (nI_1 j) (ih (j + 1) _ m (by omega) (by omega) (fun s hs t ht h => ?_)))⟩
    rw [oz_updS (by omega) (by omega)]
    by_cases e : s = i ∧ t = j
    · rw [if_pos e, e.1, e.2]
    · rw [if_neg e]; exact I s hs t ht (by omega)
theorem ox_wipe47 {N L : Nat} (hN : N = 4 ∨ N = 6) (hL : L ≤ 4)
    (k : ∀ w st ti, (∀ s, s < N → ∀ t, t < N → w (s * 6 + t) = ox_full L s t) → ox_cp 11 w a_stored st 36 → ox_cp 11 w a_tight ti 36 → post (f_n, nI L, f_size, nI N, f_length, f_begun, 0, f_running, f_where, a_program, a_head, st, ti, upd a_vacant 11 0, a_waiting, w, a_values)) :
    ∀ d i w n, i + d = N → d < n → (∀ s, s < N → ∀ t, t < N → s < i → w (s * 6 + t) = ox_full L s t) → wX_wipe_47 post f_n (nI L) f_size (nI N) f_length f_begun f_hollow f_running f_where n (nI i) a_program a_head a_stored a_tight a_vacant a_waiting w a_values := by
  intro d
  induction d with
  | zero =>
    intro i w n hi hn I
    obtain ⟨m, rfl⟩ : ∃ m, n = m + 1 := ⟨n - 1, by omega⟩
    have ei : i = N := by omega
    subst ei
    refine br_t (nI_le (Nat.le_refl _) (by omega)) ?_
    exact ox_keep (q := 11) (by decide) (fun st ti h1 h2 => k w st ti (fun s hs t ht => I s hs t ht hs) h1 h2)
  | succ d ih =>
    intro i w n hi hn I
    obtain ⟨m, rfl⟩ : ∃ m, n = m + 1 := ⟨n - 1, by omega⟩
    have hiN : i < N := by omega
    exact br_f (nI_ge hiN (by omega)) ⟨N + 1, ox_wipe57 (by omega) hL hiN (fun w' I' => ih (i + 1) w' m (by omega) (by omega) I') N 0 w (N + 1) (by omega) (by omega) (fun s hs t ht h => I s hs t ht (by omega))⟩
theorem ox_wipe22 {N L : Nat} (hN : N = 4 ∨ N = 6) (hL : L ≤ 4)
    (k : ∀ hd va wt w st ti, (∀ j, j < 11 → hd j = 0) → (∀ j, j < 11 → va j = 1) → va 11 = 0 → (∀ j, j < 11 → wt j = 0) → (∀ s, s < N → ∀ t, t < N → w (s * 6 + t) = ox_full L s t) → ox_cp 11 w a_stored st 36 → ox_cp 11 w a_tight ti 36 → post (f_n, nI L, f_size, nI N, f_length, f_begun, 0, f_running, f_where, a_program, hd, st, ti, va, wt, w, a_values)) :
    ∀ d i hd n, i + d = 11 → d < n → (∀ j, j < i → hd j = 0) → wX_wipe_22 post f_n (nI L) f_size (nI N) f_length f_begun f_hollow f_running f_where n (nI i) a_program hd a_stored a_tight a_vacant a_waiting a_work a_values := by
  intro d
  induction d with
  | zero =>
    intro i hd n hi hn I
    obtain ⟨m, rfl⟩ : ∃ m, n = m + 1 := ⟨n - 1, by omega⟩
    have ei : i = 11 := by omega
    subst ei
    refine br_t (nI_le (a := 11) (Nat.le_refl _) (by omega)) ?_
    refine ox_clear (fun va wt h1 h2 h3 => ⟨N + 1, ?_⟩)
    refine ox_wipe47 hN hL (fun w st ti a b c => k hd (upd va 11 0) wt w st ti I (fun j hj => ?_) pk_us h3 a b c) N 0 a_work (N + 1) (by omega) (by omega) (fun s hs t ht h => absurd h (Nat.not_lt_zero _))
    rw [pk_un (by omega)]; exact h1 j hj
  | succ d ih =>
    intro i hd n hi hn I
    obtain ⟨m, rfl⟩ : ∃ m, n = m + 1 := ⟨n - 1, by omega⟩
    have e1 : (nI i).toNatClampNeg = i := nI_clamp (by omega)
    refine br_f (nI_ge (b := 11) (by omega) (by decide)) ⟨pk_in i 11 (by omega), nm_r (e' := upd hd i 0) (by rw [e1, oz_nar0]) (nm_r (nI_1 i) (ih (i + 1) _ m (by omega) (by omega) (fun j hj => ?_)))⟩
    by_cases e : j = i
    · subst e; exact pk_us
    · rw [pk_un e]; exact I j (by omega)
theorem ox_wipe {N L : Nat} (hN : N = 4 ∨ N = 6) (hL : L ≤ 4)
    (k : ∀ hd va wt w st ti, (∀ j, j < 11 → hd j = 0) → (∀ j, j < 11 → va j = 1) → va 11 = 0 → (∀ j, j < 11 → wt j = 0) → (∀ s, s < N → ∀ t, t < N → w (s * 6 + t) = ox_full L s t) → ox_cp 11 w a_stored st 36 → ox_cp 11 w a_tight ti 36 → post (f_n, nI L, f_size, nI N, 0, 0, 0, 0, 0, a_program, hd, st, ti, va, wt, w, a_values)) :
    wpX_wipe post (f_n, nI L, f_size, nI N, f_length, f_begun, f_hollow, f_running, f_where, a_program, a_head, a_stored, a_tight, a_vacant, a_waiting, a_work, a_values) :=
  ⟨12, ox_wipe22 hN hL k 11 0 a_head 12 (by omega) (by omega) (fun j hj => absurd hj (Nat.not_lt_zero j))⟩
theorem ox_lowest {post : Int32 → Prop} {len : Nat} (hl : len ≤ 10) (k0 : (∀ j, j < len → a_waiting j = 0) → post (-1)) (k1 : ∀ p, p < len → a_waiting p ≠ 0 → (∀ j, j < p → a_waiting j = 0) → post (nI p)) : wpX_lowestWaiting post (f_n, f_limit, f_size, f_codes, nI len, f_begun, f_hollow, f_running, f_where, a_program, a_head, a_stored, a_tight, a_vacant, a_waiting, a_work, a_values) := by
  have key : ∀ d i n, i + d = len → d < n → (∀ j, j < i → a_waiting j = 0) → wX_lowestWaiting_2 post f_n f_limit f_size f_codes (nI len) f_begun f_hollow f_running f_where a_program a_head a_stored a_tight a_vacant a_waiting a_work a_values n (nI i) := by
    intro d
    induction d with
    | zero =>
      intro i n hi hn I
      obtain ⟨m, rfl⟩ : ∃ m, n = m + 1 := ⟨n - 1, by omega⟩
      have ei : i = len := by omega
      subst ei
      exact br_t (nI_le (Nat.le_refl _) (by omega)) (k0 I)
    | succ d ih =>
      intro i n hi hn I
      obtain ⟨m, rfl⟩ : ∃ m, n = m + 1 := ⟨n - 1, by omega⟩
      have e1 : (nI i).toNatClampNeg = i := nI_clamp (by omega)
      refine br_f (nI_ge (by omega) (by omega)) ⟨pk_in i 11 (by omega), ?_⟩
      rw [e1]
      refine br_c (fun c => ?_) (fun c => k1 i (by omega) c I)
      refine nm_r (nI_1 i) (ih (i + 1) m (by omega) (by omega) (fun j hj => ?_))
      by_cases e : j = i
      · subst e; exact c
      · exact I j (by omega)
  exact ⟨len + 1, key len 0 (len + 1) (by omega) (by omega) (fun j hj => absurd hj (Nat.not_lt_zero j))⟩
theorem ox_inBox {post : Int32 → Prop} {L : Nat} (hL : L ≤ 4) (x : Int32) (h1 : -(L : Int) ≤ x.toInt → x.toInt ≤ L → post 1) (h0 : ¬ (-(L : Int) ≤ x.toInt ∧ x.toInt ≤ L) → post 0) : wpX_inBox post (f_n, nI L, f_size, f_codes, f_length, f_begun, f_hollow, f_running, f_where, a_program, a_head, a_stored, a_tight, a_vacant, a_waiting, a_work, a_values) x := by
  have e1 : (-nI L).toInt = -(L : Int) := sb_negT (by omega)
  have e2 : (nI L).toInt = L := nI_toInt (by omega)
  refine br_c (fun c => ?_) (fun c => br_c (fun c2 => ?_) (fun c2 => ?_))
  · rw [Int32.lt_iff_toInt_lt, e1] at c; exact h0 (by omega)
  · rw [Int32.lt_iff_toInt_lt, e2] at c2; exact h0 (by omega)
  · rw [Int32.lt_iff_toInt_lt, e1] at c
    rw [Int32.lt_iff_toInt_lt, e2] at c2
    exact h1 (by omega) (by omega)
theorem ox_signed {post : Int32 → Prop} {b s : Nat} (hs : s < 6) (hb : b ≤ 3) (hv : -1000 ≤ (a_values (b + s / 2)).toInt) (h : ∀ r : Int32, r.toInt = oc_g (fun v => (a_values (b + v)).toInt) s → post r) : wpX_signed post (f_n, f_limit, f_size, f_codes, f_length, f_begun, f_hollow, f_running, f_where, a_program, a_head, a_stored, a_tight, a_vacant, a_waiting, a_work, a_values) (nI b) (nI s) := by
  have e : nI b + (nI s >>> ((1 : Int32) &&& 31)) = nI (b + s / 2) := by rw [oz_half (by omega), nI_add]
  refine ⟨pk_in (b + s / 2) 6 (by omega) e, nm_r (congrArg a_values (pk_cl (b + s / 2) e)) ?_⟩
  refine pk_eq (s % 2) 0 (fun c => ?_) (fun c => ?_) (oz_odd (by omega)) rfl
  · exact h _ (oc_g0 (p := fun v => (a_values (b + v)).toInt) c).symm
  · refine h _ ?_
    rw [oz_neg (by omega), oc_g1 (p := fun v => (a_values (b + v)).toInt) c]
theorem ox_cand41 {post J : Int32 → Prop} {N i : Nat} (h6 : N ≤ 6) (hi : i < N) (hv : ∀ v, v < 3 → -4 ≤ (a_values (3 + v)).toInt ∧ (a_values (3 + v)).toInt ≤ 4)
    (k0 : (∃ s t, s < N ∧ t < N ∧ oz_s a_stored 0 s t < oc_g (fun v => (a_values (3 + v)).toInt) s + oc_g (fun v => (a_values (3 + v)).toInt) t) → post 0)
    (hJ : (∀ t, t < N → oc_g (fun v => (a_values (3 + v)).toInt) i + oc_g (fun v => (a_values (3 + v)).toInt) t ≤ oz_s a_stored 0 i t) → J (nI (i + 1))) :
    ∀ d j n, j + d = N → d < n → (∀ t, t < j → oc_g (fun v => (a_values (3 + v)).toInt) i + oc_g (fun v => (a_values (3 + v)).toInt) t ≤ oz_s a_stored 0 i t) → wX_candidateFits_41 post J (nI i) f_n f_limit f_size (nI N) f_length f_begun f_hollow f_running f_where a_program a_head a_stored a_tight a_vacant a_waiting a_work a_values n (nI j) := by
  intro d
  induction d with
  | zero =>
    intro j n hj hn I
    obtain ⟨m, rfl⟩ : ∃ m, n = m + 1 := ⟨n - 1, by omega⟩
    have ej : j = N := by omega
    subst ej
    exact br_t (nI_le (Nat.le_refl _) (by omega)) (nm_r (nI_1 i) (hJ I))
  | succ d ih =>
    intro j n hj hn I
    obtain ⟨m, rfl⟩ : ∃ m, n = m + 1 := ⟨n - 1, by omega⟩
    have hjN : j < N := by omega
    have b1 := hv (i / 2) (by omega)
    have b2 := hv (j / 2) (by omega)
    have g1 := oc_gbox (p := fun v => (a_values (3 + v)).toInt) (s := i) b1
    have g2 := oc_gbox (p := fun v => (a_values (3 + v)).toInt) (s := j) b2
    refine br_f (nI_ge hjN (by omega)) ?_
    refine ox_signed (b := 3) (by omega) (by omega) (by omega) (fun r1 e1 => ?_)
    refine ox_signed (b := 3) (by omega) (by omega) (by omega) (fun r2 e2 => ?_)
    intro x3 h3
    have e3 : x3.toInt = oc_g (fun v => (a_values (3 + v)).toInt) i + oc_g (fun v => (a_values (3 + v)).toInt) j := by
      rw [h3, oz_add (by omega) (by omega), e1, e2]
    have e4 : (nI i * 6 + nI j).toNatClampNeg = i * 6 + j := pk_cl (i * 6 + j) (oz_i6 i j)
    have e5 : (a_stored (i * 6 + j)).toInt = oz_s a_stored 0 i j := by simp only [oz_s, Nat.zero_mul, Nat.zero_add]
    refine ⟨pk_in (i * 6 + j) 432 (by omega) (oz_i6 i j), ?_⟩
    rw [e4]
    refine br_c (fun c => ?_) (fun c => ?_)
    · rw [Int32.le_iff_toInt_le, e3, e5] at c
      refine nm_r (nI_1 j) (ih (j + 1) m (by omega) (by omega) (fun t ht => ?_))
      by_cases e : t = j
      · subst e; exact c
      · exact I t (by omega)
    · rw [Int32.le_iff_toInt_le, e3, e5] at c
      exact k0 ⟨i, j, hi, hjN, by omega⟩
theorem ox_cand {post : Int32 → Prop} {N L : Nat} (hN : N = 4 ∨ N = 6) (hL : L ≤ 4)
    (k0 : ¬ ((∀ v, v < 3 → -(L : Int) ≤ (a_values (3 + v)).toInt ∧ (a_values (3 + v)).toInt ≤ L) ∧ oc_Gam N (oz_s a_stored 0) (fun v => (a_values (3 + v)).toInt)) → post 0)
    (k1 : (∀ v, v < 3 → -(L : Int) ≤ (a_values (3 + v)).toInt ∧ (a_values (3 + v)).toInt ≤ L) → oc_Gam N (oz_s a_stored 0) (fun v => (a_values (3 + v)).toInt) → post 1) :
    wpX_candidateFits post (f_n, nI L, f_size, nI N, f_length, f_begun, f_hollow, f_running, f_where, a_program, a_head, a_stored, a_tight, a_vacant, a_waiting, a_work, a_values) := by
  have key31 : (∀ v, v < 3 → -(L : Int) ≤ (a_values (3 + v)).toInt ∧ (a_values (3 + v)).toInt ≤ L) → ∀ d i n, i + d = N → d < n → (∀ s, s < i → ∀ t, t < N → oc_g (fun v => (a_values (3 + v)).toInt) s + oc_g (fun v => (a_values (3 + v)).toInt) t ≤ oz_s a_stored 0 s t) → wX_candidateFits_31 post f_n (nI L) f_size (nI N) f_length f_begun f_hollow f_running f_where a_program a_head a_stored a_tight a_vacant a_waiting a_work a_values n (nI i) := by
    intro hv d
    induction d with
    | zero =>
      intro i n hi hn I
      obtain ⟨m, rfl⟩ : ∃ m, n = m + 1 := ⟨n - 1, by omega⟩
      have ei : i = N := by omega
      subst ei
      exact br_t (nI_le (Nat.le_refl _) (by omega)) (k1 hv I)
    | succ d ih =>
      intro i n hi hn I
      obtain ⟨m, rfl⟩ : ∃ m, n = m + 1 := ⟨n - 1, by omega⟩
      have hiN : i < N := by omega
      refine br_f (nI_ge hiN (by omega)) ⟨N + 1, ox_cand41 (by omega) hiN (fun v h => by have := hv v h; omega) (fun h => k0 (fun z => ?_)) (fun h => ih (i + 1) m (by omega) (by omega) (fun s hs t ht => ?_)) N 0 (N + 1) (by omega) (by omega) (fun t ht => absurd ht (Nat.not_lt_zero t))⟩
      · obtain ⟨s, t, hs, ht, hlt⟩ := h
        have := z.2 s hs t ht
        omega
      · by_cases e : s = i
        · subst e; exact h t ht
        · exact I s (by omega) t ht
  have key2 : ∀ d i n, i + d = 3 → d < n → (∀ v, v < i → -(L : Int) ≤ (a_values (3 + v)).toInt ∧ (a_values (3 + v)).toInt ≤ L) → wX_candidateFits_2 post f_n (nI L) f_size (nI N) f_length f_begun f_hollow f_running f_where a_program a_head a_stored a_tight a_vacant a_waiting a_work a_values n (nI (3 + i)) := by
    intro d
    induction d with
    | zero =>
      intro i n hi hn I
      obtain ⟨m, rfl⟩ : ∃ m, n = m + 1 := ⟨n - 1, by omega⟩
      have ei : i = 3 := by omega
      subst ei
      exact br_t (nI_le (a := 6) (Nat.le_refl _) (by omega)) ⟨N + 1, key31 I N 0 (N + 1) (by omega) (by omega) (fun s hs => absurd hs (Nat.not_lt_zero s))⟩
    | succ d ih =>
      intro i n hi hn I
      obtain ⟨m, rfl⟩ : ∃ m, n = m + 1 := ⟨n - 1, by omega⟩
      have e1 : (nI (3 + i)).toNatClampNeg = 3 + i := nI_clamp (by omega)
      refine br_f (nI_ge (b := 6) (by omega) (by decide)) ⟨pk_in (3 + i) 6 (by omega), ?_⟩
      rw [e1]
      refine ox_inBox hL _ (fun h1 h2 => ?_) (fun h => ?_)
      · refine br_f (by decide) (nm_r (nI_1 (3 + i)) (ih (i + 1) m (by omega) (by omega) (fun v hv => ?_)))
        by_cases e : v = i
        · subst e; exact ⟨h1, h2⟩
        · exact I v (by omega)
      · exact br_t rfl (k0 (fun z => h (z.1 i (by omega))))
  exact ⟨4, key2 3 0 4 (by omega) (by omega) (fun v hv => absurd hv (Nat.not_lt_zero v))⟩
theorem ox_launch63 {post : Int32 → SX → Prop} (k : ∀ vs, (∀ j, j < 3 → vs j = a_values (3 + j)) → post 1 (f_n, f_limit, f_size, f_codes, f_length, f_begun, f_hollow, 1, 0, a_program, a_head, a_stored, a_tight, a_vacant, a_waiting, a_work, vs)) :
    ∀ d i vs n, i + d = 3 → d < n → (∀ j, j < i → vs j = a_values (3 + j)) → (∀ j, 3 ≤ j → vs j = a_values j) → wX_launch_63 post f_n f_limit f_size f_codes f_length f_begun f_hollow f_running f_where n (nI i) a_program a_head a_stored a_tight a_vacant a_waiting a_work vs := by
  intro d
  induction d with
  | zero =>
    intro i vs n hi hn I I2
    obtain ⟨m, rfl⟩ : ∃ m, n = m + 1 := ⟨n - 1, by omega⟩
    have ei : i = 3 := by omega
    subst ei
    exact br_t (nI_le (a := 3) (Nat.le_refl _) (by omega)) (k vs I)
  | succ d ih =>
    intro i vs n hi hn I I2
    obtain ⟨m, rfl⟩ : ∃ m, n = m + 1 := ⟨n - 1, by omega⟩
    have e1 : (nI i).toNatClampNeg = i := nI_clamp (by omega)
    have e2 : (nI i + 3).toNatClampNeg = 3 + i := (pk_cl (i + 3) (nI_add i 3)).trans (by omega)
    refine br_f (nI_ge (b := 3) (by omega) (by decide)) ⟨pk_in (i + 3) 6 (by omega) (nI_add i 3), pk_in i 6 (by omega), nm_r (e' := upd vs i (vs (3 + i))) (by rw [e1, e2]) (nm_r (nI_1 i) (ih (i + 1) _ m (by omega) (by omega) (fun j hj => ?_) (fun j hj => ?_)))⟩
    · by_cases e : j = i
      · subst e; rw [pk_us]; exact I2 _ (by omega)
      · rw [pk_un e]; exact I j (by omega)
    · rw [pk_un (by omega)]; exact I2 j hj
/-- the lexicographically least point -/
def oc_lex (S : (Nat → Int) → Prop) (v : Nat) (m : Nat → Int) : Prop := S m ∧ ∀ p, S p → ∀ u, u ≤ v → (∀ i, i < u → p i = m i) → m u ≤ p u
theorem oc_lexat {N : Nat} {w : Nat → Int32} {S : (Nat → Int) → Prop} (hN : N % 2 = 0) (W : ox_Wk N w S) {u : Nat} (hu : 2 * u < N) {m : Nat → Int} (h1 : S m) (h2 : ∀ p, S p → m u ≤ p u) : oz_w w (2 * u + 1) (2 * u + 1) = - (2 * m u) := by
  obtain ⟨q, hq, e⟩ := oc_att hN W.1 (a := 2 * u + 1) (b := 2 * u + 1) (by omega) (by omega)
  have g1 : ∀ p : Nat → Int, oc_g p (2 * u + 1) = - p u := fun p => by rw [oc_g1 (by omega), show (2 * u + 1) / 2 = u by omega]
  have a := h2 q ((W.2.1 q).mp hq)
  have b := ((W.2.1 m).mpr h1) (2 * u + 1) (by omega) (2 * u + 1) (by omega)
  rw [g1] at b e
  omega
theorem ox_least41 {post : Int32 → SX → Prop} {N v : Nat} (hN : N = 4 ∨ N = 6) (hv : 2 * v < N) {S : (Nat → Int) → Prop} {m : Nat → Int} (hm : oc_lex S v m) (hb : ∀ u, u ≤ v → -50 ≤ m u ∧ m u ≤ 50)
    (k : ∀ (r hol : Int32) (w : Nat → Int32), r.toInt = m v → post r (f_n, f_limit, f_size, nI N, f_length, f_begun, hol, f_running, f_where, a_program, a_head, a_stored, a_tight, a_vacant, a_waiting, w, a_values)) :
    ∀ d u hol w n, u + d = v → d < n → ox_Out N hol w (fun p => S p ∧ ∀ i, i < u → p i = m i) → wX_least_41 post (nI v) n (nI u) f_n f_limit f_size (nI N) f_length f_begun hol f_running f_where a_program a_head a_stored a_tight a_vacant a_waiting w a_values := by
  have hN2 : N % 2 = 0 := by omega
  have g0 : ∀ (p : Nat → Int) (u : Nat), oc_g p (2 * u) = p u := fun p u => by rw [oc_g0 (by omega), show 2 * u / 2 = u by omega]
  intro d
  induction d with
  | zero =>
    intro u hol w n hu hn O
    obtain ⟨x, rfl⟩ : ∃ x, n = x + 1 := ⟨n - 1, by omega⟩
    have eu : u = v := by omega
    subst eu
    rcases O with ⟨-, hE⟩ | ⟨rfl, W⟩
    · exact absurd ⟨hm.1, fun _ _ => rfl⟩ (hE m)
    have e := oc_lexat hN2 W hv (m := m) ⟨hm.1, fun _ _ => rfl⟩ (fun p hp => hm.2 p hp.1 u (Nat.le_refl _) hp.2)
    have e' : (w ((2 * u + 1) * 6 + (2 * u + 1))).toInt = - (2 * m u) := e
    have ex : 2 * nI u + 1 = nI (2 * u + 1) := by rw [oz_d2]; exact nI_1 _
    refine br_t (nI_le (Nat.le_refl _) (by omega)) ?_
    refine ox_atE ex ex (by omega) (by omega) ?_
    have := hb u (Nat.le_refl _)
    refine k _ 0 w ?_
    have q := oz_shr1 (w ((2 * u + 1) * 6 + (2 * u + 1)))
    rw [oz_neg (by omega), q, e']; omega
  | succ d ih =>
    intro u hol w n hu hn O
    obtain ⟨x, rfl⟩ : ∃ x, n = x + 1 := ⟨n - 1, by omega⟩
    rcases O with ⟨-, hE⟩ | ⟨rfl, W⟩
    · exact absurd ⟨hm.1, fun _ _ => rfl⟩ (hE m)
    have huv : u < v := by omega
    have e := oc_lexat hN2 W (u := u) (by omega) (m := m) ⟨hm.1, fun _ _ => rfl⟩ (fun p hp => hm.2 p hp.1 u (by omega) hp.2)
    have e' : (w ((2 * u + 1) * 6 + (2 * u + 1))).toInt = - (2 * m u) := e
    have ex : 2 * nI u + 1 = nI (2 * u + 1) := by rw [oz_d2]; exact nI_1 _
    have := hb u (by omega)
    refine br_f (nI_ge huv (by omega)) ?_
    refine ox_atE ex ex (by omega) (by omega) ?_
    intro x5 h5
    have e5 : x5.toInt = 2 * m u := by rw [h5, oz_neg (by omega), e']; omega
    refine ox_restrictE hN (Or.inr ⟨rfl, W⟩) (oz_d2 u) (oz_d2 u) (by omega) (by omega) (fun hol2 w2 O2 _ => ?_)
    refine nm_r (nI_1 u) (ih (u + 1) hol2 w2 x (by omega) (by omega) (ox_Out_congr (fun p => ?_) O2))
    rw [e5]
    have G := g0 p u
    constructor
    · rintro ⟨⟨a, b⟩, c⟩
      refine ⟨a, fun i hi => ?_⟩
      by_cases z : i = u
      · subst z
        have := hm.2 p a i (by omega) b
        omega
      · exact b i (by omega)
    · rintro ⟨a, b⟩
      refine ⟨⟨a, fun i hi => b i (by omega)⟩, ?_⟩
      have := b u (by omega)
      omega
end
end
section
/-! the reference: states as numbers -/
def oy_v (k v : Nat) : Int := if v = 0 then ((k / 81 : Nat) : Int) - 4 else if v = 1 then ((k / 9 % 9 : Nat) : Int) - 4 else ((k % 9 : Nat) : Int) - 4
theorem oy_v0 (k : Nat) : oy_v k 0 = ((k / 81 : Nat) : Int) - 4 := if_pos rfl
theorem oy_v1 (k : Nat) : oy_v k 1 = ((k / 9 % 9 : Nat) : Int) - 4 := by simp only [oy_v]; rw [if_neg (by decide), if_pos trivial]
theorem oy_v2 {k v : Nat} (h0 : v ≠ 0) (h1 : v ≠ 1) : oy_v k v = ((k % 9 : Nat) : Int) - 4 := by simp only [oy_v]; rw [if_neg h0, if_neg h1]
theorem oy_vb {k : Nat} (hk : k < 729) (v : Nat) : -4 ≤ oy_v k v ∧ oy_v k v ≤ 4 := by
  by_cases h0 : v = 0
  · subst h0; rw [oy_v0]; omega
  · by_cases h1 : v = 1
    · subst h1; rw [oy_v1]; omega
    · rw [oy_v2 h0 h1]; omega
theorem oy_gb {k : Nat} (hk : k < 729) (s : Nat) : -4 ≤ oc_g (oy_v k) s ∧ oc_g (oy_v k) s ≤ 4 := oc_gbox (oy_vb hk _)
def oy_sm (k s t : Nat) : Int := oc_g (oy_v k) s + oc_g (oy_v k) t
theorem oy_smb {k : Nat} (hk : k < 729) (s t : Nat) : -8 ≤ oy_sm k s t ∧ oy_sm k s t ≤ 8 := by
  have a := oy_gb hk s
  have b := oy_gb hk t
  simp only [oy_sm]; omega
def oy_St (n L k : Nat) : Prop := (∀ v, v < 3 → -(L : Int) ≤ oy_v k v ∧ oy_v k v ≤ L) ∧ (n = 3 ∨ k % 9 = 4)
theorem oy_4 : (4 : Int32).toInt = 4 := by decide
theorem oy_m4 {a : Nat} (h : a < 1000) : (nI a - 4).toInt = (a : Int) - 4 := by
  have e : (nI a).toInt = a := nI_toInt (by omega)
  rw [oz_sub (by rw [e, oy_4]; omega) (by rw [e, oy_4]; omega), e, oy_4]
theorem oy_d81 {k : Nat} (hk : k < 729) : nI k / 81 = nI (k / 81) := pk_div (d := 81) (by omega) (by decide) (by decide)
theorem oy_d9 {k : Nat} (hk : k < 729) : nI k / 9 = nI (k / 9) := pk_div (d := 9) (by omega) (by decide) (by decide)
theorem oy_r9 {k : Nat} (hk : k < 729) : nI k - nI k / 9 * 9 = nI (k % 9) := pk_rem (d := 9) (by omega) (by decide) (by decide)
theorem oy_d2 {k : Nat} (hk : k < 729) : nI k / 2 = nI (k / 2) := pk_div (d := 2) (by omega) (by decide) (by decide)
theorem oy_r2 {k : Nat} (hk : k < 729) : nI k - nI k / 2 * 2 = nI (k % 2) := pk_rem (d := 2) (by omega) (by decide) (by decide)
theorem oy_t0 {k : Nat} (hk : k < 729) : (nI k / 81 - 4).toInt = oy_v k 0 := by rw [oy_d81 hk, oy_m4 (by omega), oy_v0]
theorem oy_t1 {k : Nat} (hk : k < 729) : ((nI k / 9) - (nI k / 9) / 9 * 9 - 4).toInt = oy_v k 1 := by rw [oy_d9 hk, oy_r9 (by omega), oy_m4 (by omega), oy_v1]
theorem oy_t2 {k : Nat} (hk : k < 729) {v : Nat} (h0 : v ≠ 0) (h1 : v ≠ 1) : (nI k - nI k / 9 * 9 - 4).toInt = oy_v k v := by rw [oy_r9 hk, oy_m4 (by omega), oy_v2 h0 h1]
theorem oy_ge {n i : Nat} (hn : n ≤ 3) (h : i < 2 * n) : ¬ 2 * nI n ≤ nI i := by rw [oz_d2]; exact nI_ge h (by omega)
theorem oy_le {n i : Nat} (h : 2 * n ≤ i) (hi : i < 2 ^ 31) : 2 * nI n ≤ nI i := by rw [oz_d2]; exact nI_le h hi
theorem oy_n81 : ¬ (81 : Int32) = 0 := by decide
theorem oy_n9 : ¬ (9 : Int32) = 0 := by decide
theorem oy_n2 : ¬ (2 : Int32) = 0 := by decide
section
variable {f_n f_limit f_size f_length f_begun f_runPoint f_runState : Int32} {a_program a_table a_empty a_waiting a_source a_set : Nat → Int32}
theorem oy_value {post : Int32 → Prop} {k v : Nat} (hk : k < 729) (hv : v < 3) (h : ∀ r : Int32, r.toInt = oy_v k v → post r) : wpY_value post (f_n, f_limit, f_size, f_length, f_begun, f_runPoint, f_runState, a_program, a_table, a_empty, a_waiting, a_source, a_set) (nI k) (nI v) := by
  refine pk_eq v 0 (fun e => ?_) (fun e => pk_eq v 1 (fun e1 => ?_) (fun e1 => ?_))
  · subst e; exact ⟨oy_n81, h _ (oy_t0 hk)⟩
  · subst e1; exact ⟨oy_n9, oy_n9, h _ (oy_t1 hk)⟩
  · exact ⟨oy_n9, h _ (oy_t2 hk e e1)⟩
theorem oy_valueE {post : Int32 → Prop} {x : Int32} {k v : Nat} (ex : x = nI v) (hk : k < 729) (hv : v < 3) (h : ∀ r : Int32, r.toInt = oy_v k v → post r) : wpY_value post (f_n, f_limit, f_size, f_length, f_begun, f_runPoint, f_runState, a_program, a_table, a_empty, a_waiting, a_source, a_set) (nI k) x := by
  subst ex; exact oy_value hk hv h
theorem oy_signed {post : Int32 → Prop} {k s : Nat} (hk : k < 729) (hs : s < 6) (h : ∀ r : Int32, r.toInt = oc_g (oy_v k) s → post r) : wpY_signed post (f_n, f_limit, f_size, f_length, f_begun, f_runPoint, f_runState, a_program, a_table, a_empty, a_waiting, a_source, a_set) (nI k) (nI s) := by
  have b := oy_vb hk (s / 2)
  refine ⟨oy_n2, pk_eq (s % 2) 0 (fun e => ⟨oy_n2, ?_⟩) (fun e => ⟨oy_n2, ?_⟩) (oy_r2 (by omega)) rfl⟩
  · exact oy_valueE (oy_d2 (by omega)) hk (by omega) (fun r hr => h r (by rw [oc_g0 e]; exact hr))
  · exact oy_valueE (oy_d2 (by omega)) hk (by omega) (fun r hr => h _ (by rw [oc_g1 e, oz_neg (by omega), hr]))
theorem oy_sum {post : Int32 → Prop} {k s t : Nat} (hk : k < 729) (hs : s < 6) (ht : t < 6) (h : ∀ r : Int32, r.toInt = oy_sm k s t → post r) : wpY_sum post (f_n, f_limit, f_size, f_length, f_begun, f_runPoint, f_runState, a_program, a_table, a_empty, a_waiting, a_source, a_set) (nI k) (nI s) (nI t) := by
  have b1 := oy_gb hk s
  have b2 := oy_gb hk t
  refine oy_signed hk hs (fun r1 e1 => ?_)
  refine oy_signed hk ht (fun r2 e2 => ?_)
  exact h _ (by rw [oz_add (by omega) (by omega), e1, e2]; rfl)
theorem oy_inRange {post : Int32 → Prop} {L : Nat} (hL : L ≤ 4) (x : Int32) (h1 : -(L : Int) ≤ x.toInt → x.toInt ≤ L → post 1) (h0 : ¬ (-(L : Int) ≤ x.toInt ∧ x.toInt ≤ L) → post 0) : wpY_inRange post (f_n, nI L, f_size, f_length, f_begun, f_runPoint, f_runState, a_program, a_table, a_empty, a_waiting, a_source, a_set) x := by
  have e1 : (-nI L).toInt = -(L : Int) := sb_negT (by omega)
  have e2 : (nI L).toInt = L := nI_toInt (by omega)
  refine br_c (fun c => ?_) (fun c => br_c (fun c2 => ?_) (fun c2 => ?_))
  · rw [Int32.lt_iff_toInt_lt, e1] at c; exact h0 (by omega)
  · rw [Int32.lt_iff_toInt_lt, e2] at c2; exact h0 (by omega)
  · rw [Int32.lt_iff_toInt_lt, e1] at c
    rw [Int32.lt_iff_toInt_lt, e2] at c2
    exact h1 (by omega) (by omega)
theorem oy_isState {post : Int32 → Prop} {n L k : Nat} (hn : n = 2 ∨ n = 3) (hL : L ≤ 4) (hk : k < 729) (h1 : oy_St n L k → post 1) (h0 : ¬ oy_St n L k → post 0) : wpY_isState post (nI n, nI L, f_size, f_length, f_begun, f_runPoint, f_runState, a_program, a_table, a_empty, a_waiting, a_source, a_set) (nI k) := by
  refine ⟨oy_n81, oy_inRange hL _ (fun a1 a2 => br_f (by decide) ?_) (fun a => br_t rfl (h0 (fun z => a ?_)))⟩
  · refine ⟨oy_n9, oy_n9, oy_inRange hL _ (fun b1 b2 => br_f (by decide) ?_) (fun b => br_t rfl (h0 (fun z => b ?_)))⟩
    · refine ⟨oy_n9, oy_inRange hL _ (fun c1 c2 => br_f (by decide) ?_) (fun c => br_t rfl (h0 (fun z => c ?_)))⟩
      · rw [oy_t0 hk] at a1 a2
        rw [oy_t1 hk] at b1 b2
        rw [oy_t2 hk (v := 2) (by decide) (by decide)] at c1 c2
        have A : ∀ v, v < 3 → -(L : Int) ≤ oy_v k v ∧ oy_v k v ≤ L := by
          intro v hv
          have hc : v = 0 ∨ v = 1 ∨ v = 2 := by omega
          rcases hc with rfl | rfl | rfl
          · exact ⟨a1, a2⟩
          · exact ⟨b1, b2⟩
          · exact ⟨c1, c2⟩
        refine pk_eq n 3 (fun e => h1 ⟨A, Or.inl e⟩) (fun e => ⟨oy_n9, ?_⟩)
        exact pk_eq (k % 9) 4 (fun e2 => h1 ⟨A, Or.inr e2⟩) (fun e2 => h0 (fun z => z.2.elim e e2)) (oy_r9 hk) rfl
      · rw [oy_t2 hk (v := 2) (by decide) (by decide)]; exact z.1 2 (by decide)
    · rw [oy_t1 hk]; exact z.1 1 (by decide)
  · rw [oy_t0 hk]; exact z.1 0 (by decide)
theorem oy_inTable34 {post J : Int32 → Prop} {n k q i : Nat} (hn : n = 2 ∨ n = 3) (hk : k < 729) (hq : q < 21) (hi : i < 2 * n)
    (k0 : (∃ s t, s < 2 * n ∧ t < 2 * n ∧ oz_s a_table q s t < oy_sm k s t) → post 0)
    (hJ : (∀ t, t < 2 * n → oy_sm k i t ≤ oz_s a_table q i t) → J (nI (i + 1))) :
    ∀ d j m, j + d = 2 * n → d < m → (∀ t, t < j → oy_sm k i t ≤ oz_s a_table q i t) → wY_inTable_34 post J (nI k) (nI q) (nI i) (nI n) f_limit f_size f_length f_begun f_runPoint f_runState a_program a_table a_empty a_waiting a_source a_set m (nI j) := by
  intro d
  induction d with
  | zero =>
    intro j m hj hm I
    obtain ⟨x, rfl⟩ : ∃ x, m = x + 1 := ⟨m - 1, by omega⟩
    have ej : j = 2 * n := by omega
    subst ej
    exact br_t (oy_le (Nat.le_refl _) (by omega)) (nm_r (nI_1 i) (hJ I))
  | succ d ih =>
    intro j m hj hm I
    obtain ⟨x, rfl⟩ : ∃ x, m = x + 1 := ⟨m - 1, by omega⟩
    have hjN : j < 2 * n := by omega
    refine br_f (oy_ge (by omega) hjN) ?_
    refine oy_sum hk (by omega) (by omega) (fun r hr => ?_)
    have e4 : (nI q * 36 + nI i * 6 + nI j).toNatClampNeg = q * 36 + i * 6 + j := pk_cl _ (oz_i366 q i j)
    refine ⟨pk_in (q * 36 + i * 6 + j) 756 (by omega) (oz_i366 q i j), ?_⟩
    rw [e4]
    refine br_c (fun c => ?_) (fun c => ?_)
    · rw [Int32.le_iff_toInt_le, hr] at c
      refine nm_r (nI_1 j) (ih (j + 1) x (by omega) (by omega) (fun t ht => ?_))
      by_cases e : t = j
      · subst e; exact c
      · exact I t (by omega)
    · rw [Int32.le_iff_toInt_le, hr] at c
      refine k0 ⟨i, j, hi, hjN, ?_⟩
      simp only [oz_s]; omega
/-- the states of a place -/
def oy_In (n L : Nat) (e tb : Nat → Int32) (q k : Nat) : Prop := e q = 0 ∧ oy_St n L k ∧ oc_Gam (2 * n) (oz_s tb q) (oy_v k)
theorem oy_inTable {post : Int32 → Prop} {n L k q : Nat} (hn : n = 2 ∨ n = 3) (hL : L ≤ 4) (hk : k < 729) (hq : q < 21) (h1 : oy_In n L a_empty a_table q k → post 1) (h0 : ¬ oy_In n L a_empty a_table q k → post 0) :
    wpY_inTable post (nI n, nI L, f_size, f_length, f_begun, f_runPoint, f_runState, a_program, a_table, a_empty, a_waiting, a_source, a_set) (nI k) (nI q) := by
  have e1 : (nI q).toNatClampNeg = q := nI_clamp (by omega)
  refine ⟨pk_in q 21 hq, ?_⟩
  rw [e1]
  refine br_c (fun c => ?_) (fun c => h0 (fun z => c z.1))
  refine oy_isState hn hL hk (fun hs => br_f (by decide) ?_) (fun hs => br_t rfl (h0 (fun z => hs z.2.1)))
  have key : ∀ d i m, i + d = 2 * n → d < m → (∀ s, s < i → ∀ t, t < 2 * n → oy_sm k s t ≤ oz_s a_table q s t) → wY_inTable_21 post (nI k) (nI q) (nI n) (nI L) f_size f_length f_begun f_runPoint f_runState a_program a_table a_empty a_waiting a_source a_set m (nI i) := by
    intro d
    induction d with
    | zero =>
      intro i m hi hm I
      obtain ⟨x, rfl⟩ : ∃ x, m = x + 1 := ⟨m - 1, by omega⟩
      have ei : i = 2 * n := by omega
      subst ei
      exact br_t (oy_le (Nat.le_refl _) (by omega)) (h1 ⟨c, hs, I⟩)
    | succ d ih =>
      intro i m hi hm I
      obtain ⟨x, rfl⟩ : ∃ x, m = x + 1 := ⟨m - 1, by omega⟩
      refine br_f (oy_ge (by omega) (by omega)) ⟨2 * n + 1, oy_inTable34 hn hk hq (by omega) (fun h => h0 (fun z => ?_)) (fun h => ih (i + 1) x (by omega) (by omega) (fun s hs2 t ht => ?_)) (2 * n) 0 (2 * n + 1) (by omega) (by omega) (fun t ht => absurd ht (Nat.not_lt_zero t))⟩
      · obtain ⟨s, t, hs1, ht1, hlt⟩ := h
        have := z.2.2 s hs1 t ht1
        simp only [oy_sm] at hlt
        omega
      · by_cases e : s = i
        · subst e; exact h t ht
        · exact I s (by omega) t ht
  exact ⟨2 * n + 1, key (2 * n) 0 (2 * n + 1) (by omega) (by omega) (fun s hs2 => absurd hs2 (Nat.not_lt_zero s))⟩
/-- an array of booleans is a set of states -/
def oy_Is (a : Nat → Int32) (P : Nat → Prop) : Prop := ∀ k, k < 729 → (a k ≠ 0 ↔ P k)
theorem oy_collect {post : SY → Prop} {n L q : Nat} (hn : n = 2 ∨ n = 3) (hL : L ≤ 4) (hq : q < 21) (h : ∀ src, oy_Is src (oy_In n L a_empty a_table q) → post (nI n, nI L, f_size, f_length, f_begun, f_runPoint, f_runState, a_program, a_table, a_empty, a_waiting, src, a_set)) :
    wpY_collect post (nI n, nI L, f_size, f_length, f_begun, f_runPoint, f_runState, a_program, a_table, a_empty, a_waiting, a_source, a_set) (nI q) := by
  have key : ∀ d i src m, i + d = 729 → d < m → (∀ k, k < i → (src k ≠ 0 ↔ oy_In n L a_empty a_table q k)) → wY_collect_2 post (nI q) (nI n) (nI L) f_size f_length f_begun f_runPoint f_runState m (nI i) a_program a_table a_empty a_waiting src a_set := by
    intro d
    induction d with
    | zero =>
      intro i src m hi hm I
      obtain ⟨x, rfl⟩ : ∃ x, m = x + 1 := ⟨m - 1, by omega⟩
      have ei : i = 729 := by omega
      subst ei
      exact br_t (nI_le (a := 729) (Nat.le_refl _) (by omega)) (h src I)
    | succ d ih =>
      intro i src m hi hm I
      obtain ⟨x, rfl⟩ : ∃ x, m = x + 1 := ⟨m - 1, by omega⟩
      have e1 : (nI i).toNatClampNeg = i := nI_clamp (by omega)
      refine br_f (nI_ge (b := 729) (by omega) (by decide)) ?_
      refine oy_inTable hn hL (by omega) hq (fun z => ?_) (fun z => ?_)
      · refine ⟨pk_in i 729 (by omega), nm_r (e' := upd src i 1) (by rw [e1, oz_nar1]) (nm_r (nI_1 i) (ih (i + 1) _ x (by omega) (by omega) (fun k hk => ?_)))⟩
        by_cases e : k = i
        · subst e; rw [pk_us]; exact ⟨fun _ => z, fun _ => by decide⟩
        · rw [pk_un e]; exact I k (by omega)
      · refine ⟨pk_in i 729 (by omega), nm_r (e' := upd src i 0) (by rw [e1, oz_nar0]) (nm_r (nI_1 i) (ih (i + 1) _ x (by omega) (by omega) (fun k hk => ?_)))⟩
        by_cases e : k = i
        · subst e; rw [pk_us]; exact ⟨fun y => absurd rfl y, fun y => absurd y z⟩
        · rw [pk_un e]; exact I k (by omega)
  exact ⟨730, key 729 0 a_source 730 (by omega) (by omega) (fun k hk => absurd hk (Nat.not_lt_zero k))⟩
theorem oy_keep {post : SY → Prop} {s t : Nat} (hs : s < 6) (ht : t < 6) {c am : Int32} (ha : am = 0 ∨ am = 1) {P : Nat → Prop} (hP : oy_Is a_source P)
    (h : ∀ set, oy_Is set (fun k => P k ∧ ((oy_sm k s t ≤ c.toInt) ↔ am = 1)) → post (f_n, f_limit, f_size, f_length, f_begun, f_runPoint, f_runState, a_program, a_table, a_empty, a_waiting, a_source, set)) :
    wpY_keep post (f_n, f_limit, f_size, f_length, f_begun, f_runPoint, f_runState, a_program, a_table, a_empty, a_waiting, a_source, a_set) (nI s) (nI t) c am := by
  have key : ∀ d i set m, i + d = 729 → d < m → (∀ k, k < i → (set k ≠ 0 ↔ (P k ∧ ((oy_sm k s t ≤ c.toInt) ↔ am = 1)))) → wY_keep_3 post (nI s) (nI t) c am f_n f_limit f_size f_length f_begun f_runPoint f_runState m (nI i) a_program a_table a_empty a_waiting a_source set := by
    intro d
    induction d with
    | zero =>
      intro i set m hi hm I
      obtain ⟨x, rfl⟩ : ∃ x, m = x + 1 := ⟨m - 1, by omega⟩
      have ei : i = 729 := by omega
      subst ei
      exact br_t (nI_le (a := 729) (Nat.le_refl _) (by omega)) (h set I)
    | succ d ih =>
      intro i set m hi hm I
      obtain ⟨x, rfl⟩ : ∃ x, m = x + 1 := ⟨m - 1, by omega⟩
      have e1 : (nI i).toNatClampNeg = i := nI_clamp (by omega)
      have inx : vp_in (nI i) 729 := pk_in i 729 (by omega)
      have yes : (P i ∧ ((oy_sm i s t ≤ c.toInt) ↔ am = 1)) → ∀ k, k < i + 1 → (upd set i 1 k ≠ 0 ↔ (P k ∧ ((oy_sm k s t ≤ c.toInt) ↔ am = 1))) := by
        intro z k hk
        by_cases e : k = i
        · subst e; rw [pk_us]; exact ⟨fun _ => z, fun _ => by decide⟩
        · rw [pk_un e]; exact I k (by omega)
      have no : ¬ (P i ∧ ((oy_sm i s t ≤ c.toInt) ↔ am = 1)) → ∀ k, k < i + 1 → (upd set i 0 k ≠ 0 ↔ (P k ∧ ((oy_sm k s t ≤ c.toInt) ↔ am = 1))) := by
        intro z k hk
        by_cases e : k = i
        · subst e; rw [pk_us]; exact ⟨fun y => absurd rfl y, fun y => absurd y z⟩
        · rw [pk_un e]; exact I k (by omega)
      refine br_f (nI_ge (b := 729) (by omega) (by decide)) ⟨inx, ?_⟩
      rw [e1]
      refine br_c (fun c0 => ⟨inx, nm_r (e' := upd set i 0) (by rw [oz_nar0]) (nm_r (nI_1 i) (ih (i + 1) _ x (by omega) (by omega) (no (fun z => (hP i (by omega)).mpr z.1 c0))))⟩) (fun c0 => ?_)
      have Pi := (hP i (by omega)).mp c0
      refine oy_sum (by omega) hs ht (fun r hr => ?_)
      have fin : ∀ z0 : Int32, (z0 = 0 ∨ z0 = 1) → ((oy_sm i s t ≤ c.toInt) ↔ z0 = 1) → wY_keep_44 post (wY_keep_3 post (nI s) (nI t) c am f_n f_limit f_size f_length f_begun f_runPoint f_runState x) (nI s) (nI t) c am (nI i) z0 (nI i) f_n f_limit f_size f_length f_begun f_runPoint f_runState a_program a_table a_empty a_waiting a_source set := by
        intro z0 hz hz2
        refine br_c (fun c1 => ⟨inx, ?_⟩) (fun c1 => ⟨inx, ?_⟩)
        · exact nm_r (e' := upd set i 1) (by rw [e1, oz_nar1]) (nm_r (nI_1 i) (ih (i + 1) _ x (by omega) (by omega) (yes ⟨Pi, by rw [← c1]; exact hz2⟩)))
        · refine nm_r (e' := upd set i 0) (by rw [e1, oz_nar0]) (nm_r (nI_1 i) (ih (i + 1) _ x (by omega) (by omega) (no (fun z => c1 ?_))))
          have w := hz2.symm.trans z.2
          rcases hz with rfl | rfl <;> rcases ha with rfl | rfl
          · rfl
          · exact absurd (w.mpr rfl) (by decide)
          · exact absurd (w.mp rfl) (by decide)
          · rfl
      refine br_c (fun c1 => fin 0 (Or.inl rfl) ?_) (fun c1 => fin 1 (Or.inr rfl) ?_)
      · rw [Int32.lt_iff_toInt_lt, hr] at c1
        exact ⟨fun z => by omega, fun z => absurd z (by decide)⟩
      · rw [Int32.lt_iff_toInt_lt, hr] at c1
        exact ⟨fun z => rfl, fun z => by omega⟩
  exact ⟨730, key 729 0 a_set 730 (by omega) (by omega) (fun k hk => absurd hk (Nat.not_lt_zero k))⟩
end
end
section
/-! makeHull, copyTable -/
/-- the best sum of the first k states of a set -/
def oy_bst (a : Nat → Int32) (s t k : Nat) (x : Int32) : Prop :=
  (x.toInt = -100 ∧ ∀ j, j < k → a j = 0) ∨ ((∃ j, j < k ∧ a j ≠ 0 ∧ x.toInt = oy_sm j s t) ∧ ∀ j, j < k → a j ≠ 0 → oy_sm j s t ≤ x.toInt)
theorem oy_m100 : (-100 : Int32).toInt = -100 := by decide
theorem oy_bst0 (a : Nat → Int32) (s t : Nat) : oy_bst a s t 0 (-100) := Or.inl ⟨oy_m100, fun j hj => absurd hj (Nat.not_lt_zero j)⟩
theorem oy_bst_no {a : Nat → Int32} {s t k : Nat} {x : Int32} (h : oy_bst a s t k x) (z : a k = 0) : oy_bst a s t (k + 1) x := by
  rcases h with ⟨h1, h2⟩ | ⟨⟨j, hj, h1⟩, h2⟩
  · refine Or.inl ⟨h1, fun j hj => ?_⟩
    by_cases e : j = k
    · subst e; exact z
    · exact h2 j (by omega)
  · refine Or.inr ⟨⟨j, by omega, h1⟩, fun i hi hz => ?_⟩
    by_cases e : i = k
    · subst e; exact absurd z hz
    · exact h2 i (by omega) hz
theorem oy_bst_le {a : Nat → Int32} {s t k : Nat} {x : Int32} (hk : k < 729) (h : oy_bst a s t k x) (z : a k ≠ 0) (c : oy_sm k s t ≤ x.toInt) : oy_bst a s t (k + 1) x := by
  have b := oy_smb hk s t
  rcases h with ⟨h1, h2⟩ | ⟨⟨j, hj, h1⟩, h2⟩
  · omega
  · refine Or.inr ⟨⟨j, by omega, h1⟩, fun i hi hz => ?_⟩
    by_cases e : i = k
    · subst e; exact c
    · exact h2 i (by omega) hz
theorem oy_bst_gt {a : Nat → Int32} {s t k : Nat} {x y : Int32} (h : oy_bst a s t k x) (z : a k ≠ 0) (c : ¬ oy_sm k s t ≤ x.toInt) (hy : y.toInt = oy_sm k s t) : oy_bst a s t (k + 1) y := by
  refine Or.inr ⟨⟨k, by omega, z, hy⟩, fun i hi hz => ?_⟩
  by_cases e : i = k
  · subst e; omega
  · rcases h with ⟨h1, h2⟩ | ⟨_, h2⟩
    · exact absurd (h2 i (by omega)) hz
    · have := h2 i (by omega) hz
      omega
abbrev oyJ1 : Type := Int32 → (Nat → Int32) → (Nat → Int32) → (Nat → Int32) → (Nat → Int32) → (Nat → Int32) → (Nat → Int32) → Prop
abbrev oyJ2 : Type := Int32 → Int32 → (Nat → Int32) → (Nat → Int32) → (Nat → Int32) → (Nat → Int32) → (Nat → Int32) → (Nat → Int32) → Prop
/-- the hull's cells so far -/
def oy_hI (n : Nat) (a t0 : Nat → Int32) (i j : Nat) (tb : Nat → Int32) : Prop :=
  (∀ s, s < 2 * n → ∀ t, t < 2 * n → (s < i ∨ s = i ∧ t < j) → oy_bst a s t 729 (tb (19 * 36 + s * 6 + t))) ∧ ∀ l, (l < 684 ∨ 720 ≤ l) → tb l = t0 l
section
variable {f_n f_limit f_size f_length f_begun f_runPoint f_runState : Int32} {a_program a_table a_empty a_waiting a_source a_set : Nat → Int32}
variable {post : SY → Prop}
theorem oy_hull70 {J42 J : oyJ1} {s t : Nat} (hs : s < 6) (ht : t < 6) (hJ : ∀ x, oy_bst a_set s t 729 x → J (nI (t + 1)) a_program (upd a_table (19 * 36 + s * 6 + t) x) a_empty a_waiting a_source a_set) :
    ∀ d i x m, i + d = 729 → d < m → oy_bst a_set s t i x → wY_makeHull_70 post J42 J (nI s) (nI t) f_n f_limit f_size f_length f_begun f_runPoint f_runState a_program a_table a_empty a_waiting a_source a_set m x (nI i) := by
  intro d
  induction d with
  | zero =>
    intro i x m hi hm I
    obtain ⟨y, rfl⟩ : ∃ y, m = y + 1 := ⟨m - 1, by omega⟩
    have ei : i = 729 := by omega
    subst ei
    refine br_t (nI_le (a := 729) (Nat.le_refl _) (by omega)) ?_
    exact ⟨pk_in (19 * 36 + s * 6 + t) 756 (by omega) (oz_i366 19 s t), nm_r (congrArg (fun i => upd a_table i x) (pk_cl (19 * 36 + s * 6 + t) (oz_i366 19 s t))) (nm_r (nI_1 t) (hJ x I))⟩
  | succ d ih =>
    intro i x m hi hm I
    obtain ⟨y, rfl⟩ : ∃ y, m = y + 1 := ⟨m - 1, by omega⟩
    have e1 : (nI i).toNatClampNeg = i := nI_clamp (by omega)
    refine br_f (nI_ge (b := 729) (by omega) (by decide)) ⟨pk_in i 729 (by omega), ?_⟩
    rw [e1]
    refine br_c (fun c => nm_r (nI_1 i) (ih (i + 1) x y (by omega) (by omega) (oy_bst_no I c))) (fun c => ?_)
    refine oy_sum (by omega) hs ht (fun r hr => ?_)
    refine br_c (fun c2 => ?_) (fun c2 => ?_)
    · rw [Int32.le_iff_toInt_le, hr] at c2
      exact nm_r (nI_1 i) (ih (i + 1) x y (by omega) (by omega) (oy_bst_le (by omega) I c c2))
    · rw [Int32.le_iff_toInt_le, hr] at c2
      refine oy_sum (by omega) hs ht (fun r2 hr2 => ?_)
      exact nm_r (nI_1 i) (ih (i + 1) r2 y (by omega) (by omega) (oy_bst_gt I c c2 hr2))
theorem oy_hull54 {J : oyJ1} {n i : Nat} (hn : n = 2 ∨ n = 3) (hi : i < 2 * n) {t0 : Nat → Int32} (hJ : ∀ tb, oy_hI n a_set t0 (i + 1) 0 tb → J (nI (i + 1)) a_program tb a_empty a_waiting a_source a_set) :
    ∀ d j tb m, j + d = 2 * n → d < m → oy_hI n a_set t0 i j tb → wY_makeHull_54 post J (nI i) (nI n) f_limit f_size f_length f_begun f_runPoint f_runState m (nI j) a_program tb a_empty a_waiting a_source a_set := by
  intro d
  induction d with
  | zero =>
    intro j tb m hj hm I
    obtain ⟨y, rfl⟩ : ∃ y, m = y + 1 := ⟨m - 1, by omega⟩
    have ej : j = 2 * n := by omega
    subst ej
    exact br_t (oy_le (Nat.le_refl _) (by omega)) (nm_r (nI_1 i) (hJ tb ⟨fun s hs t ht h => I.1 s hs t ht (by omega), I.2⟩))
  | succ d ih =>
    intro j tb m hj hm I
    obtain ⟨y, rfl⟩ : ∃ y, m = y + 1 := ⟨m - 1, by omega⟩
    refine br_f (oy_ge (by omega) (by omega)) ⟨730, oy_hull70 (by omega) (by omega) (fun x hx => ih (j + 1) _ y (by omega) (by omega) ⟨fun s hs t ht h => ?_, fun l hl => ?_⟩) 729 0 (-100) 730 (by omega) (by omega) (oy_bst0 _ _ _)⟩
    · by_cases e : s = i ∧ t = j
      · rw [e.1, e.2, pk_us]; exact hx
      · rw [pk_un (by omega)]; exact I.1 s hs t ht (by omega)
    · rw [pk_un (by omega)]; exact I.2 l hl
theorem oy_hull42 {n : Nat} (hn : n = 2 ∨ n = 3) {t0 : Nat → Int32} (h : ∀ tb, oy_hI n a_set t0 (2 * n) 0 tb → post (nI n, f_limit, f_size, f_length, f_begun, f_runPoint, f_runState, a_program, tb, a_empty, a_waiting, a_source, a_set)) :
    ∀ d i tb m, i + d = 2 * n → d < m → oy_hI n a_set t0 i 0 tb → wY_makeHull_42 post (nI n) f_limit f_size f_length f_begun f_runPoint f_runState m (nI i) a_program tb a_empty a_waiting a_source a_set := by
  intro d
  induction d with
  | zero =>
    intro i tb m hi hm I
    obtain ⟨y, rfl⟩ : ∃ y, m = y + 1 := ⟨m - 1, by omega⟩
    have ei : i = 2 * n := by omega
    subst ei
    exact br_t (oy_le (Nat.le_refl _) (by omega)) (h tb I)
  | succ d ih =>
    intro i tb m hi hm I
    obtain ⟨y, rfl⟩ : ∃ y, m = y + 1 := ⟨m - 1, by omega⟩
    exact br_f (oy_ge (by omega) (by omega)) ⟨2 * n + 1, oy_hull54 hn (by omega) (fun tb' I' => ih (i + 1) tb' y (by omega) (by omega) I') (2 * n) 0 tb (2 * n + 1) (by omega) (by omega) I⟩
/-- what makeHull does to the table and the empty flags -/
def oy_MH (n : Nat) (a e0 t0 e tb : Nat → Int32) : Prop :=
  (∀ q, q ≠ 19 → e q = e0 q) ∧ (e 19 = 1 ∧ (∀ k, k < 729 → a k = 0) ∨ e 19 = 0 ∧ (∃ k, k < 729 ∧ a k ≠ 0)) ∧
  (∀ s, s < 2 * n → ∀ t, t < 2 * n → oy_bst a s t 729 (tb (19 * 36 + s * 6 + t))) ∧ ∀ l, (l < 684 ∨ 720 ≤ l) → tb l = t0 l
theorem oy_makeHull {n : Nat} (hn : n = 2 ∨ n = 3) (h : ∀ e tb, oy_MH n a_set a_empty a_table e tb → post (nI n, f_limit, f_size, f_length, f_begun, f_runPoint, f_runState, a_program, tb, e, a_waiting, a_source, a_set)) : wpY_makeHull post (nI n, f_limit, f_size, f_length, f_begun, f_runPoint, f_runState, a_program, a_table, a_empty, a_waiting, a_source, a_set) := by
  have key : ∀ d i e m, i + d = 729 → d < m → (∀ q, q ≠ 19 → e q = a_empty q) → (e 19 = 1 ∧ (∀ k, k < i → a_set k = 0) ∨ e 19 = 0 ∧ (∃ k, k < 729 ∧ a_set k ≠ 0)) → wY_makeHull_10 post (nI n) f_limit f_size f_length f_begun f_runPoint f_runState m (nI i) a_program a_table e a_waiting a_source a_set := by
    intro d
    induction d with
    | zero =>
      intro i e m hi hm I1 I2
      obtain ⟨y, rfl⟩ : ∃ y, m = y + 1 := ⟨m - 1, by omega⟩
      have ei : i = 729 := by omega
      subst ei
      refine br_t (nI_le (a := 729) (Nat.le_refl _) (by omega)) ⟨2 * n + 1, ?_⟩
      exact oy_hull42 hn (t0 := a_table) (fun tb I => h e tb ⟨I1, I2, fun s hs t ht => I.1 s hs t ht (Or.inl hs), I.2⟩) (2 * n) 0 a_table (2 * n + 1) (by omega) (by omega) ⟨fun s hs t ht h => by omega, fun _ _ => rfl⟩
    | succ d ih =>
      intro i e m hi hm I1 I2
      obtain ⟨y, rfl⟩ : ∃ y, m = y + 1 := ⟨m - 1, by omega⟩
      have e1 : (nI i).toNatClampNeg = i := nI_clamp (by omega)
      refine br_f (nI_ge (b := 729) (by omega) (by decide)) ⟨pk_in i 729 (by omega), ?_⟩
      rw [e1]
      refine br_c (fun c => nm_r (nI_1 i) (ih (i + 1) e y (by omega) (by omega) I1 ?_)) (fun c => ?_)
      · rcases I2 with ⟨a, b⟩ | b
        · refine Or.inl ⟨a, fun k hk => ?_⟩
          by_cases z : k = i
          · subst z; exact c
          · exact b k (by omega)
        · exact Or.inr b
      · refine nm_r (e' := upd e 19 0) (by rw [oz_nar0]) (nm_r (nI_1 i) (ih (i + 1) _ y (by omega) (by omega) (fun q hq => ?_) (Or.inr ⟨pk_us, i, by omega, c⟩)))
        rw [pk_un hq]; exact I1 q hq
  refine nm_r (e' := upd a_empty 19 1) (by rw [oz_nar1]) ⟨730, key 729 0 _ 730 (by omega) (by omega) (fun q hq => pk_un hq) (Or.inl ⟨pk_us, fun k hk => absurd hk (Nat.not_lt_zero k)⟩)⟩
/-- what copyTable does -/
def oy_CT (p q : Nat) (t0 tb : Nat → Int32) (i : Nat) : Prop := (∀ j, j < i → tb (q * 36 + j) = t0 (p * 36 + j)) ∧ ∀ l, (l < q * 36 ∨ q * 36 + 36 ≤ l) → tb l = t0 l
theorem oy_copy {p q : Nat} (hp : p < 21) (hq : q < 21) (hpq : p ≠ q) (hb : a_empty p = 0 ∨ a_empty p = 1) (h : ∀ tb, oy_CT p q a_table tb 36 → post (f_n, f_limit, f_size, f_length, f_begun, f_runPoint, f_runState, a_program, tb, upd a_empty q (a_empty p), a_waiting, a_source, a_set)) : wpY_copyTable post (f_n, f_limit, f_size, f_length, f_begun, f_runPoint, f_runState, a_program, a_table, a_empty, a_waiting, a_source, a_set) (nI p) (nI q) := by
  have key : ∀ d i tb m, i + d = 36 → d < m → oy_CT p q a_table tb i → wY_copyTable_14 post (nI p) (nI q) f_n f_limit f_size f_length f_begun f_runPoint f_runState m (nI i) a_program tb (upd a_empty q (a_empty p)) a_waiting a_source a_set := by
    intro d
    induction d with
    | zero =>
      intro i tb m hi hm I
      obtain ⟨y, rfl⟩ : ∃ y, m = y + 1 := ⟨m - 1, by omega⟩
      have ei : i = 36 := by omega
      subst ei
      exact br_t (nI_le (a := 36) (Nat.le_refl _) (by omega)) (h tb I)
    | succ d ih =>
      intro i tb m hi hm I
      obtain ⟨y, rfl⟩ : ∃ y, m = y + 1 := ⟨m - 1, by omega⟩
      have e1 : (nI p * 36 + nI i).toNatClampNeg = p * 36 + i := pk_cl _ (oz_i36 p i)
      have e2 : (nI q * 36 + nI i).toNatClampNeg = q * 36 + i := pk_cl _ (oz_i36 q i)
      refine br_f (nI_ge (b := 36) (by omega) (by decide)) ⟨pk_in (p * 36 + i) 756 (by omega) (oz_i36 p i), pk_in (q * 36 + i) 756 (by omega) (oz_i36 q i), nm_r (e' := upd tb (q * 36 + i) (tb (p * 36 + i))) (by rw [e1, e2]) (nm_r (nI_1 i) (ih (i + 1) _ y (by omega) (by omega) ⟨fun j hj => ?_, fun l hl => ?_⟩))⟩
      · by_cases e : j = i
        · subst e; rw [pk_us]; exact I.2 _ (by omega)
        · rw [pk_un (by omega)]; exact I.1 j (by omega)
      · rw [pk_un (by omega)]; exact I.2 l hl
  have e1 : (nI p).toNatClampNeg = p := nI_clamp (by omega)
  have e2 : (nI q).toNatClampNeg = q := nI_clamp (by omega)
  refine ⟨pk_in p 21 hp, pk_in q 21 hq, nm_r (e' := upd a_empty q (a_empty p)) (by rw [e1, e2, (oz_b01 hb).2.2]) ⟨37, key 36 0 a_table 37 (by omega) (by omega) ⟨fun j hj => absurd hj (Nat.not_lt_zero j), fun _ _ => rfl⟩⟩⟩
/-! replaceConjunction -/
theorem oy_rep41 {post : Int32 → SY → Prop} {J : Int32 → Int32 → Prop} {n i : Nat} (hn : n = 2 ∨ n = 3) (hi : i < 2 * n) {b0 : Int32}
    (hJ : ∀ x, (x = b0 ∧ (∀ t, t < 2 * n → a_table (19 * 36 + i * 6 + t) = a_table (20 * 36 + i * 6 + t)) ∨ x = 0 ∧ (b0 = 0 ∨ ∃ s t, s < 2 * n ∧ t < 2 * n ∧ a_table (19 * 36 + s * 6 + t) ≠ a_table (20 * 36 + s * 6 + t))) → J x (nI (i + 1))) :
    ∀ d j x m, j + d = 2 * n → d < m → (x = b0 ∧ (∀ t, t < j → a_table (19 * 36 + i * 6 + t) = a_table (20 * 36 + i * 6 + t)) ∨ x = 0 ∧ (b0 = 0 ∨ ∃ s t, s < 2 * n ∧ t < 2 * n ∧ a_table (19 * 36 + s * 6 + t) ≠ a_table (20 * 36 + s * 6 + t))) → wY_replaceConjunction_41 post J (nI i) (nI n) f_limit f_size f_length f_begun f_runPoint f_runState a_program a_table a_empty a_waiting a_source a_set m x (nI j) := by
  intro d
  induction d with
  | zero =>
    intro j x m hj hm I
    obtain ⟨y, rfl⟩ : ∃ y, m = y + 1 := ⟨m - 1, by omega⟩
    have ej : j = 2 * n := by omega
    subst ej
    exact br_t (oy_le (Nat.le_refl _) (by omega)) (nm_r (nI_1 i) (hJ x I))
  | succ d ih =>
    intro j x m hj hm I
    obtain ⟨y, rfl⟩ : ∃ y, m = y + 1 := ⟨m - 1, by omega⟩
    have e1 : (19 * 36 + nI i * 6 + nI j).toNatClampNeg = 19 * 36 + i * 6 + j := pk_cl (19 * 36 + i * 6 + j) (oz_i366 19 i j)
    have e2 : (20 * 36 + nI i * 6 + nI j).toNatClampNeg = 20 * 36 + i * 6 + j := pk_cl (20 * 36 + i * 6 + j) (oz_i366 20 i j)
    refine br_f (oy_ge (by omega) (by omega)) ⟨pk_in (19 * 36 + i * 6 + j) 756 (by omega) (oz_i366 19 i j), pk_in (20 * 36 + i * 6 + j) 756 (by omega) (oz_i366 20 i j), ?_⟩
    rw [e1, e2]
    refine br_c (fun c => nm_r (nI_1 j) (ih (j + 1) x y (by omega) (by omega) ?_)) (fun c => nm_r (nI_1 j) (ih (j + 1) 0 y (by omega) (by omega) (Or.inr ⟨rfl, Or.inr ⟨i, j, hi, by omega, c⟩⟩)))
    rcases I with ⟨a, b⟩ | b
    · refine Or.inl ⟨a, fun t ht => ?_⟩
      by_cases e : t = j
      · subst e; exact c
      · exact b t (by omega)
    · exact Or.inr b
theorem oy_rep29 {post : Int32 → SY → Prop} {n : Nat} (hn : n = 2 ∨ n = 3) (he : a_empty 19 = 0 ∨ a_empty 19 = 1) {b0 : Int32}
    (h : ∀ x tb, (x = b0 ∧ (∀ s, s < 2 * n → ∀ t, t < 2 * n → a_table (19 * 36 + s * 6 + t) = a_table (20 * 36 + s * 6 + t)) ∨ x = 0 ∧ (b0 = 0 ∨ ∃ s t, s < 2 * n ∧ t < 2 * n ∧ a_table (19 * 36 + s * 6 + t) ≠ a_table (20 * 36 + s * 6 + t))) → oy_CT 19 20 a_table tb 36 →
      ((a_empty 19 = 0 → ((x = 0 → post 1 (nI n, f_limit, f_size, f_length, f_begun, f_runPoint, f_runState, a_program, tb, upd a_empty 20 (a_empty 19), a_waiting, a_source, a_set)) ∧ (¬ x = 0 → post 0 (nI n, f_limit, f_size, f_length, f_begun, f_runPoint, f_runState, a_program, tb, upd a_empty 20 (a_empty 19), a_waiting, a_source, a_set)))) ∧ (¬ a_empty 19 = 0 → post 98 (nI n, f_limit, f_size, f_length, f_begun, f_runPoint, f_runState, a_program, tb, upd a_empty 20 (a_empty 19), a_waiting, a_source, a_set)))) :
    ∀ d i x m, i + d = 2 * n → d < m → (x = b0 ∧ (∀ s, s < i → ∀ t, t < 2 * n → a_table (19 * 36 + s * 6 + t) = a_table (20 * 36 + s * 6 + t)) ∨ x = 0 ∧ (b0 = 0 ∨ ∃ s t, s < 2 * n ∧ t < 2 * n ∧ a_table (19 * 36 + s * 6 + t) ≠ a_table (20 * 36 + s * 6 + t))) → wY_replaceConjunction_29 post (nI n) f_limit f_size f_length f_begun f_runPoint f_runState a_program a_table a_empty a_waiting a_source a_set m x (nI i) := by
  intro d
  induction d with
  | zero =>
    intro i x m hi hm I
    obtain ⟨y, rfl⟩ : ∃ y, m = y + 1 := ⟨m - 1, by omega⟩
    have ei : i = 2 * n := by omega
    subst ei
    refine br_t (oy_le (Nat.le_refl _) (by omega)) ?_
    refine oy_copy (p := 19) (q := 20) (by decide) (by decide) (by decide) he (fun tb hc => ?_)
    exact h x tb I hc
  | succ d ih =>
    intro i x m hi hm I
    obtain ⟨y, rfl⟩ : ∃ y, m = y + 1 := ⟨m - 1, by omega⟩
    refine br_f (oy_ge (by omega) (by omega)) ⟨2 * n + 1, oy_rep41 (b0 := x) hn (by omega) (fun x' I' => ih (i + 1) x' y (by omega) (by omega) ?_) (2 * n) 0 x (2 * n + 1) (by omega) (by omega) (Or.inl ⟨rfl, fun t ht => absurd ht (Nat.not_lt_zero t)⟩)⟩
    rcases I' with ⟨a, b⟩ | ⟨a, b⟩
    · rcases I with ⟨a1, b1⟩ | ⟨a1, b1⟩
      · refine Or.inl ⟨a.trans a1, fun s hs t ht => ?_⟩
        by_cases e : s = i
        · subst e; exact b t ht
        · exact b1 s (by omega) t ht
      · exact Or.inr ⟨a.trans a1, b1⟩
    · rcases b with b | b
      · rcases I with ⟨a1, b1⟩ | ⟨a1, b1⟩
        · exact Or.inr ⟨a, Or.inl (a1.symm.trans b)⟩
        · exact Or.inr ⟨a, b1⟩
      · exact Or.inr ⟨a, Or.inr b⟩
end
end
section
/-! the reference's moves -/
theorem oy_inj {k l : Nat} (hk : k < 729) (hl : l < 729) (h : ∀ u, u < 3 → oy_v k u = oy_v l u) : k = l := by
  have h0 := h 0 (by decide)
  have h1 := h 1 (by decide)
  have h2 := h 2 (by decide)
  rw [oy_v0, oy_v0] at h0
  rw [oy_v1, oy_v1] at h1
  rw [oy_v2 (by decide) (by decide), oy_v2 (by decide) (by decide)] at h2
  omega
/-- k' is k with x for v -/
def oy_im (v : Nat) (x : Int) (k k' : Nat) : Prop := ∀ u, u < 3 → oy_v k' u = oc_u (oy_v k) v x u
theorem oy_im3 {v : Nat} {x : Int} {k k' : Nat} (h0 : oy_v k' 0 = oc_u (oy_v k) v x 0) (h1 : oy_v k' 1 = oc_u (oy_v k) v x 1) (h2 : oy_v k' 2 = oc_u (oy_v k) v x 2) : oy_im v x k k' := by
  intro u hu
  have hc : u = 0 ∨ u = 1 ∨ u = 2 := by omega
  rcases hc with rfl | rfl | rfl
  · exact h0
  · exact h1
  · exact h2
theorem oy_enc (a b c : Nat) (ha : a < 9) (hb : b < 9) (hc : c < 9) : a * 81 + b * 9 + c < 729 ∧ oy_v (a * 81 + b * 9 + c) 0 = (a : Int) - 4 ∧ oy_v (a * 81 + b * 9 + c) 1 = (b : Int) - 4 ∧ oy_v (a * 81 + b * 9 + c) 2 = (c : Int) - 4 := by
  rw [oy_v0, oy_v1, oy_v2 (by decide) (by decide)]
  omega
theorem oy_toN {x : Int32} {k : Nat} (hk : k < 1000) (h : x.toInt = (k : Int)) : x = nI k := by
  apply Int32.toInt_inj.mp
  rw [h, nI_toInt (by omega)]
/-- the image of a set of states, so far -/
def oy_iI (L : Nat) (P : Nat → Prop) (f : Nat → Int → Int) (v i : Nat) (x0 : Int) (set : Nat → Int32) : Prop :=
  ∀ k', k' < 729 → (set k' ≠ 0 ↔ ∃ k x, (k < i ∨ k = i ∧ x < x0) ∧ k < 729 ∧ P k ∧ (-(L : Int) ≤ x ∧ x ≤ L) ∧ (-(L : Int) ≤ f k x ∧ f k x ≤ L) ∧ oy_im v (f k x) k k')
theorem oy_iI_skip {L : Nat} {P : Nat → Prop} {f : Nat → Int → Int} {v i : Nat} {x0 : Int} {set : Nat → Int32} (I : oy_iI L P f v i x0 set) (h : ¬ (P i ∧ -(L : Int) ≤ f i x0 ∧ f i x0 ≤ L)) : oy_iI L P f v i (x0 + 1) set := by
  intro k' hk'
  rw [I k' hk']
  constructor
  · rintro ⟨k, x, a, b⟩
    exact ⟨k, x, by omega, b⟩
  · rintro ⟨k, x, a, b, c, d, e, g⟩
    by_cases z : k = i ∧ x = x0
    · obtain ⟨rfl, rfl⟩ := z
      exact absurd ⟨c, e⟩ h
    · exact ⟨k, x, by omega, b, c, d, e, g⟩
theorem oy_iI_put {L : Nat} {P : Nat → Prop} {f : Nat → Int → Int} {v i : Nat} {x0 : Int} {set : Nat → Int32} (I : oy_iI L P f v i x0 set) (hi : i < 729) (hP : P i) (hx : -(L : Int) ≤ x0 ∧ x0 ≤ L) (h : -(L : Int) ≤ f i x0 ∧ f i x0 ≤ L) {k1 : Nat} (h1 : k1 < 729) (hk1 : oy_im v (f i x0) i k1) : oy_iI L P f v i (x0 + 1) (upd set k1 1) := by
  intro k' hk'
  by_cases e : k' = k1
  · subst e
    rw [pk_us]
    exact ⟨fun _ => ⟨i, x0, by omega, hi, hP, hx, h, hk1⟩, fun _ => by decide⟩
  · rw [pk_un e, I k' hk']
    constructor
    · rintro ⟨k, x, a, b⟩
      exact ⟨k, x, by omega, b⟩
    · rintro ⟨k, x, a, b, c, d, e1, g⟩
      by_cases z : k = i ∧ x = x0
      · obtain ⟨rfl, rfl⟩ := z
        exact absurd (oy_inj hk' h1 (fun u hu => (g u hu).trans (hk1 u hu).symm)) e
      · exact ⟨k, x, by omega, b, c, d, e1, g⟩
theorem oy_iI_row {L : Nat} {P : Nat → Prop} {f : Nat → Int → Int} {v i : Nat} {set : Nat → Int32} (I : oy_iI L P f v i ((L : Int) + 1) set) : oy_iI L P f v (i + 1) (-(L : Int)) set := by
  intro k' hk'
  rw [I k' hk']
  constructor
  · rintro ⟨k, x, a, b⟩
    exact ⟨k, x, by omega, b⟩
  · rintro ⟨k, x, a, b, c, d, e⟩
    exact ⟨k, x, by omega, b, c, d, e⟩
theorem oy_iI_0 {L : Nat} {P : Nat → Prop} {f : Nat → Int → Int} {v : Nat} {set : Nat → Int32} (h : ∀ k, k < 729 → set k = 0) : oy_iI L P f v 0 (-(L : Int)) set := by
  intro k' hk'
  rw [h k' hk']
  constructor
  · intro z; exact absurd rfl z
  · rintro ⟨k, x, a, b, c, d, e⟩; omega
theorem oy_iI_end {L : Nat} {P : Nat → Prop} {f : Nat → Int → Int} {v : Nat} {set : Nat → Int32} (I : oy_iI L P f v 729 (-(L : Int)) set) :
    oy_Is set (fun k' => ∃ k x, k < 729 ∧ P k ∧ (-(L : Int) ≤ x ∧ x ≤ L) ∧ (-(L : Int) ≤ f k x ∧ f k x ≤ L) ∧ oy_im v (f k x) k k') := by
  intro k' hk'
  rw [I k' hk']
  constructor
  · rintro ⟨k, x, a, b⟩
    exact ⟨k, x, b⟩
  · rintro ⟨k, x, b⟩
    exact ⟨k, x, Or.inl b.1, b⟩
section
variable {f_n f_limit f_size f_length f_begun f_runPoint f_runState : Int32} {a_program a_table a_empty a_waiting a_source a_set : Nat → Int32}
theorem oy_move {post : Int32 → Prop} {k v : Nat} (hk : k < 729) (hv : v < 3) {x : Int32} (hx : -4 ≤ x.toInt ∧ x.toInt ≤ 4) (h : ∀ k', k' < 729 → oy_im v x.toInt k k' → post (nI k')) : wpY_move post (f_n, f_limit, f_size, f_length, f_begun, f_runPoint, f_runState, a_program, a_table, a_empty, a_waiting, a_source, a_set) (nI k) (nI v) x := by
  have ek : (nI k).toInt = k := nI_toInt (by omega)
  unfold wpY_move
  refine oy_value hk hv (fun r hr => ?_)
  have hb := oy_vb hk v
  have er := oz_sub (x := x) (y := r) (by omega) (by omega)
  refine pk_eq v 0 (fun e => ?_) (fun e => pk_eq v 1 (fun e1 => ?_) (fun e1 => ?_))
  · subst e
    rw [oy_v0] at hr
    obtain ⟨c, hc⟩ : ∃ c : Nat, (c : Int) = x.toInt + 4 := ⟨(x.toInt + 4).toNat, by omega⟩
    have em : ((x - r) * 81).toInt = (x.toInt - r.toInt) * 81 := oz_mul (by rw [er]; rfl) (by omega) (by omega)
    have ez : (nI k + (x - r) * 81).toInt = ((c * 81 + k / 9 % 9 * 9 + k % 9 : Nat) : Int) := by
      rw [oz_add (by omega) (by omega), em, ek]; omega
    obtain ⟨q1, q2, q3, q4⟩ := oy_enc c (k / 9 % 9) (k % 9) (by omega) (by omega) (by omega)
    rw [oy_toN (by omega) ez]
    refine h _ q1 (oy_im3 ?_ ?_ ?_)
    · rw [q2, oc_us]; omega
    · rw [q3, oc_un (by decide), oy_v1]
    · rw [q4, oc_un (by decide), oy_v2 (by decide) (by decide)]
  · subst e1
    rw [oy_v1] at hr
    obtain ⟨c, hc⟩ : ∃ c : Nat, (c : Int) = x.toInt + 4 := ⟨(x.toInt + 4).toNat, by omega⟩
    have em : ((x - r) * 9).toInt = (x.toInt - r.toInt) * 9 := oz_mul (by rw [er]; rfl) (by omega) (by omega)
    have ez : (nI k + (x - r) * 9).toInt = ((k / 81 * 81 + c * 9 + k % 9 : Nat) : Int) := by
      rw [oz_add (by omega) (by omega), em, ek]; omega
    obtain ⟨q1, q2, q3, q4⟩ := oy_enc (k / 81) c (k % 9) (by omega) (by omega) (by omega)
    rw [oy_toN (by omega) ez]
    refine h _ q1 (oy_im3 ?_ ?_ ?_)
    · rw [q2, oc_un (by decide), oy_v0]
    · rw [q3, oc_us]; omega
    · rw [q4, oc_un (by decide), oy_v2 (by decide) (by decide)]
  · have ev : v = 2 := by omega
    subst ev
    rw [oy_v2 (by decide) (by decide)] at hr
    obtain ⟨c, hc⟩ : ∃ c : Nat, (c : Int) = x.toInt + 4 := ⟨(x.toInt + 4).toNat, by omega⟩
    have em : ((x - r) * 1).toInt = (x.toInt - r.toInt) * 1 := oz_mul (by rw [er]; rfl) (by omega) (by omega)
    have ez : (nI k + (x - r) * 1).toInt = ((k / 81 * 81 + k / 9 % 9 * 9 + c : Nat) : Int) := by
      rw [oz_add (by omega) (by omega), em, ek]; omega
    obtain ⟨q1, q2, q3, q4⟩ := oy_enc (k / 81) (k / 9 % 9) c (by omega) (by omega) (by omega)
    rw [oy_toN (by omega) ez]
    refine h _ q1 (oy_im3 ?_ ?_ ?_)
    · rw [q2, oc_un (by decide), oy_v0]
    · rw [q3, oc_un (by decide), oy_v1]
    · rw [q4, oc_us]; omega
theorem oy_field {post : Int32 → Prop} {q len j : Nat} (hq : q < len) (hl : len ≤ 10) (hj : j ≤ 4) (h : post (a_program (q * 5 + j))) : wpY_field post (f_n, f_limit, f_size, nI len, f_begun, f_runPoint, f_runState, a_program, a_table, a_empty, a_waiting, a_source, a_set) (nI q) (nI j) := by
  refine br_f (nI_pos (by omega)) (br_f (nI_ge hq (by omega)) (br_f (nI_pos (by omega)) (br_t (nI_le (b := 4) hj (by decide)) ⟨pk_in (q * 5 + j) 50 (by omega) (oz_i5 q j), ?_⟩)))
  rw [pk_cl (q * 5 + j) (oz_i5 q j)]; exact h
theorem oy_assigned {post : Int32 → Prop} {q len k s : Nat} (hq : q < len) (hl : len ≤ 10) (hk : k < 729) (hs : s < 6 ∨ s = 8 ∨ s = 9) (p2 : a_program (q * 5 + 2) = nI s) (hc : -10 ≤ (a_program (q * 5 + 3)).toInt ∧ (a_program (q * 5 + 3)).toInt ≤ 10) {x : Int32}
    (h : ∀ r : Int32, r.toInt = oc_asg s (a_program (q * 5 + 3)).toInt (oy_v k) x.toInt → post r) : wpY_assigned post (f_n, f_limit, f_size, nI len, f_begun, f_runPoint, f_runState, a_program, a_table, a_empty, a_waiting, a_source, a_set) (nI q) (nI k) x := by
  unfold wpY_assigned
  refine oy_field (j := 2) hq hl (by decide) ?_
  refine oy_field (j := 3) hq hl (by decide) ?_
  rw [p2]
  rcases hs with hs | rfl | rfl
  · have ne8 : ¬ nI s = 8 := fun z => by
      have := (nI_eq (a := s) (b := 8) (by omega) (by omega)).mp z
      omega
    have ne9 : ¬ nI s = 9 := fun z => by
      have := (nI_eq (a := s) (b := 9) (by omega) (by omega)).mp z
      omega
    refine br_f ne9 (br_f ne8 ?_)
    refine oy_signed hk hs (fun r hr => h _ ?_)
    have hb := oy_gb hk s
    rw [oz_add (by omega) (by omega), hr, oc_asgN (by omega)]
  · exact br_f (by decide) (br_t rfl (h _ (oc_asg8 _ _ _).symm))
  · exact br_t rfl (h _ (oc_asg9 _ _ _).symm)
/-! forget -/
theorem oy_forget58 {post : Int32 → SY → Prop} {J : oyJ1} {L v i : Nat} (hL : L ≤ 4) (hv : v < 3) (hi : i < 729) {P : Nat → Prop} (hP : oy_Is a_source P)
    (hJ : ∀ set, oy_iI L P (fun _ x => x) v (i + 1) (-(L : Int)) set → J (nI (i + 1)) a_program a_table a_empty a_waiting a_source set) :
    ∀ (d : Nat) (x : Int32) (set : Nat → Int32) (m : Nat), x.toInt + d = L + 1 → -(L : Int) ≤ x.toInt → d < m → oy_iI L P (fun _ x => x) v i x.toInt set → wY_forget_58 post J (nI v) (nI i) f_n (nI L) f_size f_length f_begun f_runPoint f_runState m x a_program a_table a_empty a_waiting a_source set := by
  have eL : (nI L).toInt = L := nI_toInt (by omega)
  have e1 : (nI i).toNatClampNeg = i := nI_clamp (by omega)
  intro d
  induction d with
  | zero =>
    intro x set m hx hx2 hm I
    obtain ⟨y, rfl⟩ : ∃ y, m = y + 1 := ⟨m - 1, by omega⟩
    refine br_t (by rw [Int32.lt_iff_toInt_lt, eL]; omega) (nm_r (nI_1 i) (hJ set (oy_iI_row ?_)))
    have e : x.toInt = L + 1 := by omega
    rw [e] at I; exact I
  | succ d ih =>
    intro x set m hx hx2 hm I
    obtain ⟨y, rfl⟩ : ∃ y, m = y + 1 := ⟨m - 1, by omega⟩
    have ex : (x + 1).toInt = x.toInt + 1 := by rw [oz_add (by rw [oz_1]; omega) (by rw [oz_1]; omega), oz_1]
    refine br_f (by rw [Int32.lt_iff_toInt_lt, eL]; omega) ⟨pk_in i 729 hi, ?_⟩
    rw [e1]
    refine br_c (fun c => nm_e (ih (x + 1) set y (by omega) (by omega) (by omega) ?_)) (fun c => ?_)
    · rw [ex]; exact oy_iI_skip I (fun z => (hP i hi).mpr z.1 c)
    · refine oy_move hi hv ⟨by omega, by omega⟩ (fun k' hk' hm' => ⟨pk_in k' 729 hk', nm_r (e' := upd set k' 1) (by rw [nI_clamp (by omega), oz_nar1]) (nm_e (ih (x + 1) _ y (by omega) (by omega) (by omega) ?_))⟩)
      rw [ex]; exact oy_iI_put I hi ((hP i hi).mp c) ⟨hx2, by omega⟩ ⟨hx2, by omega⟩ hk' hm'
theorem oy_forgetL {post : Int32 → SY → Prop} {L v : Nat} (hL : L ≤ 4) (hv : v < 3) {P : Nat → Prop} (hP : oy_Is a_source P)
    (h : ∀ set, oy_Is set (fun k' => ∃ k x, k < 729 ∧ P k ∧ (-(L : Int) ≤ x ∧ x ≤ L) ∧ (-(L : Int) ≤ x ∧ x ≤ L) ∧ oy_im v x k k') → wpY_replaceConjunction post (f_n, nI L, f_size, f_length, f_begun, f_runPoint, f_runState, a_program, a_table, a_empty, a_waiting, a_source, set)) :
    ∃ m, wY_forget_23 post (nI v) f_n (nI L) f_size f_length f_begun f_runPoint f_runState m 0 a_program a_table a_empty a_waiting a_source a_set := by
  have key45 : ∀ d i set m, i + d = 729 → d < m → oy_iI L P (fun _ x => x) v i (-(L : Int)) set → wY_forget_45 post (nI v) f_n (nI L) f_size f_length f_begun f_runPoint f_runState m (nI i) a_program a_table a_empty a_waiting a_source set := by
    intro d
    induction d with
    | zero =>
      intro i set m hi hm I
      obtain ⟨y, rfl⟩ : ∃ y, m = y + 1 := ⟨m - 1, by omega⟩
      have ei : i = 729 := by omega
      subst ei
      exact br_t (nI_le (a := 729) (Nat.le_refl _) (by omega)) (h set (oy_iI_end I))
    | succ d ih =>
      intro i set m hi hm I
      obtain ⟨y, rfl⟩ : ∃ y, m = y + 1 := ⟨m - 1, by omega⟩
      have en : (-nI L).toInt = -(L : Int) := sb_negT (by omega)
      refine br_f (nI_ge (b := 729) (by omega) (by decide)) (nm_e ⟨2 * L + 2, oy_forget58 hL hv (by omega) hP (fun set' I' => ih (i + 1) set' y (by omega) (by omega) I') (2 * L + 1) (-nI L) set (2 * L + 2) ?_ ?_ (by omega) ?_⟩)
      · rw [en]; omega
      · rw [en]; omega
      · rw [en]; exact I
  have key23 : ∀ d i set m, i + d = 729 → d < m → (∀ k, k < i → set k = 0) → wY_forget_23 post (nI v) f_n (nI L) f_size f_length f_begun f_runPoint f_runState m (nI i) a_program a_table a_empty a_waiting a_source set := by
    intro d
    induction d with
    | zero =>
      intro i set m hi hm I
      obtain ⟨y, rfl⟩ : ∃ y, m = y + 1 := ⟨m - 1, by omega⟩
      have ei : i = 729 := by omega
      subst ei
      exact br_t (nI_le (a := 729) (Nat.le_refl _) (by omega)) ⟨730, key45 729 0 set 730 (by omega) (by omega) (oy_iI_0 I)⟩
    | succ d ih =>
      intro i set m hi hm I
      obtain ⟨y, rfl⟩ : ∃ y, m = y + 1 := ⟨m - 1, by omega⟩
      have e1 : (nI i).toNatClampNeg = i := nI_clamp (by omega)
      refine br_f (nI_ge (b := 729) (by omega) (by decide)) ⟨pk_in i 729 (by omega), nm_r (e' := upd set i 0) (by rw [e1, oz_nar0]) (nm_r (nI_1 i) (ih (i + 1) _ y (by omega) (by omega) (fun k hk => ?_)))⟩
      by_cases e : k = i
      · subst e; exact pk_us
      · rw [pk_un e]; exact I k (by omega)
  exact ⟨730, key23 729 0 a_set 730 (by omega) (by omega) (fun k hk => absurd hk (Nat.not_lt_zero k))⟩
/-! the image under an ASSIGN -/
theorem oy_prop173 {post : Int32 → SY → Prop} {J : oyJ1} {L v i q len s : Nat} (hL : L ≤ 4) (hv : v < 3) (hi : i < 729) (hq : q < len) (hl : len ≤ 10) (hs : s < 6 ∨ s = 8 ∨ s = 9) (p2 : a_program (q * 5 + 2) = nI s) (hc : -10 ≤ (a_program (q * 5 + 3)).toInt ∧ (a_program (q * 5 + 3)).toInt ≤ 10) {P : Nat → Prop} (hP : oy_Is a_source P)
    (hJ : ∀ set, oy_iI L P (fun k x => oc_asg s (a_program (q * 5 + 3)).toInt (oy_v k) x) v (i + 1) (-(L : Int)) set → J (nI (i + 1)) a_program a_table a_empty a_waiting a_source set) :
    ∀ (d : Nat) (x : Int32) (set : Nat → Int32) (m : Nat), x.toInt + d = L + 1 → -(L : Int) ≤ x.toInt → d < m → oy_iI L P (fun k x => oc_asg s (a_program (q * 5 + 3)).toInt (oy_v k) x) v i x.toInt set → wY_propagate_173 post J (nI q) (nI v) (nI i) f_n (nI L) f_size (nI len) f_begun f_runPoint f_runState m x a_program a_table a_empty a_waiting a_source set := by
  have eL : (nI L).toInt = L := nI_toInt (by omega)
  have e1 : (nI i).toNatClampNeg = i := nI_clamp (by omega)
  intro d
  induction d with
  | zero =>
    intro x set m hx hx2 hm I
    obtain ⟨y, rfl⟩ : ∃ y, m = y + 1 := ⟨m - 1, by omega⟩
    refine br_t (by rw [Int32.lt_iff_toInt_lt, eL]; omega) (nm_r (nI_1 i) (hJ set (oy_iI_row ?_)))
    have e : x.toInt = L + 1 := by omega
    rw [e] at I; exact I
  | succ d ih =>
    intro x set m hx hx2 hm I
    obtain ⟨y, rfl⟩ : ∃ y, m = y + 1 := ⟨m - 1, by omega⟩
    have ex : (x + 1).toInt = x.toInt + 1 := by rw [oz_add (by rw [oz_1]; omega) (by rw [oz_1]; omega), oz_1]
    refine br_f (by rw [Int32.lt_iff_toInt_lt, eL]; omega) ?_
    refine oy_assigned hq hl hi hs p2 hc (fun r hr => ⟨pk_in i 729 hi, ?_⟩)
    rw [e1]
    refine br_c (fun c => nm_e (ih (x + 1) set y (by omega) (by omega) (by omega) ?_)) (fun c => ?_)
    · rw [ex]; exact oy_iI_skip I (fun z => (hP i hi).mpr z.1 c)
    · refine oy_inRange hL r (fun r1 r2 => br_f (by decide) ?_) (fun r0 => br_t rfl (nm_e (ih (x + 1) set y (by omega) (by omega) (by omega) ?_)))
      · refine oy_move hi hv ⟨by omega, by omega⟩ (fun k' hk' hm' => ⟨pk_in k' 729 hk', nm_r (e' := upd set k' 1) (by rw [nI_clamp (by omega), oz_nar1]) (nm_e (ih (x + 1) _ y (by omega) (by omega) (by omega) ?_))⟩)
        rw [hr] at r1 r2 hm'
        rw [ex]; exact oy_iI_put I hi ((hP i hi).mp c) ⟨hx2, by omega⟩ ⟨r1, r2⟩ hk' hm'
      · rw [hr] at r0
        rw [ex]; exact oy_iI_skip I (fun z => r0 z.2)
theorem oy_propL {post : Int32 → SY → Prop} {L v q len s : Nat} (hL : L ≤ 4) (hv : v < 3) (hq : q < len) (hl : len ≤ 10) (hs : s < 6 ∨ s = 8 ∨ s = 9) (p2 : a_program (q * 5 + 2) = nI s) (hc : -10 ≤ (a_program (q * 5 + 3)).toInt ∧ (a_program (q * 5 + 3)).toInt ≤ 10) {P : Nat → Prop} (hP : oy_Is a_source P)
    (h : ∀ set, oy_Is set (fun k' => ∃ k x, k < 729 ∧ P k ∧ (-(L : Int) ≤ x ∧ x ≤ L) ∧ (-(L : Int) ≤ oc_asg s (a_program (q * 5 + 3)).toInt (oy_v k) x ∧ oc_asg s (a_program (q * 5 + 3)).toInt (oy_v k) x ≤ L) ∧ oy_im v (oc_asg s (a_program (q * 5 + 3)).toInt (oy_v k) x) k k') → wpY_deliver (fun u => post (nI q) u) (f_n, nI L, f_size, nI len, f_begun, f_runPoint, f_runState, a_program, a_table, a_empty, a_waiting, a_source, set) (nI (q + 1))) :
    ∃ m, wY_propagate_133 post (nI q) (nI v) f_n (nI L) f_size (nI len) f_begun f_runPoint f_runState m 0 a_program a_table a_empty a_waiting a_source a_set := by
  have key45 : ∀ d i set m, i + d = 729 → d < m → oy_iI L P (fun k x => oc_asg s (a_program (q * 5 + 3)).toInt (oy_v k) x) v i (-(L : Int)) set → wY_propagate_158 post (nI q) (nI v) f_n (nI L) f_size (nI len) f_begun f_runPoint f_runState m (nI i) a_program a_table a_empty a_waiting a_source set := by
    intro d
    induction d with
    | zero =>
      intro i set m hi hm I
      obtain ⟨y, rfl⟩ : ∃ y, m = y + 1 := ⟨m - 1, by omega⟩
      have ei : i = 729 := by omega
      subst ei
      refine br_t (nI_le (a := 729) (Nat.le_refl _) (by omega)) ?_
      have := h set (oy_iI_end I)
      rw [← nI_1] at this
      exact this
    | succ d ih =>
      intro i set m hi hm I
      obtain ⟨y, rfl⟩ : ∃ y, m = y + 1 := ⟨m - 1, by omega⟩
      have en : (-nI L).toInt = -(L : Int) := sb_negT (by omega)
      refine br_f (nI_ge (b := 729) (by omega) (by decide)) (nm_e ⟨2 * L + 2, oy_prop173 hL hv (by omega) hq hl hs p2 hc hP (fun set' I' => ih (i + 1) set' y (by omega) (by omega) I') (2 * L + 1) (-nI L) set (2 * L + 2) ?_ ?_ (by omega) ?_⟩)
      · rw [en]; omega
      · rw [en]; omega
      · rw [en]; exact I
  have key23 : ∀ d i set m, i + d = 729 → d < m → (∀ k, k < i → set k = 0) → wY_propagate_133 post (nI q) (nI v) f_n (nI L) f_size (nI len) f_begun f_runPoint f_runState m (nI i) a_program a_table a_empty a_waiting a_source set := by
    intro d
    induction d with
    | zero =>
      intro i set m hi hm I
      obtain ⟨y, rfl⟩ : ∃ y, m = y + 1 := ⟨m - 1, by omega⟩
      have ei : i = 729 := by omega
      subst ei
      exact br_t (nI_le (a := 729) (Nat.le_refl _) (by omega)) ⟨730, key45 729 0 set 730 (by omega) (by omega) (oy_iI_0 I)⟩
    | succ d ih =>
      intro i set m hi hm I
      obtain ⟨y, rfl⟩ : ∃ y, m = y + 1 := ⟨m - 1, by omega⟩
      have e1 : (nI i).toNatClampNeg = i := nI_clamp (by omega)
      refine br_f (nI_ge (b := 729) (by omega) (by decide)) ⟨pk_in i 729 (by omega), nm_r (e' := upd set i 0) (by rw [e1, oz_nar0]) (nm_r (nI_1 i) (ih (i + 1) _ y (by omega) (by omega) (fun k hk => ?_)))⟩
      by_cases e : k = i
      · subst e; exact pk_us
      · rw [pk_un e]; exact I k (by omega)
  exact ⟨730, key23 729 0 a_set 730 (by omega) (by omega) (fun k hk => absurd hk (Nat.not_lt_zero k))⟩
end
end
section
/-! the reference's other walks -/
/-- a branch that jumps back to q (or to itself) -/
def oy_hd (pr : Nat → Int32) (len q : Nat) : Prop := ∃ i, q ≤ i ∧ i < len ∧ pr (i * 5) = 1 ∧ pr (i * 5 + 4) = nI q
section
variable {f_n f_limit f_size f_length f_begun f_runPoint f_runState : Int32} {a_program a_table a_empty a_waiting a_source a_set : Nat → Int32}
variable {post : SY → Prop}
theorem oy_replace {post : Int32 → SY → Prop} {n : Nat} (hn : n = 2 ∨ n = 3) (hb : a_empty 20 = 0 ∨ a_empty 20 = 1)
    (h : ∀ e1 tb1 tb r, oy_MH n a_set a_empty a_table e1 tb1 → oy_CT 19 20 tb1 tb 36 →
      (e1 19 = 1 ∧ r = 98 ∨ e1 19 = 0 ∧ (r = 0 ∧ a_empty 20 = 0 ∧ (∀ s, s < 2 * n → ∀ t, t < 2 * n → tb1 (19 * 36 + s * 6 + t) = tb1 (20 * 36 + s * 6 + t)) ∨ r = 1 ∧ (a_empty 20 = 1 ∨ ∃ s t, s < 2 * n ∧ t < 2 * n ∧ tb1 (19 * 36 + s * 6 + t) ≠ tb1 (20 * 36 + s * 6 + t)))) →
      post r (nI n, f_limit, f_size, f_length, f_begun, f_runPoint, f_runState, a_program, tb, upd e1 20 (e1 19), a_waiting, a_source, a_set)) : wpY_replaceConjunction post (nI n, f_limit, f_size, f_length, f_begun, f_runPoint, f_runState, a_program, a_table, a_empty, a_waiting, a_source, a_set) := by
  unfold wpY_replaceConjunction
  refine oy_makeHull hn (fun e tb M => ?_)
  have h19 : e 19 = 0 ∨ e 19 = 1 := by
    rcases M.2.1 with z | z
    · exact Or.inr z.1
    · exact Or.inl z.1
  have e20 : e 20 = a_empty 20 := M.1 20 (by decide)
  have emp : e 19 = 1 → ∀ tb2, oy_CT 19 20 tb tb2 36 → ∀ x : Int32, ((e 19 = 0 → ((x = 0 → post 1 (nI n, f_limit, f_size, f_length, f_begun, f_runPoint, f_runState, a_program, tb2, upd e 20 (e 19), a_waiting, a_source, a_set)) ∧ (¬ x = 0 → post 0 (nI n, f_limit, f_size, f_length, f_begun, f_runPoint, f_runState, a_program, tb2, upd e 20 (e 19), a_waiting, a_source, a_set)))) ∧ (¬ e 19 = 0 → post 98 (nI n, f_limit, f_size, f_length, f_begun, f_runPoint, f_runState, a_program, tb2, upd e 20 (e 19), a_waiting, a_source, a_set))) := by
    intro z tb2 c x
    exact br_f (by rw [z]; decide) (h e tb tb2 98 M c (Or.inl ⟨z, rfl⟩))
  refine br_c (fun c => ?_) (fun c => ?_)
  · refine ⟨2 * n + 1, oy_rep29 (b0 := 1) hn h19 (fun x tb2 hx hc => ?_) (2 * n) 0 1 (2 * n + 1) (by omega) (by omega) (Or.inl ⟨rfl, fun s hs => absurd hs (Nat.not_lt_zero s)⟩)⟩
    rcases h19 with z | z
    · refine br_t z ?_
      rcases hx with ⟨rfl, hx⟩ | ⟨rfl, hx⟩
      · exact br_f (by decide) (h e tb tb2 0 M hc (Or.inr ⟨z, Or.inl ⟨rfl, by rw [← e20, ← c]; exact z, hx⟩⟩))
      · refine br_t rfl (h e tb tb2 1 M hc (Or.inr ⟨z, Or.inr ⟨rfl, Or.inr ?_⟩⟩))
        rcases hx with hx | hx
        · exact absurd hx (by decide)
        · exact hx
    · exact emp z tb2 hc x
  · refine ⟨2 * n + 1, oy_rep29 (b0 := 0) hn h19 (fun x tb2 hx hc => ?_) (2 * n) 0 0 (2 * n + 1) (by omega) (by omega) (Or.inl ⟨rfl, fun s hs => absurd hs (Nat.not_lt_zero s)⟩)⟩
    rcases h19 with z | z
    · have x0 : x = 0 := by
        rcases hx with hx | hx
        · exact hx.1
        · exact hx.1
      refine br_t z (br_t x0 (h e tb tb2 1 M hc (Or.inr ⟨z, Or.inr ⟨rfl, Or.inl ?_⟩⟩)))
      rcases hb with y | y
      · exact absurd (by rw [z, e20, y]) c
      · exact y
    · exact emp z tb2 hc x
theorem oy_wipe47 {n L : Nat} (hn : n = 2 ∨ n = 3) (hL : L ≤ 4)
    (k : ∀ set e tb1 tb, oy_Is set (oy_St n L) → oy_MH n set a_empty a_table e tb1 → oy_CT 19 20 tb1 tb 36 → post (nI n, nI L, f_size, f_length, f_begun, f_runPoint, f_runState, a_program, tb, upd e 20 (e 19), a_waiting, a_source, set)) :
    ∀ d i set m, i + d = 729 → d < m → (∀ j, j < i → (set j ≠ 0 ↔ oy_St n L j)) → wY_wipe_47 post (nI n) (nI L) f_size f_length f_begun f_runPoint f_runState m (nI i) a_program a_table a_empty a_waiting a_source set := by
  intro d
  induction d with
  | zero =>
    intro i set m hi hm I
    obtain ⟨y, rfl⟩ : ∃ y, m = y + 1 := ⟨m - 1, by omega⟩
    have ei : i = 729 := by omega
    subst ei
    refine br_t (nI_le (a := 729) (Nat.le_refl _) (by omega)) ?_
    refine oy_makeHull hn (fun e tb1 M => ?_)
    have h19 : e 19 = 0 ∨ e 19 = 1 := by
      rcases M.2.1 with z | z
      · exact Or.inr z.1
      · exact Or.inl z.1
    exact oy_copy (p := 19) (q := 20) (by decide) (by decide) (by decide) h19 (fun tb hc => k set e tb1 tb I M hc)
  | succ d ih =>
    intro i set m hi hm I
    obtain ⟨y, rfl⟩ : ∃ y, m = y + 1 := ⟨m - 1, by omega⟩
    have e1 : (nI i).toNatClampNeg = i := nI_clamp (by omega)
    refine br_f (nI_ge (b := 729) (by omega) (by decide)) ?_
    refine oy_isState hn hL (by omega) (fun z => ⟨pk_in i 729 (by omega), nm_r (e' := upd set i 1) (by rw [e1, oz_nar1]) (nm_r (nI_1 i) (ih (i + 1) _ y (by omega) (by omega) (fun j hj => ?_)))⟩) (fun z => ⟨pk_in i 729 (by omega), nm_r (e' := upd set i 0) (by rw [e1, oz_nar0]) (nm_r (nI_1 i) (ih (i + 1) _ y (by omega) (by omega) (fun j hj => ?_)))⟩)
    · by_cases e : j = i
      · subst e; rw [pk_us]; exact ⟨fun _ => z, fun _ => by decide⟩
      · rw [pk_un e]; exact I j (by omega)
    · by_cases e : j = i
      · subst e; rw [pk_us]; exact ⟨fun y => absurd rfl y, fun y => absurd y z⟩
      · rw [pk_un e]; exact I j (by omega)
theorem oy_wipe {n L sz : Nat} (hn : n = 2 ∨ n = 3) (hL : L ≤ 4) (hz : sz ≤ 10)
    (k : ∀ e1 wt set e tb1 tb, (∀ j, j ≤ sz → e1 j = 1) → (∀ j, j ≤ sz → wt j = 0) → oy_Is set (oy_St n L) → oy_MH n set e1 a_table e tb1 → oy_CT 19 20 tb1 tb 36 → post (nI n, nI L, nI sz, 0, 0, (-1), f_runState, a_program, tb, upd e 20 (e 19), wt, a_source, set)) :
    wpY_wipe post (nI n, nI L, nI sz, f_length, f_begun, f_runPoint, f_runState, a_program, a_table, a_empty, a_waiting, a_source, a_set) := by
  have key : ∀ d i e1 wt m, i + d = sz + 1 → d < m → (∀ j, j < i → e1 j = 1) → (∀ j, j < i → wt j = 0) → wY_wipe_17 post (nI n) (nI L) (nI sz) 0 0 (-1) f_runState m (nI i) a_program a_table e1 wt a_source a_set := by
    intro d
    induction d with
    | zero =>
      intro i e1 wt m hi hm I1 I2
      obtain ⟨y, rfl⟩ : ∃ y, m = y + 1 := ⟨m - 1, by omega⟩
      refine br_t (nI_lt (by omega) (by omega)) ⟨730, ?_⟩
      exact oy_wipe47 hn hL (fun set e tb1 tb a b c => k e1 wt set e tb1 tb (fun j hj => I1 j (by omega)) (fun j hj => I2 j (by omega)) a b c) 729 0 a_set 730 (by omega) (by omega) (fun j hj => absurd hj (Nat.not_lt_zero j))
    | succ d ih =>
      intro i e1 wt m hi hm I1 I2
      obtain ⟨y, rfl⟩ : ∃ y, m = y + 1 := ⟨m - 1, by omega⟩
      have ec : (nI i).toNatClampNeg = i := nI_clamp (by omega)
      refine br_f (nI_nlt (by omega) (by omega)) ⟨pk_in i 21 (by omega), nm_r (e' := upd e1 i 1) (by rw [ec, oz_nar1]) ⟨pk_in i 21 (by omega), nm_r (e' := upd wt i 0) (by rw [ec, oz_nar0]) (nm_r (nI_1 i) (ih (i + 1) _ _ y (by omega) (by omega) (fun j hj => ?_) (fun j hj => ?_)))⟩⟩
      · by_cases e : j = i
        · subst e; exact pk_us
        · rw [pk_un e]; exact I1 j (by omega)
      · by_cases e : j = i
        · subst e; exact pk_us
        · rw [pk_un e]; exact I2 j (by omega)
  exact ⟨sz + 2, key (sz + 1) 0 a_empty a_waiting (sz + 2) (by omega) (by omega) (fun j hj => absurd hj (Nat.not_lt_zero j)) (fun j hj => absurd hj (Nat.not_lt_zero j))⟩
theorem oy_begin {post : Int32 → SY → Prop} {sz len : Nat} (hz : sz ≤ 10) (hl : len ≤ 10) (hb : a_empty 20 = 0 ∨ a_empty 20 = 1)
    (k1 : a_empty 20 = 0 → ∀ e1 wt tb, (∀ j, j ≤ sz → e1 j = 1) → e1 20 = a_empty 20 → (∀ j, j ≤ sz → wt j = 0) → oy_CT 20 0 a_table tb 36 → post 1 (f_n, f_limit, nI sz, nI len, 1, (-1), f_runState, a_program, tb, upd e1 0 0, upd wt 0 (if 0 < len then 1 else 0), a_source, a_set))
    (k0 : a_empty 20 = 1 → ∀ e1 wt tb, (∀ j, j ≤ sz → e1 j = 1) → e1 20 = a_empty 20 → (∀ j, j ≤ sz → wt j = 0) → oy_CT 20 0 a_table tb 36 → post 0 (f_n, f_limit, nI sz, nI len, 1, (-1), f_runState, a_program, tb, upd e1 0 1, upd wt 0 0, a_source, a_set)) :
    wpY_begin post (f_n, f_limit, nI sz, nI len, f_begun, f_runPoint, f_runState, a_program, a_table, a_empty, a_waiting, a_source, a_set) := by
  have key : ∀ d i e1 wt m, i + d = sz + 1 → d < m → (∀ j, j < i → e1 j = 1) → e1 20 = a_empty 20 → (∀ j, j < i → wt j = 0) → wY_begin_12 post f_n f_limit (nI sz) (nI len) 1 (-1) f_runState m (nI i) a_program a_table e1 wt a_source a_set := by
    intro d
    induction d with
    | zero =>
      intro i e1 wt m hi hm I1 I3 I2
      obtain ⟨y, rfl⟩ : ∃ y, m = y + 1 := ⟨m - 1, by omega⟩
      refine br_t (nI_lt (by omega) (by omega)) ?_
      refine oy_copy (p := 20) (q := 0) (by decide) (by decide) (by decide) (by rw [I3]; exact hb) (fun tb hc => ?_)
      have u0 : upd e1 0 (e1 20) 0 = e1 20 := pk_us
      rcases hb with z | z
      · have e0 : upd e1 0 (e1 20) 0 = 0 := by rw [u0, I3, z]
        have e0' : upd e1 0 (e1 20) = upd e1 0 0 := by rw [I3, z]
        refine br_t e0 (pk_le len 0 (fun c => ?_) (fun c => ?_))
        · have h := k1 z e1 wt tb (fun j hj => I1 j (by omega)) I3 (fun j hj => I2 j (by omega)) hc
          rw [if_neg (by omega), ← e0'] at h
          exact ⟨pk_in 0 21 (by decide), nm_r (e' := upd wt 0 0) (congrArg (upd wt 0) oz_nar0) (br_t e0 h)⟩
        · have h := k1 z e1 wt tb (fun j hj => I1 j (by omega)) I3 (fun j hj => I2 j (by omega)) hc
          rw [if_pos c, ← e0'] at h
          exact ⟨pk_in 0 21 (by decide), nm_r (e' := upd wt 0 1) (congrArg (upd wt 0) oz_nar1) (br_t e0 h)⟩
      · have e0 : ¬ upd e1 0 (e1 20) 0 = 0 := by rw [u0, I3, z]; decide
        have e0' : upd e1 0 (e1 20) = upd e1 0 1 := by rw [I3, z]
        have h := k0 z e1 wt tb (fun j hj => I1 j (by omega)) I3 (fun j hj => I2 j (by omega)) hc
        rw [← e0'] at h
        exact br_f e0 ⟨pk_in 0 21 (by decide), nm_r (e' := upd wt 0 0) (congrArg (upd wt 0) oz_nar0) (br_f e0 h)⟩
    | succ d ih =>
      intro i e1 wt m hi hm I1 I3 I2
      obtain ⟨y, rfl⟩ : ∃ y, m = y + 1 := ⟨m - 1, by omega⟩
      have ec : (nI i).toNatClampNeg = i := nI_clamp (by omega)
      refine br_f (nI_nlt (by omega) (by omega)) ⟨pk_in i 21 (by omega), nm_r (e' := upd e1 i 1) (by rw [ec, oz_nar1]) ⟨pk_in i 21 (by omega), nm_r (e' := upd wt i 0) (by rw [ec, oz_nar0]) (nm_r (nI_1 i) (ih (i + 1) _ _ y (by omega) (by omega) (fun j hj => ?_) ?_ (fun j hj => ?_)))⟩⟩
      · by_cases e : j = i
        · subst e; exact pk_us
        · rw [pk_un e]; exact I1 j (by omega)
      · rw [pk_un (by omega)]; exact I3
      · by_cases e : j = i
        · subst e; exact pk_us
        · rw [pk_un e]; exact I2 j (by omega)
  exact ⟨sz + 2, key (sz + 1) 0 a_empty a_waiting (sz + 2) (by omega) (by omega) (fun j hj => absurd hj (Nat.not_lt_zero j)) rfl (fun j hj => absurd hj (Nat.not_lt_zero j))⟩
theorem oy_isHead {post : Int32 → Prop} {len q : Nat} (hl : len ≤ 10) (hq : q ≤ 10) (h1 : oy_hd a_program len q → post 1) (h0 : ¬ oy_hd a_program len q → post 0) : wpY_isLoopHead post (f_n, f_limit, f_size, nI len, f_begun, f_runPoint, f_runState, a_program, a_table, a_empty, a_waiting, a_source, a_set) (nI q) := by
  have key : ∀ d i m, i + d = max q len → d < m → q ≤ i → (∀ j, q ≤ j → j < i → ¬ (a_program (j * 5) = 1 ∧ a_program (j * 5 + 4) = nI q)) → wY_isLoopHead_2 post (nI q) f_n f_limit f_size (nI len) f_begun f_runPoint f_runState a_program a_table a_empty a_waiting a_source a_set m (nI i) := by
    intro d
    induction d with
    | zero =>
      intro i m hi hm hqi I
      obtain ⟨y, rfl⟩ : ∃ y, m = y + 1 := ⟨m - 1, by omega⟩
      refine br_t (nI_le (by omega) (by omega)) (h0 ?_)
      rintro ⟨j, a, b, c⟩
      exact I j a (by omega) c
    | succ d ih =>
      intro i m hi hm hqi I
      obtain ⟨y, rfl⟩ : ∃ y, m = y + 1 := ⟨m - 1, by omega⟩
      have hil : i < len := by omega
      have nx : ¬ (a_program (i * 5) = 1 ∧ a_program (i * 5 + 4) = nI q) → ∀ j, q ≤ j → j < i + 1 → ¬ (a_program (j * 5) = 1 ∧ a_program (j * 5 + 4) = nI q) := by
        intro z j a b
        by_cases e : j = i
        · subst e; exact z
        · exact I j a (by omega)
      refine br_f (nI_ge hil (by omega)) ?_
      refine oy_field (j := 0) hil hl (by decide) ?_
      refine br_c (fun c => ?_) (fun c => nm_r (nI_1 i) (ih (i + 1) y (by omega) (by omega) (by omega) (nx (fun z => c z.1))))
      refine oy_field (j := 4) hil hl (by decide) ?_
      exact br_c (fun c2 => h1 ⟨i, hqi, hil, c, c2⟩) (fun c2 => nm_r (nI_1 i) (ih (i + 1) y (by omega) (by omega) (by omega) (nx (fun z => c2 z.2))))
  exact ⟨max q len + 1, key (max q len - q) q (max q len + 1) (by omega) (by omega) (Nat.le_refl _) (fun j a b => by omega)⟩
theorem oy_fl {A B : Prop} {s t : Nat} (hs : s < 6) (ht : t < 6) (f : s = oc_n t → A) (g : s ≠ oc_n t → B) : (nI s ^^^ 1 = nI t → A) ∧ (¬ nI s ^^^ 1 = nI t → B) := by
  have h6 := oc_nlt (N := 6) (by decide) hs
  refine pk_eq (oc_n s) t (fun e => f ?_) (fun e => g (fun z => e ?_)) (oz_xor hs) rfl
  · rw [← e, oc_nn]
  · rw [z, oc_nn]
theorem oy_del61 {J : oyJ2} {n L q i : Nat} (hn : n = 2 ∨ n = 3) (hL : L ≤ 4) (hq : q < 11) (hi : i < 2 * n) {hd b0 : Int32} {s0 : Nat → Int32}
    (hJ : ∀ x2 st, ox_mI b0 (2 * n) q hd L (fun j => s0 (684 + j)) s0 (i + 1) 0 x2 st → J x2 (nI (i + 1)) a_program st a_empty a_waiting a_source a_set) :
    ∀ d j x2 st m, j + d = 2 * n → d < m → ox_mI b0 (2 * n) q hd L (fun j => s0 (684 + j)) s0 i j x2 st → wY_deliver_61 post J (nI q) hd (nI i) (nI n) (nI L) f_size f_length f_begun f_runPoint f_runState m x2 (nI j) a_program st a_empty a_waiting a_source a_set := by
  intro d
  induction d with
  | zero =>
    intro j x2 st m hj hm I
    obtain ⟨y, rfl⟩ : ∃ y, m = y + 1 := ⟨m - 1, by omega⟩
    have ej : j = 2 * n := by omega
    subst ej
    exact br_t (oy_le (Nat.le_refl _) (by omega)) (nm_r (nI_1 i) (hJ x2 st (ox_mI_row I)))
  | succ d ih =>
    intro j x2 st m hj hm I
    obtain ⟨y, rfl⟩ : ∃ y, m = y + 1 := ⟨m - 1, by omega⟩
    have hjN : j < 2 * n := by omega
    have eq : (nI (q * 36 + i * 6 + j)).toNatClampNeg = q * 36 + i * 6 + j := nI_clamp (by omega)
    have e19 : (19 * 36 + nI i * 6 + nI j).toNatClampNeg = 684 + (i * 6 + j) := (pk_cl (19 * 36 + i * 6 + j) (oz_i366 19 i j)).trans (by omega)
    have old : st (q * 36 + i * 6 + j) = s0 (q * 36 + i * 6 + j) := by rw [I.1 i hi j hjN, if_neg (by omega)]
    have o19 : st (684 + (i * 6 + j)) = s0 (684 + (i * 6 + j)) := I.2.1 _ (by omega)
    have inx : vp_in (nI (q * 36 + i * 6 + j)) 756 := vp_in_nI (by omega) (by decide)
    have fin : ∀ z0 : Int32, z0 = ox_full L i j → ∀ x6 x7 : Int32, x6 = s0 (684 + (i * 6 + j)) → x7 = nI (q * 36 + i * 6 + j) → wY_deliver_119 post J (wY_deliver_61 post J (nI q) hd (nI i) (nI n) (nI L) f_size f_length f_begun f_runPoint f_runState y) (nI q) x2 hd (nI i) (nI j) x6 x7 z0 (nI n) (nI L) f_size f_length f_begun f_runPoint f_runState a_program st a_empty a_waiting a_source a_set := by
      intro z0 hz0 x6 x7 h6 h7
      subst h7
      refine ⟨inx, ?_⟩
      rw [eq, old, h6]
      refine br_c (fun c => ?_) (fun c => br_c (fun c2 => ?_) (fun c2 => ?_))
      · exact nm_r (nI_1 j) (ih (j + 1) x2 st y (by omega) (by omega) (ox_mI_skip I c))
      · exact ⟨inx, nm_e (nm_r (nI_1 j) (ih (j + 1) 1 _ y (by omega) (by omega) (ox_mI_put (by omega) hi hjN I c (by rw [if_pos c2]))))⟩
      · exact ⟨inx, nm_e (nm_r (nI_1 j) (ih (j + 1) 1 _ y (by omega) (by omega) (ox_mI_put (by omega) hi hjN I c (by rw [if_neg c2]; exact hz0))))⟩
    refine br_f (oy_ge (by omega) hjN) ⟨pk_in (19 * 36 + i * 6 + j) 756 (by omega) (oz_i366 19 i j), ?_⟩
    refine nm_r (e' := s0 (684 + (i * 6 + j))) (by rw [e19, o19]) ?_
    refine oy_fl (by omega) (by omega) (fun c => fin 0 ?_ _ _ rfl (oz_i366 q i j)) (fun c => fin (2 * nI L) ?_ _ _ rfl (oz_i366 q i j))
    · rw [ox_full, if_pos c]
    · rw [ox_full, if_neg c, oz_d2]
theorem oy_del38 {n L q len : Nat} (hn : n = 2 ∨ n = 3) (hL : L ≤ 4) (hq : q < 11) (hl : len ≤ 10) {hd b0 : Int32} (hhd : (hd = 1 ∧ oy_hd a_program len q) ∨ (hd = 0 ∧ ¬ oy_hd a_program len q))
    (k : ∀ x2 st, ox_mI b0 (2 * n) q hd L (fun j => a_table (684 + j)) a_table (2 * n) 0 x2 st → (x2 = 0 → post (nI n, nI L, f_size, nI len, f_begun, f_runPoint, f_runState, a_program, st, a_empty, a_waiting, a_source, a_set)) ∧ (¬ x2 = 0 → post (nI n, nI L, f_size, nI len, f_begun, f_runPoint, f_runState, a_program, st, a_empty, ox_wt len q a_waiting, a_source, a_set))) :
    wY_deliver_38 post (nI q) b0 (nI n) (nI L) f_size (nI len) f_begun f_runPoint f_runState a_program a_table a_empty a_waiting a_source a_set := by
  have key : ∀ d i x2 st m, i + d = 2 * n → d < m → ox_mI b0 (2 * n) q hd L (fun j => a_table (684 + j)) a_table i 0 x2 st → wY_deliver_47 post (nI q) hd (nI n) (nI L) f_size (nI len) f_begun f_runPoint f_runState m x2 (nI i) a_program st a_empty a_waiting a_source a_set := by
    intro d
    induction d with
    | zero =>
      intro i x2 st m hi hm I
      obtain ⟨y, rfl⟩ : ∃ y, m = y + 1 := ⟨m - 1, by omega⟩
      have ei : i = 2 * n := by omega
      subst ei
      refine br_t (oy_le (Nat.le_refl _) (by omega)) ⟨(k x2 st I).1, fun c => ?_⟩
      have h := (k x2 st I).2 c
      refine pk_le len q (fun c2 => ?_) (fun c2 => ?_)
      · rw [ox_wt, if_neg (by omega)] at h; exact h
      · rw [ox_wt, if_pos c2] at h
        exact ⟨pk_in q 21 (by omega), nm_r (e' := upd a_waiting q 1) (by rw [nI_clamp (by omega), oz_nar1]) h⟩
    | succ d ih =>
      intro i x2 st m hi hm I
      obtain ⟨y, rfl⟩ : ∃ y, m = y + 1 := ⟨m - 1, by omega⟩
      exact br_f (oy_ge (by omega) (by omega)) ⟨2 * n + 1, oy_del61 hn hL hq (by omega) (fun x2 st I' => ih (i + 1) x2 st y (by omega) (by omega) I') (2 * n) 0 x2 st (2 * n + 1) (by omega) (by omega) I⟩
  unfold wY_deliver_38
  refine oy_isHead hl (by omega) (fun z => ?_) (fun z => ?_)
  · have e : hd = 1 := by
      rcases hhd with y | y
      · exact y.1
      · exact absurd z y.2
    subst e
    exact ⟨2 * n + 1, key (2 * n) 0 b0 a_table (2 * n + 1) (by omega) (by omega) ox_mI_0⟩
  · have e : hd = 0 := by
      rcases hhd with y | y
      · exact absurd y.2 z
      · exact y.1
    subst e
    exact ⟨2 * n + 1, key (2 * n) 0 b0 a_table (2 * n + 1) (by omega) (by omega) ox_mI_0⟩
theorem oy_deliver {n L q len : Nat} (hn : n = 2 ∨ n = 3) (hL : L ≤ 4) (hq : q < 11) (hl : len ≤ 10) (hbq : a_empty q = 0 ∨ a_empty q = 1) {hd : Int32} (hhd : (hd = 1 ∧ oy_hd a_program len q) ∨ (hd = 0 ∧ ¬ oy_hd a_program len q))
    (kE : ∀ e tb, oy_MH n a_set a_empty a_table e tb → e 19 = 1 → post (nI n, nI L, f_size, nI len, f_begun, f_runPoint, f_runState, a_program, tb, e, a_waiting, a_source, a_set))
    (kV : ∀ e tb1 tb, oy_MH n a_set a_empty a_table e tb1 → e 19 = 0 → a_empty q = 1 → oy_CT 19 q tb1 tb 36 → post (nI n, nI L, f_size, nI len, f_begun, f_runPoint, f_runState, a_program, tb, upd e q 0, ox_wt len q a_waiting, a_source, a_set))
    (k0 : ∀ e tb, oy_MH n a_set a_empty a_table e tb → e 19 = 0 → a_empty q = 0 → (∀ s, s < 2 * n → ∀ t, t < 2 * n → tb (684 + (s * 6 + t)) ≤ tb (q * 36 + s * 6 + t)) → post (nI n, nI L, f_size, nI len, f_begun, f_runPoint, f_runState, a_program, tb, e, a_waiting, a_source, a_set))
    (k1 : ∀ e tb1 tb, oy_MH n a_set a_empty a_table e tb1 → e 19 = 0 → a_empty q = 0 → (∃ s t, s < 2 * n ∧ t < 2 * n ∧ ¬ tb1 (684 + (s * 6 + t)) ≤ tb1 (q * 36 + s * 6 + t)) → (∀ s, s < 2 * n → ∀ t, t < 2 * n → tb (q * 36 + s * 6 + t) = ox_mg hd L (tb1 (684 + (s * 6 + t))) (tb1 (q * 36 + s * 6 + t)) s t) → (∀ l, (l < q * 36 ∨ q * 36 + 36 ≤ l) → tb l = tb1 l) →
      post (nI n, nI L, f_size, nI len, f_begun, f_runPoint, f_runState, a_program, tb, e, ox_wt len q a_waiting, a_source, a_set)) :
    wpY_deliver post (nI n, nI L, f_size, nI len, f_begun, f_runPoint, f_runState, a_program, a_table, a_empty, a_waiting, a_source, a_set) (nI q) := by
  have ec : (nI q).toNatClampNeg = q := nI_clamp (by omega)
  unfold wpY_deliver
  refine oy_makeHull hn (fun e tb M => ?_)
  have eq : e q = a_empty q := M.1 q (by omega)
  rcases M.2.1 with ⟨z, -⟩ | ⟨z, -⟩
  · exact br_f (by rw [z]; decide) (kE e tb M z)
  · refine br_t z ⟨pk_in q 21 (by omega), ?_⟩
    rw [ec]
    refine nm_r eq ⟨pk_in q 21 (by omega), ?_⟩
    rw [eq]
    refine br_c (fun c => ?_) (fun c => ?_)
    · refine oy_del38 hn hL hq hl hhd (fun x2 st I => ?_)
      obtain ⟨a, b, d⟩ := I
      rcases d with ⟨rfl, rfl, d⟩ | ⟨rfl, d⟩
      · exact ⟨fun _ => k0 e _ M z c (fun s hs t ht => d s hs t ht (Or.inl hs)), fun y => absurd c y⟩
      · exact ⟨fun y => absurd y (by decide), fun _ => k1 e tb st M z c d (fun s hs t ht => by rw [a s hs t ht, if_pos (Or.inl hs)]) b⟩
    · have c1 : a_empty q = 1 := hbq.resolve_left c
      refine oy_copy (p := 19) (q := q) (by decide) (by omega) (by omega) (Or.inl z) (fun tb2 hc => ?_)
      refine oy_del38 hn hL hq hl hhd (fun x2 st I => ?_)
      obtain ⟨a, b, d⟩ := I
      have same : ∀ s, s < 2 * n → ∀ t, t < 2 * n → tb2 (684 + (s * 6 + t)) ≤ tb2 (q * 36 + s * 6 + t) := by
        intro s hs t ht
        rw [Nat.add_assoc (q * 36), hc.1 _ (by omega), hc.2 _ (by omega)]
        exact Int32.le_refl _
      rcases d with ⟨rfl, rfl, d⟩ | ⟨rfl, s, t, hs, ht, d⟩
      · refine ⟨fun y => absurd y c, fun _ => ?_⟩
        have := kV e tb _ M z c1 hc
        rw [← z] at this
        exact this
      · exact absurd (same s hs t ht) d
/-! bound, verdict, least -/
theorem oy_bound39 {post : Int32 → SY → Prop} {s t : Nat} (hs : s < 6) (ht : t < 6) (h : ∀ x, oy_bst a_source s t 729 x → (x = -100 → post 98 (f_n, f_limit, f_size, f_length, f_begun, f_runPoint, f_runState, a_program, a_table, a_empty, a_waiting, a_source, a_set)) ∧ (¬ x = -100 → post x (f_n, f_limit, f_size, f_length, f_begun, f_runPoint, f_runState, a_program, a_table, a_empty, a_waiting, a_source, a_set))) :
    ∀ d i x m, i + d = 729 → d < m → oy_bst a_source s t i x → wY_bound_39 post (nI s) (nI t) f_n f_limit f_size f_length f_begun f_runPoint f_runState a_program a_table a_empty a_waiting a_source a_set m x (nI i) := by
  intro d
  induction d with
  | zero =>
    intro i x m hi hm I
    obtain ⟨y, rfl⟩ : ∃ y, m = y + 1 := ⟨m - 1, by omega⟩
    have ei : i = 729 := by omega
    subst ei
    exact br_t (nI_le (a := 729) (Nat.le_refl _) (by omega)) (h x I)
  | succ d ih =>
    intro i x m hi hm I
    obtain ⟨y, rfl⟩ : ∃ y, m = y + 1 := ⟨m - 1, by omega⟩
    have e1 : (nI i).toNatClampNeg = i := nI_clamp (by omega)
    refine br_f (nI_ge (b := 729) (by omega) (by decide)) ⟨pk_in i 729 (by omega), ?_⟩
    rw [e1]
    refine br_c (fun c => nm_r (nI_1 i) (ih (i + 1) x y (by omega) (by omega) (oy_bst_no I c))) (fun c => ?_)
    refine oy_sum (by omega) hs ht (fun r hr => ?_)
    refine br_c (fun c2 => ?_) (fun c2 => ?_)
    · rw [Int32.le_iff_toInt_le, hr] at c2
      exact nm_r (nI_1 i) (ih (i + 1) x y (by omega) (by omega) (oy_bst_le (by omega) I c c2))
    · rw [Int32.le_iff_toInt_le, hr] at c2
      refine oy_sum (by omega) hs ht (fun r2 hr2 => ?_)
      exact nm_r (nI_1 i) (ih (i + 1) r2 y (by omega) (by omega) (oy_bst_gt I c c2 hr2))
theorem oy_verdict41 {post : Int32 → SY → Prop} {s t : Nat} (hs : s < 6) (ht : t < 6) {c : Int32}
    (k98 : (∀ j, j < 729 → a_source j = 0) → post 98 (f_n, f_limit, f_size, f_length, f_begun, f_runPoint, f_runState, a_program, a_table, a_empty, a_waiting, a_source, a_set))
    (k5 : (∃ j, j < 729 ∧ a_source j ≠ 0) → (∀ j, j < 729 → a_source j ≠ 0 → oy_sm j s t ≤ c.toInt) → post 5 (f_n, f_limit, f_size, f_length, f_begun, f_runPoint, f_runState, a_program, a_table, a_empty, a_waiting, a_source, a_set))
    (k6 : (∃ j, j < 729 ∧ a_source j ≠ 0) → (∀ j, j < 729 → a_source j ≠ 0 → ¬ oy_sm j s t ≤ c.toInt) → post 6 (f_n, f_limit, f_size, f_length, f_begun, f_runPoint, f_runState, a_program, a_table, a_empty, a_waiting, a_source, a_set))
    (k7 : (∃ j, j < 729 ∧ a_source j ≠ 0 ∧ oy_sm j s t ≤ c.toInt) → (∃ j, j < 729 ∧ a_source j ≠ 0 ∧ ¬ oy_sm j s t ≤ c.toInt) → post 7 (f_n, f_limit, f_size, f_length, f_begun, f_runPoint, f_runState, a_program, a_table, a_empty, a_waiting, a_source, a_set)) :
    ∀ d i a b m, i + d = 729 → d < m → a ≤ i → b ≤ i → (a = 0 ↔ ∀ j, j < i → a_source j ≠ 0 → ¬ oy_sm j s t ≤ c.toInt) → (b = 0 ↔ ∀ j, j < i → a_source j ≠ 0 → oy_sm j s t ≤ c.toInt) → wY_verdict_41 post (nI s) (nI t) c f_n f_limit f_size f_length f_begun f_runPoint f_runState a_program a_table a_empty a_waiting a_source a_set m (nI a) (nI b) (nI i) := by
  intro d
  induction d with
  | zero =>
    intro i a b m hi hm ha hb Ia Ib
    obtain ⟨y, rfl⟩ : ∃ y, m = y + 1 := ⟨m - 1, by omega⟩
    have ei : i = 729 := by omega
    subst ei
    have wit : ¬ (a = 0 ∧ b = 0) → ∃ j, j < 729 ∧ a_source j ≠ 0 := by
      intro z
      refine Classical.byContradiction (fun w => z ⟨Ia.mpr (fun j hj hz => absurd ⟨j, hj, hz⟩ w), Ib.mpr (fun j hj hz => absurd ⟨j, hj, hz⟩ w)⟩)
    refine br_t (nI_le (a := 729) (Nat.le_refl _) (by omega)) ?_
    refine pk_eq (a + b) 0 (fun e => k98 (fun j hj => ?_)) (fun e => ?_) (nI_add a b) rfl
    · refine Classical.byContradiction (fun w => ?_)
      exact (Ia.mp (by omega)) j hj w ((Ib.mp (by omega)) j hj w)
    · refine pk_eq b 0 (fun e2 => k5 (wit (by omega)) (Ib.mp e2)) (fun e2 => pk_eq a 0 (fun e3 => k6 (wit (by omega)) (Ia.mp e3)) (fun e3 => k7 ?_ ?_))
      · refine Classical.byContradiction (fun w => e3 (Ia.mpr (fun j hj hz hle => w ⟨j, hj, hz, hle⟩)))
      · refine Classical.byContradiction (fun w => e2 (Ib.mpr (fun j hj hz => Classical.byContradiction (fun hle => w ⟨j, hj, hz, hle⟩))))
  | succ d ih =>
    intro i a b m hi hm ha hb Ia Ib
    obtain ⟨y, rfl⟩ : ∃ y, m = y + 1 := ⟨m - 1, by omega⟩
    have e1 : (nI i).toNatClampNeg = i := nI_clamp (by omega)
    refine br_f (nI_ge (b := 729) (by omega) (by decide)) ⟨pk_in i 729 (by omega), ?_⟩
    rw [e1]
    refine br_c (fun z => nm_r (nI_1 i) (ih (i + 1) a b y (by omega) (by omega) (by omega) (by omega) ?_ ?_)) (fun z => ?_)
    · rw [Ia]
      constructor
      · intro w j hj hz
        by_cases e : j = i
        · subst e; exact absurd z hz
        · exact w j (by omega) hz
      · intro w j hj hz; exact w j (by omega) hz
    · rw [Ib]
      constructor
      · intro w j hj hz
        by_cases e : j = i
        · subst e; exact absurd z hz
        · exact w j (by omega) hz
      · intro w j hj hz; exact w j (by omega) hz
    · refine oy_sum (by omega) hs ht (fun r hr => ?_)
      refine br_c (fun c2 => ?_) (fun c2 => ?_)
      · rw [Int32.lt_iff_toInt_lt, hr] at c2
        refine nm_r (nI_1 b) (nm_r (nI_1 i) (ih (i + 1) a (b + 1) y (by omega) (by omega) (by omega) (by omega) ?_ ?_))
        · rw [Ia]
          constructor
          · intro w j hj hz
            by_cases e : j = i
            · subst e; omega
            · exact w j (by omega) hz
          · intro w j hj hz; exact w j (by omega) hz
        · constructor
          · intro w; omega
          · intro w
            have := w i (by omega) z
            omega
      · rw [Int32.lt_iff_toInt_lt, hr] at c2
        refine nm_r (nI_1 a) (nm_r (nI_1 i) (ih (i + 1) (a + 1) b y (by omega) (by omega) (by omega) (by omega) ?_ ?_))
        · constructor
          · intro w; omega
          · intro w
            have := w i (by omega) z
            omega
        · rw [Ib]
          constructor
          · intro w j hj hz
            by_cases e : j = i
            · subst e; omega
            · exact w j (by omega) hz
          · intro w j hj hz; exact w j (by omega) hz
theorem oy_least30 {post : Int32 → SY → Prop} {v : Nat} (hv : v < 3) (k0 : (∀ j, j < 729 → a_source j = 0) → post 98 (f_n, f_limit, f_size, f_length, f_begun, f_runPoint, f_runState, a_program, a_table, a_empty, a_waiting, a_source, a_set))
    (k1 : ∀ k (r : Int32), k < 729 → a_source k ≠ 0 → (∀ j, j < k → a_source j = 0) → r.toInt = oy_v k v → post r (f_n, f_limit, f_size, f_length, f_begun, f_runPoint, f_runState, a_program, a_table, a_empty, a_waiting, a_source, a_set)) :
    ∀ d i m, i + d = 729 → d < m → (∀ j, j < i → a_source j = 0) → wY_least_30 post (nI v) f_n f_limit f_size f_length f_begun f_runPoint f_runState a_program a_table a_empty a_waiting a_source a_set m (nI i) := by
  intro d
  induction d with
  | zero =>
    intro i m hi hm I
    obtain ⟨y, rfl⟩ : ∃ y, m = y + 1 := ⟨m - 1, by omega⟩
    have ei : i = 729 := by omega
    subst ei
    exact br_t (nI_le (a := 729) (Nat.le_refl _) (by omega)) (k0 I)
  | succ d ih =>
    intro i m hi hm I
    obtain ⟨y, rfl⟩ : ∃ y, m = y + 1 := ⟨m - 1, by omega⟩
    have e1 : (nI i).toNatClampNeg = i := nI_clamp (by omega)
    refine br_f (nI_ge (b := 729) (by omega) (by decide)) ⟨pk_in i 729 (by omega), ?_⟩
    rw [e1]
    refine br_c (fun c => nm_r (nI_1 i) (ih (i + 1) y (by omega) (by omega) (fun j hj => ?_))) (fun c => ?_)
    · by_cases e : j = i
      · subst e; exact c
      · exact I j (by omega)
    · exact oy_value (by omega) hv (fun r hr => k1 i r (by omega) c I hr)
end
end
section
/-! points and numbered states -/
theorem ob_enc (p : Nat → Int) (h : ∀ u, u < 3 → -4 ≤ p u ∧ p u ≤ 4) : ∃ k, k < 729 ∧ ∀ u, u < 3 → oy_v k u = p u := by
  obtain ⟨a, ha⟩ : ∃ a : Nat, (a : Int) = p 0 + 4 := ⟨(p 0 + 4).toNat, by have := h 0 (by decide); omega⟩
  obtain ⟨b, hb⟩ : ∃ b : Nat, (b : Int) = p 1 + 4 := ⟨(p 1 + 4).toNat, by have := h 1 (by decide); omega⟩
  obtain ⟨c, hc⟩ : ∃ c : Nat, (c : Int) = p 2 + 4 := ⟨(p 2 + 4).toNat, by have := h 2 (by decide); omega⟩
  have h0 := h 0 (by decide)
  have h1 := h 1 (by decide)
  have h2 := h 2 (by decide)
  obtain ⟨q1, q2, q3, q4⟩ := oy_enc a b c (by omega) (by omega) (by omega)
  refine ⟨_, q1, fun u hu => ?_⟩
  have hcs : u = 0 ∨ u = 1 ∨ u = 2 := by omega
  rcases hcs with rfl | rfl | rfl
  · rw [q2]; omega
  · rw [q3]; omega
  · rw [q4]; omega
/-- a point of the box has a number -/
theorem ob_st {n L : Nat} (hn : n = 2 ∨ n = 3) (hL : L ≤ 4) {p : Nat → Int} (h : ∀ u, u < n → -(L : Int) ≤ p u ∧ p u ≤ L) : ∃ k, k < 729 ∧ oy_St n L k ∧ ∀ u, u < n → oy_v k u = p u := by
  have e : ∀ u, u < 3 → -(L : Int) ≤ (if u < n then p u else 0) ∧ (if u < n then p u else 0) ≤ L := by
    intro u hu
    by_cases c : u < n
    · rw [if_pos c]; exact h u c
    · rw [if_neg c]; omega
  obtain ⟨k, hk, hv⟩ := ob_enc (fun u => if u < n then p u else 0) (fun u hu => by have := e u hu; omega)
  refine ⟨k, hk, ⟨fun u hu => by rw [hv u hu]; exact e u hu, ?_⟩, fun u hu => by rw [hv u (by omega)]; exact if_pos hu⟩
  rcases hn with rfl | rfl
  · have h2 := hv 2 (by decide)
    rw [oy_v2 (by decide) (by decide), if_neg (by decide)] at h2
    exact Or.inr (by omega)
  · exact Or.inl rfl
theorem ob_St2 {n L k : Nat} (h : oy_St n L k) (hn : n = 2) : oy_v k 2 = 0 := by
  rw [oy_v2 (by decide) (by decide)]
  rcases h.2 with z | z
  · omega
  · omega
/-- the set of a table's points looks at the used variables alone -/
def ob_Ext (n : Nat) (S : (Nat → Int) → Prop) : Prop := ∀ p q, (∀ u, u < n → p u = q u) → S p → S q
theorem ob_ExtG (n : Nat) (M : Nat → Nat → Int) : ob_Ext n (oc_Gam (2 * n) M) := fun _ _ h hp => oc_Gam_congr (fun v hv => h v (by omega)) hp
theorem ob_ExtW {n : Nat} {w : Nat → Int32} {S : (Nat → Int) → Prop} (W : ox_Wk (2 * n) w S) : ob_Ext n S :=
  fun p q h hp => (W.2.1 q).mp (ob_ExtG n _ p q h ((W.2.1 p).mpr hp))
theorem ob_gext {n s : Nat} (hs : s < 2 * n) {p q : Nat → Int} (h : ∀ u, u < n → p u = q u) : oc_g p s = oc_g q s := oc_gcongr (h _ (by omega))
theorem ob_asgext {n s : Nat} (hs : s < 2 * n ∨ s = 8 ∨ s = 9) (h3 : n ≤ 3) {p q : Nat → Int} (h : ∀ u, u < n → p u = q u) (c x : Int) : oc_asg s c p x = oc_asg s c q x := by
  rcases hs with hs | rfl | rfl
  · rw [oc_asgN (by omega), oc_asgN (by omega), ob_gext hs h]
  · rw [oc_asg8, oc_asg8]
  · rw [oc_asg9, oc_asg9]
/-- the numbers of a set of points -/
def ob_num (n L : Nat) (S : (Nat → Int) → Prop) (k : Nat) : Prop := oy_St n L k ∧ S (oy_v k)
theorem ob_Is {a : Nat → Int32} {P Q : Nat → Prop} (h : oy_Is a P) (e : ∀ k, k < 729 → (P k ↔ Q k)) : oy_Is a Q := fun k hk => (h k hk).trans (e k hk)
theorem ob_none {n L : Nat} {S : (Nat → Int) → Prop} {a : Nat → Int32} (h : oy_Is a (ob_num n L S)) (e : ∀ p, ¬ S p) : ∀ k, k < 729 → a k = 0 := by
  intro k hk
  refine Classical.byContradiction (fun z => ?_)
  exact e _ ((h k hk).mp z).2
theorem ob_wit {n L : Nat} (hn : n = 2 ∨ n = 3) (hL : L ≤ 4) {S : (Nat → Int) → Prop} {a : Nat → Int32} (h : oy_Is a (ob_num n L S)) (hx : ob_Ext n S) (hB : oc_Box (2 * n) L S) {p : Nat → Int} (hp : S p) : ∃ k, k < 729 ∧ a k ≠ 0 ∧ (∀ u, u < n → oy_v k u = p u) := by
  obtain ⟨k, hk, h1, h2⟩ := ob_st hn hL (fun u hu => hB p hp u (by omega))
  exact ⟨k, hk, (h k hk).mpr ⟨h1, hx p _ (fun u hu => (h2 u hu).symm) hp⟩, h2⟩
theorem ob_some {n L : Nat} (hn : n = 2 ∨ n = 3) (hL : L ≤ 4) {w : Nat → Int32} {S : (Nat → Int) → Prop} {a : Nat → Int32} (h : oy_Is a (ob_num n L S)) (W : ox_Wk (2 * n) w S) (hB : oc_Box (2 * n) L S) : ∃ k, k < 729 ∧ a k ≠ 0 := by
  obtain ⟨p, hp, -⟩ := oc_att (by omega) W.1 (a := 0) (b := 0) (by omega) (by omega)
  obtain ⟨k, hk, hz, -⟩ := ob_wit hn hL h (ob_ExtW W) hB ((W.2.1 p).mp hp)
  exact ⟨k, hk, hz⟩
/-- the reference's best sum is the hull's number -/
theorem ob_bst {n L : Nat} (hn : n = 2 ∨ n = 3) (hL : L ≤ 4) {w : Nat → Int32} {S : (Nat → Int) → Prop} {a : Nat → Int32} (h : oy_Is a (ob_num n L S)) (W : ox_Wk (2 * n) w S) (hB : oc_Box (2 * n) L S) {s t : Nat} (hs : s < 2 * n) (ht : t < 2 * n) {x : Int32} (hx : oy_bst a s t 729 x) : x = w (s * 6 + t) := by
  obtain ⟨p, hp, e⟩ := oc_att (by omega) W.1 hs ht
  obtain ⟨k, hk, hz, hv⟩ := ob_wit hn hL h (ob_ExtW W) hB ((W.2.1 p).mp hp)
  have ek : oy_sm k s t = oz_w w s t := by
    simp only [oy_sm]
    rw [ob_gext hs hv, ob_gext ht hv]; exact e
  apply Int32.toInt_inj.mp
  show x.toInt = oz_w w s t
  rcases hx with ⟨h1, h2⟩ | ⟨⟨j, hj, h1, h2⟩, h3⟩
  · exact absurd (h2 k hk) hz
  · have a1 := h3 k hk hz
    have a2 := ((W.2.1 _).mpr ((h j hj).mp h1).2) s hs t ht
    simp only [oy_sm] at h2
    omega
/-- images of sets of points and of numbers -/
theorem ob_img {n L : Nat} (hn : n = 2 ∨ n = 3) (hL : L ≤ 4) {S : (Nat → Int) → Prop} (hx : ob_Ext n S) (hB : oc_Box (2 * n) L S) {v s : Nat} (hv : v < n) (hs : s < 2 * n ∨ s = 8 ∨ s = 9) {c : Int} {k' : Nat} (hk' : k' < 729) :
    (∃ k x, k < 729 ∧ ob_num n L S k ∧ (-(L : Int) ≤ x ∧ x ≤ L) ∧ (-(L : Int) ≤ oc_asg s c (oy_v k) x ∧ oc_asg s c (oy_v k) x ≤ L) ∧ oy_im v (oc_asg s c (oy_v k) x) k k') ↔ ob_num n L (oc_img L v s c S) k' := by
  constructor
  · rintro ⟨k, x, hk, ⟨h1, h2⟩, h3, h4, h5⟩
    have ev : oy_v k' v = oc_asg s c (oy_v k) x := by rw [h5 v (by omega), oc_us]
    have eo : ∀ u, u < n → oc_u (oy_v k') v (oy_v k v) u = oy_v k u := by
      intro u hu
      by_cases e : u = v
      · subst e; exact oc_us _ _ _
      · rw [oc_un e, h5 u (by omega), oc_un e]
    refine ⟨⟨fun u hu => ?_, ?_⟩, ?_, oy_v k v, x, h3, ?_, ?_⟩
    · by_cases e : u = v
      · subst e; rw [ev]; exact h4
      · rw [h5 u hu, oc_un e]; exact h1.1 u hu
    · rcases hn with rfl | rfl
      · have h2' := h5 2 (by decide)
        have z := ob_St2 h1 rfl
        rw [oc_un (by omega), z, oy_v2 (by decide) (by decide)] at h2'
        exact Or.inr (by omega)
      · exact Or.inl rfl
    · rw [ev]; exact h4
    · exact hx _ _ (fun u hu => (eo u hu).symm) h2
    · rw [ev]; exact ob_asgext hs (by omega) (fun u hu => (eo u hu).symm) c x
  · rintro ⟨h1, h2, y, x, h3, h4, h5⟩
    have hy := hB _ h4 v (by omega)
    rw [oc_us] at hy
    obtain ⟨k, hk, hkv⟩ := ob_enc (oc_u (oy_v k') v y) (fun u hu => by
      by_cases e : u = v
      · subst e; rw [oc_us]; omega
      · rw [oc_un e]; exact oy_vb hk' u)
    have ea : oc_asg s c (oy_v k) x = oy_v k' v := by
      rw [h5]; exact ob_asgext hs (by omega) (fun u hu => hkv u (by omega)) c x
    refine ⟨k, x, hk, ⟨⟨fun u hu => ?_, ?_⟩, hx _ _ (fun u hu => (hkv u (by omega)).symm) h4⟩, h3, ?_, fun u hu => ?_⟩
    · rw [hkv u hu]
      by_cases e : u = v
      · subst e; rw [oc_us]; exact hy
      · rw [oc_un e]; exact h1.1 u hu
    · rcases hn with rfl | rfl
      · have h2' := hkv 2 (by decide)
        rw [oc_un (by omega), ob_St2 h1 rfl, oy_v2 (by decide) (by decide)] at h2'
        exact Or.inr (by omega)
      · exact Or.inl rfl
    · rw [ea]; exact h2
    · rw [ea]
      by_cases e : u = v
      · subst e; rw [oc_us]
      · rw [oc_un e, hkv u hu, oc_un e]
theorem ob_imgBox {n L : Nat} {S : (Nat → Int) → Prop} (hB : oc_Box (2 * n) L S) {v s : Nat} {c : Int} : oc_Box (2 * n) L (oc_img L v s c S) := by
  rintro p ⟨a, y, x, -, b, -⟩ u hu
  by_cases e : u = v
  · subst e; exact a
  · have := hB _ b u hu
    rwa [oc_un e] at this
/-! slots -/
/-- a slot of the component: the closed numbers, the stored ones -/
def or_Sl (n L : Nat) (hd : Int32) (st ti : Nat → Int32) (q : Nat) : Prop :=
  oc_T (2 * n) (oz_s ti q) ∧ (∀ p, oc_Gam (2 * n) (oz_s st q) p ↔ oc_Gam (2 * n) (oz_s ti q) p) ∧ oc_Sym (2 * n) (oz_s st q) ∧ (∀ s, s < 2 * n → oz_s st q s (oc_n s) = 0) ∧
  (∀ s, s < 2 * n → ∀ t, t < 2 * n → oz_s st q s t ≤ 2 * L) ∧ (hd = 0 → ∀ s, s < 2 * n → ∀ t, t < 2 * n → oz_s st q s t = oz_s ti q s t)
theorem or_fr {q s t : Nat} (hs : s < 6) (ht : t < 6) {a b : Nat → Int32} (h : ∀ j, j < 36 → b (q * 36 + j) = a (q * 36 + j)) : oz_s b q s t = oz_s a q s t := by
  simp only [oz_s]
  rw [Nat.add_assoc, h _ (by omega)]
theorem or_Sl_fr {n L : Nat} (hn : n = 2 ∨ n = 3) {hd : Int32} {st ti st' ti' : Nat → Int32} {q : Nat} (h1 : ∀ j, j < 36 → st' (q * 36 + j) = st (q * 36 + j)) (h2 : ∀ j, j < 36 → ti' (q * 36 + j) = ti (q * 36 + j)) (S : or_Sl n L hd st ti q) : or_Sl n L hd st' ti' q := by
  have e1 : ∀ s, s < 2 * n → ∀ t, t < 2 * n → oz_s st' q s t = oz_s st q s t := fun s hs t ht => or_fr (by omega) (by omega) h1
  have e2 : ∀ s, s < 2 * n → ∀ t, t < 2 * n → oz_s ti' q s t = oz_s ti q s t := fun s hs t ht => or_fr (by omega) (by omega) h2
  obtain ⟨a, b, c, d, e, f⟩ := S
  refine ⟨oc_T_congr (by omega) e2 a, fun p => ?_, fun s hs t ht => ?_, fun s hs => ?_, fun s hs t ht => ?_, fun z s hs t ht => ?_⟩
  · rw [oc_G_congr e1, oc_G_congr e2]; exact b p
  · rw [e1 s hs t ht, e1 t ht s hs]; exact c s hs t ht
  · rw [e1 s hs _ (oc_nlt (by omega) hs)]; exact d s hs
  · rw [e1 s hs t ht]; exact e s hs t ht
  · rw [e1 s hs t ht, e2 s hs t ht]; exact f z s hs t ht
theorem or_Sl_box {n L : Nat} {hd : Int32} {st ti : Nat → Int32} {q : Nat} (S : or_Sl n L hd st ti q) : oc_Box (2 * n) L (oc_Gam (2 * n) (oz_s ti q)) := by
  intro p hp u hu
  have hp' := (S.2.1 p).mpr hp
  have a := hp' (2 * u) hu (2 * u) hu
  have b := hp' (2 * u + 1) (by omega) (2 * u + 1) (by omega)
  have c := S.2.2.2.2.1 (2 * u) hu (2 * u) hu
  have d := S.2.2.2.2.1 (2 * u + 1) (by omega) (2 * u + 1) (by omega)
  rw [oc_g0 (by omega), show 2 * u / 2 = u by omega] at a
  rw [oc_g1 (by omega), show (2 * u + 1) / 2 = u by omega] at b
  omega
/-- a loaded work table -/
theorem or_load {n L : Nat} (hn : n = 2 ∨ n = 3) (hL : L ≤ 4) {hd : Int32} {st ti : Nat → Int32} {q : Nat} (S : or_Sl n L hd st ti q) {w : Nat → Int32} (h : ∀ j, j < 36 → w j = ti (q * 36 + j)) : ox_Wk (2 * n) w (oc_Gam (2 * n) (oz_s ti q)) := by
  have e : ∀ s, s < 2 * n → ∀ t, t < 2 * n → oz_w w s t = oz_s ti q s t := by
    intro s hs t ht
    simp only [oz_w, oz_s]
    rw [h _ (by omega), Nat.add_assoc]
  exact ox_Wk_mk (by omega) (B := L) (oc_T_congr (by omega) e S.1) (fun p => oc_G_congr e p) (or_Sl_box S) (by omega)
/-- a kept work table -/
theorem or_keep {n L : Nat} (hn : n = 2 ∨ n = 3) {S : (Nat → Int) → Prop} {w : Nat → Int32} (W : ox_Wk (2 * n) w S) (hB : oc_Box (2 * n) L S) {st ti : Nat → Int32} {q : Nat} (h1 : ∀ j, j < 36 → st (q * 36 + j) = w j) (h2 : ∀ j, j < 36 → ti (q * 36 + j) = w j) (hd : Int32) : or_Sl n L hd st ti q := by
  have e1 : ∀ s, s < 2 * n → ∀ t, t < 2 * n → oz_s st q s t = oz_w w s t := by
    intro s hs t ht
    simp only [oz_w, oz_s]
    rw [Nat.add_assoc, h1 _ (by omega)]
  have e2 : ∀ s, s < 2 * n → ∀ t, t < 2 * n → oz_s ti q s t = oz_w w s t := by
    intro s hs t ht
    simp only [oz_w, oz_s]
    rw [Nat.add_assoc, h2 _ (by omega)]
  refine ⟨oc_T_congr (by omega) e2 W.1, fun p => ?_, fun s hs t ht => ?_, fun s hs => ?_, fun s hs t ht => ?_, fun z s hs t ht => ?_⟩
  · rw [oc_G_congr e1, oc_G_congr e2]
  · rw [e1 s hs t ht, e1 t ht s hs]; exact W.1.1 s hs t ht
  · rw [e1 s hs _ (oc_nlt (by omega) hs)]; exact W.1.2.2.2.2 s hs
  · rw [e1 s hs t ht]; exact ox_Wk_box (by omega) W hB hs ht
  · rw [e1 s hs t ht, e2 s hs t ht]
theorem or_fullI {L s t : Nat} (hL : L ≤ 4) : (ox_full L s t).toInt = if s = oc_n t then 0 else 2 * (L : Int) := by
  simp only [ox_full]
  by_cases c : s = oc_n t
  · rw [if_pos c, if_pos c]; exact oz_0
  · rw [if_neg c, if_neg c, nI_toInt (by omega)]; omega
theorem or_fullS (L s t : Nat) : ox_full L s t = ox_full L t s := by
  simp only [ox_full]
  by_cases c : s = oc_n t
  · rw [if_pos c, if_pos (by rw [c, oc_nn])]
  · rw [if_neg c, if_neg (fun z => c (by rw [z, oc_nn]))]
/-- a merged slot -/
theorem or_merge1 {n L : Nat} (hn : n = 2 ∨ n = 3) (hL : L ≤ 4) {S : (Nat → Int) → Prop} {w : Nat → Int32} (W : ox_Wk (2 * n) w S) (hB : oc_Box (2 * n) L S) {hd : Int32} {st ti st' : Nat → Int32} {q : Nat} (Sl : or_Sl n L hd st ti q)
    (h : ∀ s, s < 2 * n → ∀ t, t < 2 * n → st' (q * 36 + s * 6 + t) = ox_mg hd L (w (s * 6 + t)) (st (q * 36 + s * 6 + t)) s t) :
    (∀ s, s < 2 * n → ∀ t, t < 2 * n → oz_s st q s t ≤ oz_s st' q s t ∧ oz_s st' q s t ≤ 2 * L) ∧ oc_Sym (2 * n) (oz_s st' q) ∧ (∀ s, s < 2 * n → oz_s st' q s (oc_n s) = 0) ∧ (hd = 0 → ∀ s, s < 2 * n → ∀ t, t < 2 * n → oz_s st' q s t = max (oz_s ti q s t) (oz_w w s t)) := by
  obtain ⟨a, b, c, d, e, f⟩ := Sl
  have hv : ∀ s, s < 2 * n → ∀ t, t < 2 * n → oz_s st' q s t = if oz_w w s t ≤ oz_s st q s t then oz_s st q s t else if hd = 0 then oz_w w s t else if s = oc_n t then 0 else 2 * (L : Int) := by
    intro s hs t ht
    have e0 : oz_s st' q s t = (ox_mg hd L (w (s * 6 + t)) (st (q * 36 + s * 6 + t)) s t).toInt := congrArg Int32.toInt (h s hs t ht)
    rw [e0]
    simp only [ox_mg]
    by_cases c1 : oz_w w s t ≤ oz_s st q s t
    · have c2 : w (s * 6 + t) ≤ st (q * 36 + s * 6 + t) := Int32.le_iff_toInt_le.mpr c1
      rw [if_pos c1, if_pos c2]; rfl
    · have c2 : ¬ w (s * 6 + t) ≤ st (q * 36 + s * 6 + t) := fun z => c1 (Int32.le_iff_toInt_le.mp z)
      rw [if_neg c1, if_neg c2]
      by_cases c3 : hd = 0
      · rw [if_pos c3, if_pos c3]; rfl
      · rw [if_neg c3, if_neg c3, or_fullI hL]
  have bw : ∀ s, s < 2 * n → ∀ t, t < 2 * n → oz_w w s t ≤ 2 * L := fun s hs t ht => ox_Wk_box (by omega) W hB hs ht
  have zero : ∀ s, s < 2 * n → ∀ t, t < 2 * n → s = oc_n t → oz_w w s t = 0 ∧ oz_s st q s t = 0 := by
    intro s hs t ht z
    have z1 : t = oc_n s := by rw [z, oc_nn]
    rw [z1]; exact ⟨W.1.2.2.2.2 s hs, d s hs⟩
  refine ⟨fun s hs t ht => ?_, fun s hs t ht => ?_, fun s hs => ?_, fun z s hs t ht => ?_⟩
  · rw [hv s hs t ht]
    have b1 := bw s hs t ht
    have b2 := e s hs t ht
    by_cases c1 : oz_w w s t ≤ oz_s st q s t
    · rw [if_pos c1]; exact ⟨Int.le_refl _, b2⟩
    · rw [if_neg c1]
      by_cases c2 : hd = 0
      · rw [if_pos c2]; omega
      · rw [if_neg c2]
        by_cases c3 : s = oc_n t
        · have := zero s hs t ht c3
          omega
        · rw [if_neg c3]; omega
  · rw [hv s hs t ht, hv t ht s hs, W.1.1 s hs t ht, c s hs t ht]
    have : (s = oc_n t) ↔ (t = oc_n s) := ⟨fun z => by rw [z, oc_nn], fun z => by rw [z, oc_nn]⟩
    by_cases c3 : s = oc_n t
    · rw [if_pos c3, if_pos (this.mp c3)]
    · rw [if_neg c3, if_neg (fun z => c3 (this.mpr z))]
  · have hns := oc_nlt (N := 2 * n) (by omega) hs
    have z := zero s hs _ hns (by rw [oc_nn])
    rw [hv s hs _ hns, if_pos (by omega)]; exact z.2
  · rw [hv s hs t ht, ← f z s hs t ht]
    by_cases c1 : oz_w w s t ≤ oz_s st q s t
    · rw [if_pos c1]; omega
    · rw [if_neg c1, if_pos z]; omega
theorem or_mergeP {n L : Nat} (hn : n = 2 ∨ n = 3) (hL : L ≤ 4) {S : (Nat → Int) → Prop} {w : Nat → Int32} (W : ox_Wk (2 * n) w S) (hB : oc_Box (2 * n) L S) {hd : Int32} {st ti st' : Nat → Int32} {q : Nat} (Sl : or_Sl n L hd st ti q)
    (h : ∀ s, s < 2 * n → ∀ t, t < 2 * n → st' (q * 36 + s * 6 + t) = ox_mg hd L (w (s * 6 + t)) (st (q * 36 + s * 6 + t)) s t) :
    ∃ p, oc_Gam (2 * n) (oz_s st' q) p ∧ (∀ u, 2 * u < 2 * n → -50 ≤ p u ∧ p u ≤ 50) ∧ ∀ s, s < 2 * n → ∀ t, t < 2 * n → oz_s st' q s t ≤ 100 := by
  obtain ⟨h1, -, -, -⟩ := or_merge1 hn hL W hB Sl h
  obtain ⟨p, hp, -⟩ := oc_att (by omega) Sl.1 (a := 0) (b := 0) (by omega) (by omega)
  refine ⟨p, fun s hs t ht => Int.le_trans ((Sl.2.1 p).mpr hp s hs t ht) (h1 s hs t ht).1, fun u hu => ?_, fun s hs t ht => ?_⟩
  · have := or_Sl_box Sl p hp u hu
    omega
  · have := (h1 s hs t ht).2
    omega
theorem or_merge {n L : Nat} (hn : n = 2 ∨ n = 3) (hL : L ≤ 4) {S : (Nat → Int) → Prop} {w : Nat → Int32} (W : ox_Wk (2 * n) w S) (hB : oc_Box (2 * n) L S) {hd : Int32} {st ti st' ti' w' : Nat → Int32} {q : Nat} (Sl : or_Sl n L hd st ti q)
    (h : ∀ s, s < 2 * n → ∀ t, t < 2 * n → st' (q * 36 + s * 6 + t) = ox_mg hd L (w (s * 6 + t)) (st (q * 36 + s * 6 + t)) s t)
    (hw : ∀ s, s < 2 * n → ∀ t, t < 2 * n → oz_w w' s t = if hd = 0 then oz_s st' q s t else oc_sh (oc_fw (oz_s st' q) (2 * n)) s t) (ht : ∀ j, j < 36 → ti' (q * 36 + j) = w' j) : or_Sl n L hd st' ti' q := by
  obtain ⟨h1, h2, h3, h4⟩ := or_merge1 hn hL W hB Sl h
  obtain ⟨p, hp, -, -⟩ := or_mergeP hn hL W hB Sl h
  have e2 : ∀ s, s < 2 * n → ∀ t, t < 2 * n → oz_s ti' q s t = oz_w w' s t := by
    intro s hs t ht2
    simp only [oz_w, oz_s]
    rw [Nat.add_assoc, ht _ (by omega)]
  by_cases c : hd = 0
  · have e3 : ∀ s, s < 2 * n → ∀ t, t < 2 * n → oz_s ti' q s t = oz_s st' q s t := fun s hs t ht2 => by rw [e2 s hs t ht2, hw s hs t ht2, if_pos c]
    have e4 : ∀ s, s < 2 * n → ∀ t, t < 2 * n → oz_s ti' q s t = max (oz_s ti q s t) (oz_w w s t) := fun s hs t ht2 => by rw [e3 s hs t ht2, h4 c s hs t ht2]
    refine ⟨oc_T_congr (by omega) e4 (oc_maxT (by omega) Sl.1 W.1), fun p => ?_, h2, h3, fun s hs t ht2 => (h1 s hs t ht2).2, fun _ s hs t ht2 => (e3 s hs t ht2).symm⟩
    rw [oc_G_congr e3]
  · have e3 : ∀ s, s < 2 * n → ∀ t, t < 2 * n → oz_s ti' q s t = oc_sh (oc_fw (oz_s st' q) (2 * n)) s t := fun s hs t ht2 => by rw [e2 s hs t ht2, hw s hs t ht2, if_neg c]
    refine ⟨oc_T_congr (by omega) e3 (oc_fwT (by omega) h2 (fun s hs => by rw [h3 s hs]; exact Int.le_refl _) hp), fun p => ?_, h2, h3, fun s hs t ht2 => (h1 s hs t ht2).2, fun z => absurd z c⟩
    rw [oc_G_congr e3, oc_fwGam (by omega)]
end
section
/-! the relation -/
def or_Ins (n sz : Nat) (pr : Nat → Int32) (i : Nat) : Prop :=
  (pr (i * 5) = 0 ∧ ∃ v s, v < n ∧ (s < 2 * n ∨ s = 8 ∨ s = 9) ∧ pr (i * 5 + 1) = nI v ∧ pr (i * 5 + 2) = nI s ∧ (-10 ≤ (pr (i * 5 + 3)).toInt ∧ (pr (i * 5 + 3)).toInt ≤ 10)) ∨
  (pr (i * 5) = 1 ∧ ∃ s t g, s < 2 * n ∧ t < 2 * n ∧ g ≤ sz ∧ pr (i * 5 + 1) = nI s ∧ pr (i * 5 + 2) = nI t ∧ pr (i * 5 + 4) = nI g ∧ (-10 ≤ (pr (i * 5 + 3)).toInt ∧ (pr (i * 5 + 3)).toInt ≤ 10))
def or_X (n L sz len : Nat) (bg : Int32) (pr hd st ti va wt : Nat → Int32) : Prop :=
  ((n = 2 ∨ n = 3) ∧ (2 ≤ L ∧ L ≤ 4) ∧ (4 ≤ sz ∧ sz ≤ 10) ∧ len ≤ sz ∧ (bg = 0 ∨ bg = 1)) ∧
  (∀ i, i < len → or_Ins n sz pr i) ∧
  (∀ q, q < 11 → (hd q = 1 ∧ oy_hd pr len q) ∨ (hd q = 0 ∧ ¬ oy_hd pr len q)) ∧
  (∀ q, q ≤ sz → (va q = 0 ∨ va q = 1) ∧ (va q = 0 → or_Sl n L (hd q) st ti q) ∧ (wt q ≠ 0 → q < len ∧ va q = 0)) ∧
  ((va 11 = 0 ∨ va 11 = 1) ∧ (va 11 = 0 → or_Sl n L 0 st ti 11 ∧ ∀ j, j < 36 → st (396 + j) = ti (396 + j))) ∧
  (bg = 0 → ∀ q, q ≤ sz → va q = 1)
def or_eq (n : Nat) (st tb : Nat → Int32) (q r : Nat) : Prop := ∀ s, s < 2 * n → ∀ t, t < 2 * n → tb (r * 36 + s * 6 + t) = st (q * 36 + s * 6 + t)
def or_L (n sz : Nat) (st va wt tb em w2 : Nat → Int32) : Prop :=
  (∀ q, q ≤ sz → em q = va q ∧ w2 q = wt q ∧ (va q = 0 → or_eq n st tb q q)) ∧ em 20 = va 11 ∧ (va 11 = 0 → or_eq n st tb 11 20)
def or_run (n sz : Nat) (bg run wh : Int32) (vs : Nat → Int32) (rp rs : Int32) : Prop :=
  (run = 0 ∧ rp = -1) ∨ (run = 1 ∧ bg = 1 ∧ ∃ w k, w ≤ sz ∧ wh = nI w ∧ rp = nI w ∧ rs = nI k ∧ k < 729 ∧ ∀ u, u < n → (vs u).toInt = oy_v k u)
def i_Rel (k : Nat) (u : SX) (v : SY) : Prop :=
  ∃ (n L sz len : Nat) (bg hol run wh rp rs : Int32) (pr hd st ti va wt wk vs tb em w2 so se : Nat → Int32),
    u = (nI n, nI L, nI sz, nI (2 * n), nI len, bg, hol, run, wh, pr, hd, st, ti, va, wt, wk, vs) ∧
    v = (nI n, nI L, nI sz, nI len, bg, rp, rs, pr, tb, em, w2, so, se) ∧
    or_X n L sz len bg pr hd st ti va wt ∧ or_L n sz st va wt tb em w2 ∧ or_run n sz bg run wh vs rp rs
theorem i_up {k : Nat} {u : SX} {v : SY} (h : i_Rel k u v) : i_Rel (k + 5) u v := h
theorem or_el {P : SX → SY → Prop} {k : Nat} {u : SX} {v : SY} (I : i_Rel k u v)
    (h : ∀ (n L sz len : Nat) (bg hol run wh rp rs : Int32) (pr hd st ti va wt wk vs tb em w2 so se : Nat → Int32),
      or_X n L sz len bg pr hd st ti va wt → or_L n sz st va wt tb em w2 → or_run n sz bg run wh vs rp rs →
      P (nI n, nI L, nI sz, nI (2 * n), nI len, bg, hol, run, wh, pr, hd, st, ti, va, wt, wk, vs)
        (nI n, nI L, nI sz, nI len, bg, rp, rs, pr, tb, em, w2, so, se)) : P u v := by
  obtain ⟨n, L, sz, len, bg, hol, run, wh, rp, rs, pr, hd, st, ti, va, wt, wk, vs, tb, em, w2, so, se, hu, hv, a, b, c⟩ := I
  rw [hu, hv]
  exact h n L sz len bg hol run wh rp rs pr hd st ti va wt wk vs tb em w2 so se a b c
theorem or_mk {k : Nat} {n L sz len : Nat} {bg hol run wh rp rs : Int32} {pr hd st ti va wt wk vs tb em w2 so se : Nat → Int32} (a : or_X n L sz len bg pr hd st ti va wt) (b : or_L n sz st va wt tb em w2) (c : or_run n sz bg run wh vs rp rs) :
    i_Rel k (nI n, nI L, nI sz, nI (2 * n), nI len, bg, hol, run, wh, pr, hd, st, ti, va, wt, wk, vs)
      (nI n, nI L, nI sz, nI len, bg, rp, rs, pr, tb, em, w2, so, se) :=
  ⟨n, L, sz, len, bg, hol, run, wh, rp, rs, pr, hd, st, ti, va, wt, wk, vs, tb, em, w2, so, se, rfl, rfl, a, b, c⟩
/-! places and codes -/
def or_pl (sz : Nat) (x : Int32) (q r : Nat) : Prop := x = nI r ∧ ((q = 11 ∧ r = 20) ∨ (q ≤ sz ∧ r = q))
theorem or_place {sz : Nat} (hz : sz ≤ 10) (x : Int32) : (∃ q r, or_pl sz x q r) ∨ (x ≠ 20 ∧ ∀ q, q ≤ sz → x ≠ nI q) := by
  by_cases h : x = 20
  · exact Or.inl ⟨11, 20, h, Or.inl ⟨rfl, rfl⟩⟩
  · by_cases h2 : ∃ q, q ≤ sz ∧ x = nI q
    · obtain ⟨q, a, b⟩ := h2
      exact Or.inl ⟨q, q, b, Or.inr ⟨a, rfl⟩⟩
    · exact Or.inr ⟨h, fun q a b => h2 ⟨q, a, b⟩⟩
theorem or_code (n : Nat) (x : Int32) : (∃ s, s < n ∧ x = nI s) ∨ (∀ s, s < n → x ≠ nI s) := by
  by_cases h : ∃ s, s < n ∧ x = nI s
  · exact Or.inl h
  · exact Or.inr (fun s a b => h ⟨s, a, b⟩)
section
variable {f_n f_limit f_size f_codes f_length f_begun f_hollow f_running f_where : Int32} {a_program a_head a_stored a_tight a_vacant a_waiting a_work a_values : Nat → Int32}
theorem ox_isCodeF {post : Int32 → Prop} {N : Nat} (hN : N ≤ 6) {x : Int32} (hx : ∀ s, s < N → x ≠ nI s) (h : post 0) : wpX_isCode post (f_n, f_limit, f_size, nI N, f_length, f_begun, f_hollow, f_running, f_where, a_program, a_head, a_stored, a_tight, a_vacant, a_waiting, a_work, a_values) x :=
  ox_isCode hN x (fun s hs e => absurd e (hx s hs)) (fun _ => h)
theorem ox_isVarT {post : Int32 → Prop} {n s : Nat} (hn : n ≤ 3) (hs : s < n) (h : post 1) : wpX_isVariable post (nI n, f_limit, f_size, f_codes, f_length, f_begun, f_hollow, f_running, f_where, a_program, a_head, a_stored, a_tight, a_vacant, a_waiting, a_work, a_values) (nI s) :=
  ox_isVariable hn _ (fun _ _ _ => h) (fun z => absurd rfl (z s hs))
theorem ox_isVarF {post : Int32 → Prop} {n : Nat} (hn : n ≤ 3) {x : Int32} (hx : ∀ s, s < n → x ≠ nI s) (h : post 0) : wpX_isVariable post (nI n, f_limit, f_size, f_codes, f_length, f_begun, f_hollow, f_running, f_where, a_program, a_head, a_stored, a_tight, a_vacant, a_waiting, a_work, a_values) x :=
  ox_isVariable hn x (fun s hs e => absurd e (hx s hs)) (fun _ => h)
theorem ox_slotT {post : Int32 → Prop} {sz : Nat} (hz : sz ≤ 10) {x : Int32} {q r : Nat} (hp : or_pl sz x q r) (h : post (nI q)) : wpX_slotOf post (f_n, f_limit, nI sz, f_codes, f_length, f_begun, f_hollow, f_running, f_where, a_program, a_head, a_stored, a_tight, a_vacant, a_waiting, a_work, a_values) x := by
  obtain ⟨rfl, ⟨rfl, rfl⟩ | ⟨hq, rfl⟩⟩ := hp
  · exact br_t rfl h
  · refine br_f (fun z => ?_) (br_f (nI_pos (by omega)) (br_f (nI_nlt hq (by omega)) h))
    have := (nI_eq (a := r) (b := 20) (by omega) (by omega)).mp z
    omega
theorem ox_slotF {post : Int32 → Prop} {sz : Nat} (hz : sz ≤ 10) {x : Int32} (hx : x ≠ 20 ∧ ∀ q, q ≤ sz → x ≠ nI q) (h : post (-1)) : wpX_slotOf post (f_n, f_limit, nI sz, f_codes, f_length, f_begun, f_hollow, f_running, f_where, a_program, a_head, a_stored, a_tight, a_vacant, a_waiting, a_work, a_values) x := by
  refine br_f hx.1 (br_c (fun _ => h) (fun c => br_c (fun _ => h) (fun c2 => ?_)))
  obtain ⟨j, hj, rfl⟩ := nI_of c
  rw [nI_ltI (by omega) hj] at c2
  exact absurd rfl (hx.2 j (by omega))
end
section
variable {f_n f_limit f_size f_length f_begun f_runPoint f_runState : Int32} {a_program a_table a_empty a_waiting a_source a_set : Nat → Int32}
theorem oy_isCodeT {post : Int32 → Prop} {n s : Nat} (hn : n ≤ 3) (hs : s < 2 * n) (h : post 1) : wpY_isCode post (nI n, f_limit, f_size, f_length, f_begun, f_runPoint, f_runState, a_program, a_table, a_empty, a_waiting, a_source, a_set) (nI s) :=
  br_f (nI_pos (by omega)) (br_f (oy_ge hn hs) h)
theorem oy_isCodeF {post : Int32 → Prop} {n : Nat} (hn : n ≤ 3) {x : Int32} (hx : ∀ s, s < 2 * n → x ≠ nI s) (h : post 0) : wpY_isCode post (nI n, f_limit, f_size, f_length, f_begun, f_runPoint, f_runState, a_program, a_table, a_empty, a_waiting, a_source, a_set) x := by
  refine br_c (fun _ => h) (fun c => br_c (fun _ => h) (fun c2 => ?_))
  obtain ⟨j, hj, rfl⟩ := nI_of c
  rw [oz_d2, nI_leI (by omega) hj] at c2
  exact absurd rfl (hx j (by omega))
theorem oy_varT {A B : Prop} {n s : Nat} (hn : n ≤ 3) (hs : s < n) (h : B) : ((nI s < 0 → A) ∧ (¬ nI s < 0 → ((nI s < nI n → B) ∧ (¬ nI s < nI n → A)))) :=
  br_f (nI_pos (by omega)) (br_t (nI_lt hs (by omega)) h)
theorem oy_varF {A B : Prop} {n : Nat} {x : Int32} (hn : n ≤ 3) (hx : ∀ s, s < n → x ≠ nI s) (h : A) : ((x < 0 → A) ∧ (¬ x < 0 → ((x < nI n → B) ∧ (¬ x < nI n → A)))) := by
  refine br_c (fun _ => h) (fun c => br_c (fun c2 => ?_) (fun _ => h))
  obtain ⟨j, hj, rfl⟩ := nI_of c
  rw [nI_ltI hj (by omega)] at c2
  exact absurd rfl (hx j c2)
theorem oy_placeT {post : Int32 → Prop} {sz : Nat} (hz : sz ≤ 10) {x : Int32} {q r : Nat} (hp : or_pl sz x q r) (h : post 1) : wpY_isPlace post (f_n, f_limit, nI sz, f_length, f_begun, f_runPoint, f_runState, a_program, a_table, a_empty, a_waiting, a_source, a_set) x := by
  obtain ⟨rfl, ⟨rfl, rfl⟩ | ⟨hq, rfl⟩⟩ := hp
  · exact br_t rfl h
  · refine br_f (fun z => ?_) (br_f (nI_pos (by omega)) (br_f (nI_nlt hq (by omega)) h))
    have := (nI_eq (a := r) (b := 20) (by omega) (by omega)).mp z
    omega
theorem oy_placeF {post : Int32 → Prop} {sz : Nat} (hz : sz ≤ 10) {x : Int32} (hx : x ≠ 20 ∧ ∀ q, q ≤ sz → x ≠ nI q) (h : post 0) : wpY_isPlace post (f_n, f_limit, nI sz, f_length, f_begun, f_runPoint, f_runState, a_program, a_table, a_empty, a_waiting, a_source, a_set) x := by
  refine br_f hx.1 (br_c (fun _ => h) (fun c => br_c (fun _ => h) (fun c2 => ?_)))
  obtain ⟨j, hj, rfl⟩ := nI_of c
  rw [nI_ltI (by omega) hj] at c2
  exact absurd rfl (hx.2 j (by omega))
end
/-! a place's points -/
def or_S (n : Nat) (va ti : Nat → Int32) (q : Nat) (p : Nat → Int) : Prop := va q = 0 ∧ oc_Gam (2 * n) (oz_s ti q) p
/-- what is known of a place -/
def or_at (n L : Nat) (st ti va tb em : Nat → Int32) (q r : Nat) : Prop :=
  q < 12 ∧ r < 21 ∧ (va q = 0 ∨ va q = 1) ∧ em r = va q ∧ (va q = 0 → (∃ hd, or_Sl n L hd st ti q) ∧ or_eq n st tb q r)
theorem or_atP {n L sz len : Nat} {bg : Int32} {pr hd st ti va wt tb em w2 : Nat → Int32} (a : or_X n L sz len bg pr hd st ti va wt) (b : or_L n sz st va wt tb em w2) {x : Int32} {q r : Nat} (h : or_pl sz x q r) : or_at n L st ti va tb em q r := by
  obtain ⟨-, ⟨rfl, rfl⟩ | ⟨hq, rfl⟩⟩ := h
  · exact ⟨by omega, by omega, a.2.2.2.2.1.1, b.2.1, fun z => ⟨⟨0, (a.2.2.2.2.1.2 z).1⟩, b.2.2 z⟩⟩
  · exact ⟨by have := a.1.2.2.1; omega, by have := a.1.2.2.1; omega, (a.2.2.2.1 r hq).1, (b.1 r hq).1, fun z => ⟨⟨_, (a.2.2.2.1 r hq).2.1 z⟩, (b.1 r hq).2.2 z⟩⟩
theorem or_SBox {n L : Nat} {st ti va tb em : Nat → Int32} {q r : Nat} (A : or_at n L st ti va tb em q r) : oc_Box (2 * n) L (or_S n va ti q) := by
  rintro p ⟨h1, h2⟩
  obtain ⟨hd, Sl⟩ := (A.2.2.2.2 h1).1
  exact or_Sl_box Sl p h2
theorem or_SExt (n : Nat) (va ti : Nat → Int32) (q : Nat) : ob_Ext n (or_S n va ti q) := fun p p' h hp => ⟨hp.1, ob_ExtG n _ p p' h hp.2⟩
theorem or_num {n L : Nat} (hn : n = 2 ∨ n = 3) {st ti va tb em : Nat → Int32} {q r : Nat} (A : or_at n L st ti va tb em q r) (k : Nat) : oy_In n L em tb r k ↔ ob_num n L (or_S n va ti q) k := by
  obtain ⟨h1, h2, h3, h4, h5⟩ := A
  constructor
  · rintro ⟨a, b, c⟩
    have z : va q = 0 := by rw [← h4]; exact a
    obtain ⟨⟨hd, Sl⟩, E⟩ := h5 z
    have e : ∀ s, s < 2 * n → ∀ t, t < 2 * n → oz_s tb r s t = oz_s st q s t := fun s hs t ht => congrArg Int32.toInt (E s hs t ht)
    exact ⟨b, z, (Sl.2.1 _).mp ((oc_G_congr e _).mp c)⟩
  · rintro ⟨b, z, c⟩
    obtain ⟨⟨hd, Sl⟩, E⟩ := h5 z
    have e : ∀ s, s < 2 * n → ∀ t, t < 2 * n → oz_s tb r s t = oz_s st q s t := fun s hs t ht => congrArg Int32.toInt (E s hs t ht)
    exact ⟨by rw [h4]; exact z, b, (oc_G_congr e _).mpr ((Sl.2.1 _).mpr c)⟩
theorem or_src {n L : Nat} (hn : n = 2 ∨ n = 3) {st ti va tb em so : Nat → Int32} {q r : Nat} (A : or_at n L st ti va tb em q r) (h : oy_Is so (oy_In n L em tb r)) : oy_Is so (ob_num n L (or_S n va ti q)) := ob_Is h (fun k _ => or_num hn A k)
theorem or_out {n L : Nat} (hn : n = 2 ∨ n = 3) (hL : L ≤ 4) {st ti va tb em w : Nat → Int32} {q r : Nat} (A : or_at n L st ti va tb em q r) (h : ∀ j, j < 36 → w j = ti (q * 36 + j)) : ox_Out (2 * n) (va q) w (or_S n va ti q) := by
  rcases A.2.2.1 with z | z
  · obtain ⟨⟨hd, Sl⟩, -⟩ := A.2.2.2.2 z
    have W := or_load hn hL Sl h
    exact Or.inr ⟨z, W.1, fun p => ⟨fun y => ⟨z, (W.2.1 p).mp y⟩, fun y => (W.2.1 p).mpr y.2⟩, W.2.2⟩
  · refine Or.inl ⟨z, fun p hp => ?_⟩
    have := hp.1
    rw [z] at this
    exact absurd this (by decide)
end
section
/-! the calls that only read -/
theorem i_vc_field {k : Nat} {u : SX} {v : SY} (I : i_Rel k u v) (hk : k + 5 ≤ 2563) (v1 : Int32) (v2 : Int32) : wpX_field (fun r => wpY_field (fun r' => r' = r ∧ i_Rel (k + 5) u v) v v1 v2) u v1 v2 := by
  refine or_el (P := fun u v => i_Rel (k + 5) u v → wpX_field (fun r => wpY_field (fun r' => r' = r ∧ i_Rel (k + 5) u v) v v1 v2) u v1 v2) I ?_ (i_up I)
  intro n L sz len bg hol run wh rp rs pr hd st ti va wt wk vs tb em w2 so se a b c R
  have hl : len ≤ 10 := by have := a.1; omega
  refine br_c (fun h1 => br_t h1 ⟨rfl, R⟩) (fun h1 => br_c (fun h2 => br_f h1 (br_t h2 ⟨rfl, R⟩)) (fun h2 => br_c (fun h3 => br_f h1 (br_f h2 (br_t h3 ⟨rfl, R⟩))) (fun h3 => br_c (fun h4 => ?_) (fun h4 => br_f h1 (br_f h2 (br_f h3 (br_f h4 ⟨rfl, R⟩)))))))
  obtain ⟨i, hi, rfl⟩ := nI_of h1
  rw [nI_leI (by omega) hi] at h2
  obtain ⟨j, hj, rfl⟩ := nI_of2 (n := 4) (by decide) h3 h4
  have hin : vp_in (nI i * 5 + nI j) 50 := pk_in (i * 5 + j) 50 (by omega) (oz_i5 i j)
  exact ⟨hin, br_f h1 (br_f (nI_ge (by omega) (by omega)) (br_f h3 (br_t h4 ⟨hin, rfl, R⟩)))⟩
theorem i_vc_pending {k : Nat} {u : SX} {v : SY} (I : i_Rel k u v) (hk : k + 5 ≤ 2563) (v1 : Int32) : wpX_pending (fun r => wpY_pending (fun r' => r' = r ∧ i_Rel (k + 5) u v) v v1) u v1 := by
  refine or_el (P := fun u v => i_Rel (k + 5) u v → wpX_pending (fun r => wpY_pending (fun r' => r' = r ∧ i_Rel (k + 5) u v) v v1) u v1) I ?_ (i_up I)
  intro n L sz len bg hol run wh rp rs pr hd st ti va wt wk vs tb em w2 so se a b c R
  have hz : sz ≤ 10 := by have := a.1; omega
  refine br_c (fun h1 => br_t h1 ⟨rfl, R⟩) (fun h1 => br_c (fun h2 => br_f h1 (br_t h2 ⟨rfl, R⟩)) (fun h2 => ?_))
  obtain ⟨i, hi, rfl⟩ := nI_of h1
  have h2' := h2
  rw [nI_ltI (by omega) hi] at h2
  have e1 : (nI i).toNatClampNeg = i := nI_clamp (by omega)
  have e2 := (b.1 i (by omega)).2.1
  refine ⟨pk_in i 11 (by omega), ?_⟩
  rw [e1]
  refine br_c (fun h3 => br_f h1 (br_f h2' ⟨pk_in i 21 (by omega), ?_⟩)) (fun h3 => br_f h1 (br_f h2' ⟨pk_in i 21 (by omega), ?_⟩))
  · rw [e1, e2]; exact br_t h3 ⟨rfl, R⟩
  · rw [e1, e2]; exact br_f h3 ⟨rfl, R⟩
theorem i_vc_raw {k : Nat} {u : SX} {v : SY} (I : i_Rel k u v) (hk : k + 5 ≤ 2563) (v1 : Int32) (v2 : Int32) (v3 : Int32) : wpX_raw (fun r => wpY_raw (fun r' => r' = r ∧ i_Rel (k + 5) u v) v v1 v2 v3) u v1 v2 v3 := by
  refine or_el (P := fun u v => i_Rel (k + 5) u v → wpX_raw (fun r => wpY_raw (fun r' => r' = r ∧ i_Rel (k + 5) u v) v v1 v2 v3) u v1 v2 v3) I ?_ (i_up I)
  intro n L sz len bg hol run wh rp rs pr hd st ti va wt wk vs tb em w2 so se a b c R
  have hz : sz ≤ 10 := by have := a.1; omega
  have hn := a.1.1
  unfold wpX_raw wpY_raw
  rcases or_place hz v1 with ⟨q, r, hp⟩ | hp
  · rcases or_code (2 * n) v2 with ⟨s, hs, rfl⟩ | h2
    · rcases or_code (2 * n) v3 with ⟨t, ht, rfl⟩ | h3
      · have A := or_atP a b hp
        obtain ⟨hq, hr, h01, hem, hsl⟩ := A
        have eq1 : (nI q).toNatClampNeg = q := nI_clamp (by omega)
        have er1 : (nI r).toNatClampNeg = r := nI_clamp (by omega)
        have eq2 : (nI q * 36 + nI s * 6 + nI t).toNatClampNeg = q * 36 + s * 6 + t := pk_cl _ (oz_i366 q s t)
        have er2 : (nI r * 36 + nI s * 6 + nI t).toNatClampNeg = r * 36 + s * 6 + t := pk_cl _ (oz_i366 r s t)
        refine ox_slotT hz hp (br_f (nI_pos (by omega)) ?_)
        refine ox_isCode1 (by omega) hs (br_f (by decide) ?_)
        refine ox_isCode1 (by omega) ht (br_f (by decide) ⟨pk_in q 12 hq, ?_⟩)
        rw [eq1]
        refine br_c (fun z => ⟨pk_in (q * 36 + s * 6 + t) 432 (by omega) (oz_i366 q s t), ?_⟩) (fun z => ?_)
        · refine oy_placeT hz hp (br_f (by decide) ?_)
          refine oy_isCodeT (by omega) hs (br_f (by decide) ?_)
          refine oy_isCodeT (by omega) ht (br_f (by decide) ?_)
          rw [hp.1]
          refine ⟨pk_in r 21 hr, ?_⟩
          rw [er1]
          refine br_t (hem.trans z) ⟨pk_in (r * 36 + s * 6 + t) 756 (by omega) (oz_i366 r s t), ?_, R⟩
          rw [eq2, er2]
          exact (hsl z).2 s hs t ht
        · refine oy_placeT hz hp (br_f (by decide) ?_)
          refine oy_isCodeT (by omega) hs (br_f (by decide) ?_)
          refine oy_isCodeT (by omega) ht (br_f (by decide) ?_)
          rw [hp.1]
          refine ⟨pk_in r 21 hr, ?_⟩
          rw [er1]
          exact br_f (fun y => z (hem.symm.trans y)) ⟨rfl, R⟩
      · refine ox_slotT hz hp (br_f (nI_pos (by have := (or_atP a b hp).1; omega)) ?_)
        refine ox_isCode1 (by omega) hs (br_f (by decide) ?_)
        refine ox_isCodeF (by omega) h3 (br_t rfl ?_)
        refine oy_placeT hz hp (br_f (by decide) ?_)
        refine oy_isCodeT (by omega) hs (br_f (by decide) ?_)
        exact oy_isCodeF (by omega) h3 (br_t rfl ⟨rfl, R⟩)
    · refine ox_slotT hz hp (br_f (nI_pos (by have := (or_atP a b hp).1; omega)) ?_)
      refine ox_isCodeF (by omega) h2 (br_t rfl ?_)
      refine oy_placeT hz hp (br_f (by decide) ?_)
      exact oy_isCodeF (by omega) h2 (br_t rfl ⟨rfl, R⟩)
  · refine ox_slotF hz hp (br_t (by decide) ?_)
    exact oy_placeF hz hp (br_t rfl ⟨rfl, R⟩)
/-- the closed numbers of a place are the reference's best sums -/
theorem or_best {n L : Nat} (hn : n = 2 ∨ n = 3) (hL : L ≤ 4) {st ti va tb em so : Nat → Int32} {q r : Nat} (A : or_at n L st ti va tb em q r) (h : oy_Is so (oy_In n L em tb r)) (z : va q = 0) {s t : Nat} (hs : s < 2 * n) (ht : t < 2 * n) {x : Int32} (hx : oy_bst so s t 729 x) : x = ti (q * 36 + s * 6 + t) := by
  have O := or_out (w := fun j => ti (q * 36 + j)) hn hL A (fun j _ => rfl)
  rcases O with ⟨y, -⟩ | ⟨-, W⟩
  · rw [z] at y; exact absurd y (by decide)
  · have := ob_bst hn hL (or_src hn A h) W (or_SBox A) hs ht hx
    rw [this, Nat.add_assoc]
theorem or_empty {n L : Nat} (hn : n = 2 ∨ n = 3) {st ti va tb em so : Nat → Int32} {q r : Nat} (A : or_at n L st ti va tb em q r) (h : oy_Is so (oy_In n L em tb r)) (z : ¬ va q = 0) : ∀ k, k < 729 → so k = 0 :=
  ob_none (or_src hn A h) (fun p hp => z hp.1)
theorem or_low {n L : Nat} (hn : n = 2 ∨ n = 3) (hL : L ≤ 4) {st ti va tb em : Nat → Int32} {q r : Nat} (A : or_at n L st ti va tb em q r) (z : va q = 0) {s t : Nat} (hs : s < 2 * n) (ht : t < 2 * n) : -8 ≤ oz_s ti q s t ∧ oz_s ti q s t ≤ 8 := by
  obtain ⟨⟨hd, Sl⟩, -⟩ := A.2.2.2.2 z
  have B : ∀ s, s < 2 * n → ∀ t, t < 2 * n → oz_s ti q s t ≤ 2 * L := fun s hs t ht => oc_box (by omega) Sl.1 (or_Sl_box Sl) hs ht
  have a := B s hs t ht
  have b := oc_lowT (by omega) Sl.1 B hs ht
  omega
theorem i_vc_bound {k : Nat} {u : SX} {v : SY} (I : i_Rel k u v) (hk : k + 5 ≤ 2563) (v1 : Int32) (v2 : Int32) (v3 : Int32) : wpX_bound (fun r => wpY_bound (fun r' v' => r' = r ∧ i_Rel (k + 5) u v') v v1 v2 v3) u v1 v2 v3 := by
  refine or_el (P := fun u v => wpX_bound (fun r => wpY_bound (fun r' v' => r' = r ∧ i_Rel (k + 5) u v') v v1 v2 v3) u v1 v2 v3) I ?_
  intro n L sz len bg hol run wh rp rs pr hd st ti va wt wk vs tb em w2 so se a b c
  have hz : sz ≤ 10 := by have := a.1; omega
  have hn := a.1.1
  have hL : L ≤ 4 := a.1.2.1.2
  unfold wpX_bound wpY_bound
  rcases or_place hz v1 with ⟨q, r, hp⟩ | hp
  · rcases or_code (2 * n) v2 with ⟨s, hs, rfl⟩ | h2
    · rcases or_code (2 * n) v3 with ⟨t, ht, rfl⟩ | h3
      · have A := or_atP a b hp
        have hq := A.1
        have hr := A.2.1
        have eq1 : (nI q).toNatClampNeg = q := nI_clamp (by omega)
        have eq2 : (nI q * 36 + nI s * 6 + nI t).toNatClampNeg = q * 36 + s * 6 + t := pk_cl _ (oz_i366 q s t)
        refine ox_slotT hz hp (br_f (nI_pos (by omega)) ?_)
        refine ox_isCode1 (by omega) hs (br_f (by decide) ?_)
        refine ox_isCode1 (by omega) ht (br_f (by decide) ⟨pk_in q 12 hq, ?_⟩)
        rw [eq1]
        refine br_c (fun z => ⟨pk_in (q * 36 + s * 6 + t) 432 (by omega) (oz_i366 q s t), ?_⟩) (fun z => ?_)
        · refine oy_placeT hz hp (br_f (by decide) ?_)
          refine oy_isCodeT (by omega) hs (br_f (by decide) ?_)
          refine oy_isCodeT (by omega) ht (br_f (by decide) ?_)
          rw [hp.1]
          refine oy_collect hn hL hr (fun src hsrc => ⟨730, ?_⟩)
          refine oy_bound39 (by omega) (by omega) (fun x hx => ?_) 729 0 (-100) 730 (by omega) (by omega) (oy_bst0 _ _ _)
          have e := or_best hn hL A hsrc z hs ht hx
          have lo := or_low hn hL A z hs ht
          have ne : ¬ x = -100 := by
            intro y
            have e2 : x.toInt = oz_s ti q s t := congrArg Int32.toInt e
            rw [y, oy_m100] at e2
            omega
          rw [eq2]
          exact br_f ne ⟨e, or_mk a b c⟩
        · refine oy_placeT hz hp (br_f (by decide) ?_)
          refine oy_isCodeT (by omega) hs (br_f (by decide) ?_)
          refine oy_isCodeT (by omega) ht (br_f (by decide) ?_)
          rw [hp.1]
          refine oy_collect hn hL hr (fun src hsrc => ⟨730, ?_⟩)
          refine oy_bound39 (by omega) (by omega) (fun x hx => ?_) 729 0 (-100) 730 (by omega) (by omega) (oy_bst0 _ _ _)
          have em0 := or_empty hn A hsrc z
          rcases hx with ⟨h1, -⟩ | ⟨⟨j, hj, h1, -⟩, -⟩
          · have e : x = -100 := by
              apply Int32.toInt_inj.mp
              rw [h1, oy_m100]
            exact br_t e ⟨rfl, or_mk a b c⟩
          · exact absurd (em0 j hj) h1
      · refine ox_slotT hz hp (br_f (nI_pos (by have := (or_atP a b hp).1; omega)) ?_)
        refine ox_isCode1 (by omega) hs (br_f (by decide) ?_)
        refine ox_isCodeF (by omega) h3 (br_t rfl ?_)
        refine oy_placeT hz hp (br_f (by decide) ?_)
        refine oy_isCodeT (by omega) hs (br_f (by decide) ?_)
        exact oy_isCodeF (by omega) h3 (br_t rfl ⟨rfl, or_mk a b c⟩)
    · refine ox_slotT hz hp (br_f (nI_pos (by have := (or_atP a b hp).1; omega)) ?_)
      refine ox_isCodeF (by omega) h2 (br_t rfl ?_)
      refine oy_placeT hz hp (br_f (by decide) ?_)
      exact oy_isCodeF (by omega) h2 (br_t rfl ⟨rfl, or_mk a b c⟩)
  · refine ox_slotF hz hp (br_t (by decide) ?_)
    exact oy_placeF hz hp (br_t rfl ⟨rfl, or_mk a b c⟩)
/-- a state of a place attains a closed number -/
theorem or_attain {n L : Nat} (hn : n = 2 ∨ n = 3) (hL : L ≤ 4) {st ti va tb em so : Nat → Int32} {q r : Nat} (A : or_at n L st ti va tb em q r) (h : oy_Is so (oy_In n L em tb r)) (z : va q = 0) {s t : Nat} (hs : s < 2 * n) (ht : t < 2 * n) : (∃ k, k < 729 ∧ so k ≠ 0 ∧ oy_sm k s t = oz_s ti q s t) ∧ ∀ k, k < 729 → so k ≠ 0 → oy_sm k s t ≤ oz_s ti q s t := by
  obtain ⟨⟨hd, Sl⟩, -⟩ := A.2.2.2.2 z
  obtain ⟨p, hp, e⟩ := oc_att (by omega) Sl.1 hs ht
  have H := or_src hn A h
  obtain ⟨k, hk, hz, hv⟩ := ob_wit hn hL H (or_SExt n va ti q) (or_SBox A) ⟨z, hp⟩
  refine ⟨⟨k, hk, hz, ?_⟩, fun j hj h1 => ?_⟩
  · simp only [oy_sm]
    rw [ob_gext hs hv, ob_gext ht hv]; exact e
  · exact ((H j hj).mp h1).2.2 s hs t ht
theorem i_vc_verdict {k : Nat} {u : SX} {v : SY} (I : i_Rel k u v) (hk : k + 5 ≤ 2563) (v1 : Int32) (v2 : Int32) (v3 : Int32) (v4 : Int32) : wpX_verdict (fun r => wpY_verdict (fun r' v' => r' = r ∧ i_Rel (k + 5) u v') v v1 v2 v3 v4) u v1 v2 v3 v4 := by
  refine or_el (P := fun u v => wpX_verdict (fun r => wpY_verdict (fun r' v' => r' = r ∧ i_Rel (k + 5) u v') v v1 v2 v3 v4) u v1 v2 v3 v4) I ?_
  intro n L sz len bg hol run wh rp rs pr hd st ti va wt wk vs tb em w2 so se a b c
  have hz : sz ≤ 10 := by have := a.1; omega
  have hn := a.1.1
  have hL : L ≤ 4 := a.1.2.1.2
  unfold wpX_verdict wpY_verdict
  rcases or_place hz v1 with ⟨q, r, hp⟩ | hp
  · rcases or_code (2 * n) v2 with ⟨s, hs, rfl⟩ | h2
    · rcases or_code (2 * n) v3 with ⟨t, ht, rfl⟩ | h3
      · have A := or_atP a b hp
        have hq := A.1
        have hr := A.2.1
        have hns := oc_nlt (N := 2 * n) (by omega) hs
        have hnt := oc_nlt (N := 2 * n) (by omega) ht
        have eq1 : (nI q).toNatClampNeg = q := nI_clamp (by omega)
        have eq2 : (nI q * 36 + nI s * 6 + nI t).toNatClampNeg = q * 36 + s * 6 + t := pk_cl _ (oz_i366 q s t)
        have ex : nI q * 36 + (nI s ^^^ 1) * 6 + (nI t ^^^ 1) = nI (q * 36 + oc_n s * 6 + oc_n t) := by rw [oz_xor (by omega), oz_xor (by omega), oz_i366]
        refine ox_slotT hz hp (br_f (nI_pos (by omega)) ?_)
        refine ox_isCode1 (by omega) hs (br_f (by decide) ?_)
        refine ox_isCode1 (by omega) ht (br_f (by decide) ⟨pk_in q 12 hq, ?_⟩)
        rw [eq1]
        refine br_c (fun z => ⟨pk_in (q * 36 + s * 6 + t) 432 (by omega) (oz_i366 q s t), ?_⟩) (fun z => ?_)
        · have lo := or_low hn hL A z hs ht
          have lo2 := or_low hn hL A z hns hnt
          refine nm_r (congrArg ti eq2) ⟨pk_in (q * 36 + oc_n s * 6 + oc_n t) 432 (by omega) ex, ?_⟩
          refine nm_r (e' := -(ti (q * 36 + oc_n s * 6 + oc_n t))) (by rw [pk_cl _ ex]) ?_
          have t1 : (ti (q * 36 + s * 6 + t)).toInt = oz_s ti q s t := rfl
          have t2 : (ti (q * 36 + oc_n s * 6 + oc_n t)).toInt = oz_s ti q (oc_n s) (oc_n t) := rfl
          have t3 := oz_neg (x := ti (q * 36 + oc_n s * 6 + oc_n t)) (by omega)
          have smn : ∀ j, oy_sm j (oc_n s) (oc_n t) = - oy_sm j s t := fun j => by
            simp only [oy_sm]; rw [oc_gn, oc_gn]; omega
          refine br_c (fun c1 => br_c (fun c2 => ?_) (fun c2 => ?_)) (fun c1 => ?_)
          all_goals
            refine oy_placeT hz hp (br_f (by decide) ?_)
            refine oy_isCodeT (by omega) hs (br_f (by decide) ?_)
            refine oy_isCodeT (by omega) ht (br_f (by decide) ?_)
            rw [hp.1]
            refine oy_collect hn hL hr (fun src hsrc => ⟨730, ?_⟩)
            obtain ⟨⟨j1, hj1, w1, x1⟩, y1⟩ := or_attain hn hL A hsrc z hs ht
            obtain ⟨⟨j2, hj2, w2', x2⟩, y2⟩ := or_attain hn hL A hsrc z hns hnt
            rw [smn] at x2
            rw [Int32.lt_iff_toInt_lt, t1] at c1
            refine oy_verdict41 (by omega) (by omega) (fun h => absurd (h j1 hj1) w1) (fun h0 h => ?_) (fun h0 h => ?_) (fun h0 h => ?_) 729 0 0 0 730 (by omega) (by omega) (by omega) (by omega) ⟨fun _ j hj => absurd hj (Nat.not_lt_zero j), fun _ => rfl⟩ ⟨fun _ j hj => absurd hj (Nat.not_lt_zero j), fun _ => rfl⟩
          · have := h j1 hj1 w1
            omega
          · rw [Int32.le_iff_toInt_le, t3, t2] at c2
            have := h j2 hj2 w2'
            omega
          · exact ⟨rfl, or_mk a b c⟩
          · have := h j1 hj1 w1
            omega
          · exact ⟨rfl, or_mk a b c⟩
          · rw [Int32.le_iff_toInt_le, t3, t2] at c2
            obtain ⟨j, hj, hz1, hz2⟩ := h0
            have := y2 j hj hz1
            rw [smn] at this
            omega
          · exact ⟨rfl, or_mk a b c⟩
          · have := h j1 hj1 w1
            omega
          · obtain ⟨j, hj, hz1, hz2⟩ := h
            have := y1 j hj hz1
            omega
        · refine oy_placeT hz hp (br_f (by decide) ?_)
          refine oy_isCodeT (by omega) hs (br_f (by decide) ?_)
          refine oy_isCodeT (by omega) ht (br_f (by decide) ?_)
          rw [hp.1]
          refine oy_collect hn hL hr (fun src hsrc => ⟨730, ?_⟩)
          have em0 := or_empty hn A hsrc z
          refine oy_verdict41 (by omega) (by omega) (fun h => ⟨rfl, or_mk a b c⟩) (fun h0 h => ?_) (fun h0 h => ?_) (fun h0 h => ?_) 729 0 0 0 730 (by omega) (by omega) (by omega) (by omega) ⟨fun _ j hj => absurd hj (Nat.not_lt_zero j), fun _ => rfl⟩ ⟨fun _ j hj => absurd hj (Nat.not_lt_zero j), fun _ => rfl⟩
          · obtain ⟨j, hj, h1⟩ := h0
            exact absurd (em0 j hj) h1
          · obtain ⟨j, hj, h1⟩ := h0
            exact absurd (em0 j hj) h1
          · obtain ⟨j, hj, h1, -⟩ := h0
            exact absurd (em0 j hj) h1
      · refine ox_slotT hz hp (br_f (nI_pos (by have := (or_atP a b hp).1; omega)) ?_)
        refine ox_isCode1 (by omega) hs (br_f (by decide) ?_)
        refine ox_isCodeF (by omega) h3 (br_t rfl ?_)
        refine oy_placeT hz hp (br_f (by decide) ?_)
        refine oy_isCodeT (by omega) hs (br_f (by decide) ?_)
        exact oy_isCodeF (by omega) h3 (br_t rfl ⟨rfl, or_mk a b c⟩)
    · refine ox_slotT hz hp (br_f (nI_pos (by have := (or_atP a b hp).1; omega)) ?_)
      refine ox_isCodeF (by omega) h2 (br_t rfl ?_)
      refine oy_placeT hz hp (br_f (by decide) ?_)
      exact oy_isCodeF (by omega) h2 (br_t rfl ⟨rfl, or_mk a b c⟩)
  · refine ox_slotF hz hp (br_t (by decide) ?_)
    exact oy_placeF hz hp (br_t rfl ⟨rfl, or_mk a b c⟩)
end
section
/-! least, machine, launch, step -/
theorem ob_least (P : Nat → Prop) : ∀ k, P k → ∃ m, P m ∧ m ≤ k ∧ ∀ j, j < m → ¬ P j := by
  intro k
  induction k using Nat.strongRecOn with
  | ind k ih =>
    intro h
    by_cases c : ∃ j, j < k ∧ P j
    · obtain ⟨j, hj, pj⟩ := c
      obtain ⟨m, a, b, d⟩ := ih j hj pj
      exact ⟨m, a, by omega, d⟩
    · exact ⟨k, h, Nat.le_refl _, fun j hj pj => c ⟨j, hj, pj⟩⟩
theorem ob_dig {k0 k : Nat} (h0 : k0 < 729) (hk : k < 729) (hle : k0 ≤ k) {u : Nat} (hu : u < 3) (h : ∀ i, i < u → oy_v k i = oy_v k0 i) : oy_v k0 u ≤ oy_v k u := by
  have hc : u = 0 ∨ u = 1 ∨ u = 2 := by omega
  rcases hc with rfl | rfl | rfl
  · rw [oy_v0, oy_v0]; omega
  · have a := h 0 (by decide)
    rw [oy_v0, oy_v0] at a
    rw [oy_v1, oy_v1]; omega
  · have a := h 0 (by decide)
    have b := h 1 (by decide)
    rw [oy_v0, oy_v0] at a
    rw [oy_v1, oy_v1] at b
    rw [oy_v2 (by decide) (by decide), oy_v2 (by decide) (by decide)]; omega
theorem ob_lex {n L : Nat} (hn : n = 2 ∨ n = 3) (hL : L ≤ 4) {S : (Nat → Int) → Prop} (hx : ob_Ext n S) (hB : oc_Box (2 * n) L S) {p : Nat → Int} (hp : S p) {v : Nat} (hv : v < n) : ∃ k0, k0 < 729 ∧ ob_num n L S k0 ∧ (∀ j, j < k0 → ¬ ob_num n L S j) ∧ oc_lex S v (oy_v k0) := by
  obtain ⟨k, hk, h1, h2⟩ := ob_st hn hL (fun u hu => hB p hp u (by omega))
  obtain ⟨k0, a, b, d⟩ := ob_least (ob_num n L S) k ⟨h1, hx p _ (fun u hu => (h2 u hu).symm) hp⟩
  refine ⟨k0, by omega, a, d, a.2, fun p' hp' u hu he => ?_⟩
  obtain ⟨k', hk', h1', h2'⟩ := ob_st hn hL (fun u hu => hB p' hp' u (by omega))
  have le : k0 ≤ k' := by
    refine Classical.byContradiction (fun z => d k' (by omega) ⟨h1', hx p' _ (fun u hu => (h2' u hu).symm) hp'⟩)
  have := ob_dig (by omega) hk' le (u := u) (by omega) (fun i hi => by rw [h2' i (by omega)]; exact he i hi)
  rw [h2' u (by omega)] at this
  exact this
theorem i_vc_least {k : Nat} {u : SX} {v : SY} (I : i_Rel k u v) (hk : k + 5 ≤ 2563) (v1 : Int32) (v2 : Int32) : wpX_least (fun r u' => wpY_least (fun r' v' => r' = r ∧ i_Rel (k + 5) u' v') v v1 v2) u v1 v2 := by
  refine or_el (P := fun u v => wpX_least (fun r u' => wpY_least (fun r' v' => r' = r ∧ i_Rel (k + 5) u' v') v v1 v2) u v1 v2) I ?_
  intro n L sz len bg hol run wh rp rs pr hd st ti va wt wk vs tb em w2 so se a b c
  have hz : sz ≤ 10 := by have := a.1; omega
  have hn := a.1.1
  have hL : L ≤ 4 := a.1.2.1.2
  unfold wpX_least wpY_least
  rcases or_place hz v1 with ⟨q, r, hp⟩ | hp
  · rcases or_code n v2 with ⟨s, hs, rfl⟩ | h2
    · have A := or_atP a b hp
      have hq := A.1
      have hr := A.2.1
      have eq1 : (nI q).toNatClampNeg = q := nI_clamp (by omega)
      refine ox_slotT hz hp (br_f (nI_pos (by omega)) ?_)
      refine ox_isVarT (by omega) hs (br_f (by decide) ⟨pk_in q 12 hq, ?_⟩)
      rw [eq1]
      refine br_c (fun z => ?_) (fun z => ?_)
      · refine ox_load hq A.2.2.1 (fun w hw => ⟨s + 1, ?_⟩)
        have O := or_out hn hL A hw
        have W : ox_Wk (2 * n) w (or_S n va ti q) := by
          rcases O with ⟨y, -⟩ | ⟨-, W⟩
          · rw [z] at y; exact absurd y (by decide)
          · exact W
        obtain ⟨p, hp1, -⟩ := oc_att (by omega) W.1 (a := 0) (b := 0) (by omega) (by omega)
        obtain ⟨k0, hk0, n0, mn, lx⟩ := ob_lex hn hL (or_SExt n va ti q) (or_SBox A) ((W.2.1 p).mp hp1) hs
        refine ox_least41 (by omega) (by omega) lx (fun u hu => by have := oy_vb hk0 u; omega) (fun r0 hol0 w0 hr0 => ?_) s 0 (va q) w (s + 1) (by omega) (by omega) (ox_Out_congr (fun p => ⟨fun y => ⟨y, fun i hi => absurd hi (Nat.not_lt_zero i)⟩, fun y => y.1⟩) O)
        refine oy_placeT hz hp (br_f (by decide) ?_)
        refine oy_varT (by omega) hs ?_
        rw [hp.1]
        refine oy_collect hn hL hr (fun src hsrc => ⟨730, ?_⟩)
        have H := or_src hn A hsrc
        refine oy_least30 (by omega) (fun h => absurd (h k0 hk0) ((H k0 hk0).mpr n0)) (fun k1 r1 hk1 h1 h2 h3 => ?_) 729 0 730 (by omega) (by omega) (fun j hj => absurd hj (Nat.not_lt_zero j))
        have e : k1 = k0 := by
          rcases Nat.lt_trichotomy k1 k0 with y | y | y
          · exact absurd ((H k1 hk1).mp h1) (mn k1 y)
          · exact y
          · exact absurd (h2 k0 y) ((H k0 hk0).mpr n0)
        subst e
        exact ⟨Int32.toInt_inj.mp (h3.trans hr0.symm), or_mk a b c⟩
      · refine oy_placeT hz hp (br_f (by decide) ?_)
        refine oy_varT (by omega) hs ?_
        rw [hp.1]
        refine oy_collect hn hL hr (fun src hsrc => ⟨730, ?_⟩)
        have em0 := or_empty hn A hsrc z
        refine oy_least30 (by omega) (fun h => ⟨rfl, or_mk a b c⟩) (fun k1 r1 hk1 h1 h2 h3 => absurd (em0 k1 hk1) h1) 729 0 730 (by omega) (by omega) (fun j hj => absurd hj (Nat.not_lt_zero j))
    · refine ox_slotT hz hp (br_f (nI_pos (by have := (or_atP a b hp).1; omega)) ?_)
      refine ox_isVarF (by omega) h2 (br_t rfl ?_)
      refine oy_placeT hz hp (br_f (by decide) ?_)
      exact oy_varF (by omega) h2 ⟨rfl, or_mk a b c⟩
  · refine ox_slotF hz hp (br_t (by decide) ?_)
    exact oy_placeF hz hp (br_t rfl ⟨rfl, or_mk a b c⟩)
theorem i_vc_machine {k : Nat} {u : SX} {v : SY} (I : i_Rel k u v) (hk : k + 5 ≤ 2563) (v1 : Int32) : wpX_machine (fun r => wpY_machine (fun r' => r' = r ∧ i_Rel (k + 5) u v) v v1) u v1 := by
  refine or_el (P := fun u v => i_Rel (k + 5) u v → wpX_machine (fun r => wpY_machine (fun r' => r' = r ∧ i_Rel (k + 5) u v) v v1) u v1) I ?_ (i_up I)
  intro n L sz len bg hol run wh rp rs pr hd st ti va wt wk vs tb em w2 so se a b c R
  have hz : sz ≤ 10 := by have := a.1; omega
  have hn := a.1.1
  by_cases h3 : v1 = 3
  · refine br_t h3 ?_
    rcases c with ⟨rfl, rfl⟩ | ⟨rfl, rfl, w, kk, hw, rfl, rfl, rfl, hkk, hv⟩
    · exact br_t rfl (br_t h3 (br_f (by decide) ⟨rfl, R⟩))
    · exact br_f (by decide) (br_t h3 (br_t h3 (br_t (nI_pos' (by omega)) (br_t h3 ⟨rfl, R⟩))))
  · refine br_f h3 ?_
    rcases or_code n v1 with ⟨s, hs, rfl⟩ | h2
    · refine ox_isVarT (by omega) hs (br_f (by decide) ?_)
      rcases c with ⟨rfl, rfl⟩ | ⟨rfl, rfl, w, kk, hw, rfl, rfl, rfl, hkk, hv⟩
      · exact br_t rfl (br_f h3 (oy_varT (by omega) hs (br_f (by decide) ⟨rfl, R⟩)))
      · refine br_f (by decide) (br_f h3 ⟨pk_in s 6 (by omega), ?_⟩)
        rw [nI_clamp (by omega)]
        refine br_f h3 (oy_varT (by omega) hs (br_t (nI_pos' (by omega)) (br_f h3 ?_)))
        refine oy_value hkk (by omega) (fun r hr => ⟨?_, R⟩)
        exact Int32.toInt_inj.mp (hr.trans (hv s hs).symm)
    · refine ox_isVarF (by omega) h2 (br_t rfl (br_f h3 (oy_varF (by omega) h2 ⟨rfl, R⟩)))
/-! launch -/
def or_pt (x y z : Int32) (v : Nat) : Int := if v = 0 then x.toInt else if v = 1 then y.toInt else z.toInt
theorem or_pt0 (x y z : Int32) : or_pt x y z 0 = x.toInt := if_pos rfl
theorem or_pt1 (x y z : Int32) : or_pt x y z 1 = y.toInt := by simp only [or_pt]; rw [if_neg (by decide), if_pos trivial]
theorem or_pt2 (x y z : Int32) : or_pt x y z 2 = z.toInt := by simp only [or_pt]; rw [if_neg (by decide), if_neg (by decide)]
theorem or_3 {P : Nat → Prop} (h0 : P 0) (h1 : P 1) (h2 : P 2) : ∀ v, v < 3 → P v := by
  intro v hv
  have hc : v = 0 ∨ v = 1 ∨ v = 2 := by omega
  rcases hc with rfl | rfl | rfl
  · exact h0
  · exact h1
  · exact h2
section
variable {f_n f_limit f_size f_length f_begun f_runPoint f_runState : Int32} {a_program a_table a_empty a_waiting a_source a_set : Nat → Int32}
theorem oy_launch13 {post : Int32 → SY → Prop} {n L : Nat} (hn : n = 2 ∨ n = 3) (hL : L ≤ 4) {x y z : Int32} (hz : n = 3 ∨ z = 0)
    (k1 : (∀ v, v < 3 → -(L : Int) ≤ or_pt x y z v ∧ or_pt x y z v ≤ L) → ∀ k, k < 729 → (∀ u, u < 3 → oy_v k u = or_pt x y z u) → a_empty 0 = 0 → oc_Gam (2 * n) (oz_s a_table 0) (or_pt x y z) → post 1 (nI n, nI L, f_size, f_length, 1, 0, nI k, a_program, a_table, a_empty, a_waiting, a_source, a_set))
    (k0 : ¬ ((∀ v, v < 3 → -(L : Int) ≤ or_pt x y z v ∧ or_pt x y z v ≤ L) ∧ a_empty 0 = 0 ∧ oc_Gam (2 * n) (oz_s a_table 0) (or_pt x y z)) → post 0 (nI n, nI L, f_size, f_length, 1, f_runPoint, f_runState, a_program, a_table, a_empty, a_waiting, a_source, a_set)) :
    wY_launch_13 post x y z (nI n) (nI L) f_size f_length 1 f_runPoint f_runState a_program a_table a_empty a_waiting a_source a_set := by
  refine br_f (by decide) ?_
  refine oy_inRange hL x (fun a1 a2 => br_f (by decide) ?_) (fun h => br_t rfl (k0 (fun w => h (by have := w.1 0 (by decide); rwa [or_pt0] at this))))
  refine oy_inRange hL y (fun b1 b2 => br_f (by decide) ?_) (fun h => br_t rfl (k0 (fun w => h (by have := w.1 1 (by decide); rwa [or_pt1] at this))))
  refine oy_inRange hL z (fun c1 c2 => br_f (by decide) ?_) (fun h => br_t rfl (k0 (fun w => h (by have := w.1 2 (by decide); rwa [or_pt2] at this))))
  obtain ⟨A, hA⟩ : ∃ A : Nat, (A : Int) = x.toInt + 4 := ⟨(x.toInt + 4).toNat, by omega⟩
  obtain ⟨B, hB⟩ : ∃ B : Nat, (B : Int) = y.toInt + 4 := ⟨(y.toInt + 4).toNat, by omega⟩
  obtain ⟨C, hC⟩ : ∃ C : Nat, (C : Int) = z.toInt + 4 := ⟨(z.toInt + 4).toNat, by omega⟩
  obtain ⟨q1, q2, q3, q4⟩ := oy_enc A B C (by omega) (by omega) (by omega)
  have box : ∀ v, v < 3 → -(L : Int) ≤ or_pt x y z v ∧ or_pt x y z v ≤ L := or_3 (by rw [or_pt0]; exact ⟨a1, a2⟩) (by rw [or_pt1]; exact ⟨b1, b2⟩) (by rw [or_pt2]; exact ⟨c1, c2⟩)
  have hv : ∀ u, u < 3 → oy_v (A * 81 + B * 9 + C) u = or_pt x y z u := or_3 (by rw [q2, or_pt0]; omega) (by rw [q3, or_pt1]; omega) (by rw [q4, or_pt2]; omega)
  have e1 : (x + 4).toInt = x.toInt + 4 := by rw [oz_add (by rw [oy_4]; omega) (by rw [oy_4]; omega), oy_4]
  have e2 : (y + 4).toInt = y.toInt + 4 := by rw [oz_add (by rw [oy_4]; omega) (by rw [oy_4]; omega), oy_4]
  have e3 : ((x + 4) * 81).toInt = (x.toInt + 4) * 81 := oz_mul (by rw [e1]; rfl) (by omega) (by omega)
  have e4 : ((y + 4) * 9).toInt = (y.toInt + 4) * 9 := oz_mul (by rw [e2]; rfl) (by omega) (by omega)
  have e5 : ((x + 4) * 81 + (y + 4) * 9).toInt = (x.toInt + 4) * 81 + (y.toInt + 4) * 9 := by rw [oz_add (by omega) (by omega), e3, e4]
  have e6 : ((x + 4) * 81 + (y + 4) * 9 + z).toInt = (x.toInt + 4) * 81 + (y.toInt + 4) * 9 + z.toInt := by rw [oz_add (by omega) (by omega), e5]
  have e7 : ((x + 4) * 81 + (y + 4) * 9 + z + 4).toInt = ((A * 81 + B * 9 + C : Nat) : Int) := by
    rw [oz_add (by rw [oy_4]; omega) (by rw [oy_4]; omega), e6, oy_4]; omega
  refine nm_r (oy_toN (by omega) e7) ?_
  have gx : oc_Gam (2 * n) (oz_s a_table 0) (oy_v (A * 81 + B * 9 + C)) ↔ oc_Gam (2 * n) (oz_s a_table 0) (or_pt x y z) :=
    ⟨fun h => oc_Gam_congr (fun v hv' => hv v (by omega)) h, fun h => oc_Gam_congr (fun v hv' => (hv v (by omega)).symm) h⟩
  have stt : oy_St n L (A * 81 + B * 9 + C) := by
    refine ⟨fun v hv' => by rw [hv v hv']; exact box v hv', ?_⟩
    rcases hz with h | h
    · exact Or.inl h
    · have : z.toInt = 0 := by rw [h]; exact oz_0
      exact Or.inr (by omega)
  refine oy_inTable (q := 0) hn hL q1 (by decide) (fun h => br_f (by decide) (k1 box _ q1 hv h.1 (gx.mp h.2.2))) (fun h => br_t rfl (k0 (fun w => h ⟨w.2.1, stt, gx.mpr w.2.2⟩)))
end
theorem i_vc_launch {k : Nat} {u : SX} {v : SY} (I : i_Rel k u v) (hk : k + 5 ≤ 2563) (v1 : Int32) (v2 : Int32) (v3 : Int32) : wpX_launch (fun r u' => wpY_launch (fun r' v' => r' = r ∧ i_Rel (k + 5) u' v') v v1 v2 v3) u v1 v2 v3 := by
  refine or_el (P := fun u v => wpX_launch (fun r u' => wpY_launch (fun r' v' => r' = r ∧ i_Rel (k + 5) u' v') v v1 v2 v3) u v1 v2 v3) I ?_
  intro n L sz len bg hol run wh rp rs pr hd st ti va wt wk vs tb em w2 so se a b c
  have hz : sz ≤ 10 := by have := a.1; omega
  have hn := a.1.1
  have hL : L ≤ 4 := a.1.2.1.2
  -- the third value
  have hcc : ∃ z : Int32, (n = 3 ∨ z = 0) ∧ (n = 3 → z = v3) ∧ (n = 2 → z = 0) := by
    rcases hn with h | h
    · exact ⟨0, Or.inr rfl, fun y => by omega, fun _ => rfl⟩
    · exact ⟨v3, Or.inl h, fun _ => rfl, fun y => by omega⟩
  obtain ⟨z, z1, z2, z3⟩ := hcc
  -- the reference from here on
  have yy : ∀ (post : Int32 → SY → Prop), wY_launch_13 post v1 v2 z (nI n) (nI L) (nI sz) (nI len) bg rp rs pr tb em w2 so se →
      wpY_launch post (nI n, nI L, nI sz, nI len, bg, rp, rs, pr, tb, em, w2, so, se) v1 v2 v3 := by
    intro post h
    refine pk_eq n 2 (fun e => ?_) (fun e => ?_)
    · rw [z3 e] at h; exact h
    · rw [z2 (by omega)] at h; exact h
  rcases a.1.2.2.2.2 with e0 | e0
  · refine br_t e0 (yy _ (br_t e0 ⟨rfl, or_mk a b c⟩))
  · subst e0
    have A0 := a.2.2.2.1 0 (by omega)
    have B0 := b.1 0 (by omega)
    refine br_f (by decide) (br_c (fun zv => ?_) (fun zv => ?_))
    · have E : ∀ s, s < 2 * n → ∀ t, t < 2 * n → oz_s tb 0 s t = oz_s st 0 s t := fun s hs t ht => congrArg Int32.toInt (B0.2.2 zv s hs t ht)
      have xx : ∀ (post : Int32 → SX → Prop), wX_launch_50 post z 5 (nI n) (nI L) (nI sz) (nI (2 * n)) (nI len) 1 hol run wh pr hd st ti va wt wk (upd (upd vs 3 v1) 4 v2) →
          ((nI n = 3 → wX_launch_50 post v3 5 (nI n) (nI L) (nI sz) (nI (2 * n)) (nI len) 1 hol run wh pr hd st ti va wt wk (upd (upd vs 3 v1) 4 v2)) ∧ (¬ nI n = 3 → wX_launch_50 post 0 5 (nI n) (nI L) (nI sz) (nI (2 * n)) (nI len) 1 hol run wh pr hd st ti va wt wk (upd (upd vs 3 v1) 4 v2))) := by
        intro post h
        refine pk_eq n 3 (fun e => ?_) (fun e => ?_)
        · rw [z2 e] at h; exact h
        · rw [z3 (by omega)] at h; exact h
      refine nm_e (nm_e (xx _ ⟨pk_in 5 6 (by decide), nm_e ?_⟩))
      have w3 : ∀ j, j < 3 → (upd (upd (upd vs 3 v1) 4 v2) (5 : Int32).toNatClampNeg z (3 + j)).toInt = or_pt v1 v2 z j := by
        have e5 : (5 : Int32).toNatClampNeg = 5 := by decide
        rw [e5]
        refine or_3 ?_ ?_ ?_
        · rw [pk_un (by decide), pk_un (by decide), or_pt0]; exact congrArg Int32.toInt pk_us
        · rw [pk_un (by decide), or_pt1]; exact congrArg Int32.toInt pk_us
        · rw [or_pt2]; exact congrArg Int32.toInt pk_us
      have w0 : ∀ j, j < 3 → upd (upd (upd vs 3 v1) 4 v2) (5 : Int32).toNatClampNeg z j = vs j := by
        have e5 : (5 : Int32).toNatClampNeg = 5 := by decide
        rw [e5]
        intro j hj
        rw [pk_un (by omega), pk_un (by omega), pk_un (by omega)]
      have gx : oc_Gam (2 * n) (oz_s st 0) (fun v => (upd (upd (upd vs 3 v1) 4 v2) (5 : Int32).toNatClampNeg z (3 + v)).toInt) ↔ oc_Gam (2 * n) (oz_s tb 0) (or_pt v1 v2 z) :=
        ⟨fun h => (oc_G_congr E _).mpr (oc_Gam_congr (fun v hv => w3 v (by omega)) h), fun h => oc_Gam_congr (fun v hv => (w3 v (by omega)).symm) ((oc_G_congr E _).mp h)⟩
      refine ox_cand (by omega) hL (fun h => br_t rfl (yy _ ?_)) (fun h1 h2 => br_f (by decide) ⟨4, ?_⟩)
      · refine oy_launch13 hn hL z1 (fun q1 q2 q3 q4 q5 q6 => ?_) (fun _ => ⟨rfl, or_mk a b ?_⟩)
        · exact absurd ⟨fun v hv => by rw [w3 v hv]; exact q1 v hv, gx.mpr q6⟩ h
        · rcases c with c | ⟨c1, c2, w, kk, c3, c4, c5, c6, c7, c8⟩
          · exact Or.inl c
          · exact Or.inr ⟨c1, c2, w, kk, c3, c4, c5, c6, c7, fun u hu => by rw [w0 u (by omega)]; exact c8 u hu⟩
      · refine ox_launch63 (fun vs' hvs' => yy _ ?_) 3 0 _ 4 (by omega) (by omega) (fun j hj => absurd hj (Nat.not_lt_zero j)) (fun _ _ => rfl)
        refine oy_launch13 hn hL z1 (fun q1 k1 q3 q4 q5 q6 => ⟨rfl, or_mk a b (Or.inr ⟨rfl, rfl, 0, k1, by omega, rfl, rfl, rfl, q3, fun u hu => ?_⟩)⟩) (fun h => ?_)
        · rw [hvs' u (by omega), w3 u (by omega), q4 u (by omega)]
        · exact absurd ⟨fun v hv => by rw [← w3 v hv]; exact h1 v hv, B0.1.trans zv, gx.mp h2⟩ h
    · refine yy _ (oy_launch13 hn hL z1 (fun q1 q2 q3 q4 q5 q6 => ?_) (fun _ => ⟨rfl, or_mk a b c⟩))
      exact absurd (B0.1.symm.trans q5) zv
end
section
/-! step, assign, branch -/
section
variable {f_n f_limit f_size f_codes f_length f_begun f_hollow f_running f_where : Int32} {a_program a_head a_stored a_tight a_vacant a_waiting a_work a_values : Nat → Int32}
theorem ox_run54 {post : Int32 → SX → Prop} {L w v : Nat} (hL : L ≤ 4) (hw : w < 10) (hv : v < 3) (p1 : a_program (w * 5 + 1) = nI v) {x : Int32}
    (k0 : ¬ (-(L : Int) ≤ x.toInt ∧ x.toInt ≤ L) → post 2 (f_n, nI L, f_size, f_codes, f_length, f_begun, f_hollow, f_running, nI w, a_program, a_head, a_stored, a_tight, a_vacant, a_waiting, a_work, a_values)) (k1 : -(L : Int) ≤ x.toInt → x.toInt ≤ L → post 4 (f_n, nI L, f_size, f_codes, f_length, f_begun, f_hollow, f_running, nI (w + 1), a_program, a_head, a_stored, a_tight, a_vacant, a_waiting, a_work, upd a_values v x)) :
    wX_runAssign_54 post x f_n (nI L) f_size f_codes f_length f_begun f_hollow f_running (nI w) a_program a_head a_stored a_tight a_vacant a_waiting a_work a_values := by
  unfold wX_runAssign_54
  have e1 : a_program (nI w * 5 + 1).toNatClampNeg = nI v := (congrArg a_program (pk_cl (w * 5 + 1) (oz_i5 w 1))).trans p1
  refine ox_inBox hL x (fun h1 h2 => br_f (by decide) ⟨pk_in (w * 5 + 1) 50 (by omega) (oz_i5 w 1), ?_⟩) (fun h => br_t rfl (k0 h))
  rw [e1]
  exact ⟨pk_in v 6 (by omega), nm_r (e' := upd a_values v x) (by rw [nI_clamp (by omega)]) (nm_r (nI_1 w) (k1 h1 h2))⟩
end
theorem i_vc_step {k : Nat} {u : SX} {v : SY} (I : i_Rel k u v) (hk : k + 5 ≤ 2563) (v1 : Int32) : wpX_step (fun r u' => wpY_step (fun r' v' => r' = r ∧ i_Rel (k + 5) u' v') v v1) u v1 := by
  refine or_el (P := fun u v => wpX_step (fun r u' => wpY_step (fun r' v' => r' = r ∧ i_Rel (k + 5) u' v') v v1) u v1) I ?_
  intro n L sz len bg hol run wh rp rs pr hd st ti va wt wk vs tb em w2 so se a b c
  have hz : sz ≤ 10 := by have := a.1; omega
  have hls : len ≤ sz := a.1.2.2.2.1
  have hn := a.1.1
  have hL : L ≤ 4 := a.1.2.1.2
  rcases c with ⟨rfl, rfl⟩ | ⟨rfl, rfl, w, kk, hw, rfl, rfl, rfl, hkk, hv⟩
  · exact br_t rfl (br_f (by decide) ⟨rfl, or_mk a b (Or.inl ⟨rfl, rfl⟩)⟩)
  · refine br_f (by decide) (pk_lt w len (fun hwl => ?_) (fun hwl => ?_))
    · have e0 : pr (nI w * 5).toNatClampNeg = pr (w * 5) := congrArg pr (pk_cl (w * 5) (oz_i50 w))
      refine ⟨pk_in (w * 5) 50 (by omega) (oz_i50 w), ?_⟩
      rw [e0]
      have hI := a.2.1 w hwl
      have hpos : (0 : Int32) ≤ nI w := nI_pos' (by omega)
      have hlt : nI w < nI len := nI_lt hwl (by omega)
      have vb : ∀ u, u < n → -4 ≤ (vs u).toInt ∧ (vs u).toInt ≤ 4 := fun u hu => by rw [hv u hu]; exact oy_vb hkk u
      rcases hI with ⟨pk, vv, s, hvv, hs, p1, p2, p3⟩ | ⟨pk, s, t, g, hs, ht, hg, p1, p2, p4, p3⟩
      · -- ASSIGN
        refine br_t pk ?_
        have fin : ∀ x : Int32, x.toInt = oc_asg s (pr (w * 5 + 3)).toInt (oy_v kk) v1.toInt → wX_runAssign_54 (fun r u' => wpY_step (fun r' v' => r' = r ∧ i_Rel (k + 5) u' v') (nI n, nI L, nI sz, nI len, 1, nI w, nI kk, pr, tb, em, w2, so, se) v1) x (nI n) (nI L) (nI sz) (nI (2 * n)) (nI len) 1 hol 1 (nI w) pr hd st ti va wt wk vs := by
          intro x hx
          have ys : ∀ (post : Int32 → SY → Prop), wpY_assigned (fun r_60 => (wpY_inRange (fun r_74 => (((r_74 = 0 → (post 2 (nI n, nI L, nI sz, nI len, 1, nI w, nI kk, pr, tb, em, w2, so, se))) ∧ (¬ r_74 = 0 → (wpY_move (fun r_89 => (∀ y, y = nI w + 1 → (post 4 (nI n, nI L, nI sz, nI len, 1, y, r_89, pr, tb, em, w2, so, se)))) (nI n, nI L, nI sz, nI len, 1, nI w, nI kk, pr, tb, em, w2, so, se) (nI kk) (pr (w * 5 + 1)) r_60))))) (nI n, nI L, nI sz, nI len, 1, nI w, nI kk, pr, tb, em, w2, so, se) r_60)) (nI n, nI L, nI sz, nI len, 1, nI w, nI kk, pr, tb, em, w2, so, se) (nI w) (nI kk) v1 →
              wpY_step post (nI n, nI L, nI sz, nI len, 1, nI w, nI kk, pr, tb, em, w2, so, se) v1 := by
            intro post h
            refine br_t hpos (br_t hlt ?_)
            refine oy_field (j := 1) hwl (by omega) (by decide) ?_
            refine oy_field (j := 2) hwl (by omega) (by decide) ?_
            refine oy_field (j := 3) hwl (by omega) (by decide) ?_
            refine oy_field (j := 0) hwl (by omega) (by decide) ?_
            refine br_f ?_ h
            show ¬ pr (w * 5) = 1
            rw [pk]; decide
          refine ox_run54 hL (by omega) (by omega) p1 (fun h => ys _ ?_) (fun h1 h2 => ys _ ?_)
          · refine oy_assigned hwl (by omega) hkk (by omega) p2 p3 (fun r hr => ?_)
            refine oy_inRange hL r (fun h1 h2 => ?_) (fun _ => br_t rfl ⟨rfl, or_mk a b (Or.inr ⟨rfl, rfl, w, kk, hw, rfl, rfl, rfl, hkk, hv⟩)⟩)
            rw [hr, ← hx] at h1 h2
            exact absurd ⟨h1, h2⟩ h
          · refine oy_assigned hwl (by omega) hkk (by omega) p2 p3 (fun r hr => ?_)
            have er : r.toInt = x.toInt := hr.trans hx.symm
            refine oy_inRange hL r (fun _ _ => br_f (by decide) ?_) (fun h => absurd (by rw [er]; exact ⟨h1, h2⟩) h)
            rw [p1]
            refine oy_move hkk (by omega) ⟨by omega, by omega⟩ (fun k' hk' hm => nm_r (nI_1 w) ⟨rfl, or_mk a b (Or.inr ⟨rfl, rfl, w + 1, k', by omega, rfl, rfl, rfl, hk', fun u hu => ?_⟩)⟩)
            rw [hm u (by omega)]
            by_cases e : u = vv
            · subst e; rw [pk_us, oc_us]; exact er.symm
            · rw [pk_un e, oc_un e]; exact hv u hu
        have e2 : pr (nI w * 5 + 2).toNatClampNeg = nI s := (congrArg pr (pk_cl (w * 5 + 2) (oz_i5 w 2))).trans p2
        have e3 : pr (nI w * 5 + 3).toNatClampNeg = pr (w * 5 + 3) := congrArg pr (pk_cl (w * 5 + 3) (oz_i5 w 3))
        refine ⟨pk_in (w * 5 + 2) 50 (by omega) (oz_i5 w 2), nm_r e2 ⟨pk_in (w * 5 + 3) 50 (by omega) (oz_i5 w 3), nm_r e3 ?_⟩⟩
        rcases hs with hs | rfl | rfl
        · have ne8 : ¬ nI s = 8 := fun z => by
            have := (nI_eq (a := s) (b := 8) (by omega) (by omega)).mp z
            omega
          have ne9 : ¬ nI s = 9 := fun z => by
            have := (nI_eq (a := s) (b := 9) (by omega) (by omega)).mp z
            omega
          have b0 := vb (s / 2) (by omega)
          refine br_f ne9 (br_f ne8 ?_)
          refine ox_signed (b := 0) (by omega) (by omega) (by rw [Nat.zero_add]; omega) (fun r hr => ?_)
          intro x ex
          refine fin x ?_
          have hr2 : r.toInt = oc_g (oy_v kk) s := hr.trans (oc_gcongr (by
            show (vs (0 + s / 2)).toInt = _
            rw [Nat.zero_add]; exact hv _ (by omega)))
          have gb := oy_gb hkk s
          rw [ex, oz_add (by omega) (by omega), hr2, oc_asgN (by omega)]; omega
        · exact br_f (by decide) (br_t rfl (fin _ (oc_asg8 _ _ _).symm))
        · exact br_t rfl (fin _ (oc_asg9 _ _ _).symm)
      · -- BRANCH
        refine br_f (by rw [pk]; decide) ?_
        have e1 : pr (nI w * 5 + 1).toNatClampNeg = nI s := (congrArg pr (pk_cl (w * 5 + 1) (oz_i5 w 1))).trans p1
        have e2 : pr (nI w * 5 + 2).toNatClampNeg = nI t := (congrArg pr (pk_cl (w * 5 + 2) (oz_i5 w 2))).trans p2
        have e3 : pr (nI w * 5 + 3).toNatClampNeg = pr (w * 5 + 3) := congrArg pr (pk_cl (w * 5 + 3) (oz_i5 w 3))
        have e4 : pr (nI w * 5 + 4).toNatClampNeg = nI g := (congrArg pr (pk_cl (w * 5 + 4) (oz_i5 w 4))).trans p4
        have b1 := vb (s / 2) (by omega)
        have b2 := vb (t / 2) (by omega)
        have ys : ∀ (post : Int32 → SY → Prop), wpY_sum (fun r_104 => (((pr (w * 5 + 3) < r_104 → (∀ y, y = nI w + 1 → (post 4 (nI n, nI L, nI sz, nI len, 1, y, nI kk, pr, tb, em, w2, so, se)))) ∧ (¬ pr (w * 5 + 3) < r_104 → (wpY_field (fun r_120 => (post 4 (nI n, nI L, nI sz, nI len, 1, r_120, nI kk, pr, tb, em, w2, so, se))) (nI n, nI L, nI sz, nI len, 1, nI w, nI kk, pr, tb, em, w2, so, se) (nI w) 4))))) (nI n, nI L, nI sz, nI len, 1, nI w, nI kk, pr, tb, em, w2, so, se) (nI kk) (pr (w * 5 + 1)) (pr (w * 5 + 2)) →
            wpY_step post (nI n, nI L, nI sz, nI len, 1, nI w, nI kk, pr, tb, em, w2, so, se) v1 := by
          intro post h
          refine br_t hpos (br_t hlt ?_)
          refine oy_field (j := 1) hwl (by omega) (by decide) ?_
          refine oy_field (j := 2) hwl (by omega) (by decide) ?_
          refine oy_field (j := 3) hwl (by omega) (by decide) ?_
          refine oy_field (j := 0) hwl (by omega) (by decide) ?_
          exact br_t pk h
        refine ⟨pk_in (w * 5 + 1) 50 (by omega) (oz_i5 w 1), nm_r e1 ⟨pk_in (w * 5 + 2) 50 (by omega) (oz_i5 w 2), nm_r e2 ?_⟩⟩
        refine ox_signed (b := 0) (by omega) (by omega) (by rw [Nat.zero_add]; omega) (fun r1 hr1 => ?_)
        refine ox_signed (b := 0) (by omega) (by omega) (by rw [Nat.zero_add]; omega) (fun r2 hr2 => ?_)
        intro x ex
        have g1 : r1.toInt = oc_g (oy_v kk) s := hr1.trans (oc_gcongr (by
          show (vs (0 + s / 2)).toInt = _
          rw [Nat.zero_add]; exact hv _ (by omega)))
        have g2 : r2.toInt = oc_g (oy_v kk) t := hr2.trans (oc_gcongr (by
          show (vs (0 + t / 2)).toInt = _
          rw [Nat.zero_add]; exact hv _ (by omega)))
        have gb1 := oy_gb hkk s
        have gb2 := oy_gb hkk t
        have hx : x.toInt = oy_sm kk s t := by
          rw [ex, oz_add (by omega) (by omega), g1, g2]; rfl
        refine ⟨pk_in (w * 5 + 3) 50 (by omega) (oz_i5 w 3), ?_⟩
        rw [e3]
        refine br_c (fun c1 => nm_r (nI_1 w) (ys _ ?_)) (fun c1 => ⟨pk_in (w * 5 + 4) 50 (by omega) (oz_i5 w 4), nm_r e4 (ys _ ?_)⟩)
        · rw [p1, p2]
          refine oy_sum hkk (by omega) (by omega) (fun r hr => ?_)
          have er : r = x := Int32.toInt_inj.mp (hr.trans hx.symm)
          subst er
          exact br_t c1 (nm_r (nI_1 w) ⟨rfl, or_mk a b (Or.inr ⟨rfl, rfl, w + 1, kk, by omega, rfl, rfl, rfl, hkk, hv⟩)⟩)
        · rw [p1, p2]
          refine oy_sum hkk (by omega) (by omega) (fun r hr => ?_)
          have er : r = x := Int32.toInt_inj.mp (hr.trans hx.symm)
          subst er
          refine br_f c1 ?_
          refine oy_field (j := 4) hwl (by omega) (by decide) ?_
          exact ⟨rfl, or_mk a b (Or.inr ⟨rfl, rfl, g, kk, hg, rfl, p4, rfl, hkk, hv⟩)⟩
    · exact br_t (nI_pos' (by omega)) (br_f (nI_nlt hwl (by omega)) ⟨rfl, or_mk a b (Or.inr ⟨rfl, rfl, w, kk, hw, rfl, rfl, rfl, hkk, hv⟩)⟩)
/-! assign, branch -/
section
variable {f_n f_limit f_size f_length f_begun f_runPoint f_runState : Int32} {a_program a_table a_empty a_waiting a_source a_set : Nat → Int32}
theorem oy_append {post : Int32 → SY → Prop} {len : Nat} (hl : len < 10) {x0 x1 x2 x3 x4 : Int32} (h : post (nI len) (f_n, f_limit, f_size, nI (len + 1), f_begun, f_runPoint, f_runState, ox_app a_program (len * 5) x0 x1 x2 x3 x4, a_table, a_empty, a_waiting, a_source, a_set)) : wpY_append post (f_n, f_limit, f_size, nI len, f_begun, f_runPoint, f_runState, a_program, a_table, a_empty, a_waiting, a_source, a_set) x0 x1 x2 x3 x4 := by
  refine nm_r (oz_i50 len) ⟨pk_in (len * 5) 50 (by omega), ?_⟩
  refine nm_r (e' := upd a_program (len * 5) x0) (by rw [nI_clamp (by omega)]) ⟨pk_in (len * 5 + 1) 50 (by omega) (nI_add (len * 5) 1), ?_⟩
  refine nm_r (e' := upd (upd a_program (len * 5) x0) (len * 5 + 1) x1) (congrArg (fun i => upd (upd a_program (len * 5) x0) i x1) (pk_cl (len * 5 + 1) (nI_add (len * 5) 1))) ⟨pk_in (len * 5 + 2) 50 (by omega) (nI_add (len * 5) 2), ?_⟩
  refine nm_r (e' := upd (upd (upd a_program (len * 5) x0) (len * 5 + 1) x1) (len * 5 + 2) x2) (congrArg (fun i => upd (upd (upd a_program (len * 5) x0) (len * 5 + 1) x1) i x2) (pk_cl (len * 5 + 2) (nI_add (len * 5) 2))) ⟨pk_in (len * 5 + 3) 50 (by omega) (nI_add (len * 5) 3), ?_⟩
  refine nm_r (e' := upd (upd (upd (upd a_program (len * 5) x0) (len * 5 + 1) x1) (len * 5 + 2) x2) (len * 5 + 3) x3) (congrArg (fun i => upd (upd (upd (upd a_program (len * 5) x0) (len * 5 + 1) x1) (len * 5 + 2) x2) i x3) (pk_cl (len * 5 + 3) (nI_add (len * 5) 3))) ⟨pk_in (len * 5 + 4) 50 (by omega) (nI_add (len * 5) 4), ?_⟩
  refine nm_r (e' := ox_app a_program (len * 5) x0 x1 x2 x3 x4) (congrArg (fun i => upd (upd (upd (upd (upd a_program (len * 5) x0) (len * 5 + 1) x1) (len * 5 + 2) x2) (len * 5 + 3) x3) i x4) (pk_cl (len * 5 + 4) (nI_add (len * 5) 4))) (nm_r (nI_1 len) ?_)
  rw [nI_pred]; exact h
end
theorem ox_app_lo {pr : Nat → Int32} {b : Nat} {x0 x1 x2 x3 x4 : Int32} {l : Nat} (h : l < b) : ox_app pr b x0 x1 x2 x3 x4 l = pr l := by
  simp only [ox_app]
  rw [pk_un (by omega), pk_un (by omega), pk_un (by omega), pk_un (by omega), pk_un (by omega)]
theorem ox_app_at {pr : Nat → Int32} {b : Nat} {x0 x1 x2 x3 x4 : Int32} : ox_app pr b x0 x1 x2 x3 x4 b = x0 ∧ ox_app pr b x0 x1 x2 x3 x4 (b + 1) = x1 ∧ ox_app pr b x0 x1 x2 x3 x4 (b + 2) = x2 ∧ ox_app pr b x0 x1 x2 x3 x4 (b + 3) = x3 ∧ ox_app pr b x0 x1 x2 x3 x4 (b + 4) = x4 := by
  simp only [ox_app]
  refine ⟨?_, ?_, ?_, ?_, pk_us⟩
  · rw [pk_un (by omega), pk_un (by omega), pk_un (by omega), pk_un (by omega), pk_us]
  · rw [pk_un (by omega), pk_un (by omega), pk_un (by omega), pk_us]
  · rw [pk_un (by omega), pk_un (by omega), pk_us]
  · rw [pk_un (by omega), pk_us]
theorem or_hdapp {pr : Nat → Int32} {len q : Nat} {x0 x1 x2 x3 x4 : Int32} : oy_hd (ox_app pr (len * 5) x0 x1 x2 x3 x4) (len + 1) q ↔ oy_hd pr len q ∨ (q ≤ len ∧ x0 = 1 ∧ x4 = nI q) := by
  have at0 := ox_app_at (pr := pr) (b := len * 5) (x0 := x0) (x1 := x1) (x2 := x2) (x3 := x3) (x4 := x4)
  constructor
  · rintro ⟨i, h1, h2, h3, h4⟩
    by_cases e : i = len
    · subst e
      rw [at0.1] at h3
      rw [at0.2.2.2.2] at h4
      exact Or.inr ⟨h1, h3, h4⟩
    · rw [ox_app_lo (by omega)] at h3 h4
      exact Or.inl ⟨i, h1, by omega, h3, h4⟩
  · rintro (⟨i, h1, h2, h3, h4⟩ | ⟨h1, h2, h3⟩)
    · exact ⟨i, h1, by omega, by rw [ox_app_lo (by omega)]; exact h3, by rw [ox_app_lo (by omega)]; exact h4⟩
    · exact ⟨len, h1, by omega, by rw [at0.1]; exact h2, by rw [at0.2.2.2.2]; exact h3⟩
theorem or_appX {n L sz len : Nat} {pr hd hd' st ti va wt : Nat → Int32} (a : or_X n L sz len 0 pr hd st ti va wt) (hl : len < sz) {x0 x1 x2 x3 x4 : Int32} (hI : or_Ins n sz (ox_app pr (len * 5) x0 x1 x2 x3 x4) len)
    (hh : ∀ q, q < 11 → (hd' q = 1 ∧ (oy_hd pr len q ∨ (q ≤ len ∧ x0 = 1 ∧ x4 = nI q))) ∨ (hd' q = 0 ∧ ¬ (oy_hd pr len q ∨ (q ≤ len ∧ x0 = 1 ∧ x4 = nI q)))) :
    or_X n L sz (len + 1) 0 (ox_app pr (len * 5) x0 x1 x2 x3 x4) hd' st ti va wt := by
  obtain ⟨⟨a1, a2, a3, a4, a5⟩, b, c, d, e, f⟩ := a
  refine ⟨⟨a1, a2, a3, by omega, a5⟩, fun i hi => ?_, fun q hq => ?_, fun q hq => ?_, e, f⟩
  · by_cases z : i = len
    · subst z; exact hI
    · have h := b i (by omega)
      simp only [or_Ins] at h ⊢
      rw [ox_app_lo (by omega), ox_app_lo (by omega), ox_app_lo (by omega), ox_app_lo (by omega), ox_app_lo (by omega)]
      exact h
  · rw [or_hdapp]; exact hh q hq
  · have v1 := f rfl q hq
    have nv : ¬ va q = 0 := by rw [v1]; decide
    exact ⟨(d q hq).1, fun z => absurd z nv, fun z => absurd ((d q hq).2.2 z).2 nv⟩
section
variable {f_n f_limit f_size f_codes f_length f_begun f_hollow f_running f_where : Int32} {a_program a_head a_stored a_tight a_vacant a_waiting a_work a_values : Nat → Int32}
theorem ox_offT {post : Int32 → Prop} {x : Int32} (h : -10 ≤ x.toInt ∧ x.toInt ≤ 10) (hp : post 1) : wpX_isOffset post (f_n, f_limit, f_size, f_codes, f_length, f_begun, f_hollow, f_running, f_where, a_program, a_head, a_stored, a_tight, a_vacant, a_waiting, a_work, a_values) x := by
  have e1 : (-10 : Int32).toInt = -10 := by decide
  have e2 : (10 : Int32).toInt = 10 := by decide
  exact br_f (by rw [Int32.lt_iff_toInt_lt, e1]; omega) (br_f (by rw [Int32.lt_iff_toInt_lt, e2]; omega) hp)
theorem ox_offF {post : Int32 → Prop} {x : Int32} (h : ¬ (-10 ≤ x.toInt ∧ x.toInt ≤ 10)) (hp : post 0) : wpX_isOffset post (f_n, f_limit, f_size, f_codes, f_length, f_begun, f_hollow, f_running, f_where, a_program, a_head, a_stored, a_tight, a_vacant, a_waiting, a_work, a_values) x := by
  have e1 : (-10 : Int32).toInt = -10 := by decide
  have e2 : (10 : Int32).toInt = 10 := by decide
  refine br_c (fun _ => hp) (fun c => br_c (fun _ => hp) (fun c2 => ?_))
  rw [Int32.lt_iff_toInt_lt, e1] at c
  rw [Int32.lt_iff_toInt_lt, e2] at c2
  exact absurd ⟨by omega, by omega⟩ h
end
theorem oy_offT {A B : Prop} {x : Int32} (h : -10 ≤ x.toInt ∧ x.toInt ≤ 10) (hp : B) : (x < (-10) → A) ∧ (¬ x < (-10) → ((x ≤ 10 → B) ∧ (¬ x ≤ 10 → A))) := by
  have e1 : (-10 : Int32).toInt = -10 := by decide
  have e2 : (10 : Int32).toInt = 10 := by decide
  exact br_f (by rw [Int32.lt_iff_toInt_lt, e1]; omega) (br_t (by rw [Int32.le_iff_toInt_le, e2]; omega) hp)
theorem oy_offF {A B : Prop} {x : Int32} (h : ¬ (-10 ≤ x.toInt ∧ x.toInt ≤ 10)) (hp : A) : (x < (-10) → A) ∧ (¬ x < (-10) → ((x ≤ 10 → B) ∧ (¬ x ≤ 10 → A))) := by
  have e1 : (-10 : Int32).toInt = -10 := by decide
  have e2 : (10 : Int32).toInt = 10 := by decide
  refine br_c (fun _ => hp) (fun c => br_c (fun c2 => ?_) (fun _ => hp))
  rw [Int32.lt_iff_toInt_lt, e1] at c
  rw [Int32.le_iff_toInt_le, e2] at c2
  exact absurd ⟨by omega, by omega⟩ h
theorem oy_off2T {A B : Prop} {x : Int32} (h : -10 ≤ x.toInt ∧ x.toInt ≤ 10) (hp : B) : (x < (-10) → A) ∧ (¬ x < (-10) → ((10 < x → A) ∧ (¬ 10 < x → B))) := by
  have e1 : (-10 : Int32).toInt = -10 := by decide
  have e2 : (10 : Int32).toInt = 10 := by decide
  exact br_f (by rw [Int32.lt_iff_toInt_lt, e1]; omega) (br_f (by rw [Int32.lt_iff_toInt_lt, e2]; omega) hp)
theorem oy_off2F {A B : Prop} {x : Int32} (h : ¬ (-10 ≤ x.toInt ∧ x.toInt ≤ 10)) (hp : A) : (x < (-10) → A) ∧ (¬ x < (-10) → ((10 < x → A) ∧ (¬ 10 < x → B))) := by
  have e1 : (-10 : Int32).toInt = -10 := by decide
  have e2 : (10 : Int32).toInt = 10 := by decide
  refine br_c (fun _ => hp) (fun c => br_c (fun _ => hp) (fun c2 => ?_))
  rw [Int32.lt_iff_toInt_lt, e1] at c
  rw [Int32.lt_iff_toInt_lt, e2] at c2
  exact absurd ⟨by omega, by omega⟩ h
end
section
/-! assign and branch, joined -/
section
variable {f_n f_limit f_size f_codes f_length f_begun f_hollow f_running f_where : Int32} {a_program a_head a_stored a_tight a_vacant a_waiting a_work a_values : Nat → Int32}
theorem ox_as59T {post : Int32 → SX → Prop} {len : Nat} (hl : len < 10) {x1 x2 x3 : Int32} (h : -10 ≤ x3.toInt ∧ x3.toInt ≤ 10) (k : post (nI len) (f_n, f_limit, f_size, f_codes, nI (len + 1), f_begun, f_hollow, f_running, f_where, ox_app a_program (len * 5) 0 x1 x2 x3 0, a_head, a_stored, a_tight, a_vacant, a_waiting, a_work, a_values)) : wX_assign_59 post x1 x2 x3 f_n f_limit f_size f_codes (nI len) f_begun f_hollow f_running f_where a_program a_head a_stored a_tight a_vacant a_waiting a_work a_values := by
  unfold wX_assign_59
  exact ox_offT h (br_f (by decide) (ox_append hl k))
theorem ox_as59F {post : Int32 → SX → Prop} {x1 x2 x3 : Int32} (h : ¬ (-10 ≤ x3.toInt ∧ x3.toInt ≤ 10)) (k : post 99 (f_n, f_limit, f_size, f_codes, f_length, f_begun, f_hollow, f_running, f_where, a_program, a_head, a_stored, a_tight, a_vacant, a_waiting, a_work, a_values)) : wX_assign_59 post x1 x2 x3 f_n f_limit f_size f_codes f_length f_begun f_hollow f_running f_where a_program a_head a_stored a_tight a_vacant a_waiting a_work a_values := by
  unfold wX_assign_59
  exact ox_offF h (br_t rfl k)
theorem ox_br79 {post : Int32 → SX → Prop} {len : Nat} (hl : len < 10) {x1 x2 x3 x4 : Int32} (k : post (nI len) (f_n, f_limit, f_size, f_codes, nI (len + 1), f_begun, f_hollow, f_running, f_where, ox_app a_program (len * 5) 1 x1 x2 x3 x4, a_head, a_stored, a_tight, a_vacant, a_waiting, a_work, a_values)) : wX_branch_79 post x1 x2 x3 x4 f_n f_limit f_size f_codes (nI len) f_begun f_hollow f_running f_where a_program a_head a_stored a_tight a_vacant a_waiting a_work a_values := by
  unfold wX_branch_79
  exact ox_append hl k
end
section
variable {f_n f_limit f_size f_length f_begun f_runPoint f_runState : Int32} {a_program a_table a_empty a_waiting a_source a_set : Nat → Int32}
theorem oy_as56T {post : Int32 → SY → Prop} {len : Nat} (hl : len < 10) {x1 x2 x3 : Int32} (h9 : ¬ x2 = 9) (h : -10 ≤ x3.toInt ∧ x3.toInt ≤ 10) (k : post (nI len) (f_n, f_limit, f_size, nI (len + 1), f_begun, f_runPoint, f_runState, ox_app a_program (len * 5) 0 x1 x2 x3 0, a_table, a_empty, a_waiting, a_source, a_set)) : wY_assign_56 post x1 x2 x3 f_n f_limit f_size (nI len) f_begun f_runPoint f_runState a_program a_table a_empty a_waiting a_source a_set := by
  unfold wY_assign_56
  refine br_f h9 (oy_offT h ?_)
  unfold wY_assign_77
  refine br_f h9 ?_
  unfold wY_assign_92
  exact oy_append hl k
theorem oy_as56F {post : Int32 → SY → Prop} {x1 x2 x3 : Int32} (h9 : ¬ x2 = 9) (h : ¬ (-10 ≤ x3.toInt ∧ x3.toInt ≤ 10)) (k : post 99 (f_n, f_limit, f_size, f_length, f_begun, f_runPoint, f_runState, a_program, a_table, a_empty, a_waiting, a_source, a_set)) : wY_assign_56 post x1 x2 x3 f_n f_limit f_size f_length f_begun f_runPoint f_runState a_program a_table a_empty a_waiting a_source a_set := by
  unfold wY_assign_56
  exact br_f h9 (oy_offF h k)
theorem oy_as56I {post : Int32 → SY → Prop} {len : Nat} (hl : len < 10) {x1 x3 : Int32} (k : post (nI len) (f_n, f_limit, f_size, nI (len + 1), f_begun, f_runPoint, f_runState, ox_app a_program (len * 5) 0 x1 9 0 0, a_table, a_empty, a_waiting, a_source, a_set)) : wY_assign_56 post x1 9 x3 f_n f_limit f_size (nI len) f_begun f_runPoint f_runState a_program a_table a_empty a_waiting a_source a_set := by
  unfold wY_assign_56
  refine br_t rfl ?_
  unfold wY_assign_77
  refine br_t rfl ?_
  unfold wY_assign_92
  exact oy_append hl k
end
theorem or_asgX {n L sz len : Nat} {pr hd st ti va wt : Nat → Int32} (a : or_X n L sz len 0 pr hd st ti va wt) (hl : len < sz) {v s : Nat} {x3 : Int32} (hv : v < n) (hs : s < 2 * n ∨ s = 8 ∨ s = 9) (h3 : -10 ≤ x3.toInt ∧ x3.toInt ≤ 10) :
    or_X n L sz (len + 1) 0 (ox_app pr (len * 5) 0 (nI v) (nI s) x3 0) hd st ti va wt := by
  have at0 := ox_app_at (pr := pr) (b := len * 5) (x0 := 0) (x1 := nI v) (x2 := nI s) (x3 := x3) (x4 := 0)
  refine or_appX a hl (Or.inl ⟨at0.1, v, s, hv, hs, at0.2.1, at0.2.2.1, by rw [at0.2.2.2.1]; exact h3⟩) (fun q hq => ?_)
  rcases a.2.2.1 q hq with ⟨h1, h2⟩ | ⟨h1, h2⟩
  · exact Or.inl ⟨h1, Or.inl h2⟩
  · refine Or.inr ⟨h1, ?_⟩
    rintro (z | ⟨-, z, -⟩)
    · exact h2 z
    · exact absurd z (by decide)
theorem i_vc_assign {k : Nat} {u : SX} {v : SY} (I : i_Rel k u v) (hk : k + 5 ≤ 2563) (v1 : Int32) (v2 : Int32) (v3 : Int32) : wpX_assign (fun r u' => wpY_assign (fun r' v' => r' = r ∧ i_Rel (k + 5) u' v') v v1 v2 v3) u v1 v2 v3 := by
  refine or_el (P := fun u v => wpX_assign (fun r u' => wpY_assign (fun r' v' => r' = r ∧ i_Rel (k + 5) u' v') v v1 v2 v3) u v1 v2 v3) I ?_
  intro n L sz len bg hol run wh rp rs pr hd st ti va wt wk vs tb em w2 so se a b c
  have hz : sz ≤ 10 := by have := a.1; omega
  have hn := a.1.1
  have hls : len ≤ sz := a.1.2.2.2.1
  rcases a.1.2.2.2.2 with rfl | rfl
  · refine br_t rfl (pk_le sz len (fun h => br_t rfl (br_t (nI_le h (by have := a.1.2.2.2.1; omega)) ⟨rfl, or_mk a b c⟩)) (fun h => ?_))
    have hsz : ¬ nI sz ≤ nI len := nI_ge h (by omega)
    rcases or_code n v1 with ⟨x, hx, rfl⟩ | h1
    · refine ox_isVarT (by omega) hx (br_f (by decide) ?_)
      have ys : ∀ (post : Int32 → SY → Prop), wpY_isCode (fun r_5 => (((r_5 = 0 → (((v2 = 8 → (wY_assign_56 post (nI x) v2 v3 (nI n) (nI L) (nI sz) (nI len) 0 rp rs pr tb em w2 so se)) ∧ (¬ v2 = 8 → (((v2 = 9 → (wY_assign_56 post (nI x) v2 v3 (nI n) (nI L) (nI sz) (nI len) 0 rp rs pr tb em w2 so se)) ∧ (¬ v2 = 9 → (post 99 (nI n, nI L, nI sz, nI len, 0, rp, rs, pr, tb, em, w2, so, se))))))))) ∧ (¬ r_5 = 0 → (wY_assign_56 post (nI x) v2 v3 (nI n) (nI L) (nI sz) (nI len) 0 rp rs pr tb em w2 so se))))) (nI n, nI L, nI sz, nI len, 0, rp, rs, pr, tb, em, w2, so, se) v2 →
          wpY_assign post (nI n, nI L, nI sz, nI len, 0, rp, rs, pr, tb, em, w2, so, se) (nI x) v2 v3 := by
        intro post h
        exact br_t rfl (br_f hsz (oy_varT (by omega) hx h))
      by_cases h9 : v2 = 9
      · subst h9
        refine br_t rfl (ox_append (by omega) (ys _ ?_))
        refine oy_isCodeF (by omega) (fun s hs e => ?_) (br_t rfl (br_f (by decide) (br_t rfl (oy_as56I (by omega) ⟨rfl, or_mk (or_asgX (s := 9) a h hx (by omega) (by rw [oz_0]; omega)) b c⟩))))
        have := (nI_eq (a := 9) (b := s) (by omega) (by omega)).mp e
        omega
      · refine br_f h9 ?_
        by_cases h8 : v2 = 8
        · subst h8
          have nc : ∀ s, s < 2 * n → (8 : Int32) ≠ nI s := fun s hs e => by
            have := (nI_eq (a := 8) (b := s) (by omega) (by omega)).mp e
            omega
          refine br_t rfl ?_
          by_cases h3 : -10 ≤ v3.toInt ∧ v3.toInt ≤ 10
          · refine ox_as59T (by omega) h3 (ys _ ?_)
            exact oy_isCodeF (by omega) nc (br_t rfl (br_t rfl (oy_as56T (by omega) (by decide) h3 ⟨rfl, or_mk (or_asgX (s := 8) a h hx (by omega) h3) b c⟩)))
          · refine ox_as59F h3 (ys _ ?_)
            exact oy_isCodeF (by omega) nc (br_t rfl (br_t rfl (oy_as56F (by decide) h3 ⟨rfl, or_mk a b c⟩)))
        · refine br_f h8 ?_
          rcases or_code (2 * n) v2 with ⟨s, hs, rfl⟩ | h2
          · refine ox_isCode1 (by omega) hs (br_f (by decide) ?_)
            by_cases h3 : -10 ≤ v3.toInt ∧ v3.toInt ≤ 10
            · refine ox_as59T (by omega) h3 (ys _ ?_)
              exact oy_isCodeT (by omega) hs (br_f (by decide) (oy_as56T (by omega) h9 h3 ⟨rfl, or_mk (or_asgX a h hx (Or.inl hs) h3) b c⟩))
            · refine ox_as59F h3 (ys _ ?_)
              exact oy_isCodeT (by omega) hs (br_f (by decide) (oy_as56F h9 h3 ⟨rfl, or_mk a b c⟩))
          · refine ox_isCodeF (by omega) h2 (br_t rfl (ys _ ?_))
            exact oy_isCodeF (by omega) h2 (br_t rfl (br_f h8 (br_f h9 ⟨rfl, or_mk a b c⟩)))
    · refine ox_isVarF (by omega) h1 (br_t rfl (br_t rfl (br_f hsz (oy_varF (by omega) h1 ⟨rfl, or_mk a b c⟩))))
  · exact br_f (by decide) (br_f (by decide) ⟨rfl, or_mk a b c⟩)
theorem or_brX {n L sz len : Nat} {pr hd hd' st ti va wt : Nat → Int32} (a : or_X n L sz len 0 pr hd st ti va wt) (hl : len < sz) {s t g : Nat} {x3 : Int32} (hs : s < 2 * n) (ht : t < 2 * n) (hg : g ≤ sz) (h3 : -10 ≤ x3.toInt ∧ x3.toInt ≤ 10)
    (h1 : g ≤ len → hd' = upd hd g 1) (h2 : len < g → hd' = hd) :
    or_X n L sz (len + 1) 0 (ox_app pr (len * 5) 1 (nI s) (nI t) x3 (nI g)) hd' st ti va wt := by
  have at0 := ox_app_at (pr := pr) (b := len * 5) (x0 := 1) (x1 := nI s) (x2 := nI t) (x3 := x3) (x4 := nI g)
  have hz : sz ≤ 10 := by have := a.1; omega
  refine or_appX a hl (Or.inr ⟨at0.1, s, t, g, hs, ht, hg, at0.2.1, at0.2.2.1, at0.2.2.2.2, by rw [at0.2.2.2.1]; exact h3⟩) (fun q hq => ?_)
  have gq : nI g = nI q ↔ g = q := nI_eq (by omega) (by omega)
  by_cases c : g ≤ len
  · rw [h1 c]
    by_cases e : q = g
    · subst e
      exact Or.inl ⟨pk_us, Or.inr ⟨c, rfl, rfl⟩⟩
    · rw [pk_un e]
      rcases a.2.2.1 q hq with ⟨y1, y2⟩ | ⟨y1, y2⟩
      · exact Or.inl ⟨y1, Or.inl y2⟩
      · refine Or.inr ⟨y1, ?_⟩
        rintro (z | ⟨-, -, z⟩)
        · exact y2 z
        · exact e (gq.mp z).symm
  · rw [h2 (by omega)]
    rcases a.2.2.1 q hq with ⟨y1, y2⟩ | ⟨y1, y2⟩
    · exact Or.inl ⟨y1, Or.inl y2⟩
    · refine Or.inr ⟨y1, ?_⟩
      rintro (z | ⟨z0, -, z⟩)
      · exact y2 z
      · have := gq.mp z
        omega
theorem i_vc_branch {k : Nat} {u : SX} {v : SY} (I : i_Rel k u v) (hk : k + 5 ≤ 2563) (v1 : Int32) (v2 : Int32) (v3 : Int32) (v4 : Int32) : wpX_branch (fun r u' => wpY_branch (fun r' v' => r' = r ∧ i_Rel (k + 5) u' v') v v1 v2 v3 v4) u v1 v2 v3 v4 := by
  refine or_el (P := fun u v => wpX_branch (fun r u' => wpY_branch (fun r' v' => r' = r ∧ i_Rel (k + 5) u' v') v v1 v2 v3 v4) u v1 v2 v3 v4) I ?_
  intro n L sz len bg hol run wh rp rs pr hd st ti va wt wk vs tb em w2 so se a b c
  have hz : sz ≤ 10 := by have := a.1; omega
  have hn := a.1.1
  have hls : len ≤ sz := a.1.2.2.2.1
  rcases a.1.2.2.2.2 with rfl | rfl
  · refine br_t rfl (pk_le sz len (fun h => br_t rfl (br_t (nI_le h (by have := a.1.2.2.2.1; omega)) ⟨rfl, or_mk a b c⟩)) (fun h => ?_))
    have hsz : ¬ nI sz ≤ nI len := nI_ge h (by omega)
    rcases or_code (2 * n) v1 with ⟨s, hs, rfl⟩ | h1
    · refine ox_isCode1 (by omega) hs (br_f (by decide) ?_)
      rcases or_code (2 * n) v2 with ⟨t, ht, rfl⟩ | h2
      · refine ox_isCode1 (by omega) ht (br_f (by decide) ?_)
        by_cases h3 : -10 ≤ v3.toInt ∧ v3.toInt ≤ 10
        · refine ox_offT h3 (br_f (by decide) ?_)
          refine br_c (fun c1 => ?_) (fun c1 => br_c (fun c2 => ?_) (fun c2 => ?_))
          · exact br_t rfl (br_f hsz (oy_isCodeT (by omega) hs (br_f (by decide) (oy_isCodeT (by omega) ht (br_f (by decide) (oy_off2T h3 (br_t c1 ⟨rfl, or_mk a b c⟩)))))))
          · obtain ⟨g, hg, rfl⟩ := nI_of c1
            have c2' := c2
            rw [nI_leI hg (by omega)] at c2
            refine pk_lt len g (fun c3 => ox_br79 (by omega) ?_) (fun c3 => ⟨pk_in g 11 (by omega), nm_r (e' := upd hd g 1) (by rw [nI_clamp hg, oz_nar1]) (ox_br79 (by omega) ?_)⟩)
            · refine br_t rfl (br_f hsz (oy_isCodeT (by omega) hs (br_f (by decide) (oy_isCodeT (by omega) ht (br_f (by decide) (oy_off2T h3 (br_f c1 (br_t c2' (oy_append (by omega) ⟨rfl, or_mk (or_brX a h hs ht c2 h3 (fun z => ?_) (fun z => rfl)) b c⟩)))))))))
              omega
            · refine br_t rfl (br_f hsz (oy_isCodeT (by omega) hs (br_f (by decide) (oy_isCodeT (by omega) ht (br_f (by decide) (oy_off2T h3 (br_f c1 (br_t c2' (oy_append (by omega) ⟨rfl, or_mk (or_brX a h hs ht c2 h3 (fun z => rfl) (fun z => ?_)) b c⟩)))))))))
              omega
          · exact br_t rfl (br_f hsz (oy_isCodeT (by omega) hs (br_f (by decide) (oy_isCodeT (by omega) ht (br_f (by decide) (oy_off2T h3 (br_f c1 (br_f c2 ⟨rfl, or_mk a b c⟩))))))))
        · refine ox_offF h3 (br_t rfl ?_)
          exact br_t rfl (br_f hsz (oy_isCodeT (by omega) hs (br_f (by decide) (oy_isCodeT (by omega) ht (br_f (by decide) (oy_off2F h3 ⟨rfl, or_mk a b c⟩))))))
      · refine ox_isCodeF (by omega) h2 (br_t rfl ?_)
        exact br_t rfl (br_f hsz (oy_isCodeT (by omega) hs (br_f (by decide) (oy_isCodeF (by omega) h2 (br_t rfl ⟨rfl, or_mk a b c⟩)))))
    · refine ox_isCodeF (by omega) h1 (br_t rfl ?_)
      exact br_t rfl (br_f hsz (oy_isCodeF (by omega) h1 (br_t rfl ⟨rfl, or_mk a b c⟩)))
  · exact br_f (by decide) (br_f (by decide) ⟨rfl, or_mk a b c⟩)
end
section
/-! wipe, the constructors -/
def or_FL (L : Nat) (s t : Nat) : Int := if s = oc_n t then 0 else 2 * (L : Int)
theorem or_FLz {L s t : Nat} (h : s = oc_n t) : or_FL L s t = 0 := if_pos h
theorem or_FLn {L s t : Nat} (h : s ≠ oc_n t) : or_FL L s t = 2 * (L : Int) := if_neg h
theorem or_FLb (L s t : Nat) : or_FL L s t = 0 ∨ or_FL L s t = 2 * (L : Int) := by
  by_cases h : s = oc_n t
  · exact Or.inl (or_FLz h)
  · exact Or.inr (or_FLn h)
theorem or_FLT (n L : Nat) : oc_T (2 * n) (or_FL L) := by
  have dg : ∀ s, or_FL L s s = 2 * (L : Int) := fun s => or_FLn (fun z => oc_ne s z.symm)
  refine ⟨?_, ?_, ?_, ?_, ?_⟩
  · intro s _ t _
    by_cases h : s = oc_n t
    · rw [or_FLz h, or_FLz (by rw [h, oc_nn])]
    · rw [or_FLn h, or_FLn (fun z => h (by rw [z, oc_nn]))]
  · intro s _ t _ k _
    by_cases h1 : s = oc_n k
    · by_cases h2 : oc_n k = oc_n t
      · rw [or_FLz (h1.trans h2), or_FLz h1, or_FLz h2]; omega
      · rw [or_FLz h1, or_FLn h2]
        rcases or_FLb L s t with h | h <;> omega
    · rw [or_FLn h1]
      rcases or_FLb L s t with h | h <;> rcases or_FLb L (oc_n k) t with h' | h' <;> omega
  · intro s _ t _
    rw [dg, dg]
    rcases or_FLb L s t with h | h <;> omega
  · intro s _
    rw [dg]; omega
  · intro s _
    exact or_FLz (by rw [oc_nn])
theorem or_FLG {n L : Nat} {p : Nat → Int} : oc_Gam (2 * n) (or_FL L) p ↔ ∀ u, u < n → -(L : Int) ≤ p u ∧ p u ≤ L := by
  constructor
  · intro h u hu
    have a := h (2 * u) (by omega) (2 * u) (by omega)
    have b := h (2 * u + 1) (by omega) (2 * u + 1) (by omega)
    rw [or_FLn (fun z => oc_ne _ z.symm), oc_g0 (by omega), show 2 * u / 2 = u by omega] at a
    rw [or_FLn (fun z => oc_ne _ z.symm), oc_g1 (by omega), show (2 * u + 1) / 2 = u by omega] at b
    omega
  · intro h s hs t ht
    have a := oc_gbox (h (s / 2) (by omega))
    have b := oc_gbox (h (t / 2) (by omega))
    by_cases e : s = oc_n t
    · rw [or_FLz e, e, oc_gn]; omega
    · rw [or_FLn e]; omega
theorem or_fullW {n L : Nat} (hn : n = 2 ∨ n = 3) (hL : L ≤ 4) {w : Nat → Int32} (h : ∀ s, s < 2 * n → ∀ t, t < 2 * n → w (s * 6 + t) = ox_full L s t) : ox_Wk (2 * n) w (fun p => ∀ u, u < n → -(L : Int) ≤ p u ∧ p u ≤ L) := by
  have e : ∀ s, s < 2 * n → ∀ t, t < 2 * n → oz_w w s t = or_FL L s t := by
    intro s hs t ht
    simp only [oz_w]
    rw [h s hs t ht, or_fullI hL]; rfl
  exact ox_Wk_mk (by omega) (B := L) (oc_T_congr (by omega) e (or_FLT n L)) (fun p => by rw [oc_G_congr e, or_FLG]) (fun p hp u hu => hp u (by omega)) (by omega)
section
variable {f_size f_length f_begun f_hollow f_running f_where y_length y_begun y_runPoint y_runState : Int32} {a_program a_head a_stored a_tight a_vacant a_waiting a_work a_values a_table a_empty y_waiting a_source a_set : Nat → Int32}
theorem or_wipe {k n L sz : Nat} (hn : n = 2 ∨ n = 3) (hL : 2 ≤ L ∧ L ≤ 4) (hz : 4 ≤ sz ∧ sz ≤ 10) {postX : SX → Prop}
    (H : ∀ u', (∀ postY : SY → Prop, (∀ v', i_Rel k u' v' → postY v') → wpY_wipe postY (nI n, nI L, nI sz, y_length, y_begun, y_runPoint, y_runState, a_program, a_table, a_empty, y_waiting, a_source, a_set)) → postX u') :
    wpX_wipe postX (nI n, nI L, nI sz, nI (2 * n), f_length, f_begun, f_hollow, f_running, f_where, a_program, a_head, a_stored, a_tight, a_vacant, a_waiting, a_work, a_values) := by
  refine ox_wipe (by omega) hL.2 (fun hd va wt w st ti h1 h2 h3 h4 h5 h6 h7 => H _ (fun postY hY => ?_))
  refine oy_wipe hn hL.2 hz.2 (fun e1 wt2 set e tb1 tb g1 g2 g3 g4 g5 => hY _ ?_)
  have W := or_fullW hn hL.2 h5
  have hB : oc_Box (2 * n) L (fun p => ∀ u, u < n → -(L : Int) ≤ p u ∧ p u ≤ L) := fun p hp u hu => hp u (by omega)
  have hset : oy_Is set (ob_num n L (fun p => ∀ u, u < n → -(L : Int) ≤ p u ∧ p u ≤ L)) := ob_Is g3 (fun j _ => ⟨fun z => ⟨z, fun u hu => z.1 u (by omega)⟩, fun z => z.1⟩)
  obtain ⟨kk, hkk, hkz⟩ := ob_some hn hL.2 hset W hB
  have e19 : e 19 = 0 := by
    rcases g4.2.1 with ⟨-, z⟩ | ⟨z, -⟩
    · exact absurd (z kk hkk) hkz
    · exact z
  have ht : ∀ s, s < 2 * n → ∀ t, t < 2 * n → tb1 (19 * 36 + s * 6 + t) = w (s * 6 + t) := fun s hs t ht => ob_bst hn hL.2 hset W hB hs ht (g4.2.2.1 s hs t ht)
  refine or_mk (len := 0) ⟨⟨hn, hL, hz, by omega, Or.inl rfl⟩, fun i hi => absurd hi (Nat.not_lt_zero i), fun q hq => Or.inr ⟨h1 q hq, ?_⟩, fun q hq => ?_, ⟨Or.inl h3, fun _ => ⟨or_keep hn W hB h6.1 h7.1 0, fun j hj => ?_⟩⟩, fun _ q hq => h2 q (by omega)⟩ ⟨fun q hq => ?_, ?_, fun _ s hs t ht2 => ?_⟩ (Or.inl ⟨rfl, rfl⟩)
  · rintro ⟨i, -, hi, -⟩
    exact absurd hi (Nat.not_lt_zero i)
  · have v1 : va q = 1 := h2 q (by omega)
    have w0 : wt q = 0 := h4 q (by omega)
    exact ⟨Or.inr v1, fun z => absurd (v1.symm.trans z) (by decide), fun z => absurd w0 z⟩
  · exact (h6.1 j hj).trans (h7.1 j hj).symm
  · have v1 : va q = 1 := h2 q (by omega)
    have w0 : wt q = 0 := h4 q (by omega)
    refine ⟨?_, (g2 q hq).trans w0.symm, fun z => absurd (v1.symm.trans z) (by decide)⟩
    rw [pk_un (by omega), g4.1 q (by omega), g1 q hq, v1]
  · rw [pk_us, e19, h3]
  · rw [Nat.add_assoc (20 * 36), g5.1 _ (by omega), ← Nat.add_assoc, ht s hs t ht2, Nat.add_assoc (11 * 36), h6.1 _ (by omega)]
end
theorem i_vc_wipe {k : Nat} {u : SX} {v : SY} (I : i_Rel k u v) (hk : k + 5 ≤ 2563) : wpX_wipe (fun u' => wpY_wipe (fun v' => i_Rel (k + 5) u' v') v) u := by
  refine or_el (P := fun u v => wpX_wipe (fun u' => wpY_wipe (fun v' => i_Rel (k + 5) u' v') v) u) I ?_
  intro n L sz len bg hol run wh rp rs pr hd st ti va wt wk vs tb em w2 so se a b c
  exact or_wipe (k := k + 5) a.1.1 a.1.2.1 a.1.2.2.1 (fun u' H => H _ (fun v' h => h))
theorem or_clamp (x : Int32) (lo hi : Nat) (h : lo ≤ hi) (h2 : hi < 2 ^ 31) : ∃ m, lo ≤ m ∧ m ≤ hi ∧ ∀ A : Int32 → Prop, A (nI m) → ((nI lo ≤ x → ((x ≤ nI hi → A x) ∧ (¬ x ≤ nI hi → A (nI hi)))) ∧ (¬ nI lo ≤ x → A (nI lo))) := by
  by_cases c : nI lo ≤ x
  · by_cases c2 : x ≤ nI hi
    · have p : ¬ x < 0 := fun z => by
        have e0 := Int32.lt_iff_toInt_lt.mp z
        have e1 := Int32.le_iff_toInt_le.mp c
        rw [nI_toInt (by omega)] at e1
        rw [oz_0] at e0
        omega
      obtain ⟨j, hj, rfl⟩ := nI_of p
      have c' := (nI_leI (by omega) hj).mp c
      have c2' := (nI_leI hj h2).mp c2
      exact ⟨j, c', c2', fun A hA => br_t c (br_t c2 hA)⟩
    · exact ⟨hi, h, Nat.le_refl _, fun A hA => br_t c (br_f c2 hA)⟩
  · exact ⟨lo, Nat.le_refl _, h, fun A hA => br_f c hA⟩
section
variable {f_n f_limit f_size f_codes f_length f_begun f_hollow f_running f_where : Int32} {a_program a_head a_stored a_tight a_vacant a_waiting a_work a_values : Nat → Int32}
theorem ox_clampw {post : Int32 → Prop} {x : Int32} {lo hi m : Nat} (h : ∀ A : Int32 → Prop, A (nI m) → ((nI lo ≤ x → ((x ≤ nI hi → A x) ∧ (¬ x ≤ nI hi → A (nI hi)))) ∧ (¬ nI lo ≤ x → A (nI lo)))) (hp : post (nI m)) : wpX_clamp post (f_n, f_limit, f_size, f_codes, f_length, f_begun, f_hollow, f_running, f_where, a_program, a_head, a_stored, a_tight, a_vacant, a_waiting, a_work, a_values) x (nI lo) (nI hi) := h post hp
theorem ox_commit1 {post : Int32 → SX → Prop} (k1 : post 98 (f_n, f_limit, f_size, f_codes, f_length, f_begun, 1, f_running, f_where, a_program, a_head, a_stored, a_tight, upd a_vacant 11 1, a_waiting, a_work, a_values)) : wpX_commit post (f_n, f_limit, f_size, f_codes, f_length, f_begun, 1, f_running, f_where, a_program, a_head, a_stored, a_tight, a_vacant, a_waiting, a_work, a_values) :=
  br_f (by decide) (nm_r (e' := upd a_vacant 11 1) (by rw [oz_nar1]) k1)
theorem ox_commit0 {post : Int32 → SX → Prop}
    (k0 : ∀ r st ti, (r = 0 ∧ (∀ j, j < 36 → a_work j = a_stored (396 + j)) ∨ r = 1 ∧ (∃ j, j < 36 ∧ a_work j ≠ a_stored (396 + j))) → ox_cp 11 a_work a_stored st 36 → ox_cp 11 a_work a_tight ti 36 → post r (f_n, f_limit, f_size, f_codes, f_length, f_begun, 0, f_running, f_where, a_program, a_head, st, ti, upd a_vacant 11 0, a_waiting, a_work, a_values)) :
    wpX_commit post (f_n, f_limit, f_size, f_codes, f_length, f_begun, 0, f_running, f_where, a_program, a_head, a_stored, a_tight, a_vacant, a_waiting, a_work, a_values) :=
  br_t rfl ⟨37, ox_commit22 k0 36 0 1 37 (by omega) (by omega) (Or.inl ⟨rfl, fun j hj => absurd hj (Nat.not_lt_zero j)⟩)⟩
end
theorem i_vc0 (k0 : Int32) (k1 : Int32) (k2 : Int32) : wpX_init (fun u => wpY_init (fun v => i_Rel 3 u v) k0 k1 k2) k0 k1 k2 := by
  obtain ⟨n, n1, n2, hn⟩ := or_clamp k0 2 3 (by decide) (by decide)
  obtain ⟨L, l1, l2, hl⟩ := or_clamp k1 2 4 (by decide) (by decide)
  obtain ⟨sz, s1, s2, hs⟩ := or_clamp k2 4 10 (by decide) (by decide)
  unfold wpX_init
  refine ox_clampw (lo := 2) (hi := 3) hn ?_
  refine ox_clampw (lo := 2) (hi := 4) hl ?_
  refine ox_clampw (lo := 4) (hi := 10) hs ?_
  refine nm_r (oz_d2 n) ?_
  refine or_wipe (k := 3) (y_length := 0) (y_begun := 0) (y_runPoint := 0) (y_runState := 0) (a_table := fun _ => 0) (a_empty := fun _ => 0) (y_waiting := fun _ => 0) (a_source := fun _ => 0) (a_set := fun _ => 0) (by omega) ⟨l1, l2⟩ ⟨s1, s2⟩ (fun u' H => ?_)
  obtain ⟨x1, x2, x3, x4, x5, x6, x7, x8, x9, x10, x11, x12, x13, x14, x15, x16, x17⟩ := u'
  refine hn (fun z => wY_init_75 _ k1 k2 z 0 0 0 0 0 0 0 (fun _ => 0) (fun _ => 0) (fun _ => 0) (fun _ => 0) (fun _ => 0) (fun _ => 0)) ?_
  refine hl (fun z => wY_init_98 _ k2 z (nI n) 0 0 0 0 0 0 (fun _ => 0) (fun _ => 0) (fun _ => 0) (fun _ => 0) (fun _ => 0) (fun _ => 0)) ?_
  refine hs (fun z => wY_init_123 _ z (nI n) (nI L) 0 0 0 0 0 (fun _ => 0) (fun _ => 0) (fun _ => 0) (fun _ => 0) (fun _ => 0) (fun _ => 0)) ?_
  unfold wY_init_123
  exact H _ (fun v' h => h)
/-! the conjunction -/
theorem or_X11 {n L sz len : Nat} {bg : Int32} {pr hd st ti va wt st' ti' va' : Nat → Int32} (a : or_X n L sz len bg pr hd st ti va wt) (h1 : ∀ l, l < 396 → st' l = st l) (h2 : ∀ l, l < 396 → ti' l = ti l) (h3 : ∀ q, q < 11 → va' q = va q)
    (h4 : (va' 11 = 0 ∨ va' 11 = 1) ∧ (va' 11 = 0 → or_Sl n L 0 st' ti' 11 ∧ ∀ j, j < 36 → st' (396 + j) = ti' (396 + j))) : or_X n L sz len bg pr hd st' ti' va' wt := by
  obtain ⟨a1, b, c, d, e, f⟩ := a
  have hz : sz ≤ 10 := by omega
  refine ⟨a1, b, c, fun q hq => ?_, h4, fun z q hq => by rw [h3 q (by omega)]; exact f z q hq⟩
  rw [h3 q (by omega)]
  refine ⟨(d q hq).1, fun z => ?_, (d q hq).2.2⟩
  exact or_Sl_fr a1.1 (fun j hj => h1 _ (by omega)) (fun j hj => h2 _ (by omega)) ((d q hq).2.1 z)
theorem or_L11 {n sz : Nat} (hn : n = 2 ∨ n = 3) (hz : sz ≤ 10) {st va wt tb em w2 st' va' tb' em' : Nat → Int32} (b : or_L n sz st va wt tb em w2) (h1 : ∀ l, l < 396 → st' l = st l) (h3 : ∀ q, q < 11 → va' q = va q) (h5 : ∀ l, l < 396 → tb' l = tb l) (h6 : ∀ q, q < 11 → em' q = em q)
    (h7 : em' 20 = va' 11) (h8 : va' 11 = 0 → or_eq n st' tb' 11 20) : or_L n sz st' va' wt tb' em' w2 := by
  refine ⟨fun q hq => ?_, h7, h8⟩
  have B := b.1 q hq
  rw [h3 q (by omega), h6 q (by omega)]
  refine ⟨B.1, B.2.1, fun z s hs t ht => ?_⟩
  rw [h5 _ (by omega), h1 _ (by omega)]
  exact B.2.2 z s hs t ht
theorem or_commit {k n L sz len : Nat} {bg run wh rp rs : Int32} {pr hd st ti va wt vs tb em w2 : Nat → Int32} (a : or_X n L sz len bg pr hd st ti va wt) (b : or_L n sz st va wt tb em w2) (c : or_run n sz bg run wh vs rp rs)
    {S : (Nat → Int) → Prop} {hol : Int32} {w : Nat → Int32} (O : ox_Out (2 * n) hol w S) (hB : oc_Box (2 * n) L S) (hout : va 11 = 0 → ∀ j, j < 36 → ¬ (j / 6 < 2 * n ∧ j % 6 < 2 * n) → w j = ti (396 + j)) (hv : va 11 = 1 → ∀ p, ¬ S p) {postX : Int32 → SX → Prop}
    (H : ∀ r u', (∀ (so set : Nat → Int32) (postY : Int32 → SY → Prop), oy_Is set (ob_num n L S) → (∀ v', i_Rel k u' v' → postY r v') → wpY_replaceConjunction postY (nI n, nI L, nI sz, nI len, bg, rp, rs, pr, tb, em, w2, so, set)) → postX r u') :
    wpX_commit postX (nI n, nI L, nI sz, nI (2 * n), nI len, bg, hol, run, wh, pr, hd, st, ti, va, wt, w, vs) := by
  have hz : sz ≤ 10 := by have := a.1; omega
  have hn := a.1.1
  have hL : L ≤ 4 := a.1.2.1.2
  have hem : em 20 = 0 ∨ em 20 = 1 := by rw [b.2.1]; exact a.2.2.2.2.1.1
  rcases O with ⟨rfl, hE⟩ | ⟨rfl, W⟩
  · refine ox_commit1 (H _ _ (fun so set postY hset hY => ?_))
    refine oy_replace hn hem (fun e1 tb1 tb' r' M CT hr => ?_)
    have z0 := ob_none hset hE
    have e19 : e1 19 = 1 := by
      rcases M.2.1 with ⟨z, -⟩ | ⟨-, j, hj, hjz⟩
      · exact z
      · exact absurd (z0 j hj) hjz
    rcases hr with ⟨-, rfl⟩ | ⟨z, -⟩
    · refine hY _ (or_mk (or_X11 a (fun _ _ => rfl) (fun _ _ => rfl) (fun q hq => pk_un (by omega)) ⟨Or.inr pk_us, fun z => ?_⟩) (or_L11 hn hz b (fun _ _ => rfl) (fun q hq => pk_un (by omega)) (fun l hl => ?_) (fun q hq => ?_) ?_ (fun z => ?_)) c)
      · rw [pk_us] at z; exact absurd z (by decide)
      · rw [CT.2 l (by omega), M.2.2.2 l (by omega)]
      · rw [pk_un (by omega), M.1 q (by omega)]
      · rw [pk_us, pk_us, e19]
      · rw [pk_us] at z; exact absurd z (by decide)
    · exact absurd (e19.symm.trans z) (by decide)
  · have v0 : va 11 = 0 := by
      rcases a.2.2.2.2.1.1 with z | z
      · exact z
      · obtain ⟨p, hp, -⟩ := oc_att (by omega) W.1 (a := 0) (b := 0) (by omega) (by omega)
        exact absurd ((W.2.1 p).mp hp) (hv z p)
    have em0 : em 20 = 0 := b.2.1.trans v0
    have S11 := a.2.2.2.2.1.2 v0
    refine ox_commit0 (fun r st' ti' hr h1 h2 => H _ _ (fun so set postY hset hY => ?_))
    refine oy_replace hn hem (fun e1 tb1 tb' r' M CT hr' => ?_)
    obtain ⟨kk, hkk, hkz⟩ := ob_some hn hL hset W hB
    have e19 : e1 19 = 0 := by
      rcases M.2.1 with ⟨-, z⟩ | ⟨z, -⟩
      · exact absurd (z kk hkk) hkz
      · exact z
    have t19 : ∀ s, s < 2 * n → ∀ t, t < 2 * n → tb1 (19 * 36 + s * 6 + t) = w (s * 6 + t) := fun s hs t ht => ob_bst hn hL hset W hB hs ht (M.2.2.1 s hs t ht)
    have t20 : ∀ s, s < 2 * n → ∀ t, t < 2 * n → tb1 (20 * 36 + s * 6 + t) = st (396 + (s * 6 + t)) := fun s hs t ht => by
      rw [M.2.2.2 _ (by omega), b.2.2 v0 s hs t ht, Nat.add_assoc]
    rcases hr' with ⟨z, -⟩ | ⟨-, hr'⟩
    · exact absurd (e19.symm.trans z) (by decide)
    have same : r' = r := by
      rcases hr with ⟨rfl, hr⟩ | ⟨rfl, j, hj, hr⟩
      · rcases hr' with ⟨z, -⟩ | ⟨-, z | ⟨s, t, hs, ht, z⟩⟩
        · exact z
        · exact absurd (em0.symm.trans z) (by decide)
        · exact absurd (by rw [t19 s hs t ht, t20 s hs t ht]; exact hr _ (by omega)) z
      · rcases hr' with ⟨-, -, z⟩ | ⟨z, -⟩
        · refine absurd ?_ hr
          by_cases cc : j / 6 < 2 * n ∧ j % 6 < 2 * n
          · have y := z (j / 6) cc.1 (j % 6) cc.2
            rw [t19 _ cc.1 _ cc.2, t20 _ cc.1 _ cc.2, show j / 6 * 6 + j % 6 = j by omega] at y
            exact y
          · rw [hout v0 j hj cc]; exact (S11.2 j hj).symm
        · exact z
    rw [same]
    refine hY _ (or_mk (or_X11 a (fun l hl => h1.2 l (by omega)) (fun l hl => h2.2 l (by omega)) (fun q hq => pk_un (by omega)) ⟨Or.inl pk_us, fun _ => ⟨or_keep hn W hB h1.1 h2.1 0, fun j hj => ?_⟩⟩) (or_L11 hn hz b (fun l hl => h1.2 l (by omega)) (fun q hq => pk_un (by omega)) (fun l hl => ?_) (fun q hq => ?_) ?_ (fun _ s hs t ht => ?_)) c)
    · exact (h1.1 j hj).trans (h2.1 j hj).symm
    · rw [CT.2 l (by omega), M.2.2.2 l (by omega)]
    · rw [pk_un (by omega), M.1 q (by omega)]
    · rw [pk_us, pk_us, e19]
    · rw [Nat.add_assoc (20 * 36), CT.1 _ (by omega), ← Nat.add_assoc, t19 s hs t ht, Nat.add_assoc (11 * 36), h1.1 _ (by omega)]
theorem or_pl11 (sz : Nat) : or_pl sz 20 11 20 := ⟨rfl, Or.inl ⟨rfl, rfl⟩⟩
theorem i_vc_assume {k : Nat} {u : SX} {v : SY} (I : i_Rel k u v) (hk : k + 5 ≤ 2563) (v1 : Int32) (v2 : Int32) (v3 : Int32) : wpX_assume (fun r u' => wpY_assume (fun r' v' => r' = r ∧ i_Rel (k + 5) u' v') v v1 v2 v3) u v1 v2 v3 := by
  refine or_el (P := fun u v => wpX_assume (fun r u' => wpY_assume (fun r' v' => r' = r ∧ i_Rel (k + 5) u' v') v v1 v2 v3) u v1 v2 v3) I ?_
  intro n L sz len bg hol run wh rp rs pr hd st ti va wt wk vs tb em w2 so se a b c
  have hz : sz ≤ 10 := by have := a.1; omega
  have hn := a.1.1
  have hL : L ≤ 4 := a.1.2.1.2
  have A := or_atP a b (or_pl11 sz)
  unfold wpX_assume wpY_assume
  rcases or_code (2 * n) v1 with ⟨s, hs, rfl⟩ | h1
  · rcases or_code (2 * n) v2 with ⟨t, ht, rfl⟩ | h2
    · refine ox_isCode1 (by omega) hs (br_f (by decide) ?_)
      refine ox_isCode1 (by omega) ht (br_f (by decide) ?_)
      refine ox_load (q := 11) (by decide) a.2.2.2.2.1.1 (fun w hw => ?_)
      have O := or_out hn hL A hw
      refine ox_restrict (by omega) O hs ht (fun hol' w' O' o' => ?_)
      refine or_commit (k := k + 5) a b c O' (fun p hp => or_SBox A p hp.1) (fun z j hj cc => by rw [o' j cc]; exact hw j hj) (fun z p hp => absurd (z.symm.trans hp.1.1) (by decide)) (fun r u' H => ?_)
      obtain ⟨x1, x2, x3, x4, x5, x6, x7, x8, x9, x10, x11, x12, x13, x14, x15, x16, x17⟩ := u'
      refine oy_isCodeT (by omega) hs (br_f (by decide) ?_)
      refine oy_isCodeT (by omega) ht (br_f (by decide) ?_)
      refine oy_collect (q := 20) hn hL (by decide) (fun src hsrc => ?_)
      refine oy_keep (by omega) (by omega) (Or.inr rfl) (or_src hn A hsrc) (fun set hset => ?_)
      refine H src set _ (ob_Is hset (fun j _ => ?_)) (fun v' h => ?_)
      · constructor
        · rintro ⟨⟨x1, x2⟩, x3⟩
          exact ⟨x1, x2, x3.mpr rfl⟩
        · rintro ⟨x1, x2, x3⟩
          exact ⟨⟨x1, x2⟩, ⟨fun _ => rfl, fun _ => x3⟩⟩
      · obtain ⟨y1, y2, y3, y4, y5, y6, y7, y8, y9, y10, y11, y12, y13⟩ := v'
        exact ⟨rfl, h⟩
    · refine ox_isCode1 (by omega) hs (br_f (by decide) ?_)
      refine ox_isCodeF (by omega) h2 (br_t rfl ?_)
      refine oy_isCodeT (by omega) hs (br_f (by decide) ?_)
      exact oy_isCodeF (by omega) h2 (br_t rfl ⟨rfl, or_mk a b c⟩)
  · refine ox_isCodeF (by omega) h1 (br_t rfl ?_)
    exact oy_isCodeF (by omega) h1 (br_t rfl ⟨rfl, or_mk a b c⟩)
theorem i_vc_forget {k : Nat} {u : SX} {v : SY} (I : i_Rel k u v) (hk : k + 5 ≤ 2563) (v1 : Int32) : wpX_forget (fun r u' => wpY_forget (fun r' v' => r' = r ∧ i_Rel (k + 5) u' v') v v1) u v1 := by
  refine or_el (P := fun u v => wpX_forget (fun r u' => wpY_forget (fun r' v' => r' = r ∧ i_Rel (k + 5) u' v') v v1) u v1) I ?_
  intro n L sz len bg hol run wh rp rs pr hd st ti va wt wk vs tb em w2 so se a b c
  have hz : sz ≤ 10 := by have := a.1; omega
  have hn := a.1.1
  have hL : L ≤ 4 := a.1.2.1.2
  have A := or_atP a b (or_pl11 sz)
  unfold wpX_forget wpY_forget
  rcases or_code n v1 with ⟨s, hs, rfl⟩ | h1
  · refine ox_isVarT (by omega) hs (br_f (by decide) ?_)
    refine ox_load (q := 11) (by decide) a.2.2.2.2.1.1 (fun w hw => ?_)
    have O := or_out hn hL A hw
    have WK : va 11 = 0 → ox_Wk (2 * n) w (or_S n va ti 11) := by
      intro z
      rcases O with ⟨y, -⟩ | ⟨-, W⟩
      · exact absurd (z.symm.trans y) (by decide)
      · exact W
    refine ox_release (N := 2 * n) (H := va 11 = 0) (by omega) (by omega) hL (fun z => ⟨(WK z).1, (WK z).2.2⟩) (fun w' hw' => ?_)
    have hBi : oc_Box (2 * n) L (oc_img L s 9 0 (or_S n va ti 11)) := ob_imgBox (or_SBox A)
    have O' : ox_Out (2 * n) (va 11) w' (oc_img L s 9 0 (or_S n va ti 11)) := by
      rcases A.2.2.1 with z | z
      · obtain ⟨e, o⟩ := hw' z
        have W := WK z
        refine Or.inr ⟨z, ox_Wk_mk (by omega) (B := L) (oc_T_congr (by omega) e (oc_relT (by omega) W.1 s (by omega))) (fun p => ?_) hBi (by omega)⟩
        rw [oc_G_congr e, oc_relG (by omega) W.1 (by omega)]
        constructor
        · rintro ⟨h1, y, h2⟩
          exact ⟨h1, y, p s, h1, (W.2.1 _).mp h2, (oc_asg9 _ _ _).symm⟩
        · rintro ⟨h1, y, x, -, h2, -⟩
          exact ⟨h1, y, (W.2.1 _).mpr h2⟩
      · refine Or.inl ⟨z, ?_⟩
        rintro p ⟨-, y, x, -, h2, -⟩
        exact absurd (z.symm.trans h2.1) (by decide)
    refine or_commit (k := k + 5) a b c O' hBi (fun z j hj cc => ?_) (fun z => ?_) (fun r u' H => ?_)
    · rw [(hw' z).2 j cc]; exact hw j hj
    · rintro p ⟨-, y, x, -, h2, -⟩
      exact absurd (z.symm.trans h2.1) (by decide)
    · obtain ⟨x1, x2, x3, x4, x5, x6, x7, x8, x9, x10, x11, x12, x13, x14, x15, x16, x17⟩ := u'
      refine oy_varT (by omega) hs ?_
      refine oy_collect (q := 20) hn hL (by decide) (fun src hsrc => ?_)
      refine oy_forgetL hL (by omega) (or_src hn A hsrc) (fun set hset => ?_)
      refine H src set _ (ob_Is hset (fun j hj => ?_)) (fun v' h => ?_)
      · have := ob_img hn hL (or_SExt n va ti 11) (or_SBox A) hs (s := 9) (by omega) (c := 0) hj
        simp only [oc_asg9] at this
        exact this
      · exact ⟨rfl, h⟩
  · refine ox_isVarF (by omega) h1 (br_t rfl ?_)
    exact oy_varF (by omega) h1 ⟨rfl, or_mk a b c⟩
end
section
/-! begin -/
theorem i_vc_begin {k : Nat} {u : SX} {v : SY} (I : i_Rel k u v) (hk : k + 5 ≤ 2563) : wpX_begin (fun r u' => wpY_begin (fun r' v' => r' = r ∧ i_Rel (k + 5) u' v') v) u := by
  refine or_el (P := fun u v => wpX_begin (fun r u' => wpY_begin (fun r' v' => r' = r ∧ i_Rel (k + 5) u' v') v) u) I ?_
  intro n L sz len bg hol run wh rp rs pr hd st ti va wt wk vs tb em w2 so se a b c
  have hz : sz ≤ 10 := by have := a.1; omega
  have hls : len ≤ sz := a.1.2.2.2.1
  have hn := a.1.1
  have hL : L ≤ 4 := a.1.2.1.2
  have hem : em 20 = 0 ∨ em 20 = 1 := by rw [b.2.1]; exact a.2.2.2.2.1.1
  obtain ⟨a1, a2, a3, a4, a5, a6⟩ := a
  unfold wpX_begin
  refine ox_clear (fun va' wt' h1 h2 h3 => ?_)
  refine br_c (fun z => ?_) (fun z => ?_)
  · have v0 : va 11 = 0 := h2.symm.trans z
    have em0 : em 20 = 0 := b.2.1.trans v0
    obtain ⟨S11, E11⟩ := a5.2 v0
    refine ox_load (q := 11) (by decide) (Or.inl z) (fun w hw => ?_)
    have W := or_load hn hL S11 hw
    refine ox_keep (q := 0) (by decide) (fun st' ti' g1 g2 => ?_)
    -- the state after begin
    have fin : ∀ x : Int32, x = (if 0 < len then 1 else 0) → wpY_begin (fun r' v' => r' = 1 ∧ i_Rel (k + 5) (nI n, nI L, nI sz, nI (2 * n), nI len, 1, va' 11, 0, wh, pr, hd, st', ti', upd va' 0 0, upd wt' 0 x, w, vs) v') (nI n, nI L, nI sz, nI len, bg, rp, rs, pr, tb, em, w2, so, se) := by
      intro x hx
      refine oy_begin hz (by omega) hem (fun _ e1 wt2 tb' k1 k2 k3 k4 => ⟨rfl, ?_⟩) (fun y => absurd (em0.symm.trans y) (by decide))
      rw [← hx]
      have va0 : upd va' 0 0 0 = 0 := pk_us
      have vaq : ∀ q, 0 < q → q < 11 → upd va' 0 0 q = 1 := fun q y1 y2 => by rw [pk_un (by omega)]; exact h1 q y2
      have va11 : upd va' 0 0 11 = 0 := by rw [pk_un (by decide)]; exact z
      refine or_mk ⟨⟨a1.1, a1.2.1, a1.2.2.1, a1.2.2.2.1, Or.inr rfl⟩, a2, a3, fun q hq => ?_, ⟨Or.inl va11, fun _ => ⟨?_, fun j hj => ?_⟩⟩, fun y => absurd y (by decide)⟩ ⟨fun q hq => ?_, ?_, fun _ s hs t ht => ?_⟩ (Or.inl ⟨rfl, rfl⟩)
      · by_cases e : q = 0
        · subst e
          refine ⟨Or.inl va0, fun _ => or_keep hn W (or_Sl_box S11) g1.1 g2.1 _, fun y => ⟨?_, va0⟩⟩
          rw [pk_us, hx] at y
          refine Classical.byContradiction (fun y2 => y (if_neg y2))
        · have q1 := vaq q (by omega) (by omega)
          refine ⟨Or.inr q1, fun y => absurd (q1.symm.trans y) (by decide), fun y => ?_⟩
          rw [pk_un e] at y
          exact absurd (h3 q (by omega)) y
      · exact or_Sl_fr hn (fun j hj => g1.2 _ (by omega)) (fun j hj => g2.2 _ (by omega)) S11
      · rw [g1.2 _ (by omega), g2.2 _ (by omega)]; exact E11 j hj
      · by_cases e : q = 0
        · subst e
          refine ⟨by rw [pk_us, pk_us], by rw [pk_us, pk_us], fun _ s hs t ht => ?_⟩
          rw [Nat.add_assoc, k4.1 _ (by omega), g1.1 _ (by omega), hw _ (by omega)]
          have y := b.2.2 v0 s hs t ht
          rw [Nat.add_assoc, Nat.add_assoc] at y
          rw [y]
          exact E11 _ (by omega)
        · have q1 := vaq q (by omega) (by omega)
          refine ⟨?_, ?_, fun y => absurd (q1.symm.trans y) (by decide)⟩
          · rw [pk_un e, q1]; exact k1 q hq
          · rw [pk_un e, pk_un e, k3 q hq, h3 q (by omega)]
      · rw [pk_un (by decide), k2, em0, va11]
      · rw [k4.2 _ (by omega), g1.2 _ (by omega)]
        exact b.2.2 v0 s hs t ht
    refine pk_le len 0 (fun y => nm_r (e' := upd wt' 0 0) (congrArg (upd wt' 0) oz_nar0) (fin 0 (by rw [if_neg (by omega)]))) (fun y => nm_r (e' := upd wt' 0 1) (congrArg (upd wt' 0) oz_nar1) (fin 1 (by rw [if_pos y])))
  · have v1 : va 11 = 1 := a5.1.resolve_left (fun y => z (h2.trans y))
    have em1 : em 20 = 1 := b.2.1.trans v1
    refine oy_begin hz (by omega) hem (fun y => absurd (em1.symm.trans y) (by decide)) (fun _ e1 wt2 tb' k1 k2 k3 k4 => ⟨rfl, ?_⟩)
    have va11 : va' 11 = 1 := h2.trans v1
    refine or_mk ⟨⟨a1.1, a1.2.1, a1.2.2.1, a1.2.2.2.1, Or.inr rfl⟩, a2, a3, fun q hq => ?_, ⟨Or.inr va11, fun y => absurd (va11.symm.trans y) (by decide)⟩, fun y => absurd y (by decide)⟩ ⟨fun q hq => ?_, ?_, fun y => absurd (va11.symm.trans y) (by decide)⟩ (Or.inl ⟨rfl, rfl⟩)
    · have q1 := h1 q (by omega)
      exact ⟨Or.inr q1, fun y => absurd (q1.symm.trans y) (by decide), fun y => absurd (h3 q (by omega)) y⟩
    · have q1 := h1 q (by omega)
      refine ⟨?_, ?_, fun y => absurd (q1.symm.trans y) (by decide)⟩
      · by_cases e : q = 0
        · subst e; rw [pk_us, q1]
        · rw [pk_un e, q1]; exact k1 q hq
      · by_cases e : q = 0
        · subst e; rw [pk_us, h3 0 (by decide)]
        · rw [pk_un e, k3 q hq, h3 q (by omega)]
    · rw [pk_un (by decide), k2, em1, va11]
end
section
/-! what a delivery does, on both sides -/
def or_DX (n L q len : Nat) (hd hol : Int32) (w st ti va wt st' ti' va' wt' : Nat → Int32) : Prop :=
  (hol = 1 ∧ st' = st ∧ ti' = ti ∧ va' = va ∧ wt' = wt) ∨
  (hol = 0 ∧ va q = 1 ∧ ox_cp q w st st' 36 ∧ ox_cp q w ti ti' 36 ∧ va' = upd va q 0 ∧ wt' = ox_wt len q wt) ∨
  (hol = 0 ∧ va q = 0 ∧ (∀ s, s < 2 * n → ∀ t, t < 2 * n → w (s * 6 + t) ≤ st (q * 36 + s * 6 + t)) ∧ st' = st ∧ ti' = ti ∧ va' = va ∧ wt' = wt) ∨
  (hol = 0 ∧ va q = 0 ∧ (∃ s t, s < 2 * n ∧ t < 2 * n ∧ ¬ w (s * 6 + t) ≤ st (q * 36 + s * 6 + t)) ∧
    (∀ s, s < 2 * n → ∀ t, t < 2 * n → st' (q * 36 + s * 6 + t) = ox_mg hd L (w (s * 6 + t)) (st (q * 36 + s * 6 + t)) s t) ∧ (∀ l, (l < q * 36 ∨ q * 36 + 36 ≤ l) → st' l = st l) ∧
    (∃ w2, (∀ s, s < 2 * n → ∀ t, t < 2 * n → oz_w w2 s t = if hd = 0 then oz_s st' q s t else oc_sh (oc_fw (oz_s st' q) (2 * n)) s t) ∧ ox_cp q w2 ti ti' 36) ∧ va' = va ∧ wt' = ox_wt len q wt)
def or_DY (n L q len : Nat) (hd : Int32) (set tb em w2 tb' em' w2' : Nat → Int32) : Prop :=
  ∃ e tb1, oy_MH n set em tb e tb1 ∧
   ((e 19 = 1 ∧ tb' = tb1 ∧ em' = e ∧ w2' = w2) ∨
    (e 19 = 0 ∧ em q = 1 ∧ oy_CT 19 q tb1 tb' 36 ∧ em' = upd e q 0 ∧ w2' = ox_wt len q w2) ∨
    (e 19 = 0 ∧ em q = 0 ∧ (∀ s, s < 2 * n → ∀ t, t < 2 * n → tb1 (684 + (s * 6 + t)) ≤ tb1 (q * 36 + s * 6 + t)) ∧ tb' = tb1 ∧ em' = e ∧ w2' = w2) ∨
    (e 19 = 0 ∧ em q = 0 ∧ (∃ s t, s < 2 * n ∧ t < 2 * n ∧ ¬ tb1 (684 + (s * 6 + t)) ≤ tb1 (q * 36 + s * 6 + t)) ∧
      (∀ s, s < 2 * n → ∀ t, t < 2 * n → tb' (q * 36 + s * 6 + t) = ox_mg hd L (tb1 (684 + (s * 6 + t))) (tb1 (q * 36 + s * 6 + t)) s t) ∧ (∀ l, (l < q * 36 ∨ q * 36 + 36 ≤ l) → tb' l = tb1 l) ∧ em' = e ∧ w2' = ox_wt len q w2))
theorem or_wtq (len q : Nat) (wt : Nat → Int32) {r : Nat} (h : r ≠ q) : ox_wt len q wt r = wt r := by
  simp only [ox_wt]
  by_cases c : q < len
  · rw [if_pos c, pk_un h]
  · rw [if_neg c]
theorem or_wts {len q : Nat} (wt : Nat → Int32) : (q < len ∧ ox_wt len q wt q = 1) ∨ (¬ q < len ∧ ox_wt len q wt q = wt q) := by
  simp only [ox_wt]
  by_cases c : q < len
  · rw [if_pos c]; exact Or.inl ⟨c, pk_us⟩
  · rw [if_neg c]; exact Or.inr ⟨c, rfl⟩
/-- the other slots stay -/
theorem or_DXfr {n L q len : Nat} {hd hol : Int32} {w st ti va wt st' ti' va' wt' : Nat → Int32} (D : or_DX n L q len hd hol w st ti va wt st' ti' va' wt') {r : Nat} (h : r ≠ q) :
    (∀ j, j < 36 → st' (r * 36 + j) = st (r * 36 + j)) ∧ (∀ j, j < 36 → ti' (r * 36 + j) = ti (r * 36 + j)) ∧ va' r = va r ∧ wt' r = wt r := by
  have ou : ∀ j, j < 36 → (r * 36 + j < q * 36 ∨ q * 36 + 36 ≤ r * 36 + j) := fun j hj => by omega
  rcases D with ⟨-, rfl, rfl, rfl, rfl⟩ | ⟨-, -, d1, d2, rfl, rfl⟩ | ⟨-, -, -, rfl, rfl, rfl, rfl⟩ | ⟨-, -, -, -, d1, ⟨w2, -, d2⟩, rfl, rfl⟩
  · exact ⟨fun _ _ => rfl, fun _ _ => rfl, rfl, rfl⟩
  · exact ⟨fun j hj => d1.2 _ (ou j hj), fun j hj => d2.2 _ (ou j hj), pk_un h, or_wtq len q wt h⟩
  · exact ⟨fun _ _ => rfl, fun _ _ => rfl, rfl, rfl⟩
  · exact ⟨fun j hj => d1 _ (ou j hj), fun j hj => d2.2 _ (ou j hj), rfl, or_wtq len q wt h⟩
theorem or_dX {n L sz len q : Nat} {pr hd st ti va wt st' ti' va' wt' : Nat → Int32} (a : or_X n L sz len 1 pr hd st ti va wt) (hq : q ≤ sz) {S : (Nat → Int) → Prop} {hol : Int32} {w : Nat → Int32} (O : ox_Out (2 * n) hol w S) (hB : oc_Box (2 * n) L S)
    (D : or_DX n L q len (hd q) hol w st ti va wt st' ti' va' wt') : or_X n L sz len 1 pr hd st' ti' va' wt' := by
  have fr := fun r h => or_DXfr D (r := r) h
  obtain ⟨a1, a2, a3, a4, a5, a6⟩ := a
  have hz : sz ≤ 10 := by omega
  have hL : L ≤ 4 := a1.2.1.2
  have hn := a1.1
  refine ⟨a1, a2, a3, fun r hr => ?_, ?_, fun z => absurd z (by decide)⟩
  · by_cases e : r = q
    · subst e
      have A := a4 r hr
      have same : ∀ wt0 : Nat → Int32, ¬ r < len → wt0 r = wt r → wt0 r ≠ 0 → r < len ∧ va r = 0 := fun wt0 y1 y2 y3 => A.2.2 (by rw [← y2]; exact y3)
      rcases D with ⟨-, rfl, rfl, rfl, rfl⟩ | ⟨d0, d1, d2, d3, rfl, rfl⟩ | ⟨-, -, -, rfl, rfl, rfl, rfl⟩ | ⟨d0, d1, d2, d3, d4, ⟨w2, d5, d6⟩, rfl, rfl⟩
      · exact A
      · have W : ox_Wk (2 * n) w S := by
          rcases O with ⟨y, -⟩ | ⟨-, W⟩
          · exact absurd (d0.symm.trans y) (by decide)
          · exact W
        refine ⟨Or.inl pk_us, fun _ => or_keep hn W hB d2.1 d3.1 _, fun y => ⟨?_, pk_us⟩⟩
        rcases or_wts (len := len) (q := r) wt with ⟨y1, y2⟩ | ⟨y1, y2⟩
        · exact y1
        · exact (A.2.2 (by rw [← y2]; exact y)).1
      · exact A
      · have W : ox_Wk (2 * n) w S := by
          rcases O with ⟨y, -⟩ | ⟨-, W⟩
          · exact absurd (d0.symm.trans y) (by decide)
          · exact W
        refine ⟨Or.inl d1, fun _ => or_merge hn hL W hB (A.2.1 d1) d3 d5 d6.1, fun y => ⟨?_, d1⟩⟩
        rcases or_wts (len := len) (q := r) wt with ⟨y1, y2⟩ | ⟨y1, y2⟩
        · exact y1
        · exact (A.2.2 (by rw [← y2]; exact y)).1
    · obtain ⟨f1, f2, f3, f4⟩ := fr r e
      have A := a4 r hr
      rw [f3, f4]
      exact ⟨A.1, fun z => or_Sl_fr hn f1 f2 (A.2.1 z), A.2.2⟩
  · obtain ⟨f1, f2, f3, f4⟩ := fr 11 (by omega)
    rw [f3]
    refine ⟨a5.1, fun z => ⟨or_Sl_fr hn f1 f2 (a5.2 z).1, fun j hj => ?_⟩⟩
    have y1 := f1 j hj
    have y2 := f2 j hj
    rw [y1, y2]
    exact (a5.2 z).2 j hj
theorem or_dL {n L sz len q : Nat} {pr hd st ti va wt st' ti' va' wt' tb em w2 tb' em' w2' : Nat → Int32} (a : or_X n L sz len 1 pr hd st ti va wt) (b : or_L n sz st va wt tb em w2) (hq : q ≤ sz) {S : (Nat → Int) → Prop} {hol : Int32} {w set : Nat → Int32} (O : ox_Out (2 * n) hol w S) (hB : oc_Box (2 * n) L S) (hset : oy_Is set (ob_num n L S))
    (D : or_DX n L q len (hd q) hol w st ti va wt st' ti' va' wt') (E : or_DY n L q len (hd q) set tb em w2 tb' em' w2') : or_L n sz st' va' wt' tb' em' w2' := by
  obtain ⟨e, tb1, M, E⟩ := E
  have hz : sz ≤ 10 := by have := a.1; omega
  have hL : L ≤ 4 := a.1.2.1.2
  have hn := a.1.1
  have em_q : ∀ r, r ≠ 19 → e r = em r := M.1
  have tb_q : ∀ l, (l < 684 ∨ 720 ≤ l) → tb1 l = tb l := M.2.2.2
  -- an untouched reference under an untouched component
  have keep0 : or_L n sz st va wt tb1 e w2 := by
    refine ⟨fun r hr => ?_, by rw [em_q 20 (by decide)]; exact b.2.1, fun z s hs t ht => ?_⟩
    · have B := b.1 r hr
      refine ⟨(em_q r (by omega)).trans B.1, B.2.1, fun z s hs t ht => ?_⟩
      rw [tb_q _ (by omega)]; exact B.2.2 z s hs t ht
    · rw [tb_q _ (by omega)]; exact b.2.2 z s hs t ht
  have Bq := b.1 q hq
  rcases O with ⟨ho, hE⟩ | ⟨ho, W⟩
  · have z0 := ob_none hset hE
    have e19 : e 19 = 1 := by
      rcases M.2.1 with ⟨z, -⟩ | ⟨-, j, hj, hjz⟩
      · exact z
      · exact absurd (z0 j hj) hjz
    have n19 : ¬ e 19 = 0 := fun z => absurd (e19.symm.trans z) (by decide)
    rcases E with ⟨-, rfl, rfl, rfl⟩ | ⟨z, -⟩ | ⟨z, -⟩ | ⟨z, -⟩
    · rcases D with ⟨-, rfl, rfl, rfl, rfl⟩ | ⟨y, -⟩ | ⟨y, -⟩ | ⟨y, -⟩
      · exact keep0
      · exact absurd (ho.symm.trans y) (by decide)
      · exact absurd (ho.symm.trans y) (by decide)
      · exact absurd (ho.symm.trans y) (by decide)
    · exact absurd z n19
    · exact absurd z n19
    · exact absurd z n19
  · obtain ⟨kk, hkk, hkz⟩ := ob_some hn hL hset W hB
    have e19 : e 19 = 0 := by
      rcases M.2.1 with ⟨-, z⟩ | ⟨z, -⟩
      · exact absurd (z kk hkk) hkz
      · exact z
    have t19 : ∀ s, s < 2 * n → ∀ t, t < 2 * n → tb1 (684 + (s * 6 + t)) = w (s * 6 + t) := fun s hs t ht => by
      have := ob_bst hn hL hset W hB hs ht (M.2.2.1 s hs t ht)
      rwa [Nat.add_assoc] at this
    have n1 : ¬ hol = 1 := fun z => absurd (ho.symm.trans z) (by decide)
    have other : ∀ (st0 va0 wt0 tb0 em0 w20 : Nat → Int32), (∀ r, r ≠ q → (∀ j, j < 36 → st0 (r * 36 + j) = st (r * 36 + j)) ∧ va0 r = va r ∧ wt0 r = wt r) → (∀ l, (l < q * 36 ∨ q * 36 + 36 ≤ l) → tb0 l = tb1 l) → (∀ r, r ≠ q → em0 r = e r) → (∀ r, r ≠ q → w20 r = w2 r) →
        (em0 q = va0 q ∧ w20 q = wt0 q ∧ (va0 q = 0 → or_eq n st0 tb0 q q)) → or_L n sz st0 va0 wt0 tb0 em0 w20 := by
      intro st0 va0 wt0 tb0 em0 w20 y1 y2 y3 y4 y5
      refine ⟨fun r hr => ?_, ?_, fun z s hs t ht => ?_⟩
      · by_cases c : r = q
        · subst c; exact y5
        · have K := keep0.1 r hr
          obtain ⟨f1, f2, f3⟩ := y1 r c
          rw [y3 r c, y4 r c, f2, f3]
          refine ⟨K.1, K.2.1, fun z s hs t ht => ?_⟩
          have g1 := f1 (s * 6 + t) (by omega)
          rw [← Nat.add_assoc] at g1
          rw [g1, y2 _ (by omega)]
          exact K.2.2 z s hs t ht
      · obtain ⟨f1, f2, f3⟩ := y1 11 (by omega)
        rw [y3 20 (by omega), f2]; exact keep0.2.1
      · obtain ⟨f1, f2, f3⟩ := y1 11 (by omega)
        rw [f2] at z
        have g1 := f1 (s * 6 + t) (by omega)
        rw [← Nat.add_assoc] at g1
        rw [g1, y2 _ (by omega)]
        exact keep0.2.2 z s hs t ht
    have fr := fun r h => or_DXfr D (r := r) h
    have wq : ∀ x y : Nat → Int32, x q = y q → ox_wt len q x q = ox_wt len q y q := by
      intro x y h
      simp only [ox_wt]
      by_cases c : q < len
      · rw [if_pos c, if_pos c, pk_us, pk_us]
      · rw [if_neg c, if_neg c]; exact h
    have cmp : va q = 0 → ∀ s, s < 2 * n → ∀ t, t < 2 * n → tb1 (q * 36 + s * 6 + t) = st (q * 36 + s * 6 + t) := fun z s hs t ht => (keep0.1 q hq).2.2 z s hs t ht
    rcases D with ⟨y, -⟩ | ⟨-, d1, d2, d3, rfl, rfl⟩ | ⟨-, d1, d2, rfl, rfl, rfl, rfl⟩ | ⟨-, d1, d2, d3, d4, d5, rfl, rfl⟩
    · exact absurd y n1
    · rcases E with ⟨y, -⟩ | ⟨-, x1, x2, rfl, rfl⟩ | ⟨-, x1, -⟩ | ⟨-, x1, -⟩
      · exact absurd (e19.symm.trans y) (by decide)
      · refine other _ _ _ _ _ _ (fun r h => ⟨(fr r h).1, (fr r h).2.2.1, (fr r h).2.2.2⟩) x2.2 (fun r h => pk_un h) (fun r h => or_wtq len q w2 h) ⟨by rw [pk_us, pk_us], wq _ _ Bq.2.1, fun _ s hs t ht => ?_⟩
        rw [Nat.add_assoc, x2.1 _ (by omega), d2.1 _ (by omega)]
        exact t19 s hs t ht
      · exact absurd ((Bq.1.trans d1).symm.trans x1) (by decide)
      · exact absurd ((Bq.1.trans d1).symm.trans x1) (by decide)
    · rcases E with ⟨y, -⟩ | ⟨-, x1, -⟩ | ⟨-, x1, x2, rfl, rfl, rfl⟩ | ⟨-, x1, ⟨s, t, hs, ht, x2⟩, -⟩
      · exact absurd (e19.symm.trans y) (by decide)
      · exact absurd ((Bq.1.trans d1).symm.trans x1) (by decide)
      · exact keep0
      · refine absurd ?_ x2
        rw [t19 s hs t ht, cmp d1 s hs t ht]
        exact d2 s hs t ht
    · rcases E with ⟨y, -⟩ | ⟨-, x1, -⟩ | ⟨-, x1, x2, -⟩ | ⟨-, x1, x2, x3, x4, rfl, rfl⟩
      · exact absurd (e19.symm.trans y) (by decide)
      · exact absurd ((Bq.1.trans d1).symm.trans x1) (by decide)
      · obtain ⟨s, t, hs, ht, d2⟩ := d2
        refine absurd ?_ d2
        have := x2 s hs t ht
        rwa [t19 s hs t ht, cmp d1 s hs t ht] at this
      · refine other _ _ _ _ _ _ (fun r h => ⟨(fr r h).1, (fr r h).2.2.1, (fr r h).2.2.2⟩) x4 (fun r h => rfl) (fun r h => or_wtq len q w2 h) ⟨(em_q q (by omega)).trans Bq.1, wq _ _ Bq.2.1, fun z s hs t ht => ?_⟩
        rw [x3 s hs t ht, d3 s hs t ht, t19 s hs t ht, cmp d1 s hs t ht]
section
variable {f_n f_limit f_size f_codes f_length f_begun f_hollow f_running f_where : Int32} {a_program a_head a_stored a_tight a_vacant a_waiting a_work a_values : Nat → Int32}
variable {post : SX → Prop}
theorem ox_deliverD {n L q len sz : Nat} {bg : Int32} (a : or_X n L sz len bg a_program a_head a_stored a_tight a_vacant a_waiting) (hq : q ≤ sz) {S : (Nat → Int) → Prop} (O : ox_Out (2 * n) f_hollow a_work S) (hB : oc_Box (2 * n) L S)
    (k : ∀ w st ti va wt, or_DX n L q len (a_head q) f_hollow a_work a_stored a_tight a_vacant a_waiting st ti va wt → post (f_n, nI L, f_size, nI (2 * n), nI len, f_begun, f_hollow, f_running, f_where, a_program, a_head, st, ti, va, wt, w, a_values)) :
    wpX_deliver post (f_n, nI L, f_size, nI (2 * n), nI len, f_begun, f_hollow, f_running, f_where, a_program, a_head, a_stored, a_tight, a_vacant, a_waiting, a_work, a_values) (nI q) := by
  have hz : sz ≤ 10 := by have := a.1; omega
  have hls : len ≤ sz := a.1.2.2.2.1
  have hL : L ≤ 4 := a.1.2.1.2
  have hn := a.1.1
  have A := a.2.2.2.1 q hq
  rcases O with ⟨rfl, -⟩ | ⟨rfl, W⟩
  · exact br_f (by decide) (k _ _ _ _ _ (Or.inl ⟨rfl, rfl, rfl, rfl, rfl⟩))
  · refine ox_deliver (by omega) hL (by omega) (by omega) (fun z st h => or_mergeP hn hL W hB (A.2.1 z) h) (fun z st ti h1 h2 => k _ _ _ _ _ (Or.inr (Or.inl ⟨rfl, A.1.resolve_left z, h1, h2, rfl, rfl⟩))) (fun z h => k _ _ _ _ _ (Or.inr (Or.inr (Or.inl ⟨rfl, z, h, rfl, rfl, rfl, rfl⟩)))) (fun z h st w ti h1 h2 h3 h4 => k _ _ _ _ _ (Or.inr (Or.inr (Or.inr ⟨rfl, z, h, h1, h2, ⟨w, h3, h4⟩, rfl, rfl⟩))))
end
section
variable {f_n f_limit f_size f_length f_begun f_runPoint f_runState : Int32} {a_program a_table a_empty a_waiting a_source a_set : Nat → Int32}
variable {post : SY → Prop}
theorem oy_deliverD {n L q len : Nat} (hn : n = 2 ∨ n = 3) (hL : L ≤ 4) (hq : q < 11) (hl : len ≤ 10) (hbq : a_empty q = 0 ∨ a_empty q = 1) {hd : Int32} (hhd : (hd = 1 ∧ oy_hd a_program len q) ∨ (hd = 0 ∧ ¬ oy_hd a_program len q))
    (k : ∀ tb em w2, or_DY n L q len hd a_set a_table a_empty a_waiting tb em w2 → post (nI n, nI L, f_size, nI len, f_begun, f_runPoint, f_runState, a_program, tb, em, w2, a_source, a_set)) :
    wpY_deliver post (nI n, nI L, f_size, nI len, f_begun, f_runPoint, f_runState, a_program, a_table, a_empty, a_waiting, a_source, a_set) (nI q) :=
  oy_deliver hn hL hq hl hbq hhd (fun e tb M h => k _ _ _ ⟨e, tb, M, Or.inl ⟨h, rfl, rfl, rfl⟩⟩) (fun e tb1 tb M h h1 h2 => k _ _ _ ⟨e, tb1, M, Or.inr (Or.inl ⟨h, h1, h2, rfl, rfl⟩)⟩) (fun e tb M h h1 h2 => k _ _ _ ⟨e, tb, M, Or.inr (Or.inr (Or.inl ⟨h, h1, h2, rfl, rfl, rfl⟩))⟩) (fun e tb1 tb M h h1 h2 h3 h4 => k _ _ _ ⟨e, tb1, M, Or.inr (Or.inr (Or.inr ⟨h, h1, h2, h3, h4, rfl, rfl⟩))⟩)
end
end
section
/-! propagate -/
section
variable {f_n f_limit f_size f_length f_begun f_runPoint f_runState : Int32} {a_program a_table a_empty a_waiting a_source a_set : Nat → Int32}
theorem oy_low {post : Int32 → SY → Prop} {sz : Nat} (hz : sz ≤ 10) {x : Int32} (hx : (x = -1 ∧ ∀ i, i ≤ sz → a_waiting i = 0) ∨ (∃ p, p ≤ sz ∧ x = nI p ∧ a_waiting p ≠ 0 ∧ ∀ i, i < p → a_waiting i = 0))
    (H : ∀ m, wY_propagate_17 post f_n f_limit f_size f_length f_begun f_runPoint f_runState a_program a_table a_empty a_waiting a_source a_set (m + 1) x (-1)) : wY_propagate_17 post f_n f_limit f_size f_length f_begun f_runPoint f_runState a_program a_table a_empty a_waiting a_source a_set (sz + 2) (-1) (nI sz) := by
  have key : ∀ j, j ≤ sz → ∀ (x1 : Int32) m, j + 1 < m → ((x1 = -1 ∧ ∀ i, j < i → i ≤ sz → a_waiting i = 0) ∨ (∃ p, j < p ∧ p ≤ sz ∧ x1 = nI p ∧ a_waiting p ≠ 0 ∧ ∀ i, j < i → i < p → a_waiting i = 0)) → wY_propagate_17 post f_n f_limit f_size f_length f_begun f_runPoint f_runState a_program a_table a_empty a_waiting a_source a_set m x1 (nI j) := by
    intro j
    induction j with
    | zero =>
      intro hj x1 m hm I
      obtain ⟨y, rfl⟩ : ∃ y, m = y + 1 + 1 := ⟨m - 2, by omega⟩
      refine br_f (nI_pos (by omega)) ⟨pk_in 0 21 (by decide), ?_⟩
      have e0 : (nI 0).toNatClampNeg = 0 := nI_clamp (by omega)
      rw [e0]
      refine br_c (fun c => nm_r (e' := -1) (by decide) ?_) (fun c => nm_r (e' := -1) (by decide) ?_)
      · have e : x1 = x := by
          rcases I with ⟨i1, i2⟩ | ⟨p, p1, p2, p3, p4, p5⟩
          · rcases hx with ⟨h1, h2⟩ | ⟨q, q1, q2, q3, q4⟩
            · rw [i1, h1]
            · by_cases z : q = 0
              · subst z; exact absurd c q3
              · exact absurd (i2 q (by omega) q1) q3
          · rcases hx with ⟨h1, h2⟩ | ⟨q, q1, q2, q3, q4⟩
            · exact absurd (h2 p p2) p4
            · have z : q = p := by
                rcases Nat.lt_trichotomy q p with z | z | z
                · by_cases z0 : q = 0
                  · subst z0; exact absurd c q3
                  · exact absurd (p5 q (by omega) z) q3
                · exact z
                · exact absurd (q4 p z) p4
              rw [p3, q2, z]
        rw [e]; exact H y
      · have e : nI 0 = x := by
          rcases hx with ⟨h1, h2⟩ | ⟨q, q1, q2, q3, q4⟩
          · exact absurd (h2 0 (by omega)) c
          · by_cases z : q = 0
            · subst z; exact q2.symm
            · exact absurd (q4 0 (by omega)) c
        rw [e]; exact H y
    | succ j ih =>
      intro hj x1 m hm I
      obtain ⟨y, rfl⟩ : ∃ y, m = y + 1 := ⟨m - 1, by omega⟩
      have e0 : (nI (j + 1)).toNatClampNeg = j + 1 := nI_clamp (by omega)
      refine br_f (nI_pos (by omega)) ⟨pk_in (j + 1) 21 (by omega), ?_⟩
      rw [e0]
      refine br_c (fun c => nm_r (pk_m1 j) (ih (by omega) x1 y (by omega) ?_)) (fun c => nm_r (pk_m1 j) (ih (by omega) _ y (by omega) (Or.inr ⟨j + 1, by omega, hj, rfl, c, fun i h1 h2 => by omega⟩)))
      rcases I with ⟨i1, i2⟩ | ⟨p, p1, p2, p3, p4, p5⟩
      · refine Or.inl ⟨i1, fun i h1 h2 => ?_⟩
        by_cases z : i = j + 1
        · subst z; exact c
        · exact i2 i (by omega) h2
      · refine Or.inr ⟨p, by omega, p2, p3, p4, fun i h1 h2 => ?_⟩
        by_cases z : i = j + 1
        · subst z; exact c
        · exact p5 i (by omega) h2
  exact key sz (Nat.le_refl _) (-1) (sz + 2) (by omega) (Or.inl ⟨rfl, fun i h1 h2 => by omega⟩)
end
theorem or_wt0 {n L sz len p : Nat} {bg : Int32} {pr hd st ti va wt : Nat → Int32} (a : or_X n L sz len bg pr hd st ti va wt) : or_X n L sz len bg pr hd st ti va (upd wt p 0) := by
  obtain ⟨a1, a2, a3, a4, a5, a6⟩ := a
  refine ⟨a1, a2, a3, fun q hq => ⟨(a4 q hq).1, (a4 q hq).2.1, fun z => ?_⟩, a5, a6⟩
  by_cases e : q = p
  · subst e; rw [pk_us] at z; exact absurd rfl z
  · rw [pk_un e] at z; exact (a4 q hq).2.2 z
theorem or_wtL {n sz p : Nat} {st va wt tb em w2 : Nat → Int32} (b : or_L n sz st va wt tb em w2) : or_L n sz st va (upd wt p 0) tb em (upd w2 p 0) := by
  refine ⟨fun q hq => ⟨(b.1 q hq).1, ?_, (b.1 q hq).2.2⟩, b.2⟩
  by_cases e : q = p
  · subst e; rw [pk_us, pk_us]
  · rw [pk_un e, pk_un e]; exact (b.1 q hq).2.1
theorem i_vc_propagate {k : Nat} {u : SX} {v : SY} (I : i_Rel k u v) (hk : k + 5 ≤ 2563) : wpX_propagate (fun r u' => wpY_propagate (fun r' v' => r' = r ∧ i_Rel (k + 5) u' v') v) u := by
  refine or_el (P := fun u v => wpX_propagate (fun r u' => wpY_propagate (fun r' v' => r' = r ∧ i_Rel (k + 5) u' v') v) u) I ?_
  intro n L sz len bg hol run wh rp rs pr hd st ti va wt wk vs tb em w2 so se a b c
  have hz : sz ≤ 10 := by have := a.1; omega
  have hls : len ≤ sz := a.1.2.2.2.1
  have hn := a.1.1
  have hL : L ≤ 4 := a.1.2.1.2
  rcases a.1.2.2.2.2 with rfl | rfl
  · exact br_t rfl (br_t rfl ⟨rfl, or_mk a b c⟩)
  · refine br_f (by decide) ?_
    refine ox_lowest (by omega) (fun h0 => ?_) (fun p hp hpw hpl => ?_)
    · refine br_f (by decide) (br_f (by decide) ⟨sz + 2, oy_low hz (x := -1) (Or.inl ⟨rfl, fun i hi => ?_⟩) (fun m => br_t (by decide) (br_f (by decide) ⟨rfl, or_mk a b c⟩))⟩)
      rw [(b.1 i hi).2.1]
      refine Classical.byContradiction (fun z => ?_)
      exact z (h0 i ((a.2.2.2.1 i hi).2.2 z).1)
    · have hps : p ≤ sz := by omega
      have vp : va p = 0 := ((a.2.2.2.1 p hps).2.2 hpw).2
      have ec : (nI p).toNatClampNeg = p := nI_clamp (by omega)
      have pos : (0 : Int32) ≤ nI p := nI_pos' (by omega)
      have e0 : pr (nI p * 5).toNatClampNeg = pr (p * 5) := congrArg pr (pk_cl (p * 5) (oz_i50 p))
      have a' := or_wt0 (p := p) a
      have b' := or_wtL (p := p) b
      have A : or_at n L st ti va tb em p p := or_atP a b (x := nI p) ⟨rfl, Or.inr ⟨hps, rfl⟩⟩
      have hSB := or_SBox A
      have hlow : ∀ (post : Int32 → SY → Prop), (∀ m, wY_propagate_17 post (nI n) (nI L) (nI sz) (nI len) 1 rp rs pr tb em w2 so se (m + 1) (nI p) (-1)) → wpY_propagate post (nI n, nI L, nI sz, nI len, 1, rp, rs, pr, tb, em, w2, so, se) := by
        intro post H
        refine br_f (by decide) ⟨sz + 2, oy_low hz (x := nI p) (Or.inr ⟨p, hps, rfl, ?_, fun i hi => ?_⟩) H⟩
        · rw [(b.1 p hps).2.1]; exact hpw
        · rw [(b.1 i (by omega)).2.1]; exact hpl i hi
      refine br_t pos ⟨pk_in p 11 (by omega), nm_r (e' := upd wt p 0) (by rw [ec, oz_nar0]) ⟨pk_in (p * 5) 50 (by omega) (oz_i50 p), ?_⟩⟩
      rw [e0]
      rcases a.2.1 p hp with ⟨pk, vv, s, hvv, hs, p1, p2, p3⟩ | ⟨pk, s, t, g, hs, ht, hg, p1, p2, p4, p3⟩
      · -- ASSIGN
        refine br_t pk ?_
        refine ox_load (by omega) A.2.2.1 (fun w hw => ?_)
        have O := or_out hn hL A hw
        have W : ox_Wk (2 * n) w (or_S n va ti p) := by
          rcases O with ⟨y, -⟩ | ⟨-, W⟩
          · exact absurd (vp.symm.trans y) (by decide)
          · exact W
        rw [vp]
        refine ox_transform (N := 2 * n) (by omega) hL (by omega) hs p3 (by omega) p1 p2 rfl W hSB (fun hol1 w1 O1 _ => ?_)
        have hB1 : oc_Box (2 * n) L (oc_img L vv s (pr (p * 5 + 3)).toInt (or_S n va ti p)) := ob_imgBox hSB
        rw [nI_1 p]
        refine ox_deliverD (S := oc_img L vv s (pr (p * 5 + 3)).toInt (or_S n va ti p)) a' (by omega) O1 hB1 (fun w2' st' ti' va' wt' D => ?_)
        refine hlow _ (fun m => br_t (by decide) (br_t pos ⟨pk_in p 21 (by omega), nm_r (e' := upd w2 p 0) (by rw [ec, oz_nar0]) ?_⟩))
        refine oy_collect hn hL (by omega) (fun src hsrc => ?_)
        refine oy_field (j := 1) hp (by omega) (by decide) ?_
        refine oy_field (j := 2) hp (by omega) (by decide) ?_
        refine oy_field (j := 3) hp (by omega) (by decide) ?_
        refine oy_field (j := 4) hp (by omega) (by decide) ?_
        refine oy_field (j := 0) hp (by omega) (by decide) ?_
        refine br_f (fun z => absurd (pk.symm.trans z) (by decide)) ?_
        rw [p1]
        refine oy_propL hL (by omega) hp (by omega) (by omega) p2 p3 (or_src hn A hsrc) (fun set hset => ?_)
        have hset' : oy_Is set (ob_num n L (oc_img L vv s (pr (p * 5 + 3)).toInt (or_S n va ti p))) := ob_Is hset (fun j hj => ob_img hn hL (or_SExt n va ti p) hSB hvv hs hj)
        refine oy_deliverD hn hL (by omega) (by omega) ?_ (a.2.2.1 (p + 1) (by omega)) (fun tb' em' w2'' E => ⟨rfl, or_mk (or_dX a' (by omega) O1 hB1 D) (or_dL a' b' (by omega) O1 hB1 hset' D E) c⟩)
        rw [(b.1 (p + 1) (by omega)).1]; exact (a.2.2.2.1 (p + 1) (by omega)).1
      · -- BRANCH
        refine br_f (fun z => absurd (pk.symm.trans z) (by decide)) ?_
        have hns := oc_nlt (N := 2 * n) (by omega) hs
        have hnt := oc_nlt (N := 2 * n) (by omega) ht
        have e1 : pr (nI p * 5 + 1).toNatClampNeg = nI s := (congrArg pr (pk_cl (p * 5 + 1) (oz_i5 p 1))).trans p1
        have e2 : pr (nI p * 5 + 2).toNatClampNeg = nI t := (congrArg pr (pk_cl (p * 5 + 2) (oz_i5 p 2))).trans p2
        have e3 : pr (nI p * 5 + 3).toNatClampNeg = pr (p * 5 + 3) := congrArg pr (pk_cl (p * 5 + 3) (oz_i5 p 3))
        have e4 : pr (nI p * 5 + 4).toNatClampNeg = nI g := (congrArg pr (pk_cl (p * 5 + 4) (oz_i5 p 4))).trans p4
        have en := oz_neg (x := pr (p * 5 + 3)) (by omega)
        have ecn : ((-(pr (p * 5 + 3))) - 1).toInt = - (pr (p * 5 + 3)).toInt - 1 := by
          rw [oz_sub (by rw [en, oz_1]; omega) (by rw [en, oz_1]; omega), en, oz_1]
        refine ⟨pk_in (p * 5 + 1) 50 (by omega) (oz_i5 p 1), nm_r e1 ⟨pk_in (p * 5 + 2) 50 (by omega) (oz_i5 p 2), nm_r e2 ⟨pk_in (p * 5 + 3) 50 (by omega) (oz_i5 p 3), nm_r e3 ?_⟩⟩⟩
        refine ox_load (by omega) A.2.2.1 (fun w hw => ?_)
        have O := or_out hn hL A hw
        refine ox_restrictE (N := 2 * n) (by omega) O (oz_xor (by omega)) (oz_xor (by omega)) hns hnt (fun hol1 w1 O1 _ => ?_)
        have hB1 : oc_Box (2 * n) L (fun q => or_S n va ti p q ∧ oc_g q (oc_n s) + oc_g q (oc_n t) ≤ ((-(pr (p * 5 + 3))) - 1).toInt) := fun q hq => hSB q hq.1
        rw [nI_1 p]
        refine ox_deliverD (S := fun q => or_S n va ti p q ∧ oc_g q (oc_n s) + oc_g q (oc_n t) ≤ ((-(pr (p * 5 + 3))) - 1).toInt) a' (by omega) O1 hB1 (fun w2' st' ti' va' wt' D => ?_)
        have aX := or_dX a' (by omega) O1 hB1 D
        obtain ⟨f1, f2, f3, f4⟩ := or_DXfr D (r := p) (by omega)
        refine ox_load (by omega) (by rw [f3]; exact A.2.2.1) (fun w3 hw3 => ?_)
        have O3 : ox_Out (2 * n) (va' p) w3 (or_S n va ti p) := by
          rw [f3]; exact or_out hn hL A (fun j hj => (hw3 j hj).trans (f2 j hj))
        refine ox_restrict (N := 2 * n) (by omega) O3 hs ht (fun hol4 w4 O4 _ => ⟨pk_in (p * 5 + 4) 50 (by omega) (oz_i5 p 4), ?_⟩)
        have hB4 : oc_Box (2 * n) L (fun q => or_S n va ti p q ∧ oc_g q s + oc_g q t ≤ (pr (p * 5 + 3)).toInt) := fun q hq => hSB q hq.1
        rw [e4]
        refine ox_deliverD (S := fun q => or_S n va ti p q ∧ oc_g q s + oc_g q t ≤ (pr (p * 5 + 3)).toInt) aX hg O4 hB4 (fun w5 st5 ti5 va5 wt5 D5 => ?_)
        refine hlow _ (fun m => br_t (by decide) (br_t pos ⟨pk_in p 21 (by omega), nm_r (e' := upd w2 p 0) (by rw [ec, oz_nar0]) ?_⟩))
        refine oy_collect hn hL (by omega) (fun src hsrc => ?_)
        refine oy_field (j := 1) hp (by omega) (by decide) ?_
        refine oy_field (j := 2) hp (by omega) (by decide) ?_
        refine oy_field (j := 3) hp (by omega) (by decide) ?_
        refine oy_field (j := 4) hp (by omega) (by decide) ?_
        refine oy_field (j := 0) hp (by omega) (by decide) ?_
        refine br_t pk ?_
        rw [p1, p2, p4, nI_1 p]
        refine oy_keep (by omega) (by omega) (Or.inl rfl) (or_src hn A hsrc) (fun set1 hset1 => ?_)
        have hset1' : oy_Is set1 (ob_num n L (fun q => or_S n va ti p q ∧ oc_g q (oc_n s) + oc_g q (oc_n t) ≤ ((-(pr (p * 5 + 3))) - 1).toInt)) := by
          refine ob_Is hset1 (fun j hj => ?_)
          have g1 := oc_gn (oy_v j) s
          have g2 := oc_gn (oy_v j) t
          constructor
          · rintro ⟨⟨x1, x2⟩, x3⟩
            refine ⟨x1, x2, ?_⟩
            have x4 : ¬ oy_sm j s t ≤ (pr (p * 5 + 3)).toInt := fun z => absurd (x3.mp z) (by decide)
            simp only [oy_sm] at x4
            rw [ecn, g1, g2]; omega
          · rintro ⟨x1, x2, x3⟩
            rw [ecn, g1, g2] at x3
            refine ⟨⟨x1, x2⟩, ⟨fun z => ?_, fun z => absurd z (by decide)⟩⟩
            simp only [oy_sm] at z
            omega
        refine oy_deliverD hn hL (by omega) (by omega) ?_ (a.2.2.1 (p + 1) (by omega)) (fun tb' em' w2'' E => ?_)
        · rw [(b.1 (p + 1) (by omega)).1]; exact (a.2.2.2.1 (p + 1) (by omega)).1
        · have bL := or_dL a' b' (by omega) O1 hB1 hset1' D E
          refine oy_keep (by omega) (by omega) (Or.inr rfl) (or_src hn A hsrc) (fun set2 hset2 => ?_)
          have hset2' : oy_Is set2 (ob_num n L (fun q => or_S n va ti p q ∧ oc_g q s + oc_g q t ≤ (pr (p * 5 + 3)).toInt)) := by
            refine ob_Is hset2 (fun j hj => ?_)
            constructor
            · rintro ⟨⟨x1, x2⟩, x3⟩
              exact ⟨x1, x2, x3.mpr rfl⟩
            · rintro ⟨x1, x2, x3⟩
              exact ⟨⟨x1, x2⟩, ⟨fun _ => rfl, fun _ => x3⟩⟩
          refine oy_deliverD hn hL (by omega) (by omega) ?_ (a.2.2.1 g (by omega)) (fun tb5 em5 w25 E5 => ⟨rfl, or_mk (or_dX aX hg O4 hB4 D5) (or_dL aX bL hg O4 hB4 hset2' D5 E5) c⟩)
          rw [(bL.1 g hg).1]; exact (aX.2.2.2.1 g hg).1
end
