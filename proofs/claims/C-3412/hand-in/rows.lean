section
theorem pk_us {f : Nat → Int32} {k : Nat} {x : Int32} : upd f k x k = x := if_pos rfl
theorem pk_un {f : Nat → Int32} {k j : Nat} {x : Int32} (h : j ≠ k) : upd f k x j = f j := if_neg h
theorem pk_sub {a b : Nat} (h : b ≤ a) : nI a - nI b = nI (a - b) := by
  obtain ⟨c, rfl⟩ : ∃ c, a = c + b := ⟨a - b, by omega⟩
  rw [← nI_add, Int32.add_sub_cancel, Nat.add_sub_cancel]
theorem pk_mul (a b : Nat) : nI a * nI b = nI (a * b) := (Int32.ofNat_mul a b).symm
theorem pk_div {a d : Nat} (ha : a < 2 ^ 31) (h0 : 0 < d) (hd : d < 2 ^ 31) : nI a / nI d = nI (a / d) := by
  apply Int32.toInt_inj.mp
  rw [lg_idiv_nonneg (by rw [nI_toInt ha]; omega) (by rw [nI_toInt hd]; omega), nI_toInt ha, nI_toInt hd, nI_toInt (Nat.lt_of_le_of_lt (Nat.div_le_self a d) ha)]
  first | rfl | exact (Int.natCast_ediv _ _).symm
theorem pk_ix (x : Int32) {n : Nat} (hn : n < 2 ^ 31) : x < 0 ∨ nI n ≤ x ∨ ∃ j : Nat, j < n ∧ x = nI j := by
  by_cases h : x < 0
  · exact Or.inl h
  · obtain ⟨j, hj, rfl⟩ := nI_of h
    by_cases h2 : j < n
    · exact Or.inr (Or.inr ⟨j, h2, rfl⟩)
    · exact Or.inr (Or.inl (nI_le (by omega) hj))
theorem pk_le {x y : Int32} {A B : Prop} (a b : Nat) (f : a ≤ b → A) (g : b < a → B) (hx : x = nI a := by rfl) (hy : y = nI b := by rfl) (ha : a < 2 ^ 31 := by omega) (hb : b < 2 ^ 31 := by omega) : (x ≤ y → A) ∧ (¬ x ≤ y → B) := by
  subst hx hy
  rw [nI_leI ha hb]
  exact ⟨f, fun z => g (by omega)⟩
theorem pk_lt {x y : Int32} {A B : Prop} (a b : Nat) (f : a < b → A) (g : b ≤ a → B) (hx : x = nI a := by rfl) (hy : y = nI b := by rfl) (ha : a < 2 ^ 31 := by omega) (hb : b < 2 ^ 31 := by omega) : (x < y → A) ∧ (¬ x < y → B) := by
  subst hx hy
  rw [nI_ltI ha hb]
  exact ⟨f, fun z => g (by omega)⟩
theorem pk_eq {x y : Int32} {A B : Prop} (a b : Nat) (f : a = b → A) (g : a ≠ b → B) (hx : x = nI a := by rfl) (hy : y = nI b := by rfl) (ha : a < 2 ^ 31 := by omega) (hb : b < 2 ^ 31 := by omega) : (x = y → A) ∧ (¬ x = y → B) := by
  subst hx hy
  rw [nI_eq ha hb]
  exact ⟨f, g⟩
theorem pk_in {x : Int32} (n N : Nat) (h : n < N) (hx : x = nI n := by rfl) (hN : N < 2 ^ 31 := by omega) : vp_in x N := by
  subst hx
  exact vp_in_nI h hN
theorem pk_cl {x : Int32} (n : Nat) (hx : x = nI n := by rfl) (h : n < 2 ^ 31 := by omega) : x.toNatClampNeg = n := by
  subst hx
  exact nI_clamp h
theorem pk_tn {n : Nat} (h : n < 2 ^ 32) : (nI n).toBitVec.toNat = n := Nat.mod_eq_of_lt h
theorem pk_and (x : Int32) {m : Int32} (k : Nat) (hm : m.toBitVec.toNat = 2 ^ k - 1) : x &&& m = nI (x.toBitVec.toNat % 2 ^ k) := by
  apply Int32.toBitVec_inj.mp
  apply BitVec.eq_of_toNat_eq
  rw [Int32.toBitVec_and, BitVec.toNat_and, hm, Nat.and_two_pow_sub_one_eq_mod]
  show _ = (BitVec.ofNat 32 _).toNat
  rw [BitVec.toNat_ofNat]
  exact (Nat.mod_eq_of_lt (Nat.lt_of_le_of_lt (Nat.mod_le _ _) x.toBitVec.isLt)).symm
theorem pk_andN {n : Nat} (h : n < 2 ^ 32) {m : Int32} (k : Nat) (hm : m.toBitVec.toNat = 2 ^ k - 1) : nI n &&& m = nI (n % 2 ^ k) := by
  rw [pk_and _ k hm, pk_tn h]
end
section
/-! plain rows: stores into functions of naturals, counts, contents of a heap, sifting up and down -/
def om_u (f : Nat → Nat) (k v : Nat) : Nat → Nat := fun j => if j = k then v else f j
theorem om_us {f : Nat → Nat} {k v : Nat} : om_u f k v k = v := if_pos rfl
theorem om_un {f : Nat → Nat} {k v j : Nat} (h : j ≠ k) : om_u f k v j = f j := if_neg h
def om_nf (f : Nat → Nat) : Nat → Int32 := fun i => nI (f i)
theorem om_nu {f : Nat → Nat} {k v : Nat} : upd (om_nf f) k (nI v) = om_nf (om_u f k v) := by
  funext j
  unfold upd om_nf om_u
  by_cases h : j = k
  · rw [if_pos h, if_pos h]
  · rw [if_neg h, if_neg h]
theorem om_at {f : Nat → Nat} {i : Nat} (h : i < 2 ^ 31) : om_nf f (nI i).toNatClampNeg = nI (f i) := by
  rw [nI_clamp h]
  rfl
def om_b : Bool → Int32
  | true => 1
  | false => 0
theorem om_bf {x : Bool} : om_b x = 0 ↔ x = false := by
  cases x
  · exact ⟨fun _ => rfl, fun _ => rfl⟩
  · exact ⟨fun h => absurd h (by decide), fun h => nomatch h⟩
def om_cnt (p : Nat → Bool) : Nat → Nat
  | 0 => 0
  | n + 1 => om_cnt p n + (if p n = true then 1 else 0)
theorem om_cs {p : Nat → Bool} {n : Nat} : om_cnt p (n + 1) = om_cnt p n + (if p n = true then 1 else 0) := rfl
theorem om_cle (p : Nat → Bool) : ∀ n, om_cnt p n ≤ n := by
  intro n
  induction n with
  | zero => exact Nat.le_refl _
  | succ n ih =>
    rw [om_cs]
    split <;> omega
theorem om_cc {p q : Nat → Bool} : ∀ n, (∀ i, i < n → p i = q i) → om_cnt p n = om_cnt q n := by
  intro n
  induction n with
  | zero => exact fun _ => rfl
  | succ n ih =>
    intro h
    rw [om_cs, om_cs, ih (fun i hi => h i (by omega)), h n (by omega)]
theorem om_cu {p q : Nat → Bool} {x : Nat} (hp : p x = false) (hq : q x = true) (h : ∀ i, i ≠ x → q i = p i) : ∀ n, x < n → om_cnt q n = om_cnt p n + 1 := by
  intro n
  induction n with
  | zero => exact fun z => absurd z (by omega)
  | succ n ih =>
    intro hx
    rw [om_cs, om_cs]
    by_cases e : x = n
    · subst e
      rw [om_cc (p := q) (q := p) x (fun i hi => h i (by omega)), hp, hq]
      rfl
    · rw [ih (by omega), h n (fun z => e z.symm)]
      omega
theorem om_cx {p : Nat → Bool} {n : Nat} (h : p n = false) : om_cnt p (n + 1) = om_cnt p n := by
  rw [om_cs, h]
  rfl
/-- the order of messages: by stamp, then by writer -/
def om_ky (w s : Nat → Nat) (i : Nat) : Nat := 3 * s i + w i
/-- g lists the members of S once each on 0 .. N - 1 -/
def om_C (g : Nat → Nat) (N : Nat) (S : Nat → Prop) : Prop := (∀ i, i < N → S (g i)) ∧ (∀ x, S x → ∃ i, i < N ∧ g i = x) ∧ (∀ i j, i < N → j < N → g i = g j → i = j)
def om_sw (g : Nat → Nat) (a b : Nat) : Nat → Nat := fun i => if i = a then g b else if i = b then g a else g i
theorem om_sa {g : Nat → Nat} {a b : Nat} : om_sw g a b a = g b := if_pos rfl
theorem om_sb {g : Nat → Nat} {a b : Nat} : om_sw g a b b = g a := by
  unfold om_sw
  by_cases h : b = a
  · rw [if_pos h, h]
  · rw [if_neg h, if_pos rfl]
theorem om_sn {g : Nat → Nat} {a b i : Nat} (ha : i ≠ a) (hb : i ≠ b) : om_sw g a b i = g i := by
  unfold om_sw
  rw [if_neg ha, if_neg hb]
theorem om_st {g : Nat → Nat} {a b N : Nat} (ha : a < N) (hb : b < N) : ∀ i, i < N → ∃ j, j < N ∧ om_sw g a b i = g j ∧ ((i = a ∧ j = b) ∨ (i = b ∧ j = a) ∨ (i ≠ a ∧ i ≠ b ∧ j = i)) := by
  intro i hi
  by_cases h1 : i = a
  · exact ⟨b, hb, by rw [h1]; exact om_sa, Or.inl ⟨h1, rfl⟩⟩
  · by_cases h2 : i = b
    · exact ⟨a, ha, by rw [h2]; exact om_sb, Or.inr (Or.inl ⟨h2, rfl⟩)⟩
    · exact ⟨i, hi, om_sn h1 h2, Or.inr (Or.inr ⟨h1, h2, rfl⟩)⟩
theorem om_Csw {g : Nat → Nat} {N a b : Nat} {S : Nat → Prop} (h : om_C g N S) (ha : a < N) (hb : b < N) : om_C (om_sw g a b) N S := by
  obtain ⟨h1, h2, h3⟩ := h
  refine ⟨fun i hi => ?_, fun x hx => ?_, fun i j hi hj e => ?_⟩
  · obtain ⟨j, hj, e, -⟩ := om_st (g := g) ha hb i hi
    rw [e]
    exact h1 j hj
  · obtain ⟨i, hi, e⟩ := h2 x hx
    by_cases c1 : i = a
    · exact ⟨b, hb, by rw [om_sb, ← c1]; exact e⟩
    · by_cases c2 : i = b
      · exact ⟨a, ha, by rw [om_sa, ← c2]; exact e⟩
      · exact ⟨i, hi, by rw [om_sn c1 c2]; exact e⟩
  · obtain ⟨i', hi', ei, ci⟩ := om_st (g := g) ha hb i hi
    obtain ⟨j', hj', ej, cj⟩ := om_st (g := g) ha hb j hj
    have q : i' = j' := h3 i' j' hi' hj' (by rw [← ei, ← ej]; exact e)
    omega
theorem om_Cadd {g : Nat → Nat} {N m : Nat} {S : Nat → Prop} (h : om_C g N S) (hm : ¬ S m) : om_C (om_u g N m) (N + 1) (fun x => S x ∨ x = m) := by
  obtain ⟨h1, h2, h3⟩ := h
  refine ⟨fun i hi => ?_, fun x hx => ?_, fun i j hi hj e => ?_⟩
  · by_cases c : i = N
    · subst c
      exact Or.inr om_us
    · rw [om_un c]
      exact Or.inl (h1 i (by omega))
  · rcases hx with hx | hx
    · obtain ⟨i, hi, e⟩ := h2 x hx
      exact ⟨i, by omega, by rw [om_un (by omega)]; exact e⟩
    · exact ⟨N, by omega, by rw [hx]; exact om_us⟩
  · by_cases c : i = N
    · by_cases d : j = N
      · rw [c, d]
      · rw [c, om_us, om_un d] at e
        exact absurd (e ▸ h1 j (by omega)) hm
    · by_cases d : j = N
      · rw [d, om_us, om_un c] at e
        exact absurd (e ▸ h1 i (by omega)) hm
      · rw [om_un c, om_un d] at e
        exact h3 i j (by omega) (by omega) e
theorem om_Cdel {g : Nat → Nat} {N : Nat} {S : Nat → Prop} (h : om_C g (N + 1) S) : om_C (om_u g 0 (g N)) N (fun x => S x ∧ x ≠ g 0) := by
  obtain ⟨h1, h2, h3⟩ := h
  refine ⟨fun i hi => ?_, fun x hx => ?_, fun i j hi hj e => ?_⟩
  · by_cases c : i = 0
    · rw [c, om_us]
      exact ⟨h1 N (by omega), fun z => absurd (h3 N 0 (by omega) (by omega) z) (by omega)⟩
    · rw [om_un c]
      exact ⟨h1 i (by omega), fun z => absurd (h3 i 0 (by omega) (by omega) z) c⟩
  · obtain ⟨hx, hn⟩ := hx
    obtain ⟨i, hi, e⟩ := h2 x hx
    have i0 : i ≠ 0 := fun z => hn (by rw [← e, z])
    by_cases c : i = N
    · exact ⟨0, by omega, by rw [om_us, ← c]; exact e⟩
    · exact ⟨i, by omega, by rw [om_un i0]; exact e⟩
  · by_cases c : i = 0
    · by_cases d : j = 0
      · rw [c, d]
      · rw [c, om_us, om_un d] at e
        have q := h3 N j (by omega) (by omega) e
        omega
    · by_cases d : j = 0
      · rw [d, om_us, om_un c] at e
        have q := h3 i N (by omega) (by omega) e
        omega
      · rw [om_un c, om_un d] at e
        exact h3 i j (by omega) (by omega) e
theorem om_Cs {g : Nat → Nat} {N : Nat} {S T : Nat → Prop} (h : om_C g N S) (e : ∀ x, S x ↔ T x) : om_C g N T :=
  ⟨fun i hi => (e _).mp (h.1 i hi), fun x hx => h.2.1 x ((e x).mpr hx), h.2.2⟩
/-- in the order of a heap -/
def om_O (ky g : Nat → Nat) (N : Nat) : Prop := ∀ i, 0 < i → i < N → ky (g ((i - 1) / 2)) ≤ ky (g i)
theorem om_top {ky g : Nat → Nat} {N : Nat} (h : om_O ky g N) : ∀ d i, i ≤ d → i < N → ky (g 0) ≤ ky (g i) := by
  intro d
  induction d with
  | zero =>
    intro i hi _
    have e : i = 0 := by omega
    rw [e]
    exact Nat.le_refl _
  | succ d ih =>
    intro i hi hN
    by_cases c : i = 0
    · rw [c]
      exact Nat.le_refl _
    · exact Nat.le_trans (ih ((i - 1) / 2) (by omega) (by omega)) (h i (by omega) hN)
/-- a heap but for the place k, whose message is to go up -/
def om_PU (ky g : Nat → Nat) (N k : Nat) : Prop := (∀ i, 0 < i → i < N → i ≠ k → ky (g ((i - 1) / 2)) ≤ ky (g i)) ∧ (0 < k → ∀ i, 0 < i → i < N → (i - 1) / 2 = k → ky (g ((k - 1) / 2)) ≤ ky (g i))
theorem om_PU0 {ky g : Nat → Nat} {N m : Nat} (h : om_O ky g N) : om_PU ky (om_u g N m) (N + 1) N := by
  refine ⟨fun i h0 hi hk => ?_, fun h0 i hi hN e => ?_⟩
  · rw [om_un (by omega), om_un hk]
    exact h i h0 (by omega)
  · omega
theorem om_PUe {ky g : Nat → Nat} {N k : Nat} (h : om_PU ky g N k) (hk : 0 < k → k < N → ky (g ((k - 1) / 2)) ≤ ky (g k)) : om_O ky g N := by
  intro i h0 hi
  by_cases c : i = k
  · subst c
    exact hk h0 hi
  · exact h.1 i h0 hi c
theorem om_PUs {ky g : Nat → Nat} {N k : Nat} (h : om_PU ky g N k) (h0 : 0 < k) (hN : k < N) (hl : ky (g k) < ky (g ((k - 1) / 2))) : om_PU ky (om_sw g k ((k - 1) / 2)) N ((k - 1) / 2) := by
  obtain ⟨p, hp⟩ : ∃ p, p = (k - 1) / 2 := ⟨_, rfl⟩
  rw [← hp] at hl ⊢
  have hB : ∀ i, 0 < i → i < N → (i - 1) / 2 = k → ky (g p) ≤ ky (g i) := by
    intro i a b c
    rw [hp]
    exact h.2 h0 i a b c
  refine ⟨fun i i0 hi hk => ?_, fun p0 i i0 hi e => ?_⟩
  · by_cases c : i = k
    · rw [c, ← hp, om_sb, om_sa]
      omega
    · rw [om_sn c hk]
      by_cases d : (i - 1) / 2 = k
      · rw [d, om_sa]
        exact hB i i0 hi d
      · by_cases d2 : (i - 1) / 2 = p
        · rw [d2, om_sb]
          have q := h.1 i i0 hi c
          rw [d2] at q
          omega
        · rw [om_sn d d2]
          exact h.1 i i0 hi c
  · have q1 := h.1 p p0 (by omega) (by omega)
    rw [om_sn (i := (p - 1) / 2) (by omega) (by omega)]
    by_cases c : i = k
    · rw [c, om_sa]
      exact q1
    · rw [om_sn c (by omega)]
      have q := h.1 i i0 hi c
      rw [e] at q
      omega
/-- a heap but for the place k, whose message is to go down -/
def om_PD (ky g : Nat → Nat) (N k : Nat) : Prop := (∀ i, 0 < i → i < N → (i - 1) / 2 ≠ k → ky (g ((i - 1) / 2)) ≤ ky (g i)) ∧ (0 < k → ∀ i, 0 < i → i < N → (i - 1) / 2 = k → ky (g ((k - 1) / 2)) ≤ ky (g i))
theorem om_PD0 {ky g : Nat → Nat} {N m : Nat} (h : om_O ky g (N + 1)) : om_PD ky (om_u g 0 m) N 0 := by
  refine ⟨fun i h0 hi hk => ?_, fun h0 => absurd h0 (by omega)⟩
  rw [om_un hk, om_un (by omega)]
  exact h i h0 (by omega)
theorem om_PDe {ky g : Nat → Nat} {N k : Nat} (h : om_PD ky g N k) (hk : ∀ i, 0 < i → i < N → (i - 1) / 2 = k → ky (g k) ≤ ky (g i)) : om_O ky g N := by
  intro i h0 hi
  by_cases c : (i - 1) / 2 = k
  · rw [c]
    exact hk i h0 hi c
  · exact h.1 i h0 hi c
theorem om_PDs {ky g : Nat → Nat} {N k ch : Nat} (h : om_PD ky g N k) (h0 : 0 < ch) (hN : ch < N) (hc : (ch - 1) / 2 = k) (hl : ky (g ch) < ky (g k)) (hm : ∀ i, 0 < i → i < N → (i - 1) / 2 = k → ky (g ch) ≤ ky (g i)) : om_PD ky (om_sw g k ch) N ch := by
  refine ⟨fun i i0 hi hk => ?_, fun p0 i i0 hi e => ?_⟩
  · by_cases c : i = ch
    · rw [c, hc, om_sb, om_sa]
      omega
    · by_cases c2 : i = k
      · rw [om_sn (i := (i - 1) / 2) (by omega) (by omega), c2, om_sa]
        exact h.2 (by omega) ch h0 hN hc
      · rw [om_sn c2 c]
        by_cases d : (i - 1) / 2 = k
        · rw [d, om_sa]
          exact hm i i0 hi d
        · rw [om_sn d hk]
          exact h.1 i i0 hi d
  · rw [om_sn (i := i) (by omega) (by omega), hc, om_sa]
    have q := h.1 i i0 hi (by omega)
    rw [e] at q
    exact q
end
section
/-! the component's heap: push and pop; what is earlier; what is safe -/
theorem om_m3 (a : Nat) : (3 : Int32) * nI a = nI (3 * a) := pk_mul 3 a
theorem om_m40 (a : Nat) : (40 : Int32) * nI a = nI (40 * a) := pk_mul 40 a
theorem om_m60 (a : Nat) : (60 : Int32) * nI a = nI (60 * a) := pk_mul 60 a
theorem om_m64 (a : Nat) : (64 : Int32) * nI a = nI (64 * a) := pk_mul 64 a
theorem om_m2 (a : Nat) : (2 : Int32) * nI a = nI (2 * a) := pk_mul 2 a
theorem om_w3 (a b : Nat) : (3 : Int32) * nI a + nI b = nI (3 * a + b) := by rw [om_m3, nI_add]
theorem om_w40 (a b : Nat) : (40 : Int32) * nI a + nI b = nI (40 * a + b) := by rw [om_m40, nI_add]
theorem om_w60 (a b : Nat) : (60 : Int32) * nI a + nI b = nI (60 * a + b) := by rw [om_m60, nI_add]
theorem om_w64 (a b : Nat) : (64 : Int32) * nI a + nI b = nI (64 * a + b) := by rw [om_m64, nI_add]
theorem om_s1 {a : Nat} (h : 0 < a) : nI a - 1 = nI (a - 1) := pk_sub (b := 1) h
theorem om_par {k : Nat} (h : 0 < k) (hk : k < 2 ^ 31) : (nI k - 1) / 2 = nI ((k - 1) / 2) := by
  rw [om_s1 h]
  exact pk_div (d := 2) (by omega) (by decide) (by decide)
theorem om_n2 : ¬ (2 : Int32) = 0 := by decide
theorem om_n1 : ¬ (1 : Int32) = 0 := by decide
/-- what member m has heard from all others is no earlier than message i -/
def om_rd (w s : Nat → Nat) (hd : Nat → Nat → Nat) (m i : Nat) : Prop := ∀ o, o < 3 → o ≠ m → o ≠ w i → om_ky w s i ≤ 3 * hd m o + o
section
variable {fm : Int32} {tc tm fi ct xc hx hs hp xr xo : Nat → Int32} {w s : Nat → Nat}
theorem ox_ear {post : Int32 → Prop} {i j : Nat} (hi : i < 40) (hj : j < 40) (bi : w i < 3 ∧ s i < 5000) (bj : w j < 3 ∧ s j < 5000) (k1 : om_ky w s i < om_ky w s j → post 1) (k0 : om_ky w s j ≤ om_ky w s i → post 0) : wpX_isEarlier post (fm, om_nf w, om_nf s, tc, tm, fi, ct, xc, hx, hs, hp, xr, xo) (nI i) (nI j) := by
  unfold om_ky at k1 k0
  have ii : i < 2 ^ 31 := by omega
  have jj : j < 2 ^ 31 := by omega
  unfold wpX_isEarlier
  dsimp only
  exact ⟨pk_in i 40 hi, pk_in j 40 hj, pk_eq (s i) (s j)
    (fun e => ⟨pk_in i 40 hi, pk_in j 40 hj, pk_le (w j) (w i) (fun h => k0 (by omega)) (fun h => k1 (by omega)) (om_at jj) (om_at ii)⟩)
    (fun e => ⟨pk_in i 40 hi, pk_in j 40 hj, pk_le (s j) (s i) (fun h => k0 (by omega)) (fun h => k1 (by omega)) (om_at jj) (om_at ii)⟩)
    (om_at ii) (om_at jj)⟩
theorem ox_pu {post : SX → Prop} {m mm N n : Nat} {S : Nat → Prop} (hm : m < 3) (hN : N ≤ 40) (hn : n ≤ 40) (hb : ∀ i, i < n → w i < 3 ∧ s i < 5000) (hS : ∀ x, S x → x < n) :
    ∀ (d t k : Nat) (g : Nat → Nat) (hp : Nat → Int32), t + d = 6 → k + 1 < 2 ^ d → k < N → g k = mm → om_C g N S → om_PU (om_ky w s) g N k → (∀ i, i < N → hp (40 * m + i) = nI (g i)) →
    (∀ (g' : Nat → Nat) (hp' : Nat → Int32), om_C g' N S → om_O (om_ky w s) g' N → (∀ i, i < N → hp' (40 * m + i) = nI (g' i)) → (∀ j, (j < 40 * m ∨ 40 * m + 40 ≤ j) → hp' j = hp j) → post (fm, om_nf w, om_nf s, tc, tm, fi, ct, xc, hx, hs, hp', xr, xo)) →
    wX_push_36 post (nI mm) (nI (40 * m)) fm (d + 1) (nI k) (nI t) (om_nf w) (om_nf s) tc tm fi ct xc hx hs hp xr xo := by
  intro d
  induction d with
  | zero =>
    intro t k g hp _ h2
    exact absurd h2 (by omega)
  | succ d ih =>
    intro t k g hp ht h2 hk hg hC hP hh K
    refine pk_le 6 t (fun h => absurd h (by omega)) (fun _ => ?_)
    refine pk_le k 0 (fun h => K g hp hC (om_PUe hP (fun z => absurd z (by omega))) hh (fun _ _ => rfl)) (fun h0 => ?_)
    obtain ⟨p, hp0⟩ : ∃ p, p = (k - 1) / 2 := ⟨_, rfl⟩
    have e1 : (nI k - 1) / 2 = nI p := by rw [om_par h0 (by omega), hp0]
    have hpN : p < N := by omega
    have e3 : hp (nI (40 * m) + nI p).toNatClampNeg = nI (g p) := by
      rw [nI_add, nI_clamp (by omega)]
      exact hh p hpN
    have mk : mm < n := hS _ (hg ▸ hC.1 k hk)
    have mp : g p < n := hS _ (hC.1 p hpN)
    rw [e1, e3]
    refine ⟨om_n2, pk_in (40 * m + p) 120 (by omega) (nI_add _ _), ?_⟩
    refine ox_ear (by omega) (by omega) (hb _ mk) (hb _ mp) (fun hl => ?_) (fun hl => ?_)
    · refine br_f om_n1 ⟨om_n2, pk_in (40 * m + p) 120 (by omega) (nI_add _ _), pk_in (40 * m + k) 120 (by omega) (nI_add _ _), ?_⟩
      refine nm_r (e' := upd hp (40 * m + k) (nI (g p))) (by rw [nI_add, nI_clamp (by omega)]) ⟨om_n2, ?_⟩
      refine nm_e ⟨pk_in (40 * m + p) 120 (by omega) (nI_add _ _), ?_⟩
      refine nm_r (e' := upd (upd hp (40 * m + k) (nI (g p))) (40 * m + p) (nI mm)) (by rw [nI_add, nI_clamp (by omega)]) ?_
      refine nm_r (nI_1 t) ?_
      rw [← hg] at hl
      refine ih (t + 1) p (om_sw g k p) _ (by omega) ?_ hpN (om_sb.trans hg) (om_Csw hC hk hpN) ?_ ?_ ?_
      · rw [Nat.pow_succ] at h2
        omega
      · rw [hp0]
        rw [hp0] at hl
        exact om_PUs hP h0 hk hl
      · intro i hi
        by_cases c : i = p
        · rw [c, pk_us, om_sb, hg]
        · rw [pk_un (by omega)]
          by_cases c2 : i = k
          · rw [c2, pk_us, om_sa]
          · rw [pk_un (by omega), om_sn c2 c]
            exact hh i hi
      · intro g' hp' a b c dd
        refine K g' hp' a b c (fun j hj => ?_)
        rw [dd j hj, pk_un (by omega), pk_un (by omega)]
    · refine br_t rfl (K g hp hC (om_PUe hP (fun _ _ => ?_)) hh (fun _ _ => rfl))
      rw [← hp0, hg]
      exact hl
theorem ox_push {post : SX → Prop} {m mm N n : Nat} {g : Nat → Nat} {S : Nat → Prop} (hm : m < 3) (hN : N < 40) (hn : n ≤ 40) (hb : ∀ i, i < n → w i < 3 ∧ s i < 5000) (hS : ∀ x, S x → x < n) (hmm : mm < n) (hnm : ¬ S mm)
    (hz : hs m = nI N) (hC : om_C g N S) (hO : om_O (om_ky w s) g N) (hh : ∀ i, i < N → hp (40 * m + i) = nI (g i))
    (K : ∀ (g' : Nat → Nat) (hp' : Nat → Int32), om_C g' (N + 1) (fun x => S x ∨ x = mm) → om_O (om_ky w s) g' (N + 1) → (∀ i, i < N + 1 → hp' (40 * m + i) = nI (g' i)) → (∀ j, (j < 40 * m ∨ 40 * m + 40 ≤ j) → hp' j = hp j) → post (fm, om_nf w, om_nf s, tc, tm, fi, ct, xc, hx, upd hs m (nI (N + 1)), hp', xr, xo)) :
    wpX_push post (fm, om_nf w, om_nf s, tc, tm, fi, ct, xc, hx, hs, hp, xr, xo) (nI m) (nI mm) := by
  unfold wpX_push
  dsimp only
  have mi : vp_in (nI m) 3 := pk_in m 3 hm
  have cm : (nI m).toNatClampNeg = m := nI_clamp (by omega)
  rw [cm, hz]
  refine nm_r (om_m40 m) ⟨mi, nm_e ⟨pk_in (40 * m + N) 120 (by omega) (nI_add _ _), ?_⟩⟩
  refine nm_r (e' := upd hp (40 * m + N) (nI mm)) (by rw [nI_add, nI_clamp (by omega)]) ⟨mi, mi, ?_⟩
  refine nm_r (e' := upd hs m (nI (N + 1))) (by rw [nI_1]) ⟨7, ?_⟩
  refine ox_pu (N := N + 1) (S := fun x => S x ∨ x = mm) hm (by omega) hn hb (fun x hx => ?_) 6 0 N (om_u g N mm) _ rfl (by omega) (by omega) om_us (om_Cadd hC hnm) (om_PU0 hO) (fun i hi => ?_) (fun g' hp' a b c dd => K g' hp' a b c (fun j hj => ?_))
  · rcases hx with hx | hx
    · exact hS x hx
    · rw [hx]
      exact hmm
  · by_cases c : i = N
    · rw [c, pk_us, om_us]
    · rw [pk_un (by omega), om_un c]
      exact hh i (by omega)
  · rw [dd j hj, pk_un (by omega)]
/-- pop's end: the last message falls into the hole -/
theorem ox_pe {post : SX → Prop} {m N last k d : Nat} {g : Nat → Nat} {S : Nat → Prop} {x3 x7 : Int32} (hm : m < 3) (hk : k < 40) (hg : g k = last) (hC : om_C g N S) (hO : om_O (om_ky w s) g N) (hh : ∀ i, i < N → i ≠ k → hp (40 * m + i) = nI (g i))
    (K : ∀ (g' : Nat → Nat) (hp' : Nat → Int32), om_C g' N S → om_O (om_ky w s) g' N → (∀ i, i < N → hp' (40 * m + i) = nI (g' i)) → (∀ j, (j < 40 * m ∨ 40 * m + 40 ≤ j) → hp' j = hp j) → post (fm, om_nf w, om_nf s, tc, tm, fi, ct, xc, hx, hs, hp', xr, xo)) :
    wX_pop_41 post (nI (40 * m)) x3 (nI last) fm (d + 1) (nI k) 0 x7 (om_nf w) (om_nf s) tc tm fi ct xc hx hs hp xr xo := by
  have z : wX_pop_163 post (nI (40 * m)) (nI last) (nI k) fm (om_nf w) (om_nf s) tc tm fi ct xc hx hs hp xr xo := by
    unfold wX_pop_163
    refine ⟨pk_in (40 * m + k) 120 (by omega) (nI_add _ _), ?_⟩
    refine nm_r (e' := upd hp (40 * m + k) (nI last)) (by rw [nI_add, nI_clamp (by omega)]) ?_
    refine K g _ hC hO (fun i hi => ?_) (fun j hj => pk_un (by omega))
    by_cases c : i = k
    · rw [c, pk_us, hg]
    · rw [pk_un (by omega)]
      exact hh i hi c
  exact br_c (fun _ => z) (fun _ => br_t rfl z)
end
end
section
/-! the component's heap: pop; what is safe -/
section
variable {fm : Int32} {tc tm fi ct xc hx hs hp xr xo : Nat → Int32} {w s : Nat → Nat}
theorem ox_99 {post : SX → Prop} {m N n last t k ch d : Nat} {g : Nat → Nat} {S : Nat → Prop} (hm : m < 3) (hN : N ≤ 39) (hn : n ≤ 40) (hb : ∀ i, i < n → w i < 3 ∧ s i < 5000) (hS : ∀ x, S x → x < n) (hl : last < n)
    (hk : k < N ∨ k = 0) (hc0 : 0 < ch) (hck : (ch - 1) / 2 = k) (hg : g k = last) (hC : om_C g N S) (hP : om_PD (om_ky w s) g N k) (hh : ∀ i, i < N → i ≠ k → hp (40 * m + i) = nI (g i))
    (hmin : ch < N → ∀ i, 0 < i → i < N → (i - 1) / 2 = k → om_ky w s (g ch) ≤ om_ky w s (g i)) (hno : N ≤ ch → ∀ i, 0 < i → i < N → (i - 1) / 2 ≠ k)
    (K : ∀ (g' : Nat → Nat) (hp' : Nat → Int32), om_C g' N S → om_O (om_ky w s) g' N → (∀ i, i < N → hp' (40 * m + i) = nI (g' i)) → (∀ j, (j < 40 * m ∨ 40 * m + 40 ≤ j) → hp' j = hp j) → post (fm, om_nf w, om_nf s, tc, tm, fi, ct, xc, hx, hs, hp', xr, xo))
    (R : ch < N → om_C (om_sw g k ch) N S → om_PD (om_ky w s) (om_sw g k ch) N ch → (∀ i, i < N → i ≠ ch → upd hp (40 * m + k) (nI (g ch)) (40 * m + i) = nI (om_sw g k ch i)) → wX_pop_41 post (nI (40 * m)) (nI N) (nI last) fm (d + 1) (nI ch) 1 (nI (t + 1)) (om_nf w) (om_nf s) tc tm fi ct xc hx hs (upd hp (40 * m + k) (nI (g ch))) xr xo) :
    wX_pop_99 post (wX_pop_41 post (nI (40 * m)) (nI N) (nI last) fm (d + 1)) (nI (40 * m)) (nI N) (nI last) (nI k) (nI t) (nI ch) fm (om_nf w) (om_nf s) tc tm fi ct xc hx hs hp xr xo := by
  have k40 : k < 40 := by omega
  have stop : (∀ i, 0 < i → i < N → (i - 1) / 2 = k → om_ky w s (g k) ≤ om_ky w s (g i)) → wX_pop_127 post (wX_pop_41 post (nI (40 * m)) (nI N) (nI last) fm (d + 1)) (nI (40 * m)) (nI N) (nI last) (nI k) (nI t) (nI ch) fm (om_nf w) (om_nf s) tc tm fi ct xc hx hs hp xr xo := by
    intro hle
    unfold wX_pop_127 wX_pop_128
    exact br_t rfl (nm_e (ox_pe hm k40 hg hC (om_PDe hP hle) hh K))
  unfold wX_pop_99
  refine pk_le N ch (fun h => stop (fun i a b c => absurd c (hno h i a b))) (fun h => ?_)
  have e3 : hp (nI (40 * m) + nI ch).toNatClampNeg = nI (g ch) := by
    rw [nI_add, nI_clamp (by omega)]
    exact hh ch h (by omega)
  have mc : g ch < n := hS _ (hC.1 ch h)
  rw [e3]
  refine ⟨pk_in (40 * m + ch) 120 (by omega) (nI_add _ _), ?_⟩
  refine ox_ear (by omega) (by omega) (hb _ mc) (hb _ hl) (fun hq => ?_) (fun hq => ?_)
  · refine br_f om_n1 ?_
    unfold wX_pop_128
    refine br_f om_n1 ⟨pk_in (40 * m + ch) 120 (by omega) (nI_add _ _), pk_in (40 * m + k) 120 (by omega) (nI_add _ _), ?_⟩
    refine nm_r (e' := upd hp (40 * m + k) (nI (g ch))) (by rw [e3, nI_add, nI_clamp (by omega)]) (nm_r (nI_1 t) ?_)
    rw [← hg] at hq
    have kN : k < N := by omega
    refine R h (om_Csw hC kN h) (om_PDs hP hc0 h hck hq (hmin h)) (fun i hi hc => ?_)
    by_cases c : i = k
    · rw [c, pk_us, om_sa]
    · rw [pk_un (by omega), om_sn c hc]
      exact hh i hi c
  · refine br_t rfl (stop (fun i a b c => ?_))
    rw [hg]
    exact Nat.le_trans hq (hmin h i a b c)
theorem ox_po {post : SX → Prop} {m N n last : Nat} {S : Nat → Prop} (hm : m < 3) (hN : N ≤ 39) (hn : n ≤ 40) (hb : ∀ i, i < n → w i < 3 ∧ s i < 5000) (hS : ∀ x, S x → x < n) (hl : last < n) :
    ∀ (d t k : Nat) (g : Nat → Nat) (hp : Nat → Int32), t + d = 7 → 2 ^ t ≤ k + 1 → (k < N ∨ k = 0) → g k = last → om_C g N S → om_PD (om_ky w s) g N k → (∀ i, i < N → i ≠ k → hp (40 * m + i) = nI (g i)) →
    (∀ (g' : Nat → Nat) (hp' : Nat → Int32), om_C g' N S → om_O (om_ky w s) g' N → (∀ i, i < N → hp' (40 * m + i) = nI (g' i)) → (∀ j, (j < 40 * m ∨ 40 * m + 40 ≤ j) → hp' j = hp j) → post (fm, om_nf w, om_nf s, tc, tm, fi, ct, xc, hx, hs, hp', xr, xo)) →
    wX_pop_41 post (nI (40 * m)) (nI N) (nI last) fm (d + 1) (nI k) 1 (nI t) (om_nf w) (om_nf s) tc tm fi ct xc hx hs hp xr xo := by
  intro d
  induction d with
  | zero =>
    intro t k g hp ht h2 hk
    have e : t = 7 := by omega
    rw [e] at h2
    exact absurd h2 (by omega)
  | succ d ih =>
    intro t k g hp ht h2 hk hg hC hP hh K
    refine pk_le 7 t (fun h => absurd h (by omega)) (fun _ => br_f om_n1 ?_)
    refine nm_r (e' := nI (2 * k + 1)) (by rw [om_m2, nI_1]) ?_
    rw [nI_1]
    have go : ∀ ch, 0 < ch → (ch - 1) / 2 = k → (ch < N → ∀ i, 0 < i → i < N → (i - 1) / 2 = k → om_ky w s (g ch) ≤ om_ky w s (g i)) → (N ≤ ch → ∀ i, 0 < i → i < N → (i - 1) / 2 ≠ k) →
        wX_pop_99 post (wX_pop_41 post (nI (40 * m)) (nI N) (nI last) fm (d + 1)) (nI (40 * m)) (nI N) (nI last) (nI k) (nI t) (nI ch) fm (om_nf w) (om_nf s) tc tm fi ct xc hx hs hp xr xo := by
      intro ch c0 ck hmin hno
      refine ox_99 hm hN hn hb hS hl hk c0 ck hg hC hP hh hmin hno K (fun hcN rC rP rh => ?_)
      refine ih (t + 1) ch _ _ (by omega) ?_ (Or.inl hcN) (om_sb.trans hg) rC rP rh (fun g' hp' a b c e => K g' hp' a b c (fun j hj => ?_))
      · rw [Nat.pow_succ]
        omega
      · rw [e j hj, pk_un (by omega)]
    refine pk_le N (2 * k + 1 + 1) (fun h => ?_) (fun h => ?_)
    · refine go (2 * k + 1) (by omega) (by omega) (fun hc i a b c => ?_) (fun hc i a b c => ?_)
      · have e : i = 2 * k + 1 := by omega
        rw [e]
        exact Nat.le_refl _
      · omega
    · have e1 : hp (nI (40 * m) + nI (2 * k + 1) + 1).toNatClampNeg = nI (g (2 * k + 1 + 1)) := by
        rw [nI_add, nI_1, nI_clamp (by omega)]
        exact hh (2 * k + 1 + 1) h (by omega)
      have e2 : hp (nI (40 * m) + nI (2 * k + 1)).toNatClampNeg = nI (g (2 * k + 1)) := by
        rw [nI_add, nI_clamp (by omega)]
        exact hh (2 * k + 1) (by omega) (by omega)
      have m1 : g (2 * k + 1 + 1) < n := hS _ (hC.1 _ h)
      have m2 : g (2 * k + 1) < n := hS _ (hC.1 _ (by omega))
      rw [e1, e2]
      refine ⟨pk_in (40 * m + (2 * k + 1) + 1) 120 (by omega) (by rw [nI_add, nI_1]), pk_in (40 * m + (2 * k + 1)) 120 (by omega) (nI_add _ _), ?_⟩
      refine ox_ear (by omega) (by omega) (hb _ m1) (hb _ m2) (fun hq => ?_) (fun hq => ?_)
      · refine br_f om_n1 (nm_e ?_)
        refine go (2 * k + 1 + 1) (by omega) (by omega) (fun hc i a b c => ?_) (fun hc i a b c => ?_)
        · have e : i = 2 * k + 1 ∨ i = 2 * k + 1 + 1 := by omega
          rcases e with e | e
          · rw [e]
            omega
          · rw [e]
            exact Nat.le_refl _
        · omega
      · refine br_t rfl ?_
        refine go (2 * k + 1) (by omega) (by omega) (fun hc i a b c => ?_) (fun hc i a b c => ?_)
        · have e : i = 2 * k + 1 ∨ i = 2 * k + 1 + 1 := by omega
          rcases e with e | e
          · rw [e]
            exact Nat.le_refl _
          · rw [e]
            exact hq
        · omega
theorem ox_pop {post : SX → Prop} {m N n : Nat} {g : Nat → Nat} {S : Nat → Prop} (hm : m < 3) (hN : N < 40) (hn : n ≤ 40) (hb : ∀ i, i < n → w i < 3 ∧ s i < 5000) (hS : ∀ x, S x → x < n)
    (hz : hs m = nI (N + 1)) (hC : om_C g (N + 1) S) (hO : om_O (om_ky w s) g (N + 1)) (hh : ∀ i, i < N + 1 → hp (40 * m + i) = nI (g i))
    (K : ∀ (g' : Nat → Nat) (hp' : Nat → Int32), om_C g' N (fun x => S x ∧ x ≠ g 0) → om_O (om_ky w s) g' N → (∀ i, i < N → hp' (40 * m + i) = nI (g' i)) → (∀ j, (j < 40 * m ∨ 40 * m + 40 ≤ j) → hp' j = hp j) → post (fm, om_nf w, om_nf s, tc, tm, fi, ct, xc, hx, upd hs m (nI N), hp', xr, xo)) :
    wpX_pop post (fm, om_nf w, om_nf s, tc, tm, fi, ct, xc, hx, hs, hp, xr, xo) (nI m) := by
  unfold wpX_pop
  dsimp only
  have mi : vp_in (nI m) 3 := pk_in m 3 hm
  have cm : (nI m).toNatClampNeg = m := nI_clamp (by omega)
  rw [cm, hz, nI_pred]
  refine nm_r (om_m40 m) ⟨mi, mi, nm_e ⟨mi, ?_⟩⟩
  refine nm_r (e' := nI N) pk_us ⟨pk_in (40 * m + N) 120 (by omega) (nI_add _ _), ?_⟩
  refine nm_r (e' := nI (g N)) (by rw [nI_add, nI_clamp (by omega)]; exact hh N (by omega)) ⟨8, ?_⟩
  refine ox_po (S := fun x => S x ∧ x ≠ g 0) hm (by omega) hn hb (fun x hx => hS x hx.1) (hS _ (hC.1 N (by omega))) 7 0 0 (om_u g 0 (g N)) hp rfl (by decide) (Or.inr rfl) om_us (om_Cdel hC) (om_PD0 hO) (fun i hi c => ?_) K
  rw [om_un c]
  exact hh i (by omega)
theorem ox_sf {post : Int32 → Prop} {m i : Nat} {hd : Nat → Nat → Nat} (hm : m < 3) (hi : i < 40) (bi : w i < 3 ∧ s i < 5000) (hh : ∀ o, o < 3 → hx (3 * m + o) = nI (hd m o) ∧ hd m o < 5000) (k1 : om_rd w s hd m i → post 1) (k0 : ¬ om_rd w s hd m i → post 0) :
    ∀ d o, o + d = 3 → (∀ q, q < o → q ≠ m → q ≠ w i → om_ky w s i ≤ 3 * hd m q + q) → wX_isSafe_2 post (nI m) (nI i) fm (om_nf w) (om_nf s) tc tm fi ct xc hx hs hp xr xo (d + 1) (nI o) := by
  intro d
  have ii : i < 2 ^ 31 := by omega
  have vi : vp_in (nI i) 40 := pk_in i 40 hi
  induction d with
  | zero =>
    intro o ho H
    exact pk_le 3 o (fun h => k1 (fun q hq => H q (by omega))) (fun h => absurd h (by omega))
  | succ d ih =>
    intro o ho H
    obtain ⟨h1, h2⟩ := hh o (by omega)
    have nx : (o ≠ m → o ≠ w i → om_ky w s i ≤ 3 * hd m o + o) → wX_isSafe_2 post (nI m) (nI i) fm (om_nf w) (om_nf s) tc tm fi ct xc hx hs hp xr xo (d + 1) (nI (o + 1)) := by
      intro hc
      refine ih (o + 1) (by omega) (fun q hq a b => ?_)
      by_cases e : q = o
      · subst e
        exact hc a b
      · exact H q (by omega) a b
    have no : ¬ om_ky w s i ≤ 3 * hd m o + o → o ≠ m → o ≠ w i → wX_isSafe_70 post (wX_isSafe_2 post (nI m) (nI i) fm (om_nf w) (om_nf s) tc tm fi ct xc hx hs hp xr xo (d + 1)) (nI m) (nI i) (nI o) fm (om_nf w) (om_nf s) tc tm fi ct xc hx hs hp xr xo := by
      intro h a b
      unfold wX_isSafe_70 wX_isSafe_71
      exact br_t rfl (k0 (fun z => h (z o (by omega) a b)))
    have ys : om_ky w s i ≤ 3 * hd m o + o → wX_isSafe_66 post (wX_isSafe_2 post (nI m) (nI i) fm (om_nf w) (om_nf s) tc tm fi ct xc hx hs hp xr xo (d + 1)) (nI m) (nI i) (nI o) fm (om_nf w) (om_nf s) tc tm fi ct xc hx hs hp xr xo := by
      intro h
      unfold wX_isSafe_66 wX_isSafe_71
      exact br_f om_n1 (nm_r (nI_1 o) (nx (fun _ _ => h)))
    unfold om_ky at no ys
    refine pk_le 3 o (fun h => absurd h (by omega)) (fun h3 => ?_)
    refine pk_eq o m (fun e => nm_r (nI_1 o) (nx (fun z => absurd e z))) (fun em => ⟨vi, ?_⟩)
    refine pk_eq o (w i) (fun e => nm_r (nI_1 o) (nx (fun _ z => absurd e z))) (fun ew => ⟨pk_in (3 * m + o) 9 (by omega) (om_w3 m o), ?_⟩) rfl (om_at ii)
    refine nm_r (e' := nI (hd m o)) (by rw [om_w3, nI_clamp (by omega)]; exact h1) ⟨vi, ?_⟩
    refine pk_lt (s i) (hd m o) (fun h => ys (by omega)) (fun h => ⟨vi, ?_⟩) (om_at ii)
    refine pk_eq (hd m o) (s i) (fun e => ⟨vi, ?_⟩) (fun e => no (by omega) em ew) rfl (om_at ii)
    exact pk_lt o (w i) (fun h => no (by omega) em ew) (fun h => ys (by omega)) rfl (om_at ii)
theorem ox_safe {post : Int32 → Prop} {m i : Nat} {hd : Nat → Nat → Nat} (hm : m < 3) (hi : i < 40) (bi : w i < 3 ∧ s i < 5000) (hh : ∀ o, o < 3 → hx (3 * m + o) = nI (hd m o) ∧ hd m o < 5000) (k1 : om_rd w s hd m i → post 1) (k0 : ¬ om_rd w s hd m i → post 0) :
    wpX_isSafe post (fm, om_nf w, om_nf s, tc, tm, fi, ct, xc, hx, hs, hp, xr, xo) (nI m) (nI i) := by
  unfold wpX_isSafe
  exact ⟨4, ox_sf hm hi bi hh k1 k0 3 0 rfl (fun q hq => absurd hq (by omega))⟩
end
end
section
/-! the things on the nine ways: lists; how each side keeps them; setting out -/
def om_mc : Option Nat → Int32
  | none => -1
  | some i => nI i
def om_qp (Q : Nat → List (Nat × Option Nat)) (y0 : Nat) (e : Nat × Option Nat) : Nat → List (Nat × Option Nat) := fun y => if y = y0 then Q y ++ [e] else Q y
theorem om_qs {Q : Nat → List (Nat × Option Nat)} {y : Nat} {e : Nat × Option Nat} : om_qp Q y e y = Q y ++ [e] := if_pos rfl
theorem om_qn {Q : Nat → List (Nat × Option Nat)} {y y0 : Nat} {e : Nat × Option Nat} (h : y ≠ y0) : om_qp Q y0 e y = Q y := if_neg h
def om_QX (tc tm fi ct : Nat → Int32) (Q : Nat → List (Nat × Option Nat)) : Prop := ∀ y, y < 9 → ∃ f, f < 64 ∧ fi y = nI f ∧ ct y = nI (Q y).length ∧ ∀ p e, (Q y)[p]? = some e → tc (64 * y + (f + p) % 64) = nI e.1 ∧ tm (64 * y + (f + p) % 64) = om_mc e.2
def om_QY (ln wc wm : Nat → Int32) (Q : Nat → List (Nat × Option Nat)) : Prop := ∀ y, y < 9 → ln y = nI (Q y).length ∧ ∀ p e, (Q y)[p]? = some e → wc (60 * y + p) = nI e.1 ∧ wm (60 * y + p) = om_mc e.2
theorem om_gl {l : List (Nat × Option Nat)} {e e' : Nat × Option Nat} {p : Nat} (h : (l ++ [e])[p]? = some e') : (p < l.length ∧ l[p]? = some e') ∨ (p = l.length ∧ e' = e) := by
  by_cases d : p < l.length
  · rw [List.getElem?_append_left d] at h
    exact Or.inl ⟨d, h⟩
  · have q := (List.getElem?_eq_some_iff.mp h).1
    rw [List.length_append, List.length_singleton] at q
    have r : p = l.length := by omega
    rw [r, List.getElem?_concat_length] at h
    exact Or.inr ⟨r, (Option.some.inj h).symm⟩
theorem om_QXp {tc tm fi ct : Nat → Int32} {Q : Nat → List (Nat × Option Nat)} {y0 f : Nat} {e : Nat × Option Nat} (h : om_QX tc tm fi ct Q) (hl : (Q y0).length < 64) (hy : y0 < 9) (hf : f < 64) (ef : fi y0 = nI f) :
    om_QX (upd tc (64 * y0 + (f + (Q y0).length) % 64) (nI e.1)) (upd tm (64 * y0 + (f + (Q y0).length) % 64) (om_mc e.2)) fi (upd ct y0 (nI ((Q y0).length + 1))) (om_qp Q y0 e) := by
  intro y h9
  obtain ⟨f1, hf1, ef1, ec, hq⟩ := h y h9
  by_cases c : y = y0
  · subst c
    have q : f1 = f := (nI_eq (by omega) (by omega)).mp (ef1.symm.trans ef)
    subst q
    refine ⟨f1, hf, ef, ?_, fun p e' he => ?_⟩
    · rw [pk_us, om_qs, List.length_append, List.length_singleton]
    · rw [om_qs] at he
      rcases om_gl he with ⟨a, b⟩ | ⟨a, b⟩
      · rw [pk_un (by omega), pk_un (by omega)]
        exact hq p e' b
      · rw [a, b, pk_us, pk_us]
        exact ⟨rfl, rfl⟩
  · refine ⟨f1, hf1, ef1, ?_, fun p e' he => ?_⟩
    · rw [pk_un c, om_qn c]
      exact ec
    · rw [om_qn c] at he
      rw [pk_un (by omega), pk_un (by omega)]
      exact hq p e' he
theorem om_QYp {ln wc wm : Nat → Int32} {Q : Nat → List (Nat × Option Nat)} {y0 : Nat} {e : Nat × Option Nat} (h : om_QY ln wc wm Q) (hl : ∀ y, y < 9 → (Q y).length ≤ 60) (hl0 : (Q y0).length < 60) (hy : y0 < 9) :
    om_QY (upd ln y0 (nI ((Q y0).length + 1))) (upd wc (60 * y0 + (Q y0).length) (nI e.1)) (upd wm (60 * y0 + (Q y0).length) (om_mc e.2)) (om_qp Q y0 e) := by
  intro y h9
  obtain ⟨ec, hq⟩ := h y h9
  have hly := hl y h9
  by_cases c : y = y0
  · subst c
    refine ⟨?_, fun p e' he => ?_⟩
    · rw [pk_us, om_qs, List.length_append, List.length_singleton]
    · rw [om_qs] at he
      rcases om_gl he with ⟨a, b⟩ | ⟨a, b⟩
      · rw [pk_un (by omega), pk_un (by omega)]
        exact hq p e' b
      · rw [a, b, pk_us, pk_us]
        exact ⟨rfl, rfl⟩
  · refine ⟨?_, fun p e' he => ?_⟩
    · rw [pk_un c, om_qn c]
      exact ec
    · rw [om_qn c] at he
      have lp := (List.getElem?_eq_some_iff.mp he).1
      rw [pk_un (by omega), pk_un (by omega)]
      exact hq p e' he
def om_so1 (a o : Nat) (e : Nat × Option Nat) (Q : Nat → List (Nat × Option Nat)) : Nat → List (Nat × Option Nat) := if o = a then Q else om_qp Q (3 * a + o) e
theorem om_so1n {a o y : Nat} {e : Nat × Option Nat} {Q : Nat → List (Nat × Option Nat)} (h : y ≠ 3 * a + o) : om_so1 a o e Q y = Q y := by
  unfold om_so1
  by_cases c : o = a
  · rw [if_pos c]
  · rw [if_neg c]
    exact om_qn h
def om_so (a : Nat) (e : Nat × Option Nat) (Q : Nat → List (Nat × Option Nat)) : Nat → List (Nat × Option Nat) := om_so1 a 2 e (om_so1 a 1 e (om_so1 a 0 e Q))
theorem om_so1v {a o y : Nat} {e : Nat × Option Nat} {Q : Nat → List (Nat × Option Nat)} : om_so1 a o e Q y = if o ≠ a ∧ y = 3 * a + o then Q y ++ [e] else Q y := by
  unfold om_so1
  by_cases c : o = a
  · rw [if_pos c, if_neg (fun z => z.1 c)]
  · rw [if_neg c]
    by_cases d : y = 3 * a + o
    · rw [if_pos ⟨c, d⟩, d, om_qs]
    · rw [if_neg (fun z => d z.2), om_qn d]
theorem om_sov {a x b : Nat} {e : Nat × Option Nat} {Q : Nat → List (Nat × Option Nat)} (ha : a < 3) (hx : x < 3) (hb : b < 3) : (x = a ∧ b ≠ a → om_so a e Q (3 * x + b) = Q (3 * x + b) ++ [e]) ∧ (¬ (x = a ∧ b ≠ a) → om_so a e Q (3 * x + b) = Q (3 * x + b)) := by
  unfold om_so
  by_cases c : x = a ∧ b ≠ a
  · refine ⟨fun _ => ?_, fun z => absurd c z⟩
    obtain ⟨c1, c2⟩ := c
    have h3 : b = 0 ∨ b = 1 ∨ b = 2 := by omega
    rcases h3 with h3 | h3 | h3
    · rw [om_so1n (by omega), om_so1n (by omega), om_so1v, if_pos (by omega)]
    · rw [om_so1n (by omega), om_so1v, if_pos (by omega), om_so1n (by omega)]
    · rw [om_so1v, if_pos (by omega), om_so1n (by omega), om_so1n (by omega)]
  · refine ⟨fun z => absurd z c, fun _ => ?_⟩
    rw [om_so1v, if_neg (by omega), om_so1v, if_neg (by omega), om_so1v, if_neg (by omega)]
theorem om_63 {n : Nat} (h : n < 2 ^ 32) : nI n &&& 63 = nI (n % 64) := pk_andN h 6 (by decide)
section
variable {fm : Int32} {xw xs fi xc hx hs hp xr xo : Nat → Int32}
theorem ox_so1 {post : SX → Prop} {a o d : Nat} {e : Nat × Option Nat} {Q : Nat → List (Nat × Option Nat)} {tc tm ct : Nat → Int32} (ha : a < 3) (ho : o < 3) (h : om_QX tc tm fi ct Q) (hl : (Q (3 * a + o)).length < 64) (hc : xc a = nI e.1)
    (K : ∀ tc' tm' ct' : Nat → Int32, om_QX tc' tm' fi ct' (om_so1 a o e Q) → wX_setOut_2 post (nI a) (om_mc e.2) fm d (nI (o + 1)) xw xs tc' tm' fi ct' xc hx hs hp xr xo) :
    wX_setOut_2 post (nI a) (om_mc e.2) fm (d + 1) (nI o) xw xs tc tm fi ct xc hx hs hp xr xo := by
  obtain ⟨f, hf, ef, ec, hq⟩ := h (3 * a + o) (by omega)
  have vy : vp_in (nI (3 * a + o)) 9 := vp_in_nI (by omega) (by decide)
  have cy : (nI (3 * a + o)).toNatClampNeg = 3 * a + o := nI_clamp (by omega)
  have ca : (nI a).toNatClampNeg = a := nI_clamp (by omega)
  have vt : vp_in (nI (64 * (3 * a + o) + (f + (Q (3 * a + o)).length) % 64)) 576 := vp_in_nI (by omega) (by decide)
  have cz : (nI (64 * (3 * a + o) + (f + (Q (3 * a + o)).length) % 64)).toNatClampNeg = 64 * (3 * a + o) + (f + (Q (3 * a + o)).length) % 64 := nI_clamp (by omega)
  refine pk_le 3 o (fun h => absurd h (by omega)) (fun _ => nm_r (om_w3 a o) ?_)
  refine pk_eq o a (fun e0 => nm_r (nI_1 o) (K tc tm ct (by rw [om_so1, if_pos e0]; exact h))) (fun e0 => ⟨vy, vy, ?_⟩)
  refine nm_r (e' := nI (64 * (3 * a + o) + (f + (Q (3 * a + o)).length) % 64)) (by rw [cy, ef, ec, nI_add, om_63 (by omega), om_w64]) ⟨pk_in a 3 ha, vt, ?_⟩
  refine nm_r (e' := upd tc (64 * (3 * a + o) + (f + (Q (3 * a + o)).length) % 64) (nI e.1)) (by rw [cz, ca, hc]) ⟨vt, ?_⟩
  refine nm_r (e' := upd tm (64 * (3 * a + o) + (f + (Q (3 * a + o)).length) % 64) (om_mc e.2)) (by rw [cz]) ⟨vy, vy, ?_⟩
  refine nm_r (e' := upd ct (3 * a + o) (nI ((Q (3 * a + o)).length + 1))) (by rw [cy, ec, nI_1]) (nm_r (nI_1 o) (K _ _ _ ?_))
  rw [om_so1, if_neg e0]
  exact om_QXp h hl (by omega) hf ef
theorem ox_so {post : SX → Prop} {a : Nat} {e : Nat × Option Nat} {Q : Nat → List (Nat × Option Nat)} {tc tm ct : Nat → Int32} (ha : a < 3) (h : om_QX tc tm fi ct Q) (hl : ∀ o, o < 3 → (Q (3 * a + o)).length < 64) (hc : xc a = nI e.1)
    (K : ∀ tc' tm' ct' : Nat → Int32, om_QX tc' tm' fi ct' (om_so a e Q) → post (fm, xw, xs, tc', tm', fi, ct', xc, hx, hs, hp, xr, xo)) :
    wpX_setOut post (fm, xw, xs, tc, tm, fi, ct, xc, hx, hs, hp, xr, xo) (nI a) (om_mc e.2) := by
  unfold wpX_setOut
  refine ⟨4, ?_⟩
  refine ox_so1 (o := 0) ha (by omega) h (hl 0 (by omega)) hc (fun tc1 tm1 ct1 h1 => ?_)
  refine ox_so1 (o := 1) ha (by omega) h1 (by rw [om_so1n (by omega)]; exact hl 1 (by omega)) hc (fun tc2 tm2 ct2 h2 => ?_)
  refine ox_so1 (o := 2) ha (by omega) h2 (by rw [om_so1n (by omega), om_so1n (by omega)]; exact hl 2 (by omega)) hc (fun tc3 tm3 ct3 h3 => ?_)
  exact pk_le 3 3 (fun _ => K tc3 tm3 ct3 h3) (fun h => absurd h (by omega))
end
section
variable {yf : Int32} {yc yw ys hz dz xr xo hy : Nat → Int32}
theorem oy_so1 {post : SY → Prop} {a o d : Nat} {e : Nat × Option Nat} {Q : Nat → List (Nat × Option Nat)} {ln wc wm : Nat → Int32} (ha : a < 3) (ho : o < 3) (h : om_QY ln wc wm Q) (hl : ∀ y, y < 9 → (Q y).length ≤ 60) (hl0 : (Q (3 * a + o)).length < 60) (hc : yc a = nI e.1)
    (K : ∀ ln' wc' wm' : Nat → Int32, om_QY ln' wc' wm' (om_so1 a o e Q) → wY_setOut_2 post (nI a) (om_mc e.2) yf d (nI (o + 1)) yc yw ys hz dz xr xo hy ln' wc' wm') :
    wY_setOut_2 post (nI a) (om_mc e.2) yf (d + 1) (nI o) yc yw ys hz dz xr xo hy ln wc wm := by
  obtain ⟨ec, hq⟩ := h (3 * a + o) (by omega)
  have vy : vp_in (nI (3 * a + o)) 9 := vp_in_nI (by omega) (by decide)
  have cy : (nI (3 * a + o)).toNatClampNeg = 3 * a + o := nI_clamp (by omega)
  have ca : (nI a).toNatClampNeg = a := nI_clamp (by omega)
  have ei : (60 : Int32) * nI (3 * a + o) + ln (nI (3 * a + o)).toNatClampNeg = nI (60 * (3 * a + o) + (Q (3 * a + o)).length) := by rw [cy, ec, om_w60]
  have vt : vp_in ((60 : Int32) * nI (3 * a + o) + ln (nI (3 * a + o)).toNatClampNeg) 540 := pk_in (60 * (3 * a + o) + (Q (3 * a + o)).length) 540 (by omega) ei
  have cz : ((60 : Int32) * nI (3 * a + o) + ln (nI (3 * a + o)).toNatClampNeg).toNatClampNeg = 60 * (3 * a + o) + (Q (3 * a + o)).length := pk_cl _ ei (by omega)
  refine pk_le 3 o (fun h => absurd h (by omega)) (fun _ => ?_)
  refine pk_eq o a (fun e0 => nm_r (nI_1 o) (K ln wc wm (by rw [om_so1, if_pos e0]; exact h))) (fun e0 => nm_r (om_w3 a o) ⟨vy, pk_in a 3 ha, vt, ?_⟩)
  refine nm_r (e' := upd wc (60 * (3 * a + o) + (Q (3 * a + o)).length) (nI e.1)) (by rw [cz, ca, hc]) ⟨vy, vt, ?_⟩
  refine nm_r (e' := upd wm (60 * (3 * a + o) + (Q (3 * a + o)).length) (om_mc e.2)) (by rw [cz]) ⟨vy, vy, ?_⟩
  refine nm_r (e' := upd ln (3 * a + o) (nI ((Q (3 * a + o)).length + 1))) (by rw [cy, ec, nI_1]) (nm_r (nI_1 o) (K _ _ _ ?_))
  rw [om_so1, if_neg e0]
  exact om_QYp h hl hl0 (by omega)
theorem om_sol {a o y : Nat} {e : Nat × Option Nat} {Q : Nat → List (Nat × Option Nat)} (hl : ∀ y, y < 9 → (Q y).length ≤ 60) (h0 : (Q (3 * a + o)).length < 60) (hy : y < 9) : (om_so1 a o e Q y).length ≤ 60 := by
  have q := hl y hy
  rw [om_so1v]
  by_cases c : o ≠ a ∧ y = 3 * a + o
  · rw [if_pos c, List.length_append, List.length_singleton, c.2]
    omega
  · rw [if_neg c]
    exact q
theorem oy_so {post : SY → Prop} {a : Nat} {e : Nat × Option Nat} {Q : Nat → List (Nat × Option Nat)} {ln wc wm : Nat → Int32} (ha : a < 3) (h : om_QY ln wc wm Q) (hl : ∀ y, y < 9 → (Q y).length ≤ 60) (hl0 : ∀ o, o < 3 → (Q (3 * a + o)).length < 60) (hc : yc a = nI e.1)
    (K : ∀ ln' wc' wm' : Nat → Int32, om_QY ln' wc' wm' (om_so a e Q) → post (yf, yc, yw, ys, hz, dz, xr, xo, hy, ln', wc', wm')) :
    wpY_setOut post (yf, yc, yw, ys, hz, dz, xr, xo, hy, ln, wc, wm) (nI a) (om_mc e.2) := by
  unfold wpY_setOut
  have l1 : (om_so1 a 0 e Q (3 * a + 1)).length < 60 := by
    rw [om_so1n (by omega)]
    exact hl0 1 (by omega)
  have l2 : (om_so1 a 1 e (om_so1 a 0 e Q) (3 * a + 2)).length < 60 := by
    rw [om_so1n (by omega), om_so1n (by omega)]
    exact hl0 2 (by omega)
  have b1 : ∀ y, y < 9 → (om_so1 a 0 e Q y).length ≤ 60 := fun y hy => om_sol hl (hl0 0 (by omega)) hy
  have b2 : ∀ y, y < 9 → (om_so1 a 1 e (om_so1 a 0 e Q) y).length ≤ 60 := fun y hy => om_sol b1 l1 hy
  refine ⟨4, ?_⟩
  refine oy_so1 (o := 0) ha (by omega) h hl (hl0 0 (by omega)) hc (fun ln1 wc1 wm1 h1 => ?_)
  refine oy_so1 (o := 1) ha (by omega) h1 b1 l1 hc (fun ln2 wc2 wm2 h2 => ?_)
  refine oy_so1 (o := 2) ha (by omega) h2 b2 l2 hc (fun ln3 wc3 wm3 h3 => ?_)
  exact pk_le 3 3 (fun _ => K ln3 wc3 wm3 h3) (fun h => absurd h (by omega))
end
end
section
/-! the reference's scans -/
def om_op (hb db : Nat → Bool) : Nat → Bool := fun i => hb i && !db i
theorem om_op1 {hb db : Nat → Bool} {i : Nat} (h : hb i = true) (d : db i = false) : om_op hb db i = true := by
  unfold om_op
  rw [h, d]
  rfl
theorem om_opn {hb db : Nat → Bool} {i : Nat} (h : hb i = false) : om_op hb db i = false := by
  unfold om_op
  rw [h]
  rfl
theorem om_opd {hb db : Nat → Bool} {i : Nat} (h : db i = true) : om_op hb db i = false := by
  unfold om_op
  rw [h]
  cases hb i <;> rfl
theorem om_ope {hb db : Nat → Bool} {i : Nat} (h : om_op hb db i = true) : hb i = true ∧ db i = false := by
  unfold om_op at h
  cases a : hb i <;> cases b : db i <;> rw [a, b] at h <;> first | exact ⟨rfl, rfl⟩ | exact nomatch h
/-- what Y's scan for the earliest holds behind i messages -/
def om_E (P : Nat → Bool) (ky : Nat → Nat) (i : Nat) (x : Int32) : Prop := (x = -1 ∧ ∀ j, j < i → P j = false) ∨ (∃ b, b < i ∧ x = nI b ∧ P b = true ∧ ∀ j, j < i → P j = true → ky b ≤ ky j)
theorem om_Ek {P : Nat → Bool} {ky : Nat → Nat} {i : Nat} {x : Int32} (h : om_E P ky i x) (hp : P i = false) : om_E P ky (i + 1) x := by
  rcases h with ⟨a, b⟩ | ⟨b, hb, e, pb, h⟩
  · refine Or.inl ⟨a, fun j hj => ?_⟩
    by_cases c : j = i
    · rw [c]
      exact hp
    · exact b j (by omega)
  · refine Or.inr ⟨b, by omega, e, pb, fun j hj pj => ?_⟩
    by_cases c : j = i
    · rw [c, hp] at pj
      exact nomatch pj
    · exact h j (by omega) pj
/-- one member's messages: has, done, heap content; the count of what waits is z -/
def om_I (n : Nat) (w s : Nat → Nat) (hb db : Nat → Bool) (g : Nat → Nat) (z : Nat) : Prop :=
  n ≤ 40 ∧ (∀ i, i < n → w i < 3 ∧ s i < 5000) ∧ (∀ i j, i < n → j < n → om_ky w s i = om_ky w s j → i = j) ∧ (∀ i, hb i = true → i < n) ∧ (∀ i, db i = true → hb i = true) ∧ z = om_cnt (om_op hb db) n ∧ om_C g z (fun i => om_op hb db i = true) ∧ om_O (om_ky w s) g z
def om_tp (g : Nat → Nat) (z : Nat) : Int32 := if z = 0 then -1 else nI (g 0)
theorem om_Itop {n z : Nat} {w s g : Nat → Nat} {hb db : Nat → Bool} (h : om_I n w s hb db g z) {x : Int32} (hx : om_E (om_op hb db) (om_ky w s) n x) : x = om_tp g z := by
  obtain ⟨h1, h2, h3, h4, h5, h6, h7, h8⟩ := h
  unfold om_tp
  rcases hx with ⟨a, b⟩ | ⟨b, hb', e, pb, hm⟩
  · by_cases c : z = 0
    · rw [if_pos c]
      exact a
    · have q : om_op hb db (g 0) = true := h7.1 0 (by omega)
      have r := b (g 0) (h4 _ (om_ope q).1)
      rw [r] at q
      exact nomatch q
  · obtain ⟨i, hi, ei⟩ := h7.2.1 b pb
    rw [if_neg (by omega), e]
    have q := h7.1 0 (by omega)
    have q1 := hm (g 0) (h4 _ (om_ope q).1) q
    have q2 := om_top h8 i i (Nat.le_refl _) hi
    rw [ei] at q2
    exact congrArg nI (h3 b (g 0) hb' (h4 _ (om_ope q).1) (by omega))
section
variable {yf : Int32} {yc yw ys hz dz xr xo hy ln wc wm : Nat → Int32} {w s : Nat → Nat}
theorem oy_ear {post : Int32 → Prop} {u : SY} {a b c d : Nat} {pa pb pc pd : Int32} (ha : a < 5000) (hb : b < 3) (hc : c < 5000) (hd : d < 3) (k1 : 3 * a + b < 3 * c + d → post 1) (k0 : 3 * c + d ≤ 3 * a + b → post 0) (ea : pa = nI a := by rfl) (eb : pb = nI b := by rfl) (ec : pc = nI c := by rfl) (ed : pd = nI d := by rfl) : wpY_earlier post u pa pb pc pd := by
  subst ea eb ec ed
  unfold wpY_earlier
  exact pk_lt a c (fun h => k1 (by omega)) (fun h => pk_eq a c (fun e => pk_le d b (fun h2 => k0 (by omega)) (fun h2 => k1 (by omega))) (fun e => k0 (by omega)))
theorem oy_es {post : Int32 → Prop} {n m : Nat} {hb db : Nat → Bool} (hm : m < 3) (hn : n ≤ 40) (bs : ∀ i, i < n → w i < 3 ∧ s i < 5000) (hh : ∀ i, i < 40 → hz (40 * m + i) = om_b (hb i) ∧ dz (40 * m + i) = om_b (db i))
    (K : ∀ x, om_E (om_op hb db) (om_ky w s) n x → post x) :
    ∀ d i x, i + d = n → om_E (om_op hb db) (om_ky w s) i x → wY_earliest_4 post (nI m) (nI n) yc (om_nf w) (om_nf s) hz dz xr xo hy ln wc wm (d + 1) x (nI i) := by
  intro d
  induction d with
  | zero =>
    intro i x hi hx
    have e : i = n := by omega
    subst e
    exact pk_le i i (fun _ => K x hx) (fun h => absurd h (by omega))
  | succ d ih =>
    intro i x hi hx
    have i31 : i < 2 ^ 31 := by omega
    have vt : vp_in ((40 : Int32) * nI m + nI i) 120 := pk_in (40 * m + i) 120 (by omega) (om_w40 m i)
    have ct : ((40 : Int32) * nI m + nI i).toNatClampNeg = 40 * m + i := pk_cl _ (om_w40 m i) (by omega)
    obtain ⟨eh, ed⟩ := hh i (by omega)
    have v4 : vp_in (nI i) 40 := pk_in i 40 (by omega)
    refine pk_le n i (fun h => absurd h (by omega)) (fun _ => ⟨vt, ?_⟩)
    rw [ct, eh, ed]
    cases a : hb i with
    | false =>
      refine br_t rfl ?_
      unfold wY_earliest_44 wY_earliest_45
      exact br_t rfl (nm_r (nI_1 i) (ih (i + 1) x (by omega) (om_Ek hx (om_opn a))))
    | true =>
      refine br_f om_n1 ⟨vt, ?_⟩
      cases b : db i with
      | true =>
        refine br_f om_n1 ?_
        unfold wY_earliest_44 wY_earliest_45
        exact br_t rfl (nm_r (nI_1 i) (ih (i + 1) x (by omega) (om_Ek hx (om_opd b))))
      | false =>
        refine br_t rfl ?_
        unfold wY_earliest_45
        refine br_f om_n1 ?_
        have po : om_op hb db i = true := om_op1 a b
        rcases hx with ⟨e, hx⟩ | ⟨q, hq, e, pq, hx⟩
        · subst e
          refine br_t (by decide) (nm_r (nI_1 i) (ih (i + 1) (nI i) (by omega) (Or.inr ⟨i, by omega, rfl, po, fun j hj pj => ?_⟩)))
          by_cases c : j = i
          · rw [c]
            exact Nat.le_refl _
          · rw [hx j (by omega)] at pj
            exact nomatch pj
        · subst e
          have q31 : q < 2 ^ 31 := by omega
          have vq : vp_in (nI q) 40 := pk_in q 40 (by omega)
          refine br_f (nI_pos q31) ⟨v4, v4, vq, vq, ?_⟩
          obtain ⟨b1, b2⟩ := bs i (by omega)
          obtain ⟨b3, b4⟩ := bs q (by omega)
          refine oy_ear b2 b1 b4 b3 (fun hl => br_f om_n1 (nm_r (nI_1 i) (ih (i + 1) (nI i) (by omega) ?_))) (fun hl => br_t rfl (nm_r (nI_1 i) (ih (i + 1) (nI q) (by omega) ?_))) (om_at i31) (om_at i31) (om_at q31) (om_at q31)
          · refine Or.inr ⟨i, by omega, rfl, po, fun j hj pj => ?_⟩
            by_cases c : j = i
            · rw [c]
              exact Nat.le_refl _
            · exact Nat.le_trans (Nat.le_of_lt hl) (hx j (by omega) pj)
          · refine Or.inr ⟨q, by omega, rfl, pq, fun j hj pj => ?_⟩
            by_cases c : j = i
            · rw [c]
              exact hl
            · exact hx j (by omega) pj
theorem oy_earl {post : Int32 → Prop} {n m z : Nat} {hb db : Nat → Bool} {g : Nat → Nat} (hm : m < 3) (hI : om_I n w s hb db g z) (hh : ∀ i, i < 40 → hz (40 * m + i) = om_b (hb i) ∧ dz (40 * m + i) = om_b (db i)) (k : post (om_tp g z)) :
    wpY_earliest post (nI n, yc, om_nf w, om_nf s, hz, dz, xr, xo, hy, ln, wc, wm) (nI m) := by
  unfold wpY_earliest
  refine ⟨n + 1, oy_es hm hI.1 hI.2.1 hh (fun x hx => ?_) n 0 (-1) (by omega) (Or.inl ⟨rfl, fun j hj => absurd hj (by omega)⟩)⟩
  rw [om_Itop hI hx]
  exact k
theorem oy_rs {post : Int32 → Prop} {m i : Nat} {hd : Nat → Nat → Nat} (hm : m < 3) (hi : i < 40) (bi : w i < 3 ∧ s i < 5000) (hh : ∀ o, o < 3 → hy (3 * o + m) = nI (hd m o) ∧ hd m o < 5000) (k1 : om_rd w s hd m i → post 1) (k0 : ¬ om_rd w s hd m i → post 0) :
    ∀ d o, o + d = 3 → (∀ q, q < o → q ≠ m → q ≠ w i → om_ky w s i ≤ 3 * hd m q + q) → wY_ready_2 post (nI m) (nI i) yf yc (om_nf w) (om_nf s) hz dz xr xo hy ln wc wm (d + 1) (nI o) := by
  intro d
  have ii : i < 2 ^ 31 := by omega
  have vi : vp_in (nI i) 40 := pk_in i 40 hi
  induction d with
  | zero =>
    intro o ho H
    exact pk_le 3 o (fun h => k1 (fun q hq => H q (by omega))) (fun h => absurd h (by omega))
  | succ d ih =>
    intro o ho H
    obtain ⟨h1, h2⟩ := hh o (by omega)
    have nx : (o ≠ m → o ≠ w i → om_ky w s i ≤ 3 * hd m o + o) → wY_ready_2 post (nI m) (nI i) yf yc (om_nf w) (om_nf s) hz dz xr xo hy ln wc wm (d + 1) (nI (o + 1)) := by
      intro hc
      refine ih (o + 1) (by omega) (fun q hq a b => ?_)
      by_cases e : q = o
      · subst e
        exact hc a b
      · exact H q (by omega) a b
    have sk : (o ≠ m → o ≠ w i → om_ky w s i ≤ 3 * hd m o + o) → wY_ready_26 post (wY_ready_2 post (nI m) (nI i) yf yc (om_nf w) (om_nf s) hz dz xr xo hy ln wc wm (d + 1)) (nI m) (nI i) (nI o) yf yc (om_nf w) (om_nf s) hz dz xr xo hy ln wc wm := by
      intro h
      unfold wY_ready_26 wY_ready_27
      exact br_t rfl (nm_r (nI_1 o) (nx h))
    refine pk_le 3 o (fun h => absurd h (by omega)) (fun h3 => ?_)
    refine pk_eq o m (fun e => sk (fun z => absurd e z)) (fun em => ⟨vi, ?_⟩)
    refine pk_eq o (w i) (fun e => sk (fun _ z => absurd e z)) (fun ew => ?_) rfl (om_at ii)
    unfold wY_ready_27
    refine br_f om_n1 ⟨pk_in (3 * o + m) 9 (by omega) (om_w3 o m), vi, vi, ?_⟩
    refine oy_ear h2 (by omega : o < 3) bi.2 bi.1 (fun hl => br_f om_n1 (k0 (fun z => ?_))) (fun hl => br_t rfl (nm_r (nI_1 o) (nx (fun _ _ => hl)))) (by rw [om_w3, nI_clamp (by omega)]; exact h1) rfl (om_at ii) (om_at ii)
    have q := z o (by omega) em ew
    unfold om_ky at q
    omega
theorem oy_ready {post : Int32 → Prop} {m i : Nat} {hd : Nat → Nat → Nat} (hm : m < 3) (hi : i < 40) (bi : w i < 3 ∧ s i < 5000) (hh : ∀ o, o < 3 → hy (3 * o + m) = nI (hd m o) ∧ hd m o < 5000) (k1 : om_rd w s hd m i → post 1) (k0 : ¬ om_rd w s hd m i → post 0) :
    wpY_ready post (yf, yc, om_nf w, om_nf s, hz, dz, xr, xo, hy, ln, wc, wm) (nI m) (nI i) := by
  unfold wpY_ready
  exact ⟨4, oy_rs hm hi bi hh k1 k0 3 0 rfl (fun q hq => absurd hq (by omega))⟩
theorem oy_hs {post : Int32 → Prop} {n m : Nat} {hb db : Nat → Bool} (hm : m < 3) (hn : n ≤ 40) (hh : ∀ i, i < 40 → hz (40 * m + i) = om_b (hb i) ∧ dz (40 * m + i) = om_b (db i)) (K : post (nI (om_cnt (om_op hb db) n))) :
    ∀ d i, i + d = n → wY_held_13 post (nI m) (nI n) yc yw ys hz dz xr xo hy ln wc wm (d + 1) (nI (om_cnt (om_op hb db) i)) (nI i) := by
  intro d
  induction d with
  | zero =>
    intro i hi
    have e : i = n := by omega
    subst e
    exact pk_le i i (fun _ => K) (fun h => absurd h (by omega))
  | succ d ih =>
    intro i hi
    have vt : vp_in ((40 : Int32) * nI m + nI i) 120 := pk_in (40 * m + i) 120 (by omega) (om_w40 m i)
    have ct : ((40 : Int32) * nI m + nI i).toNatClampNeg = 40 * m + i := pk_cl _ (om_w40 m i) (by omega)
    obtain ⟨eh, ed⟩ := hh i (by omega)
    refine pk_le n i (fun h => absurd h (by omega)) (fun _ => ⟨vt, ?_⟩)
    rw [ct, eh, ed]
    have nx := ih (i + 1) (by omega)
    rw [om_cs] at nx
    cases a : hb i with
    | false =>
      rw [om_opn a] at nx
      exact br_t rfl (nm_r (nI_1 i) nx)
    | true =>
      refine br_f om_n1 ⟨vt, ?_⟩
      cases b : db i with
      | true =>
        rw [om_opd b] at nx
        exact br_f om_n1 (nm_r (nI_1 i) nx)
      | false =>
        rw [om_op1 a b] at nx
        exact br_t rfl (nm_r (nI_1 _) (nm_r (nI_1 i) nx))
theorem oy_fs {post : Int32 → Prop} {a : Nat} {Q : Nat → List (Nat × Option Nat)} (ha : a < 3) (h : om_QY ln wc wm Q) (hl : ∀ y, y < 9 → (Q y).length ≤ 60) (k1 : (∃ o, o < 3 ∧ 20 ≤ (Q (3 * a + o)).length) → post 1) (k0 : (∀ o, o < 3 → o ≠ a → (Q (3 * a + o)).length < 20) → post 0) :
    ∀ d o, o + d = 3 → (∀ q, q < o → q ≠ a → (Q (3 * a + q)).length < 20) → wY_full_2 post (nI a) yf yc yw ys hz dz xr xo hy ln wc wm (d + 1) (nI o) := by
  intro d
  induction d with
  | zero =>
    intro o ho H
    exact pk_le 3 o (fun h => k0 (fun q hq => H q (by omega))) (fun h => absurd h (by omega))
  | succ d ih =>
    intro o ho H
    have lo := hl (3 * a + o) (by omega)
    have nx : (o ≠ a → (Q (3 * a + o)).length < 20) → wY_full_2 post (nI a) yf yc yw ys hz dz xr xo hy ln wc wm (d + 1) (nI (o + 1)) := by
      intro hc
      refine ih (o + 1) (by omega) (fun q hq a => ?_)
      by_cases e : q = o
      · subst e
        exact hc a
      · exact H q (by omega) a
    refine pk_le 3 o (fun h => absurd h (by omega)) (fun h3 => ?_)
    refine pk_eq o a (fun e => nm_r (nI_1 o) (nx (fun z => absurd e z))) (fun em => ⟨pk_in (3 * a + o) 9 (by omega) (om_w3 a o), ?_⟩)
    exact pk_lt (Q (3 * a + o)).length 20 (fun hq => nm_r (nI_1 o) (nx (fun _ => hq))) (fun hq => k1 ⟨o, by omega, hq⟩) (by rw [om_w3, nI_clamp (by omega)]; exact (h _ (by omega)).1)
theorem oy_full {post : Int32 → Prop} {a : Nat} {Q : Nat → List (Nat × Option Nat)} (ha : a < 3) (h : om_QY ln wc wm Q) (hl : ∀ y, y < 9 → (Q y).length ≤ 60) (k1 : (∃ o, o < 3 ∧ 20 ≤ (Q (3 * a + o)).length) → post 1) (k0 : (∀ o, o < 3 → o ≠ a → (Q (3 * a + o)).length < 20) → post 0) :
    wpY_full post (yf, yc, yw, ys, hz, dz, xr, xo, hy, ln, wc, wm) (nI a) := by
  unfold wpY_full
  exact ⟨4, oy_fs ha h hl k1 k0 3 0 rfl (fun q hq => absurd hq (by omega))⟩
end
end
section
/-! reading in lockstep: the component pops its heap, the reference marks the earliest as done -/
def om_tb (f : Nat → Bool) (k : Nat) : Nat → Bool := fun i => if i = k then true else f i
theorem om_ts {f : Nat → Bool} {k : Nat} : om_tb f k k = true := if_pos rfl
theorem om_tn {f : Nat → Bool} {k i : Nat} (h : i ≠ k) : om_tb f k i = f i := if_neg h
theorem om_v1 : vp_nar .boolean 1 = 1 := rfl
/-- the top of the heap is read -/
theorem om_Iread {n N : Nat} {w s g g' : Nat → Nat} {hb db : Nat → Bool} (h : om_I n w s hb db g (N + 1)) (hC : om_C g' N (fun x => om_op hb db x = true ∧ x ≠ g 0)) (hO : om_O (om_ky w s) g' N) :
    om_I n w s hb (om_tb db (g 0)) g' N ∧ om_cnt (om_tb db (g 0)) n = om_cnt db n + 1 ∧ om_cnt db n < 40 := by
  obtain ⟨h1, h2, h3, h4, h5, h6, h7, h8⟩ := h
  have o0 := h7.1 0 (by omega)
  obtain ⟨o1, o2⟩ := om_ope o0
  have g0 := h4 _ o1
  have q1 : om_cnt (om_tb db (g 0)) n = om_cnt db n + 1 := om_cu o2 om_ts (fun i hi => om_tn hi) n g0
  have q2 : om_cnt (om_op hb db) n = om_cnt (om_op hb (om_tb db (g 0))) n + 1 := by
    refine om_cu (om_opd om_ts) o0 (fun i hi => ?_) n g0
    unfold om_op
    rw [om_tn hi]
  have q3 := om_cle (om_tb db (g 0)) n
  refine ⟨⟨h1, h2, h3, h4, fun i hi => ?_, by omega, om_Cs hC (fun x => ⟨fun hx => ?_, fun hx => ?_⟩), hO⟩, q1, by omega⟩
  · by_cases c : i = g 0
    · rw [c]
      exact o1
    · rw [om_tn c] at hi
      exact h5 i hi
  · unfold om_op
    rw [om_tn hx.2]
    exact hx.1
  · obtain ⟨a, b⟩ := om_ope hx
    have c : x ≠ g 0 := by
      intro z
      rw [z, om_ts] at b
      exact nomatch b
    rw [om_tn c] at b
    exact ⟨om_op1 a b, c⟩
theorem om_tp0 {g : Nat → Nat} : om_tp g 0 < 0 := by
  unfold om_tp
  rw [if_pos rfl]
  decide
theorem om_tps {g : Nat → Nat} {z : Nat} : om_tp g (z + 1) = nI (g 0) := if_neg (by omega)
section
variable {fm : Int32} {tc tm fi ct xc hx yc hz hy ln wc wm : Nat → Int32} {w s : Nat → Nat}
theorem ol_read {m n : Nat} {hb : Nat → Bool} {hd : Nat → Nat → Nat} {PX : Int32 → SX → Prop} (hm : m < 3) (hhx : ∀ o, o < 3 → hx (3 * m + o) = nI (hd m o) ∧ hd m o < 5000) (hhy : ∀ o, o < 3 → hy (3 * o + m) = nI (hd m o) ∧ hd m o < 5000) :
    ∀ (z t : Nat) (g : Nat → Nat) (db : Nat → Bool) (hs hp dz xr xo : Nat → Int32), t + z ≤ 40 → om_I n w s hb db g z → hs m = nI z → (∀ i, i < z → hp (40 * m + i) = nI (g i)) → (∀ i, i < 40 → hz (40 * m + i) = om_b (hb i) ∧ dz (40 * m + i) = om_b (db i)) → xr m = nI (om_cnt db n) →
    (∀ (R : Int32) (z' : Nat) (g' : Nat → Nat) (db' : Nat → Bool) (hs' hp' dz' xr' xo' : Nat → Int32), om_I n w s hb db' g' z' → (0 < z' → ¬ om_rd w s hd m (g' 0)) → hs' m = nI z' → (∀ i, i < z' → hp' (40 * m + i) = nI (g' i)) → (∀ i, i < 40 → hz (40 * m + i) = om_b (hb i) ∧ dz' (40 * m + i) = om_b (db' i)) → xr' m = nI (om_cnt db' n) →
      (∀ j, j ≠ m → hs' j = hs j ∧ xr' j = xr j) → (∀ j, (j < 40 * m ∨ 40 * m + 40 ≤ j) → hp' j = hp j ∧ dz' j = dz j) →
      (∀ PY : Int32 → SY → Prop, PY R (nI n, yc, om_nf w, om_nf s, hz, dz', xr', xo', hy, ln, wc, wm) → wY_readAll_8 PY (nI m) (nI n) (z + 1) (nI t) (om_tp g z) yc (om_nf w) (om_nf s) hz dz xr xo hy ln wc wm) →
      PX R (fm, om_nf w, om_nf s, tc, tm, fi, ct, xc, hx, hs', hp', xr', xo')) →
    wX_readOn_4 PX (nI m) (z + 1) (nI t) (nI t) fm (om_nf w) (om_nf s) tc tm fi ct xc hx hs hp xr xo := by
  have vm : vp_in (nI m) 3 := pk_in m 3 hm
  have cm : (nI m).toNatClampNeg = m := nI_clamp (by omega)
  intro z
  induction z with
  | zero =>
    intro t g db hs hp dz xr xo _ hI ez hh hd2 er K
    have fin : PX (nI t) (fm, om_nf w, om_nf s, tc, tm, fi, ct, xc, hx, hs, hp, xr, xo) :=
      K (nI t) 0 g db hs hp dz xr xo hI (fun h => absurd h (by omega)) ez hh hd2 er (fun _ _ => ⟨rfl, rfl⟩) (fun _ _ => ⟨rfl, rfl⟩) (fun PY h => br_t om_tp0 h)
    exact br_c (fun _ => fin) (fun _ => ⟨vm, pk_le 0 0 (fun _ => fin) (fun h => absurd h (by omega)) (by rw [cm]; exact ez)⟩)
  | succ z ih =>
    intro t g db hs hp dz xr xo ht hI ez hh hd2 er K
    have o0 := hI.2.2.2.2.2.2.1.1 0 (by omega)
    have g0 : g 0 < n := hI.2.2.2.1 _ (om_ope o0).1
    have n40 : n ≤ 40 := hI.1
    have g31 : g 0 < 2 ^ 31 := by omega
    refine pk_le 40 t (fun h => absurd h (by omega)) (fun _ => ⟨vm, ?_⟩)
    refine pk_le (z + 1) 0 (fun h => absurd h (by omega)) (fun _ => ⟨pk_in (40 * m) 120 (by omega) (om_m40 m), ?_⟩) (by rw [cm]; exact ez)
    refine nm_r (e' := nI (g 0)) (by rw [om_m40, nI_clamp (by omega)]; exact hh 0 (by omega)) ?_
    refine ox_safe hm (by omega) (hI.2.1 _ g0) hhx (fun hr => br_f om_n1 ?_) (fun hr => br_t rfl ?_)
    · refine ox_pop (S := fun i => om_op hb db i = true) (g := g) hm (by omega) n40 hI.2.1 (fun x hx => hI.2.2.2.1 _ (om_ope hx).1) ez hI.2.2.2.2.2.2.1 hI.2.2.2.2.2.2.2 hh (fun g' hp' gC gO gh gq => ?_)
      obtain ⟨I', c1, c2⟩ := om_Iread hI gC gO
      have ei : (40 : Int32) * nI m + xr (nI m).toNatClampNeg = nI (40 * m + om_cnt db n) := by rw [cm, er, om_w40]
      have vo : vp_in ((40 : Int32) * nI m + xr (nI m).toNatClampNeg) 120 := pk_in (40 * m + om_cnt db n) 120 (by omega) ei
      have eo : upd xo ((40 : Int32) * nI m + xr (nI m).toNatClampNeg).toNatClampNeg (nI (g 0)) = upd xo (40 * m + om_cnt db n) (nI (g 0)) := by rw [ei, nI_clamp (by omega)]
      have ec : upd xr (nI m).toNatClampNeg (xr (nI m).toNatClampNeg + 1) = upd xr m (nI (om_cnt db n + 1)) := by rw [cm, er, nI_1]
      have hd3 : ∀ i, i < 40 → hz (40 * m + i) = om_b (hb i) ∧ upd dz (40 * m + g 0) 1 (40 * m + i) = om_b (om_tb db (g 0) i) := by
        intro i hi
        obtain ⟨a, b⟩ := hd2 i hi
        refine ⟨a, ?_⟩
        by_cases c : i = g 0
        · rw [c, pk_us, om_ts]
          rfl
        · rw [pk_un (by omega), om_tn c]
          exact b
      refine ⟨vm, vo, nm_r eo ⟨vm, vm, nm_r ec (nm_r (nI_1 t) (nm_r (nI_1 t) ?_))⟩⟩
      refine ih (t + 1) g' (om_tb db (g 0)) (upd hs m (nI z)) hp' (upd dz (40 * m + g 0) 1) (upd xr m (nI (om_cnt db n + 1))) (upd xo (40 * m + om_cnt db n) (nI (g 0))) (by omega) I' pk_us gh hd3 (by rw [pk_us, c1]) ?_
      intro R z' g'' db' hs' hp'' dz' xr' xo' a1 a2 a3 a4 a5 a6 a7 a8 Y
      refine K R z' g'' db' hs' hp'' dz' xr' xo' a1 a2 a3 a4 a5 a6 (fun j hj => ?_) (fun j hj => ?_) (fun PY hPY => ?_)
      · rw [(a7 j hj).1, (a7 j hj).2, pk_un hj, pk_un hj]
        exact ⟨rfl, rfl⟩
      · rw [(a8 j hj).1, (a8 j hj).2, gq j hj, pk_un (by omega)]
        exact ⟨rfl, rfl⟩
      · rw [om_tps]
        refine br_f (nI_pos g31) ?_
        refine oy_ready hm (by omega) (hI.2.1 _ g0) hhy (fun _ => br_f om_n1 ⟨pk_in (40 * m + g 0) 120 (by omega) (om_w40 m (g 0)), ?_⟩) (fun h => absurd hr h)
        refine nm_r (e' := upd dz (40 * m + g 0) 1) (by rw [om_w40, nI_clamp (by omega), om_v1]) ⟨vm, vo, nm_r eo ⟨vm, vm, nm_r ec (nm_r (nI_1 t) ?_)⟩⟩
        exact oy_earl hm I' hd3 (Y PY hPY)
    · refine K (nI t) (z + 1) g db hs hp dz xr xo hI (fun _ => hr) ez hh hd2 er (fun _ _ => ⟨rfl, rfl⟩) (fun _ _ => ⟨rfl, rfl⟩) (fun PY hPY => ?_)
      rw [om_tps]
      refine br_f (nI_pos g31) ?_
      exact oy_ready hm (by omega) (hI.2.1 _ g0) hhy (fun h => absurd h hr) (fun _ => br_t rfl hPY)
/-- nothing can be read: the component's loop ends at once -/
theorem ox_rn {m t : Nat} {hd : Nat → Nat → Nat} {hs hp xr xo : Nat → Int32} {PX : Int32 → SX → Prop} {N : Nat} (hm : m < 3) (hhx : ∀ o, o < 3 → hx (3 * m + o) = nI (hd m o) ∧ hd m o < 5000) (ez : hs m = nI (N + 1)) (hN : N < 40) (eh : hp (40 * m) = nI t) (ht : t < 40) (bt : w t < 3 ∧ s t < 5000) (hr : ¬ om_rd w s hd m t)
    (K : PX 0 (fm, om_nf w, om_nf s, tc, tm, fi, ct, xc, hx, hs, hp, xr, xo)) :
    wpX_readOn PX (fm, om_nf w, om_nf s, tc, tm, fi, ct, xc, hx, hs, hp, xr, xo) (nI m) := by
  have vm : vp_in (nI m) 3 := pk_in m 3 hm
  have cm : (nI m).toNatClampNeg = m := nI_clamp (by omega)
  unfold wpX_readOn
  refine ⟨1, ?_⟩
  refine pk_le 40 0 (fun h => absurd h (by omega)) (fun _ => ⟨vm, ?_⟩)
  refine pk_le (N + 1) 0 (fun h => absurd h (by omega)) (fun _ => ⟨pk_in (40 * m) 120 (by omega) (om_m40 m), ?_⟩) (by rw [cm]; exact ez)
  refine nm_r (e' := nI t) (by rw [om_m40, nI_clamp (by omega)]; exact eh) ?_
  exact ox_safe hm ht bt hhx (fun h => absurd h hr) (fun _ => br_t rfl K)
end
end
section
/-! the relation -/
def om_Q (k n : Nat) (w s : Nat → Nat) (ha : Nat → Nat → Bool) (Q : Nat → List (Nat × Option Nat)) : Prop := ∀ a b, a < 3 → b < 3 → (a = b → Q (3 * a + b) = []) ∧ (Q (3 * a + b)).length ≤ 20 + n ∧ (∀ e, e ∈ Q (3 * a + b) → e.1 ≤ k ∧ ∀ i, e.2 = some i → i < n ∧ w i = a ∧ s i = e.1 ∧ ha b i = false) ∧ (Q (3 * a + b)).Pairwise (fun e e' => ∀ i, e.2 = some i → e'.2 ≠ some i)
def om_TX (tc tm fi ct hx hs hp : Nat → Int32) (Q : Nat → List (Nat × Option Nat)) (hd g : Nat → Nat → Nat) (z : Nat → Nat) : Prop := om_QX tc tm fi ct Q ∧ (∀ m o, m < 3 → o < 3 → hx (3 * m + o) = nI (hd m o)) ∧ (∀ m, m < 3 → hs m = nI (z m) ∧ ∀ i, i < z m → hp (40 * m + i) = nI (g m i))
def om_TY (hz dz hy ln wc wm : Nat → Int32) (Q : Nat → List (Nat × Option Nat)) (hd : Nat → Nat → Nat) (ha dn : Nat → Nat → Bool) : Prop := om_QY ln wc wm Q ∧ (∀ m o, m < 3 → o < 3 → hy (3 * o + m) = nI (hd m o)) ∧ (∀ m, m < 3 → ∀ i, i < 40 → hz (40 * m + i) = om_b (ha m i) ∧ dz (40 * m + i) = om_b (dn m i))
def om_J (k n : Nat) (w s c : Nat → Nat) (ha : Nat → Nat → Bool) (hd : Nat → Nat → Nat) (Q : Nat → List (Nat × Option Nat)) : Prop := (∀ m, m < 3 → c m ≤ k) ∧ (∀ i, i < n → ha (w i) i = true) ∧ (∀ m i, m < 3 → ha m i = true → s i ≤ c m) ∧ (∀ m o, m < 3 → o < 3 → hd m o ≤ c m) ∧ om_Q k n w s ha Q
def om_R (k n : Nat) (w s c : Nat → Nat) (tc tm fi ct hx hs hp xr hz dz hy ln wc wm : Nat → Int32) (Q : Nat → List (Nat × Option Nat)) (hd g : Nat → Nat → Nat) (ha dn : Nat → Nat → Bool) (z : Nat → Nat) : Prop :=
  om_TX tc tm fi ct hx hs hp Q hd g z ∧ om_TY hz dz hy ln wc wm Q hd ha dn ∧ (∀ m, m < 3 → xr m = nI (om_cnt (dn m) n)) ∧ (∀ m, m < 3 → om_I n w s (ha m) (dn m) (g m) (z m)) ∧ om_J k n w s c ha hd Q ∧ (∀ m, m < 3 → 0 < z m → ¬ om_rd w s hd m (g m 0))
/-- the relation at the head of a turn whose first cell is k -/
def i_Rel (k : Nat) (u : SX) (v : SY) : Prop := ∃ (n : Nat) (w s c : Nat → Nat) (tc tm fi ct hx hs hp xr xo hz dz hy ln wc wm : Nat → Int32) (Q : Nat → List (Nat × Option Nat)) (hd g : Nat → Nat → Nat) (ha dn : Nat → Nat → Bool) (z : Nat → Nat),
  u = (nI n, om_nf w, om_nf s, tc, tm, fi, ct, om_nf c, hx, hs, hp, xr, xo) ∧ v = (nI n, om_nf c, om_nf w, om_nf s, hz, dz, xr, xo, hy, ln, wc, wm) ∧ om_R k n w s c tc tm fi ct hx hs hp xr hz dz hy ln wc wm Q hd g ha dn z
theorem om_mk {k n : Nat} {w s c : Nat → Nat} {tc tm fi ct hx hs hp xr xo hz dz hy ln wc wm : Nat → Int32} {Q : Nat → List (Nat × Option Nat)} {hd g : Nat → Nat → Nat} {ha dn : Nat → Nat → Bool} {z : Nat → Nat} (h : om_R k n w s c tc tm fi ct hx hs hp xr hz dz hy ln wc wm Q hd g ha dn z) :
    i_Rel k (nI n, om_nf w, om_nf s, tc, tm, fi, ct, om_nf c, hx, hs, hp, xr, xo) (nI n, om_nf c, om_nf w, om_nf s, hz, dz, xr, xo, hy, ln, wc, wm) :=
  ⟨n, w, s, c, tc, tm, fi, ct, hx, hs, hp, xr, xo, hz, dz, hy, ln, wc, wm, Q, hd, g, ha, dn, z, rfl, rfl, h⟩
theorem om_el {k : Nat} {u : SX} {v : SY} {P : SX → SY → Prop} (I : i_Rel k u v)
    (h : ∀ (n : Nat) (w s c : Nat → Nat) (tc tm fi ct hx hs hp xr xo hz dz hy ln wc wm : Nat → Int32) (Q : Nat → List (Nat × Option Nat)) (hd g : Nat → Nat → Nat) (ha dn : Nat → Nat → Bool) (z : Nat → Nat), om_R k n w s c tc tm fi ct hx hs hp xr hz dz hy ln wc wm Q hd g ha dn z → P (nI n, om_nf w, om_nf s, tc, tm, fi, ct, om_nf c, hx, hs, hp, xr, xo) (nI n, om_nf c, om_nf w, om_nf s, hz, dz, xr, xo, hy, ln, wc, wm)) : P u v :=
  Exists.elim I fun n I => Exists.elim I fun w I => Exists.elim I fun s I => Exists.elim I fun c I => Exists.elim I fun tc I => Exists.elim I fun tm I => Exists.elim I fun fi I => Exists.elim I fun ct I => Exists.elim I fun hx I => Exists.elim I fun hs I => Exists.elim I fun hp I => Exists.elim I fun xr I => Exists.elim I fun xo I => Exists.elim I fun hz I => Exists.elim I fun dz I => Exists.elim I fun hy I => Exists.elim I fun ln I => Exists.elim I fun wc I => Exists.elim I fun wm I => Exists.elim I fun Q I => Exists.elim I fun hd I => Exists.elim I fun g I => Exists.elim I fun ha I => Exists.elim I fun dn I => Exists.elim I fun z I => by
    rw [I.1, I.2.1]
    exact h n w s c tc tm fi ct hx hs hp xr xo hz dz hy ln wc wm Q hd g ha dn z I.2.2
theorem om_Qm {k k' n : Nat} {w s : Nat → Nat} {ha : Nat → Nat → Bool} {Q : Nat → List (Nat × Option Nat)} (h : om_Q k n w s ha Q) (hk : k ≤ k') : om_Q k' n w s ha Q := by
  intro a b ha hb
  obtain ⟨h1, h2, h3, h4⟩ := h a b ha hb
  exact ⟨h1, h2, fun e he => ⟨Nat.le_trans (h3 e he).1 hk, (h3 e he).2⟩, h4⟩
theorem om_Ql {k n : Nat} {w s : Nat → Nat} {ha : Nat → Nat → Bool} {Q : Nat → List (Nat × Option Nat)} (h : om_Q k n w s ha Q) : ∀ y, y < 9 → (Q y).length ≤ 20 + n := by
  intro y hy
  have q := (h (y / 3) (y % 3) (by omega) (by omega)).2.1
  have e : 3 * (y / 3) + y % 3 = y := by omega
  rw [e] at q
  exact q
theorem om_Jm {k k' n : Nat} {w s c : Nat → Nat} {ha : Nat → Nat → Bool} {hd : Nat → Nat → Nat} {Q : Nat → List (Nat × Option Nat)} (h : om_J k n w s c ha hd Q) (hk : k ≤ k') : om_J k' n w s c ha hd Q := by
  obtain ⟨h1, h2, h3, h4, h5⟩ := h
  exact ⟨fun m hm => Nat.le_trans (h1 m hm) hk, h2, h3, h4, om_Qm h5 hk⟩
theorem i_up {k : Nat} {u : SX} {v : SY} (h : i_Rel k u v) : i_Rel (k + 3) u v := by
  refine om_el (P := fun u v => i_Rel (k + 3) u v) h ?_
  intro n w s c tc tm fi ct hx hs hp xr xo hz dz hy ln wc wm Q hd g ha dn z H
  obtain ⟨h1, h2, h3, h4, h5, h6⟩ := H
  exact om_mk ⟨h1, h2, h3, h4, om_Jm h5 (by omega), h6⟩
theorem om_R0 : om_R 0 0 (fun _ => 0) (fun _ => 0) (fun _ => 0) (fun _ => 0) (fun _ => 0) (fun _ => 0) (fun _ => 0) (fun _ => 0) (fun _ => 0) (fun _ => 0) (fun _ => 0) (fun _ => 0) (fun _ => 0) (fun _ => 0) (fun _ => 0) (fun _ => 0) (fun _ => 0) (fun _ => []) (fun _ _ => 0) (fun _ _ => 0) (fun _ _ => false) (fun _ _ => false) (fun _ => 0) := by
  refine ⟨⟨fun y hy => ⟨0, by omega, rfl, rfl, fun p e he => ?_⟩, fun m o _ _ => rfl, fun m _ => ⟨rfl, fun i hi => absurd hi (Nat.not_lt_zero i)⟩⟩, ⟨fun y hy => ⟨rfl, fun p e he => ?_⟩, fun m o _ _ => rfl, fun m _ i _ => ⟨rfl, rfl⟩⟩, fun m _ => rfl, fun m _ => ?_, ⟨fun m _ => Nat.le_refl _, fun i hi => absurd hi (Nat.not_lt_zero i), fun m i _ h => Bool.noConfusion h, fun m o _ _ => Nat.le_refl _, fun a b _ _ => ⟨fun _ => rfl, Nat.zero_le _, fun e he => absurd he List.not_mem_nil, List.Pairwise.nil⟩⟩, fun m _ h => absurd h (Nat.not_lt_zero 0)⟩
  · rw [List.getElem?_nil] at he
    exact nomatch he
  · rw [List.getElem?_nil] at he
    exact nomatch he
  · exact ⟨by omega, fun i hi => absurd hi (Nat.not_lt_zero i), fun i j hi => absurd hi (Nat.not_lt_zero i), fun i h => Bool.noConfusion h, fun i h => Bool.noConfusion h, rfl, ⟨fun i hi => absurd hi (Nat.not_lt_zero i), fun x h => Bool.noConfusion h, fun i j hi => absurd hi (Nat.not_lt_zero i)⟩, fun i _ hi => absurd hi (Nat.not_lt_zero i)⟩
theorem i_vc0 : wpX_init (fun u => wpY_init (fun v => i_Rel 0 u v)) := by
  unfold wpX_init wpY_init
  exact om_mk om_R0
/-! members -/
def om_nm (p : Int32) : Prop := p < 0 ∨ (¬ p < 0 ∧ 2 < p ∧ ¬ p ≤ 2)
theorem om_mem (p : Int32) : om_nm p ∨ ∃ a, a < 3 ∧ p = nI a := by
  by_cases h : p < 0
  · exact Or.inl (Or.inl h)
  · by_cases h2 : p ≤ 2
    · obtain ⟨j, hj, e⟩ := nI_of2 (n := 2) (M := 2) (by decide) h h2
      exact Or.inr ⟨j, by omega, e⟩
    · exact Or.inl (Or.inr ⟨h, Int32.not_le.mp h2, h2⟩)
theorem ox_m0 {post : Int32 → Prop} {p : Int32} (h : om_nm p) (k : post 0) : wpX_isMember post p := by
  unfold wpX_isMember
  rcases h with h | ⟨h, h2, -⟩
  · exact br_t h k
  · exact br_f h (br_t h2 k)
theorem ox_m1 {post : Int32 → Prop} {a : Nat} (h : a < 3) (k : post 1) : wpX_isMember post (nI a) := by
  unfold wpX_isMember
  exact br_f (nI_pos (by omega)) (pk_lt 2 a (fun z => absurd z (by omega)) (fun _ => k))
theorem oy_b1 {post : Int32 → Prop} {p : Int32} (h : om_nm p) (k : post 1) : wpY_bad post p := by
  unfold wpY_bad
  rcases h with h | ⟨h, -, h2⟩
  · exact br_t h k
  · exact br_f h (br_f h2 k)
theorem oy_b0 {post : Int32 → Prop} {a : Nat} (h : a < 3) (k : post 0) : wpY_bad post (nI a) := by
  unfold wpY_bad
  exact br_f (nI_pos (by omega)) (pk_le a 2 (fun _ => k) (fun z => absurd z (by omega)))
end
section
/-! the questions -/
theorem i_vc_waiting {k : Nat} {u : SX} {v : SY} (I : i_Rel k u v) (hk : k + 3 ≤ 1536) (v1 : Int32) (v2 : Int32) : wpX_waiting (fun r => wpY_waiting (fun r' => r' = r ∧ i_Rel (k + 3) u v) v v1 v2) u v1 v2 := by
  refine om_el (P := fun u v => wpX_waiting (fun r => wpY_waiting (fun r' => r' = r ∧ i_Rel (k + 3) u v) v v1 v2) u v1 v2) I ?_
  intro n w s c tc tm fi ct hx hs hp xr xo hz dz hy ln wc wm Q hd g ha dn z H
  have J := i_up (om_mk (xo := xo) H)
  unfold wpX_waiting wpY_waiting
  dsimp only
  rcases om_mem v1 with h1 | ⟨a, a3, rfl⟩
  · exact ox_m0 h1 (br_t rfl (oy_b1 h1 (br_f om_n1 ⟨rfl, J⟩)))
  · refine ox_m1 a3 (br_f om_n1 ?_)
    rcases om_mem v2 with h2 | ⟨b, b3, rfl⟩
    · exact ox_m0 h2 (br_t rfl (oy_b0 a3 (br_t rfl (oy_b1 h2 (br_f om_n1 ⟨rfl, J⟩)))))
    · refine ox_m1 b3 (br_f om_n1 ?_)
      refine pk_eq a b (fun e => ?_) (fun e => ?_)
      · refine oy_b0 a3 (br_t rfl (oy_b0 b3 (br_t rfl ?_)))
        exact pk_eq a b (fun _ => ⟨rfl, J⟩) (fun z => absurd e z)
      · have vy : vp_in ((3 : Int32) * nI a + nI b) 9 := pk_in (3 * a + b) 9 (by omega) (om_w3 a b)
        refine ⟨vy, oy_b0 a3 (br_t rfl (oy_b0 b3 (br_t rfl ?_)))⟩
        refine pk_eq a b (fun z => absurd z e) (fun _ => ⟨vy, ?_, J⟩)
        obtain ⟨f, -, -, e1, -⟩ := H.1.1 (3 * a + b) (by omega)
        rw [om_w3, nI_clamp (by omega), e1, (H.2.1.1 (3 * a + b) (by omega)).1]
theorem i_vc_clock {k : Nat} {u : SX} {v : SY} (I : i_Rel k u v) (hk : k + 3 ≤ 1536) (v1 : Int32) : wpX_clock (fun r => wpY_clock (fun r' => r' = r ∧ i_Rel (k + 3) u v) v v1) u v1 := by
  refine om_el (P := fun u v => wpX_clock (fun r => wpY_clock (fun r' => r' = r ∧ i_Rel (k + 3) u v) v v1) u v1) I ?_
  intro n w s c tc tm fi ct hx hs hp xr xo hz dz hy ln wc wm Q hd g ha dn z H
  have J := i_up (om_mk (xo := xo) H)
  unfold wpX_clock wpY_clock
  dsimp only
  rcases om_mem v1 with h1 | ⟨a, a3, rfl⟩
  · exact ox_m0 h1 (br_t rfl (oy_b1 h1 (br_f om_n1 ⟨rfl, J⟩)))
  · exact ox_m1 a3 (br_f om_n1 ⟨pk_in a 3 a3, oy_b0 a3 (br_t rfl ⟨pk_in a 3 a3, rfl, J⟩)⟩)
theorem i_vc_count {k : Nat} {u : SX} {v : SY} (I : i_Rel k u v) (hk : k + 3 ≤ 1536) (v1 : Int32) : wpX_count (fun r => wpY_count (fun r' => r' = r ∧ i_Rel (k + 3) u v) v v1) u v1 := by
  refine om_el (P := fun u v => wpX_count (fun r => wpY_count (fun r' => r' = r ∧ i_Rel (k + 3) u v) v v1) u v1) I ?_
  intro n w s c tc tm fi ct hx hs hp xr xo hz dz hy ln wc wm Q hd g ha dn z H
  have J := i_up (om_mk (xo := xo) H)
  unfold wpX_count wpY_count
  dsimp only
  rcases om_mem v1 with h1 | ⟨a, a3, rfl⟩
  · exact ox_m0 h1 (br_t rfl (oy_b1 h1 (br_f om_n1 ⟨rfl, J⟩)))
  · exact ox_m1 a3 (br_f om_n1 ⟨pk_in a 3 a3, oy_b0 a3 (br_t rfl ⟨pk_in a 3 a3, rfl, J⟩)⟩)
theorem i_vc_read {k : Nat} {u : SX} {v : SY} (I : i_Rel k u v) (hk : k + 3 ≤ 1536) (v1 : Int32) (v2 : Int32) : wpX_read (fun r => wpY_read (fun r' => r' = r ∧ i_Rel (k + 3) u v) v v1 v2) u v1 v2 := by
  refine om_el (P := fun u v => wpX_read (fun r => wpY_read (fun r' => r' = r ∧ i_Rel (k + 3) u v) v v1 v2) u v1 v2) I ?_
  intro n w s c tc tm fi ct hx hs hp xr xo hz dz hy ln wc wm Q hd g ha dn z H
  have J := i_up (om_mk (xo := xo) H)
  unfold wpX_read wpY_read
  dsimp only
  rcases om_mem v1 with h1 | ⟨a, a3, rfl⟩
  · exact ox_m0 h1 (br_t rfl (oy_b1 h1 (br_f om_n1 ⟨rfl, J⟩)))
  · refine ox_m1 a3 (br_f om_n1 ?_)
    have va : vp_in (nI a) 3 := pk_in a 3 a3
    by_cases h2 : v2 < 0
    · exact br_t h2 (oy_b0 a3 (br_t rfl (br_t h2 ⟨rfl, J⟩)))
    · refine br_f h2 ⟨va, ?_⟩
      by_cases h3 : v2 < xr (nI a).toNatClampNeg
      · obtain ⟨p, hp0, rfl⟩ := nI_of h2
        have h4 := h3
        rw [nI_clamp (by omega), H.2.2.1 a a3] at h4
        have c1 := om_cle (dn a) n
        have c2 := (H.2.2.2.1 a a3).1
        rw [nI_ltI hp0 (by omega)] at h4
        have vt : vp_in ((40 : Int32) * nI a + nI p) 120 := pk_in (40 * a + p) 120 (by omega) (om_w40 a p)
        exact br_t h3 ⟨vt, oy_b0 a3 (br_t rfl (br_f h2 ⟨va, br_t h3 ⟨vt, rfl, J⟩⟩))⟩
      · exact br_f h3 (oy_b0 a3 (br_t rfl (br_f h2 ⟨va, br_f h3 ⟨rfl, J⟩⟩)))
theorem i_vc_held {k : Nat} {u : SX} {v : SY} (I : i_Rel k u v) (hk : k + 3 ≤ 1536) (v1 : Int32) : wpX_held (fun r => wpY_held (fun r' => r' = r ∧ i_Rel (k + 3) u v) v v1) u v1 := by
  refine om_el (P := fun u v => wpX_held (fun r => wpY_held (fun r' => r' = r ∧ i_Rel (k + 3) u v) v v1) u v1) I ?_
  intro n w s c tc tm fi ct hx hs hp xr xo hz dz hy ln wc wm Q hd g ha dn z H
  have J := i_up (om_mk (xo := xo) H)
  unfold wpX_held wpY_held
  dsimp only
  rcases om_mem v1 with h1 | ⟨a, a3, rfl⟩
  · exact ox_m0 h1 (br_t rfl (oy_b1 h1 (br_f om_n1 ⟨rfl, J⟩)))
  · refine ox_m1 a3 (br_f om_n1 ⟨pk_in a 3 a3, oy_b0 a3 (br_t rfl ⟨n + 1, ?_⟩)⟩)
    have hI := H.2.2.2.1 a a3
    refine oy_hs (hb := ha a) (db := dn a) a3 hI.1 (H.2.1.2.2 a a3) ⟨?_, J⟩ n 0 (by omega)
    rw [nI_clamp (by omega), (H.1.2.2 a a3).1, ← hI.2.2.2.2.2.1]
section
variable {fm yf : Int32} {xw xs tc tm fi ct xc hx hs hp xr xo yc yw ys hz dz hy ln wc wm : Nat → Int32}
theorem ol_agree {a b ra rb : Nat} (a3 : a < 3) (b3 : b < 3) (ea : xr a = nI ra) (eb : xr b = nI rb) (la : ra ≤ 40) (lb : rb ≤ 40) :
    ∀ d i, i + d = ra → ∃ r : Int32, (∀ post : Int32 → Prop, post r → wX_agree_18 post (nI a) (nI b) fm xw xs tc tm fi ct xc hx hs hp xr xo (d + 1) (nI i)) ∧ (∀ post : Int32 → Prop, post r → wY_agree_18 post (nI a) (nI b) yf yc yw ys hz dz xr xo hy ln wc wm (d + 1) (nI i)) := by
  have va : vp_in (nI a) 3 := pk_in a 3 a3
  have vb : vp_in (nI b) 3 := pk_in b 3 b3
  have ea' : xr (nI a).toNatClampNeg = nI ra := by rw [nI_clamp (by omega), ea]
  have eb' : xr (nI b).toNatClampNeg = nI rb := by rw [nI_clamp (by omega), eb]
  intro d
  induction d with
  | zero =>
    intro i hi
    have q : xr (nI a).toNatClampNeg ≤ nI i := by
      rw [ea']
      exact nI_le (by omega) (by omega)
    exact ⟨1, fun _ h => ⟨va, br_t q h⟩, fun _ h => ⟨va, br_t q h⟩⟩
  | succ d ih =>
    intro i hi
    have q : ¬ xr (nI a).toNatClampNeg ≤ nI i := by
      rw [ea']
      exact nI_ge (by omega) (by omega)
    by_cases hb : rb ≤ i
    · have q2 : xr (nI b).toNatClampNeg ≤ nI i := by
        rw [eb']
        exact nI_le (by omega) (by omega)
      exact ⟨1, fun _ h => ⟨va, br_f q ⟨vb, br_t q2 h⟩⟩, fun _ h => ⟨va, br_f q ⟨vb, br_t q2 h⟩⟩⟩
    · have q2 : ¬ xr (nI b).toNatClampNeg ≤ nI i := by
        rw [eb']
        exact nI_ge (by omega) (by omega)
      have v1 : vp_in ((40 : Int32) * nI a + nI i) 120 := pk_in (40 * a + i) 120 (by omega) (om_w40 a i)
      have v2 : vp_in ((40 : Int32) * nI b + nI i) 120 := pk_in (40 * b + i) 120 (by omega) (om_w40 b i)
      by_cases e : xo ((40 : Int32) * nI a + nI i).toNatClampNeg = xo ((40 : Int32) * nI b + nI i).toNatClampNeg
      · obtain ⟨r, hX, hY⟩ := ih (i + 1) (by omega)
        exact ⟨r, fun post h => ⟨va, br_f q ⟨vb, br_f q2 ⟨v1, v2, br_t e (nm_r (nI_1 i) (hX post h))⟩⟩⟩, fun post h => ⟨va, br_f q ⟨vb, br_f q2 ⟨v1, v2, br_t e (nm_r (nI_1 i) (hY post h))⟩⟩⟩⟩
      · exact ⟨0, fun post h => ⟨va, br_f q ⟨vb, br_f q2 ⟨v1, v2, br_f e h⟩⟩⟩, fun post h => ⟨va, br_f q ⟨vb, br_f q2 ⟨v1, v2, br_f e h⟩⟩⟩⟩
end
theorem i_vc_agree {k : Nat} {u : SX} {v : SY} (I : i_Rel k u v) (hk : k + 3 ≤ 1536) (v1 : Int32) (v2 : Int32) : wpX_agree (fun r => wpY_agree (fun r' => r' = r ∧ i_Rel (k + 3) u v) v v1 v2) u v1 v2 := by
  refine om_el (P := fun u v => wpX_agree (fun r => wpY_agree (fun r' => r' = r ∧ i_Rel (k + 3) u v) v v1 v2) u v1 v2) I ?_
  intro n w s c tc tm fi ct hx hs hp xr xo hz dz hy ln wc wm Q hd g ha dn z H
  have J := i_up (om_mk (xo := xo) H)
  unfold wpX_agree wpY_agree
  dsimp only
  rcases om_mem v1 with h1 | ⟨a, a3, rfl⟩
  · exact ox_m0 h1 (br_t rfl (oy_b1 h1 (br_f om_n1 ⟨rfl, J⟩)))
  · refine ox_m1 a3 (br_f om_n1 ?_)
    rcases om_mem v2 with h2 | ⟨b, b3, rfl⟩
    · exact ox_m0 h2 (br_t rfl (oy_b0 a3 (br_t rfl (oy_b1 h2 (br_f om_n1 ⟨rfl, J⟩)))))
    · refine ox_m1 b3 (br_f om_n1 ?_)
      have c1 := om_cle (dn a) n
      have c2 := om_cle (dn b) n
      have c3 := (H.2.2.2.1 a a3).1
      obtain ⟨r, hX, hY⟩ := ol_agree (fm := nI n) (yf := nI n) (xw := om_nf w) (xs := om_nf s) (tc := tc) (tm := tm) (fi := fi) (ct := ct) (xc := om_nf c) (hx := hx) (hs := hs) (hp := hp) (xr := xr) (xo := xo) (yc := om_nf c) (yw := om_nf w) (ys := om_nf s) (hz := hz) (dz := dz) (hy := hy) (ln := ln) (wc := wc) (wm := wm) a3 b3 (H.2.2.1 a a3) (H.2.2.1 b b3) (by omega) (by omega) (om_cnt (dn a) n) 0 (by omega)
      exact ⟨_, hX _ (oy_b0 a3 (br_t rfl (oy_b0 b3 (br_t rfl ⟨_, hY _ ⟨rfl, J⟩⟩))))⟩
end
section
/-! how the plain facts last: a new message, a message that arrives, a thing that is set out or taken -/
def om_v {α : Type} (f : Nat → α) (k : Nat) (x : α) : Nat → α := fun j => if j = k then x else f j
theorem om_vs {α : Type} {f : Nat → α} {k : Nat} {x : α} : om_v f k x k = x := if_pos rfl
theorem om_vn {α : Type} {f : Nat → α} {k j : Nat} {x : α} (h : j ≠ k) : om_v f k x j = f j := if_neg h
theorem om_kx {w s : Nat → Nat} {n a st i : Nat} (h : i ≠ n) : om_ky (om_u w n a) (om_u s n st) i = om_ky w s i := by
  unfold om_ky
  rw [om_un h, om_un h]
theorem om_kn {w s : Nat → Nat} {n a st : Nat} : om_ky (om_u w n a) (om_u s n st) n = 3 * st + a := by
  unfold om_ky
  rw [om_us, om_us]
theorem om_hbn {n : Nat} {hb : Nat → Bool} (h : ∀ i, hb i = true → i < n) : hb n = false := by
  cases e : hb n with
  | false => rfl
  | true => exact absurd (h n e) (by omega)
theorem om_Iext {n z st a : Nat} {w s g : Nat → Nat} {hb db : Nat → Bool} (h : om_I n w s hb db g z) (hn : n < 40) (a3 : a < 3) (hst : st < 5000) (hk : ∀ i, i < n → om_ky w s i ≠ 3 * st + a) : om_I (n + 1) (om_u w n a) (om_u s n st) hb db g z := by
  obtain ⟨h1, h2, h3, h4, h5, h6, h7, h8⟩ := h
  refine ⟨by omega, fun i hi => ?_, fun i j hi hj e => ?_, fun i hi => Nat.lt_succ_of_lt (h4 i hi), h5, ?_, h7, fun i i0 hi => ?_⟩
  · by_cases c : i = n
    · rw [c, om_us, om_us]
      exact ⟨a3, hst⟩
    · rw [om_un c, om_un c]
      exact h2 i (by omega)
  · by_cases c : i = n
    · by_cases d : j = n
      · rw [c, d]
      · rw [c, om_kn, om_kx d] at e
        exact absurd e.symm (hk j (by omega))
    · by_cases d : j = n
      · rw [d, om_kn, om_kx c] at e
        exact absurd e (hk i (by omega))
      · rw [om_kx c, om_kx d] at e
        exact h3 i j (by omega) (by omega) e
  · rw [om_cx (om_opn (om_hbn h4))]
    exact h6
  · have q1 := h4 _ (om_ope (h7.1 i hi)).1
    have q2 := h4 _ (om_ope (h7.1 ((i - 1) / 2) (by omega))).1
    rw [om_kx (by omega), om_kx (by omega)]
    exact h8 i i0 hi
theorem om_Iroom {n z x : Nat} {w s g : Nat → Nat} {hb db : Nat → Bool} (h : om_I n w s hb db g z) (hx : x < n) (h0 : hb x = false) : om_cnt (om_op (om_tb hb x) db) n = z + 1 ∧ z < n := by
  obtain ⟨h1, h2, h3, h4, h5, h6, h7, h8⟩ := h
  have dx : db x = false := by
    cases e : db x with
    | false => rfl
    | true => exact absurd (h5 x e) (by rw [h0]; decide)
  have q : om_cnt (om_op (om_tb hb x) db) n = om_cnt (om_op hb db) n + 1 := by
    refine om_cu (om_opn h0) (om_op1 om_ts dx) (fun i hi => ?_) n hx
    unfold om_op
    rw [om_tn hi]
  have r := om_cle (om_op (om_tb hb x) db) n
  omega
theorem om_Iadd {n z x : Nat} {w s g g' : Nat → Nat} {hb db : Nat → Bool} (h : om_I n w s hb db g z) (hx : x < n) (h0 : hb x = false) (hC : om_C g' (z + 1) (fun y => om_op hb db y = true ∨ y = x)) (hO : om_O (om_ky w s) g' (z + 1)) : om_I n w s (om_tb hb x) db g' (z + 1) := by
  have q := (om_Iroom h hx h0).1
  obtain ⟨h1, h2, h3, h4, h5, h6, h7, h8⟩ := h
  have dx : db x = false := by
    cases e : db x with
    | false => rfl
    | true => exact absurd (h5 x e) (by rw [h0]; decide)
  refine ⟨h1, h2, h3, fun i hi => ?_, fun i hi => ?_, q.symm, om_Cs hC (fun y => ⟨fun hy => ?_, fun hy => ?_⟩), hO⟩
  · by_cases c : i = x
    · omega
    · rw [om_tn c] at hi
      exact h4 i hi
  · by_cases c : i = x
    · rw [c]
      exact om_ts
    · rw [om_tn c]
      exact h5 i hi
  · rcases hy with hy | hy
    · obtain ⟨a, b⟩ := om_ope hy
      refine om_op1 ?_ b
      by_cases c : y = x
      · rw [c]
        exact om_ts
      · rw [om_tn c]
        exact a
    · rw [hy]
      exact om_op1 om_ts dx
  · by_cases c : y = x
    · exact Or.inr c
    · obtain ⟨a, b⟩ := om_ope hy
      rw [om_tn c] at a
      exact Or.inl (om_op1 a b)
theorem om_rdx {w s : Nat → Nat} {hd : Nat → Nat → Nat} {n a st m i : Nat} (hi : i ≠ n) (h : om_rd (om_u w n a) (om_u s n st) hd m i) : om_rd w s hd m i := by
  intro o h1 h2 h3
  have q := h o h1 h2 (by rw [om_un hi]; exact h3)
  rw [om_kx hi] at q
  exact q
/-- a new message of its own can't be read by its writer -/
theorem om_wN {n z a ca : Nat} {w s g g' : Nat → Nat} {hb db : Nat → Bool} {hd : Nat → Nat → Nat} (h : om_I n w s hb db g z) (hN : 0 < z → ¬ om_rd w s hd a (g 0)) (a3 : a < 3) (hh : ∀ o, o < 3 → hd a o ≤ ca)
    (hC : om_C g' (z + 1) (fun y => om_op hb db y = true ∨ y = n)) (hO : om_O (om_ky (om_u w n a) (om_u s n (ca + 1))) g' (z + 1)) : ¬ om_rd (om_u w n a) (om_u s n (ca + 1)) hd a (g' 0) := by
  intro hr
  obtain ⟨h1, h2, h3, h4, h5, h6, h7, h8⟩ := h
  rcases hC.1 0 (by omega) with q | q
  · have t1 := h4 _ (om_ope q).1
    obtain ⟨i, hi, ei⟩ := h7.2.1 _ q
    have q0 := h7.1 0 (by omega)
    have t2 := h4 _ (om_ope q0).1
    obtain ⟨j, hj, ej⟩ := hC.2.1 (g 0) (Or.inl q0)
    have k1 := om_top h8 i i (Nat.le_refl _) hi
    have k2 := om_top hO j j (Nat.le_refl _) hj
    rw [ei] at k1
    rw [ej, om_kx (by omega), om_kx (by omega)] at k2
    have e : g' 0 = g 0 := h3 _ _ t1 t2 (by omega)
    rw [e] at hr
    exact hN (by omega) (om_rdx (by omega) hr)
  · rw [q] at hr
    by_cases c : a = 0
    · have x := hr 1 (by omega) (by omega) (by rw [om_us]; omega)
      rw [om_kn] at x
      have y := hh 1 (by omega)
      omega
    · have x := hr 0 (by omega) (by omega) (by rw [om_us]; omega)
      rw [om_kn] at x
      have y := hh 0 (by omega)
      omega
theorem om_Qso {k k' n n' a : Nat} {w w' s s' : Nat → Nat} {ha ha' : Nat → Nat → Bool} {Q : Nat → List (Nat × Option Nat)} {e : Nat × Option Nat} (h : om_Q k n w s ha Q) (a3 : a < 3) (hk : k ≤ k') (hn : n ≤ n') (hag : ∀ i, i < n → w' i = w i ∧ s' i = s i ∧ ∀ b, b < 3 → ha' b i = ha b i) (he : e.1 ≤ k')
    (hi : ∀ i, e.2 = some i → n ≤ i ∧ i < n' ∧ w' i = a ∧ s' i = e.1 ∧ ∀ b, b < 3 → b ≠ a → ha' b i = false) (hl : ∀ o, o < 3 → o ≠ a → (Q (3 * a + o)).length + 1 ≤ 20 + n') : om_Q k' n' w' s' ha' (om_so a e Q) := by
  intro x b x3 b3
  obtain ⟨h1, h2, h3, h4⟩ := h x b x3 b3
  have old : ∀ e0, e0 ∈ Q (3 * x + b) → e0.1 ≤ k' ∧ ∀ i, e0.2 = some i → i < n' ∧ w' i = x ∧ s' i = e0.1 ∧ ha' b i = false := by
    intro e0 m0
    obtain ⟨p1, p2⟩ := h3 e0 m0
    refine ⟨by omega, fun i ei => ?_⟩
    obtain ⟨r1, r2, r3, r4⟩ := p2 i ei
    obtain ⟨s1, s2, s3⟩ := hag i r1
    exact ⟨by omega, s1.trans r2, s2.trans r3, (s3 b b3).trans r4⟩
  by_cases c : x = a ∧ b ≠ a
  · rw [(om_sov a3 x3 b3).1 c]
    obtain ⟨c1, c2⟩ := c
    refine ⟨fun z => absurd (z.symm.trans c1) c2, ?_, fun e0 m0 => ?_, ?_⟩
    · rw [List.length_append, List.length_singleton, c1]
      exact hl b b3 c2
    · rcases List.mem_append.mp m0 with m0 | m0
      · exact old e0 m0
      · rw [List.mem_singleton.mp m0]
        refine ⟨he, fun i ei => ?_⟩
        obtain ⟨-, r1, r2, r3, r4⟩ := hi i ei
        exact ⟨r1, r2.trans c1.symm, r3, r4 b b3 c2⟩
    · refine List.pairwise_append.mpr ⟨h4, List.pairwise_singleton _ _, fun e0 m0 e1 m1 i ei => ?_⟩
      rw [List.mem_singleton.mp m1]
      intro ej
      have q1 := ((h3 e0 m0).2 i ei).1
      have q2 := (hi i ej).1
      omega
  · rw [(om_sov a3 x3 b3).2 c]
    exact ⟨h1, by omega, old, h4⟩
theorem om_Qd {k k' n a b : Nat} {w s : Nat → Nat} {ha ha' : Nat → Nat → Bool} {Q : Nat → List (Nat × Option Nat)} {e : Nat × Option Nat} {l : List (Nat × Option Nat)} (h : om_Q k n w s ha Q) (a3 : a < 3) (b3 : b < 3) (hk : k ≤ k') (hq : Q (3 * a + b) = e :: l) (hha : ∀ m i, m < 3 → ha' m i = ha m i ∨ (m = b ∧ e.2 = some i)) : om_Q k' n w s ha' (om_v Q (3 * a + b) l) := by
  intro x y x3 y3
  obtain ⟨h1, h2, h3, h4⟩ := h x y x3 y3
  obtain ⟨g1, g2, g3, g4⟩ := h a b a3 b3
  by_cases c : 3 * x + y = 3 * a + b
  · have cx : x = a := by omega
    have cy : y = b := by omega
    subst cx cy
    rw [om_vs]
    rw [hq] at h1 h2 h3 h4
    rw [List.length_cons] at h2
    refine ⟨fun z => absurd (h1 z) (by simp), by omega, fun e0 m0 => ?_, (List.pairwise_cons.mp h4).2⟩
    obtain ⟨p1, p2⟩ := h3 e0 (List.mem_cons_of_mem _ m0)
    refine ⟨by omega, fun i ei => ?_⟩
    obtain ⟨r1, r2, r3, r4⟩ := p2 i ei
    refine ⟨r1, r2, r3, ?_⟩
    rcases hha y i y3 with q | ⟨-, q⟩
    · exact q.trans r4
    · exact absurd ei ((List.pairwise_cons.mp h4).1 e0 m0 i q)
  · rw [om_vn c]
    refine ⟨h1, h2, fun e0 m0 => ?_, h4⟩
    obtain ⟨p1, p2⟩ := h3 e0 m0
    refine ⟨by omega, fun i ei => ?_⟩
    obtain ⟨r1, r2, r3, r4⟩ := p2 i ei
    refine ⟨r1, r2, r3, ?_⟩
    rcases hha y i y3 with q | ⟨q1, q⟩
    · exact q.trans r4
    · have q2 := ((g3 e (by rw [hq]; exact List.mem_cons_self)).2 i q).2.1
      omega
end
section
/-! tick -/
section
variable {fm : Int32} {xw xs tc tm fi ct hx hs hp xr xo : Nat → Int32} {c : Nat → Nat}
theorem om_up1 {a : Nat} (ha : a < 3) : upd (om_nf c) (nI a).toNatClampNeg (om_nf c (nI a).toNatClampNeg + 1) = om_nf (om_u c a (c a + 1)) := by
  rw [om_at (by omega), nI_clamp (by omega), nI_1, om_nu]
theorem om_up2 {a x : Nat} (ha : a < 3) : om_nf (om_u c a x) (nI a).toNatClampNeg = nI x := by
  rw [om_at (by omega), om_us]
theorem om_up3 {a x : Nat} : om_nf (om_u c a x) a = nI x := by
  unfold om_nf
  rw [om_us]
theorem ox_ti {post : Int32 → SX → Prop} {a : Nat} {Q : Nat → List (Nat × Option Nat)} (ha : a < 3) (h : om_QX tc tm fi ct Q) (hl : ∀ y, y < 9 → (Q y).length ≤ 60) (k1 : (∃ o, o < 3 ∧ 20 ≤ (Q (3 * a + o)).length) → post (-1) (fm, xw, xs, tc, tm, fi, ct, om_nf c, hx, hs, hp, xr, xo))
    (k0 : ∀ tc' tm' ct' : Nat → Int32, (∀ o, o < 3 → (Q (3 * a + o)).length < 20) → om_QX tc' tm' fi ct' (om_so a (c a + 1, none) Q) → post (nI (c a + 1)) (fm, xw, xs, tc', tm', fi, ct', om_nf (om_u c a (c a + 1)), hx, hs, hp, xr, xo)) :
    ∀ d o, o + d = 3 → (∀ q, q < o → (Q (3 * a + q)).length < 20) → wX_tick_11 post (nI a) fm xw xs tc tm fi ct (om_nf c) hx hs hp xr xo (d + 1) (nI o) := by
  have va : vp_in (nI a) 3 := pk_in a 3 ha
  intro d
  induction d with
  | zero =>
    intro o ho H
    refine pk_le 3 o (fun _ => ⟨va, va, nm_r (om_up1 ha) ?_⟩) (fun h => absurd h (by omega))
    refine ox_so (e := (c a + 1, none)) ha h (fun o ho => ?_) om_up3 (fun tc' tm' ct' hq => ⟨va, ?_⟩)
    · have q := hl (3 * a + o) (by omega)
      omega
    · have q := k0 tc' tm' ct' (fun q hq => H q (by omega)) hq
      rw [← om_up2 (c := c) (x := c a + 1) ha] at q
      exact q
  | succ d ih =>
    intro o ho H
    obtain ⟨f, -, -, ec, -⟩ := h (3 * a + o) (by omega)
    have q := hl (3 * a + o) (by omega)
    refine pk_le 3 o (fun h => absurd h (by omega)) (fun h3 => ⟨pk_in (3 * a + o) 9 (by omega) (om_w3 a o), ?_⟩)
    refine pk_lt (Q (3 * a + o)).length 20 (fun hq => nm_r (nI_1 o) (ih (o + 1) (by omega) (fun r hr => ?_))) (fun hq => k1 ⟨o, by omega, hq⟩) (by rw [om_w3, nI_clamp (by omega)]; exact ec)
    by_cases e : r = o
    · rw [e]
      exact hq
    · exact H r (by omega)
end
theorem om_Rtick {k n a : Nat} {w s c : Nat → Nat} {tc tm fi ct hx hs hp xr hz dz hy ln wc wm tc' tm' ct' ln' wc' wm' : Nat → Int32} {Q : Nat → List (Nat × Option Nat)} {hd g : Nat → Nat → Nat} {ha dn : Nat → Nat → Bool} {z : Nat → Nat} (a3 : a < 3)
    (H : om_R k n w s c tc tm fi ct hx hs hp xr hz dz hy ln wc wm Q hd g ha dn z) (hl : ∀ o, o < 3 → (Q (3 * a + o)).length < 20) (hX : om_QX tc' tm' fi ct' (om_so a (c a + 1, none) Q)) (hY : om_QY ln' wc' wm' (om_so a (c a + 1, none) Q)) :
    om_R (k + 3) n w s (om_u c a (c a + 1)) tc' tm' fi ct' hx hs hp xr hz dz hy ln' wc' wm' (om_so a (c a + 1, none) Q) hd g ha dn z := by
  obtain ⟨⟨x1, x2, x3⟩, ⟨y1, y2, y3⟩, h3, h4, ⟨j1, j2, j3, j4, j5⟩, h6⟩ := H
  have cg : ∀ m, c m ≤ om_u c a (c a + 1) m := by
    intro m
    by_cases e : m = a
    · rw [e, om_us]
      omega
    · rw [om_un e]
      exact Nat.le_refl _
  refine ⟨⟨hX, x2, x3⟩, ⟨hY, y2, y3⟩, h3, h4, ⟨fun m hm => ?_, j2, fun m i hm hi => Nat.le_trans (j3 m i hm hi) (cg m), fun m o hm ho => Nat.le_trans (j4 m o hm ho) (cg m), ?_⟩, h6⟩
  · have q := j1 m hm
    have q2 := j1 a a3
    by_cases e : m = a
    · rw [e, om_us]
      omega
    · rw [om_un e]
      omega
  · have q2 := j1 a a3
    refine om_Qso j5 a3 (by omega) (Nat.le_refl _) (fun i _ => ⟨rfl, rfl, fun _ _ => rfl⟩) ?_ (fun i hi => nomatch hi) (fun o ho _ => ?_)
    · show c a + 1 ≤ k + 3
      omega
    · have q := hl o ho
      omega
theorem i_vc_tick {k : Nat} {u : SX} {v : SY} (I : i_Rel k u v) (hk : k + 3 ≤ 1536) (v1 : Int32) : wpX_tick (fun r u' => wpY_tick (fun r' v' => r' = r ∧ i_Rel (k + 3) u' v') v v1) u v1 := by
  refine om_el (P := fun u v => wpX_tick (fun r u' => wpY_tick (fun r' v' => r' = r ∧ i_Rel (k + 3) u' v') v v1) u v1) I ?_
  intro n w s c tc tm fi ct hx hs hp xr xo hz dz hy ln wc wm Q hd g ha dn z H
  have J := i_up (om_mk (xo := xo) H)
  unfold wpX_tick wpY_tick
  dsimp only
  rcases om_mem v1 with h1 | ⟨a, a3, rfl⟩
  · exact ox_m0 h1 (br_t rfl (oy_b1 h1 (br_f om_n1 ⟨rfl, J⟩)))
  · have n40 := (H.2.2.2.1 a a3).1
    have hq := H.2.2.2.2.1.2.2.2.2
    have hl : ∀ y, y < 9 → (Q y).length ≤ 60 := by
      intro y hy
      have q := om_Ql hq y hy
      omega
    have own : Q (3 * a + a) = [] := (hq a a a3 a3).1 rfl
    refine ox_m1 a3 (br_f om_n1 ⟨4, ?_⟩)
    refine ox_ti (Q := Q) a3 H.1.1 hl (fun hf => ?_) (fun tc' tm' ct' hf hX => ?_) 3 0 rfl (fun q hq => absurd hq (by omega))
    · refine oy_b0 a3 (br_t rfl ?_)
      refine oy_full (Q := Q) a3 H.2.1.1 hl (fun _ => br_f om_n1 ⟨rfl, J⟩) (fun hg => ?_)
      obtain ⟨o, o3, q⟩ := hf
      by_cases e : o = a
      · rw [e, own] at q
        exact absurd q (by decide)
      · have r := hg o o3 e
        omega
    · refine oy_b0 a3 (br_t rfl ?_)
      refine oy_full (Q := Q) a3 H.2.1.1 hl (fun hg => ?_) (fun _ => br_t rfl ⟨pk_in a 3 a3, pk_in a 3 a3, nm_r (om_up1 a3) ?_⟩)
      · obtain ⟨o, o3, q⟩ := hg
        have r := hf o o3
        omega
      · refine oy_so (e := (c a + 1, none)) a3 H.2.1.1 hl (fun o ho => ?_) om_up3 (fun ln' wc' wm' hY => ⟨pk_in a 3 a3, om_up2 a3, ?_⟩)
        · have r := hf o ho
          omega
        · exact om_mk (om_Rtick a3 H hf hX hY)
end
section
/-! write -/
theorem om_Rwrite {k n a : Nat} {w s c gg : Nat → Nat} {tc tm fi ct hx hs hp xr hz dz hy ln wc wm tc' tm' ct' ln' wc' wm' hp' : Nat → Int32} {Q : Nat → List (Nat × Option Nat)} {hd g : Nat → Nat → Nat} {ha dn : Nat → Nat → Bool} {z : Nat → Nat} (a3 : a < 3) (hk : k + 3 ≤ 1536) (n4 : n < 40)
    (H : om_R k n w s c tc tm fi ct hx hs hp xr hz dz hy ln wc wm Q hd g ha dn z) (hX : om_QX tc' tm' fi ct' (om_so a (c a + 1, some n) Q)) (hY : om_QY ln' wc' wm' (om_so a (c a + 1, some n) Q))
    (hE : ∀ m, m < 3 → om_I (n + 1) (om_u w n a) (om_u s n (c a + 1)) (ha m) (dn m) (g m) (z m))
    (gC : om_C gg (z a + 1) (fun x => om_op (ha a) (dn a) x = true ∨ x = n)) (gO : om_O (om_ky (om_u w n a) (om_u s n (c a + 1))) gg (z a + 1)) (gh : ∀ i, i < z a + 1 → hp' (40 * a + i) = nI (gg i)) (gq : ∀ j, (j < 40 * a ∨ 40 * a + 40 ≤ j) → hp' j = hp j) :
    om_R (k + 3) (n + 1) (om_u w n a) (om_u s n (c a + 1)) (om_u c a (c a + 1)) tc' tm' fi ct' hx (upd hs a (nI (z a + 1))) hp' xr (upd hz (40 * a + n) 1) dz hy ln' wc' wm' (om_so a (c a + 1, some n) Q) hd (om_v g a gg) (om_v ha a (om_tb (ha a) n)) dn (om_u z a (z a + 1)) := by
  obtain ⟨⟨x1, x2, x3⟩, ⟨y1, y2, y3⟩, h3, h4, ⟨j1, j2, j3, j4, j5⟩, h6⟩ := H
  have zl : ∀ m, m < 3 → z m ≤ 40 := by
    intro m hm
    have q := (h4 m hm).2.2.2.2.2.1
    have r := om_cle (om_op (ha m) (dn m)) n
    omega
  have hlt : ∀ m i, m < 3 → ha m i = true → i < n := fun m i hm => (h4 m hm).2.2.2.1 i
  have cg : ∀ m, c m ≤ om_u c a (c a + 1) m := by
    intro m
    by_cases e : m = a
    · rw [e, om_us]
      omega
    · rw [om_un e]
      exact Nat.le_refl _
  have han : ∀ m, m < 3 → ha m n = false := fun m hm => om_hbn (hlt m · hm)
  have hai : ∀ m i, i ≠ n → om_v ha a (om_tb (ha a) n) m i = ha m i := by
    intro m i hi
    by_cases e : m = a
    · rw [e, om_vs, om_tn hi]
    · rw [om_vn e]
  have q2 := j1 a a3
  refine ⟨⟨hX, x2, fun m hm => ?_⟩, ⟨hY, y2, fun m hm i hi => ?_⟩, fun m hm => ?_, fun m hm => ?_, ⟨fun m hm => ?_, fun i hi => ?_, fun m i hm hi => ?_, fun m o hm ho => Nat.le_trans (j4 m o hm ho) (cg m), ?_⟩, fun m hm hz => ?_⟩
  · by_cases e : m = a
    · subst e
      rw [pk_us, om_us, om_vs]
      exact ⟨rfl, gh⟩
    · rw [pk_un e, om_un e, om_vn e]
      refine ⟨(x3 m hm).1, fun i hi => ?_⟩
      have r := zl m hm
      rw [gq _ (by omega)]
      exact (x3 m hm).2 i hi
  · by_cases e : m = a
    · subst e
      rw [om_vs]
      by_cases f : i = n
      · rw [f, pk_us, om_ts]
        exact ⟨rfl, (y3 m hm n n4).2⟩
      · rw [pk_un (by omega), om_tn f]
        exact y3 m hm i hi
    · rw [om_vn e, pk_un (by omega)]
      exact y3 m hm i hi
  · have dnn : dn m n = false := by
      cases e : dn m n with
      | false => rfl
      | true => exact absurd ((h4 m hm).2.2.2.2.1 n e) (by rw [han m hm]; decide)
    rw [om_cx dnn]
    exact h3 m hm
  · by_cases e : m = a
    · subst e
      rw [om_vs, om_vs, om_us]
      exact om_Iadd (hE m hm) (by omega) (han m hm) gC gO
    · rw [om_vn e, om_vn e, om_un e]
      exact hE m hm
  · have q := j1 m hm
    by_cases e : m = a
    · rw [e, om_us]
      omega
    · rw [om_un e]
      omega
  · by_cases e : i = n
    · rw [e, om_us, om_vs]
      exact om_ts
    · rw [om_un e, hai _ _ e]
      exact j2 i (by omega)
  · by_cases e : i = n
    · rw [e, om_us]
      by_cases f : m = a
      · rw [f, om_us]
        exact Nat.le_refl _
      · rw [e, om_vn f, han m hm] at hi
        exact nomatch hi
    · rw [hai _ _ e] at hi
      rw [om_un e]
      exact Nat.le_trans (j3 m i hm hi) (cg m)
  · refine om_Qso j5 a3 (by omega) (by omega) (fun i hi => ⟨om_un (by omega), om_un (by omega), fun b _ => hai b i (by omega)⟩) ?_ (fun i hi => ?_) (fun o ho _ => ?_)
    · show c a + 1 ≤ k + 3
      omega
    · have e : n = i := Option.some.inj hi
      subst e
      refine ⟨Nat.le_refl _, by omega, om_us, om_us, fun b hb hn => ?_⟩
      rw [om_vn hn]
      exact han b hb
    · have q := om_Ql j5 (3 * a + o) (by omega)
      omega
  · by_cases e : m = a
    · subst e
      rw [om_vs]
      exact om_wN (h4 m hm) (h6 m hm) a3 (fun o ho => j4 m o hm ho) gC gO
    · rw [om_un e] at hz
      rw [om_vn e]
      have r := hlt m _ hm (om_ope ((h4 m hm).2.2.2.2.2.2.1.1 0 hz)).1
      exact fun x => h6 m hm hz (om_rdx (by omega) x)
theorem i_vc_write {k : Nat} {u : SX} {v : SY} (I : i_Rel k u v) (hk : k + 3 ≤ 1536) (v1 : Int32) : wpX_write (fun r u' => wpY_write (fun r' v' => r' = r ∧ i_Rel (k + 3) u' v') v v1) u v1 := by
  refine om_el (P := fun u v => wpX_write (fun r u' => wpY_write (fun r' v' => r' = r ∧ i_Rel (k + 3) u' v') v v1) u v1) I ?_
  intro n w s c tc tm fi ct hx hs hp xr xo hz dz hy ln wc wm Q hd g ha dn z H
  have J := i_up (om_mk (xo := xo) H)
  unfold wpX_write wpY_write
  dsimp only
  rcases om_mem v1 with h1 | ⟨a, a3, rfl⟩
  · exact ox_m0 h1 (br_t rfl (oy_b1 h1 (br_f om_n1 ⟨rfl, J⟩)))
  · have va : vp_in (nI a) 3 := pk_in a 3 a3
    have n40 := (H.2.2.2.1 a a3).1
    have hq := H.2.2.2.2.1.2.2.2.2
    refine ox_m1 a3 (br_f om_n1 ?_)
    refine pk_lt n 40 (fun n4 => ?_) (fun n4 => ?_)
    · have vn : vp_in (nI n) 40 := pk_in n 40 n4
      have cn : (nI n).toNatClampNeg = n := nI_clamp (by omega)
      have hl : ∀ y, y < 9 → (Q y).length < 60 := by
        intro y hy
        have q := om_Ql hq y hy
        omega
      have e1 : upd (om_nf w) (nI n).toNatClampNeg (nI a) = om_nf (om_u w n a) := by rw [cn, om_nu]
      have e2 : upd (om_nf s) (nI n).toNatClampNeg (om_nf (om_u c a (c a + 1)) (nI a).toNatClampNeg) = om_nf (om_u s n (c a + 1)) := by rw [cn, om_up2 a3, om_nu]
      have kn : ∀ i, i < n → om_ky w s i ≠ 3 * (c a + 1) + a := by
        intro i hi e
        have b1 := ((H.2.2.2.1 a a3).2.1 i hi).1
        unfold om_ky at e
        have e3 : w i = a := by omega
        have b2 := H.2.2.2.2.1.2.2.1 (w i) i b1 (H.2.2.2.2.1.2.1 i hi)
        rw [e3] at b2
        omega
      have ca := H.2.2.2.2.1.1 a a3
      have hE : ∀ m, m < 3 → om_I (n + 1) (om_u w n a) (om_u s n (c a + 1)) (ha m) (dn m) (g m) (z m) := fun m hm => om_Iext (H.2.2.2.1 m hm) n4 a3 (by omega) kn
      have hEa := hE a a3
      have na : ha a n = false := om_hbn (H.2.2.2.1 a a3).2.2.2.1
      have zr := (om_Iroom hEa (x := n) (by omega) na).2
      refine ⟨va, va, nm_r (om_up1 a3) ⟨vn, nm_r e1 ⟨va, vn, nm_r e2 (nm_r (nI_1 n) ?_)⟩⟩⟩
      rw [nI_pred]
      refine ox_so (e := (c a + 1, some n)) (Q := Q) a3 H.1.1 (fun o ho => ?_) om_up3 (fun tc' tm' ct' hX => ?_)
      · have q := hl (3 * a + o) (by omega)
        omega
      dsimp only
      rw [nI_pred]
      refine ox_push (n := n + 1) (N := z a) (g := g a) (S := fun x => om_op (ha a) (dn a) x = true) a3 (by omega) (by omega) hEa.2.1 (fun x hx => hEa.2.2.2.1 _ (om_ope hx).1) (by omega) (by rw [om_opn na]; decide) (H.1.2.2 a a3).1 hEa.2.2.2.2.2.2.1 hEa.2.2.2.2.2.2.2 (H.1.2.2 a a3).2 (fun gg hp' gC gO gh gq => ?_)
      dsimp only
      have hN := om_wN (H.2.2.2.1 a a3) (H.2.2.2.2.2 a a3) a3 (fun o ho => H.2.2.2.2.1.2.2.2.1 a o a3 ho) gC gO
      have tp := gC.1 0 (by omega)
      have tn : gg 0 < n + 1 := by
        rcases tp with q | q
        · exact hEa.2.2.2.1 _ (om_ope q).1
        · omega
      refine ox_rn (hd := hd) (N := z a) (t := gg 0) a3 (fun o ho => ⟨H.1.2.1 a o a3 ho, ?_⟩) pk_us (by omega) (gh 0 (by omega)) (by omega) (hEa.2.1 _ tn) hN ?_
      · have q := H.2.2.2.2.1.2.2.2.1 a o a3 ho
        omega
      dsimp only
      rw [nI_pred]
      refine oy_b0 a3 (br_t rfl ?_)
      refine pk_eq n 40 (fun e => absurd e (by omega)) (fun _ => ⟨va, va, nm_r (om_up1 a3) ⟨vn, nm_r e1 ⟨va, vn, nm_r e2 ⟨pk_in (40 * a + n) 120 (by omega) (om_w40 a n), ?_⟩⟩⟩⟩)
      refine nm_r (e' := upd hz (40 * a + n) 1) (by rw [om_w40, nI_clamp (by omega), om_v1]) ?_
      refine oy_so (e := (c a + 1, some n)) (Q := Q) a3 H.2.1.1 (fun y hy => Nat.le_of_lt (hl y hy)) (fun o ho => hl (3 * a + o) (by omega)) om_up3 (fun ln' wc' wm' hY => ?_)
      dsimp only
      refine nm_r (nI_1 n) ⟨nI_pred n, ?_⟩
      exact om_mk (om_Rwrite a3 hk n4 H hX hY hE gC gO gh gq)
    · refine oy_b0 a3 (br_t rfl ?_)
      exact pk_eq n 40 (fun _ => ⟨rfl, J⟩) (fun e => absurd e (by omega))
end
section
/-! taking: the first thing leaves its way; the reference moves the others up -/
def om_sh (f : Nat → Int32) (B L : Nat) : Nat → Int32 := fun j => if B ≤ j ∧ j < B + L then f (j + 1) else f j
theorem om_sh0 {f : Nat → Int32} {B : Nat} : om_sh f B 0 = f := by
  funext j
  unfold om_sh
  rw [if_neg (by omega)]
theorem om_shi {f : Nat → Int32} {B L j : Nat} (h : B ≤ j ∧ j < B + L) : om_sh f B L j = f (j + 1) := if_pos h
theorem om_sho {f : Nat → Int32} {B L j : Nat} (h : ¬ (B ≤ j ∧ j < B + L)) : om_sh f B L j = f j := if_neg h
theorem om_shs {f : Nat → Int32} {B i : Nat} : upd (om_sh f B i) (B + i) (om_sh f B i (B + i + 1)) = om_sh f B (i + 1) := by
  funext j
  rw [om_sho (j := B + i + 1) (by omega)]
  by_cases c : j = B + i
  · rw [c, pk_us, om_shi (by omega)]
  · rw [pk_un c]
    by_cases d : B ≤ j ∧ j < B + i
    · rw [om_shi d, om_shi (by omega)]
    · rw [om_sho d, om_sho (by omega)]
theorem om_QXd {tc tm fi ct : Nat → Int32} {Q : Nat → List (Nat × Option Nat)} {y f : Nat} {e : Nat × Option Nat} {l : List (Nat × Option Nat)} (h : om_QX tc tm fi ct Q) (hq : Q y = e :: l) (ef : fi y = nI f) (hf : f < 64) : om_QX tc tm (upd fi y (nI ((f + 1) % 64))) (upd ct y (nI l.length)) (om_v Q y l) := by
  intro x x9
  obtain ⟨f1, hf1, ef1, ec, ht⟩ := h x x9
  by_cases c : x = y
  · subst c
    have q : f1 = f := (nI_eq (by omega) (by omega)).mp (ef1.symm.trans ef)
    subst q
    refine ⟨(f1 + 1) % 64, Nat.mod_lt _ (by decide), pk_us, by rw [pk_us, om_vs], fun p e' he => ?_⟩
    rw [om_vs] at he
    have r := ht (p + 1) e' (by rw [hq, List.getElem?_cons_succ]; exact he)
    have e2 : ((f1 + 1) % 64 + p) % 64 = (f1 + (p + 1)) % 64 := by omega
    rw [e2]
    exact r
  · exact ⟨f1, hf1, by rw [pk_un c]; exact ef1, by rw [pk_un c, om_vn c]; exact ec, fun p e' he => ht p e' (by rw [om_vn c] at he; exact he)⟩
theorem om_QYd {ln wc wm : Nat → Int32} {Q : Nat → List (Nat × Option Nat)} {y : Nat} {e : Nat × Option Nat} {l : List (Nat × Option Nat)} (h : om_QY ln wc wm Q) (hl : ∀ y, y < 9 → (Q y).length ≤ 60) (hq : Q y = e :: l) (y9 : y < 9) : om_QY (upd ln y (nI l.length)) (om_sh wc (60 * y) l.length) (om_sh wm (60 * y) l.length) (om_v Q y l) := by
  intro x x9
  have ly := hl y y9
  rw [hq, List.length_cons] at ly
  have lx := hl x x9
  by_cases c : x = y
  · subst c
    refine ⟨by rw [pk_us, om_vs], fun p e' he => ?_⟩
    rw [om_vs] at he
    have lp := (List.getElem?_eq_some_iff.mp he).1
    rw [om_shi (by omega), om_shi (by omega)]
    exact (h x x9).2 (p + 1) e' (by rw [hq, List.getElem?_cons_succ]; exact he)
  · refine ⟨by rw [pk_un c, om_vn c]; exact (h x x9).1, fun p e' he => ?_⟩
    rw [om_vn c] at he
    have lp := (List.getElem?_eq_some_iff.mp he).1
    rw [om_sho (by omega), om_sho (by omega)]
    exact (h x x9).2 p e' he
def om_mx (a e : Nat) : Nat := if e ≤ a then a else e
theorem om_mx1 {a e : Nat} (h : e ≤ a) : om_mx a e = a := if_pos h
theorem om_mx2 {a e : Nat} (h : a < e) : om_mx a e = e := if_neg (by omega)
theorem om_mxb {a e k : Nat} (h1 : a ≤ k) (h2 : e ≤ k) : om_mx a e ≤ k ∧ a ≤ om_mx a e ∧ e ≤ om_mx a e := by
  unfold om_mx
  by_cases c : e ≤ a
  · rw [if_pos c]
    omega
  · rw [if_neg c]
    omega
/-- what arrives at b, in the reference's table -/
def om_hz (hz : Nat → Int32) (b : Nat) : Option Nat → (Nat → Int32)
  | none => hz
  | some i => upd hz (40 * b + i) 1
section
variable {yf : Int32} {yw ys hz dz xr xo hy ln wc wm : Nat → Int32} {c : Nat → Nat}
theorem oy_sh {post : Int32 → SY → Prop} {b y e1 L : Nat} {x5 : Int32} (b3 : b < 3) (y9 : y < 9) (hL : L < 60) (el : ln y = nI L) (he : e1 < 5000) (hc : c b < 5000)
    (K : wY_take_171 post (nI b) (nI y) (nI e1) x5 (nI (om_mx (c b) e1)) (nI b) yf (om_nf c) yw ys hz dz xr xo hy ln (om_sh wc (60 * y) L) (om_sh wm (60 * y) L)) :
    ∀ d i, i + d = L → wY_take_75 post (nI b) (nI y) (nI e1) x5 yf (d + 1) (nI i) (om_nf c) yw ys hz dz xr xo hy ln (om_sh wc (60 * y) i) (om_sh wm (60 * y) i) := by
  have vy : vp_in (nI y) 9 := pk_in y 9 y9
  have vb : vp_in (nI b) 3 := pk_in b 3 b3
  have el' : ln (nI y).toNatClampNeg = nI L := by rw [nI_clamp (by omega), el]
  have eb : om_nf c (nI b).toNatClampNeg = nI (c b) := om_at (by omega)
  intro d
  induction d with
  | zero =>
    intro i hi
    have e : i = L := by omega
    subst e
    refine ⟨vy, pk_le i i (fun _ => ⟨vb, pk_le e1 (c b) (fun h => ⟨vb, ?_⟩) (fun h => ?_) rfl eb⟩) (fun h => absurd h (by omega)) el'⟩
    · rw [om_mx1 h, ← eb] at K
      exact K
    · rw [om_mx2 h] at K
      exact K
  | succ d ih =>
    intro i hi
    have v1 : vp_in ((60 : Int32) * nI y + nI i) 540 := pk_in (60 * y + i) 540 (by omega) (om_w60 y i)
    have v2 : vp_in ((60 : Int32) * nI y + nI i + 1) 540 := pk_in (60 * y + i + 1) 540 (by omega) (by rw [om_w60, nI_1])
    have ex : ∀ f : Nat → Int32, upd (om_sh f (60 * y) i) ((60 : Int32) * nI y + nI i).toNatClampNeg (om_sh f (60 * y) i ((60 : Int32) * nI y + nI i + 1).toNatClampNeg) = om_sh f (60 * y) (i + 1) := by
      intro f
      rw [om_w60, nI_1, nI_clamp (by omega), nI_clamp (by omega), om_shs]
    exact ⟨vy, pk_le L i (fun h => absurd h (by omega)) (fun _ => ⟨v2, v1, nm_r (ex wc) ⟨v2, v1, nm_r (ex wm) (nm_r (nI_1 i) (ih (i + 1) (by omega)))⟩⟩) el'⟩
theorem oy_take {post : Int32 → SY → Prop} {a b : Nat} {Q : Nat → List (Nat × Option Nat)} {e : Nat × Option Nat} {l : List (Nat × Option Nat)} (a3 : a < 3) (b3 : b < 3) (hab : a ≠ b) (h : om_QY ln wc wm Q) (hl : ∀ y, y < 9 → (Q y).length ≤ 60) (hq : Q (3 * a + b) = e :: l) (he : e.1 < 5000) (hc : c b < 5000) (hi : ∀ i, e.2 = some i → i < 40)
    (K : wY_take_200 post (nI b) yf (om_nf (om_u c b (om_mx (c b) e.1 + 1))) yw ys (om_hz hz b e.2) dz xr xo (upd hy (3 * a + b) (nI e.1)) (upd ln (3 * a + b) (nI l.length)) (om_sh wc (60 * (3 * a + b)) l.length) (om_sh wm (60 * (3 * a + b)) l.length)) :
    wpY_take post (yf, om_nf c, yw, ys, hz, dz, xr, xo, hy, ln, wc, wm) (nI a) (nI b) := by
  have ly := hl (3 * a + b) (by omega)
  obtain ⟨ec, ht⟩ := h (3 * a + b) (by omega)
  obtain ⟨t1, t2⟩ := ht 0 e (by rw [hq]; rfl)
  rw [hq, List.length_cons] at ly ec
  have v9 : vp_in (nI (3 * a + b)) 9 := vp_in_nI (by omega) (by decide)
  have c9 : (nI (3 * a + b)).toNatClampNeg = 3 * a + b := nI_clamp (by omega)
  have vb : vp_in (nI b) 3 := pk_in b 3 b3
  have v6 : vp_in ((60 : Int32) * nI (3 * a + b)) 540 := pk_in (60 * (3 * a + b)) 540 (by omega) (om_m60 _)
  have c6 : ((60 : Int32) * nI (3 * a + b)).toNatClampNeg = 60 * (3 * a + b) := pk_cl _ (om_m60 _) (by omega)
  unfold wpY_take
  dsimp only
  refine oy_b0 a3 (br_t rfl (oy_b0 b3 (br_t rfl ?_)))
  refine pk_eq a b (fun z => absurd z hab) (fun _ => ⟨pk_in (3 * a + b) 9 (by omega) (om_w3 a b), ?_⟩)
  refine pk_eq (l.length + 1) 0 (fun z => absurd z (by omega)) (fun _ => ?_) (by rw [om_w3, c9]; exact ec)
  refine nm_r (om_w3 a b) ⟨v6, nm_r (e' := nI e.1) (by rw [c6]; exact t1) ⟨v6, nm_r (e' := om_mc e.2) (by rw [c6]; exact t2) ⟨v9, v9, ?_⟩⟩⟩
  refine nm_r (e' := upd ln (3 * a + b) (nI l.length)) (by rw [c9, ec, nI_pred]) ⟨l.length + 1, ?_⟩
  have go : wY_take_171 post (nI b) (nI (3 * a + b)) (nI e.1) (om_mc e.2) (nI (om_mx (c b) e.1)) (nI b) yf (om_nf c) yw ys hz dz xr xo hy (upd ln (3 * a + b) (nI l.length)) (om_sh wc (60 * (3 * a + b)) l.length) (om_sh wm (60 * (3 * a + b)) l.length) := by
    unfold wY_take_171
    refine ⟨vb, nm_r (e' := om_nf (om_u c b (om_mx (c b) e.1 + 1))) (by rw [nI_clamp (by omega), nI_1, om_nu]) ⟨v9, nm_r (e' := upd hy (3 * a + b) (nI e.1)) (by rw [c9]) ?_⟩⟩
    cases e2 : e.2 with
    | none =>
      rw [e2] at K
      exact br_t (by decide) K
    | some i =>
      rw [e2] at K
      have i4 := hi i e2
      refine br_f (nI_pos (by omega)) ⟨pk_in (40 * b + i) 120 (by omega) (om_w40 b i), nm_r (e' := upd hz (40 * b + i) 1) ?_ K⟩
      show upd hz ((40 : Int32) * nI b + nI i).toNatClampNeg (vp_nar .boolean 1) = upd hz (40 * b + i) 1
      rw [om_w40, nI_clamp (by omega), om_v1]
  have r := oy_sh (x5 := om_mc e.2) b3 (by omega) (by omega) pk_us he hc go l.length 0 (by omega)
  rw [om_sh0, om_sh0] at r
  exact r
end
/-- as om_R, but of b it isn't known that nothing can be read -/
def om_RP (b k n : Nat) (w s c : Nat → Nat) (tc tm fi ct hx hs hp xr hz dz hy ln wc wm : Nat → Int32) (Q : Nat → List (Nat × Option Nat)) (hd g : Nat → Nat → Nat) (ha dn : Nat → Nat → Bool) (z : Nat → Nat) : Prop :=
  om_TX tc tm fi ct hx hs hp Q hd g z ∧ om_TY hz dz hy ln wc wm Q hd ha dn ∧ (∀ m, m < 3 → xr m = nI (om_cnt (dn m) n)) ∧ (∀ m, m < 3 → om_I n w s (ha m) (dn m) (g m) (z m)) ∧ om_J k n w s c ha hd Q ∧ (∀ m, m < 3 → m ≠ b → 0 < z m → ¬ om_rd w s hd m (g m 0))
theorem ol_ro {b k n : Nat} {w s c : Nat → Nat} {tc tm fi ct hx hs hp xr xo hz dz hy ln wc wm : Nat → Int32} {Q : Nat → List (Nat × Option Nat)} {hd g : Nat → Nat → Nat} {ha dn : Nat → Nat → Bool} {z : Nat → Nat} {PX : Int32 → SX → Prop} (b3 : b < 3) (hk : k ≤ 1536) (H : om_RP b k n w s c tc tm fi ct hx hs hp xr hz dz hy ln wc wm Q hd g ha dn z)
    (K : ∀ (R : Int32) (hs' hp' xr' xo' dz' : Nat → Int32) (g' : Nat → Nat → Nat) (dn' : Nat → Nat → Bool) (z' : Nat → Nat), om_R k n w s c tc tm fi ct hx hs' hp' xr' hz dz' hy ln wc wm Q hd g' ha dn' z' →
      (∀ PY : Int32 → SY → Prop, PY R (nI n, om_nf c, om_nf w, om_nf s, hz, dz', xr', xo', hy, ln, wc, wm) → wpY_readAll PY (nI n, om_nf c, om_nf w, om_nf s, hz, dz, xr, xo, hy, ln, wc, wm) (nI b)) →
      PX R (nI n, om_nf w, om_nf s, tc, tm, fi, ct, om_nf c, hx, hs', hp', xr', xo')) :
    wpX_readOn PX (nI n, om_nf w, om_nf s, tc, tm, fi, ct, om_nf c, hx, hs, hp, xr, xo) (nI b) := by
  obtain ⟨⟨x1, x2, x3⟩, ⟨y1, y2, y3⟩, h3, h4, ⟨j1, j2, j3, j4, j5⟩, h6⟩ := H
  have zl : ∀ m, m < 3 → z m ≤ 40 := by
    intro m hm
    have q := (h4 m hm).2.2.2.2.2.1
    have r := om_cle (om_op (ha m) (dn m)) n
    have t := (h4 m hm).1
    omega
  have hb : ∀ o, o < 3 → hd b o < 5000 := by
    intro o ho
    have q := j4 b o b3 ho
    have r := j1 b b3
    omega
  have zb := zl b b3
  unfold wpX_readOn
  refine ⟨z b + 1, ?_⟩
  refine ol_read (hd := hd) (hb := ha b) (yc := om_nf c) (hz := hz) (hy := hy) (ln := ln) (wc := wc) (wm := wm) b3 (fun o ho => ⟨x2 b o b3 ho, hb o ho⟩) (fun o ho => ⟨y2 b o b3 ho, hb o ho⟩) (z b) 0 (g b) (dn b) hs hp dz xr xo (by omega) (h4 b b3) (x3 b b3).1 (x3 b b3).2 (y3 b b3) (h3 b b3) ?_
  intro R z' g' db' hs' hp' dz' xr' xo' a1 a2 a3 a4 a5 a6 a7 a8 Y
  refine K R hs' hp' xr' xo' dz' (om_v g b g') (om_v dn b db') (om_u z b z') ?_ (fun PY hPY => ?_)
  · refine ⟨⟨x1, x2, fun m hm => ?_⟩, ⟨y1, y2, fun m hm i hi => ?_⟩, fun m hm => ?_, fun m hm => ?_, ⟨j1, j2, j3, j4, j5⟩, fun m hm hz => ?_⟩
    · by_cases e : m = b
      · subst e
        rw [om_us, om_vs]
        exact ⟨a3, a4⟩
      · rw [om_un e, om_vn e, (a7 m e).1]
        refine ⟨(x3 m hm).1, fun i hi => ?_⟩
        have r := zl m hm
        rw [(a8 _ (by omega)).1]
        exact (x3 m hm).2 i hi
    · by_cases e : m = b
      · subst e
        rw [om_vs]
        exact a5 i hi
      · rw [om_vn e, (a8 _ (by omega)).2]
        exact y3 m hm i hi
    · by_cases e : m = b
      · subst e
        rw [om_vs]
        exact a6
      · rw [om_vn e, (a7 m e).2]
        exact h3 m hm
    · by_cases e : m = b
      · subst e
        rw [om_vs, om_vs, om_us]
        exact a1
      · rw [om_vn e, om_vn e, om_un e]
        exact h4 m hm
    · by_cases e : m = b
      · subst e
        rw [om_us] at hz
        rw [om_vs]
        exact a2 hz
      · rw [om_un e] at hz
        rw [om_vn e]
        exact h6 m hm e hz
  · unfold wpY_readAll
    dsimp only
    exact oy_earl b3 (h4 b b3) (y3 b b3) ⟨z b + 1, Y PY hPY⟩
end
section
/-! take -/
theorem om_Rtake {k n a b f : Nat} {w s c : Nat → Nat} {tc tm fi ct hx hs hp xr hz dz hy ln wc wm hs2 hp2 hz2 : Nat → Int32} {Q : Nat → List (Nat × Option Nat)} {hd g g2 : Nat → Nat → Nat} {ha dn ha2 : Nat → Nat → Bool} {z z2 : Nat → Nat} {e : Nat × Option Nat} {l : List (Nat × Option Nat)} (a3 : a < 3) (b3 : b < 3) (hk : k + 3 ≤ 1536)
    (H : om_R k n w s c tc tm fi ct hx hs hp xr hz dz hy ln wc wm Q hd g ha dn z) (hq : Q (3 * a + b) = e :: l) (ef : fi (3 * a + b) = nI f) (hf : f < 64)
    (F1 : ∀ m, m < 3 → hs2 m = nI (z2 m) ∧ ∀ i, i < z2 m → hp2 (40 * m + i) = nI (g2 m i)) (F2 : ∀ m, m < 3 → ∀ i, i < 40 → hz2 (40 * m + i) = om_b (ha2 m i)) (F3 : ∀ m, m < 3 → om_I n w s (ha2 m) (dn m) (g2 m) (z2 m))
    (F4 : ∀ m i, m < 3 → ha2 m i = ha m i ∨ (m = b ∧ e.2 = some i)) (F5 : ∀ m, m < 3 → m ≠ b → z2 m = z m ∧ g2 m = g m) (F6 : ∀ m i, ha m i = true → ha2 m i = true) :
    om_RP b (k + 3) n w s (om_u c b (om_mx (c b) e.1 + 1)) tc tm (upd fi (3 * a + b) (nI ((f + 1) % 64))) (upd ct (3 * a + b) (nI l.length)) (upd hx (3 * b + a) (nI e.1)) hs2 hp2 xr hz2 dz (upd hy (3 * a + b) (nI e.1)) (upd ln (3 * a + b) (nI l.length)) (om_sh wc (60 * (3 * a + b)) l.length) (om_sh wm (60 * (3 * a + b)) l.length) (om_v Q (3 * a + b) l) (om_v hd b (om_u (hd b) a e.1)) g2 ha2 dn z2 := by
  obtain ⟨⟨x1, x2, x3⟩, ⟨y1, y2, y3⟩, h3, h4, ⟨j1, j2, j3, j4, j5⟩, h6⟩ := H
  have n40 := (h4 a a3).1
  have hl : ∀ y, y < 9 → (Q y).length ≤ 60 := by
    intro y hy
    have q := om_Ql j5 y hy
    omega
  obtain ⟨e1, e2⟩ := (j5 a b a3 b3).2.2.1 e (by rw [hq]; exact List.mem_cons_self)
  obtain ⟨m1, m2, m3⟩ := om_mxb (j1 b b3) e1
  have cg : ∀ m, c m ≤ om_u c b (om_mx (c b) e.1 + 1) m := by
    intro m
    by_cases q : m = b
    · rw [q, om_us]
      omega
    · rw [om_un q]
      exact Nat.le_refl _
  refine ⟨⟨om_QXd x1 hq ef hf, fun m o hm ho => ?_, F1⟩, ⟨om_QYd y1 hl hq (by omega), fun m o hm ho => ?_, fun m hm i hi => ⟨F2 m hm i hi, (y3 m hm i hi).2⟩⟩, h3, F3, ⟨fun m hm => ?_, fun i hi => F6 _ _ (j2 i hi), fun m i hm hi => ?_, fun m o hm ho => ?_, om_Qd j5 a3 b3 (by omega) hq F4⟩, fun m hm hb hz => ?_⟩
  · by_cases q : m = b
    · subst q
      rw [om_vs]
      by_cases r : o = a
      · rw [r, pk_us, om_us]
      · rw [pk_un (by omega), om_un r]
        exact x2 m o hm ho
    · rw [om_vn q, pk_un (by omega)]
      exact x2 m o hm ho
  · by_cases q : m = b
    · subst q
      rw [om_vs]
      by_cases r : o = a
      · rw [r, pk_us, om_us]
      · rw [pk_un (by omega), om_un r]
        exact y2 m o hm ho
    · rw [om_vn q, pk_un (by omega)]
      exact y2 m o hm ho
  · have q := j1 m hm
    by_cases r : m = b
    · rw [r, om_us]
      omega
    · rw [om_un r]
      omega
  · rcases F4 m i hm with q | ⟨q1, q2⟩
    · rw [q] at hi
      exact Nat.le_trans (j3 m i hm hi) (cg m)
    · rw [q1, om_us]
      have r := (e2 i q2).2.2.1
      omega
  · by_cases q : m = b
    · subst q
      rw [om_vs]
      by_cases r : o = a
      · rw [r, om_us, om_us]
        omega
      · rw [om_un r]
        exact Nat.le_trans (j4 m o hm ho) (cg m)
    · rw [om_vn q]
      exact Nat.le_trans (j4 m o hm ho) (cg m)
  · obtain ⟨p1, p2⟩ := F5 m hm hb
    rw [p1] at hz
    rw [p2]
    intro rd
    refine h6 m hm hz (fun o o3 om ow => ?_)
    have r := rd o o3 om ow
    rw [om_vn hb] at r
    exact r
theorem i_vc_take {k : Nat} {u : SX} {v : SY} (I : i_Rel k u v) (hk : k + 3 ≤ 1536) (v1 : Int32) (v2 : Int32) : wpX_take (fun r u' => wpY_take (fun r' v' => r' = r ∧ i_Rel (k + 3) u' v') v v1 v2) u v1 v2 := by
  refine om_el (P := fun u v => wpX_take (fun r u' => wpY_take (fun r' v' => r' = r ∧ i_Rel (k + 3) u' v') v v1 v2) u v1 v2) I ?_
  intro n w s c tc tm fi ct hx hs hp xr xo hz dz hy ln wc wm Q hd g ha dn z H
  have J := i_up (om_mk (xo := xo) H)
  unfold wpX_take
  dsimp only
  rcases om_mem v1 with h1 | ⟨a, a3, rfl⟩
  · refine ox_m0 h1 (br_t rfl ?_)
    unfold wpY_take
    dsimp only
    exact oy_b1 h1 (br_f om_n1 ⟨rfl, J⟩)
  · refine ox_m1 a3 (br_f om_n1 ?_)
    rcases om_mem v2 with h2 | ⟨b, b3, rfl⟩
    · refine ox_m0 h2 (br_t rfl ?_)
      unfold wpY_take
      dsimp only
      exact oy_b0 a3 (br_t rfl (oy_b1 h2 (br_f om_n1 ⟨rfl, J⟩)))
    · refine ox_m1 b3 (br_f om_n1 ?_)
      refine pk_eq a b (fun e => ?_) (fun hab => ?_)
      · unfold wpY_take
        dsimp only
        refine oy_b0 a3 (br_t rfl (oy_b0 b3 (br_t rfl ?_)))
        exact pk_eq a b (fun _ => ⟨rfl, J⟩) (fun z => absurd e z)
      · have v9 : vp_in ((3 : Int32) * nI a + nI b) 9 := pk_in (3 * a + b) 9 (by omega) (om_w3 a b)
        have c9 : (nI (3 * a + b)).toNatClampNeg = 3 * a + b := nI_clamp (by omega)
        have w9 : vp_in (nI (3 * a + b)) 9 := vp_in_nI (by omega) (by decide)
        have vb : vp_in (nI b) 3 := pk_in b 3 b3
        have cb : (nI b).toNatClampNeg = b := nI_clamp (by omega)
        have jq := H.2.2.2.2.1.2.2.2.2
        have n40 := (H.2.2.2.1 a a3).1
        have hl : ∀ y, y < 9 → (Q y).length ≤ 60 := by
          intro y hy
          have q := om_Ql jq y hy
          omega
        obtain ⟨f, hf, ef, ec, ht⟩ := H.1.1 (3 * a + b) (by omega)
        have ey := (H.2.1.1 (3 * a + b) (by omega)).1
        refine ⟨v9, ?_⟩
        cases hq : Q (3 * a + b) with
        | nil =>
          rw [hq] at ec ey
          refine pk_eq 0 0 (fun _ => ?_) (fun z => absurd rfl z) (by rw [om_w3, c9]; exact ec)
          unfold wpY_take
          dsimp only
          refine oy_b0 a3 (br_t rfl (oy_b0 b3 (br_t rfl ?_)))
          refine pk_eq a b (fun z => absurd z hab) (fun _ => ⟨v9, ?_⟩)
          exact pk_eq 0 0 (fun _ => ⟨rfl, J⟩) (fun z => absurd rfl z) (by rw [om_w3, c9]; exact ey)
        | cons e l =>
          have ly := hl (3 * a + b) (by omega)
          rw [hq, List.length_cons] at ec ey ly
          obtain ⟨t1, t2⟩ := ht 0 e (by rw [hq]; rfl)
          have f0 : (f + 0) % 64 = f := by omega
          rw [f0] at t1 t2
          obtain ⟨e1, e2⟩ := (jq a b a3 b3).2.2.1 e (by rw [hq]; exact List.mem_cons_self)
          have ca := H.2.2.2.2.1.1 b b3
          have vt : vp_in (nI (64 * (3 * a + b) + f)) 576 := vp_in_nI (by omega) (by decide)
          have ctt : (nI (64 * (3 * a + b) + f)).toNatClampNeg = 64 * (3 * a + b) + f := nI_clamp (by omega)
          refine pk_eq (l.length + 1) 0 (fun z => absurd z (by omega)) (fun _ => nm_r (om_w3 a b) ⟨w9, ?_⟩) (by rw [om_w3, c9]; exact ec)
          refine nm_r (e' := nI (64 * (3 * a + b) + f)) (by rw [c9, ef, om_w64]) ⟨w9, w9, ?_⟩
          refine nm_r (e' := upd fi (3 * a + b) (nI ((f + 1) % 64))) (by rw [c9, ef, nI_1, om_63 (by omega)]) ⟨w9, w9, ?_⟩
          refine nm_r (e' := upd ct (3 * a + b) (nI l.length)) (by rw [c9, ec, nI_pred]) ⟨vt, ?_⟩
          refine nm_r (e' := nI e.1) (by rw [ctt]; exact t1) ⟨pk_in (3 * b + a) 9 (by omega) (om_w3 b a), ?_⟩
          refine nm_r (e' := upd hx (3 * b + a) (nI e.1)) (by rw [om_w3, nI_clamp (by omega)]) ⟨vb, ?_⟩
          have eb : om_nf c (nI b).toNatClampNeg = nI (c b) := om_at (by omega)
          have go : wX_take_128 (fun r u' => wpY_take (fun r' v' => r' = r ∧ i_Rel (k + 3) u' v') (nI n, om_nf c, om_nf w, om_nf s, hz, dz, xr, xo, hy, ln, wc, wm) (nI a) (nI b)) (nI b) (nI (64 * (3 * a + b) + f)) (nI (om_mx (c b) e.1)) (nI b) (nI n) (om_nf w) (om_nf s) tc tm (upd fi (3 * a + b) (nI ((f + 1) % 64))) (upd ct (3 * a + b) (nI l.length)) (om_nf c) (upd hx (3 * b + a) (nI e.1)) hs hp xr xo := by
            unfold wX_take_128
            refine ⟨vb, nm_r (e' := om_nf (om_u c b (om_mx (c b) e.1 + 1))) (by rw [cb, nI_1, om_nu]) ⟨vt, ?_⟩⟩
            rw [ctt, t2]
            cases e22 : e.2 with
            | none =>
              refine br_t (by decide) ?_
              unfold wX_take_153
              refine ol_ro (xo := xo) b3 hk (om_Rtake a3 b3 hk H hq ef hf H.1.2.2 (fun m hm i hi => (H.2.1.2.2 m hm i hi).1) H.2.2.2.1 (fun m i _ => Or.inl rfl) (fun m _ _ => ⟨rfl, rfl⟩) (fun m i h => h)) ?_
              intro R hs' hp' xr' xo' dz' g' dn' z' H' Y
              dsimp only
              refine oy_take a3 b3 hab H.2.1.1 hl hq (by omega) (by omega) (fun i hi => ?_) ?_
              · have q := (e2 i hi).1
                omega
              · rw [e22]
                unfold wY_take_200
                exact Y _ ⟨rfl, om_mk H'⟩
            | some i =>
              obtain ⟨r1, r2, r3, r4⟩ := e2 i e22
              have hI := H.2.2.2.1 b b3
              have zr := (om_Iroom hI r1 r4).2
              refine br_f (nI_pos (n := i) (by omega)) ⟨vt, ?_⟩
              refine ox_push (n := n) (N := z b) (g := g b) (S := fun x => om_op (ha b) (dn b) x = true) b3 (by omega) n40 hI.2.1 (fun x hx => hI.2.2.2.1 _ (om_ope hx).1) r1 (by rw [om_opn r4]; decide) (H.1.2.2 b b3).1 hI.2.2.2.2.2.2.1 hI.2.2.2.2.2.2.2 (H.1.2.2 b b3).2 (fun gg hp' gC gO gh gq => ?_)
              dsimp only
              unfold wX_take_153
              have zl : ∀ m, m < 3 → z m ≤ 40 := by
                intro m hm
                have q := (H.2.2.2.1 m hm).2.2.2.2.2.1
                have r := om_cle (om_op (ha m) (dn m)) n
                omega
              refine ol_ro (xo := xo) (hz := upd hz (40 * b + i) 1) (g := om_v g b gg) (ha := om_v ha b (om_tb (ha b) i)) (z := om_u z b (z b + 1)) b3 hk (om_Rtake a3 b3 hk H hq ef hf (fun m hm => ?_) (fun m hm j hj => ?_) (fun m hm => ?_) (fun m j hm => ?_) (fun m hm hb => ⟨om_un hb, om_vn hb⟩) (fun m j hj => ?_)) ?_
              · by_cases q : m = b
                · subst q
                  rw [pk_us, om_us, om_vs]
                  exact ⟨rfl, gh⟩
                · rw [pk_un q, om_un q, om_vn q]
                  refine ⟨(H.1.2.2 m hm).1, fun j hj => ?_⟩
                  have r := zl m hm
                  rw [gq _ (by omega)]
                  exact (H.1.2.2 m hm).2 j hj
              · by_cases q : m = b
                · subst q
                  rw [om_vs]
                  by_cases q2 : j = i
                  · rw [q2, pk_us, om_ts]
                    rfl
                  · rw [pk_un (by omega), om_tn q2]
                    exact (H.2.1.2.2 m hm j hj).1
                · rw [om_vn q, pk_un (by omega)]
                  exact (H.2.1.2.2 m hm j hj).1
              · by_cases q : m = b
                · subst q
                  rw [om_vs, om_vs, om_us]
                  exact om_Iadd hI r1 r4 gC gO
                · rw [om_vn q, om_vn q, om_un q]
                  exact H.2.2.2.1 m hm
              · by_cases q : m = b
                · subst q
                  rw [om_vs]
                  by_cases q2 : j = i
                  · rw [q2]
                    exact Or.inr ⟨rfl, e22⟩
                  · rw [om_tn q2]
                    exact Or.inl rfl
                · rw [om_vn q]
                  exact Or.inl rfl
              · by_cases q : m = b
                · subst q
                  rw [om_vs]
                  by_cases q2 : j = i
                  · rw [q2]
                    exact om_ts
                  · rw [om_tn q2]
                    exact hj
                · rw [om_vn q]
                  exact hj
              · intro R hs' hp'' xr' xo' dz' g' dn' z' H' Y
                dsimp only
                refine oy_take a3 b3 hab H.2.1.1 hl hq (by omega) (by omega) (fun i hi => ?_) ?_
                · have q := (e2 i hi).1
                  omega
                · rw [e22]
                  unfold wY_take_200
                  exact Y _ ⟨rfl, om_mk H'⟩
          refine pk_le e.1 (c b) (fun h => ⟨vb, ?_⟩) (fun h => ?_) rfl eb
          · rw [om_mx1 h, ← eb] at go
            exact go
          · rw [om_mx2 h] at go
            exact go
end
