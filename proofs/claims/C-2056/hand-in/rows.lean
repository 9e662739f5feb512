section
section SnA
/-! numbers, stores -/
theorem sn_us {f : Nat → Int32} {k : Nat} {x : Int32} : upd f k x k = x := if_pos rfl
theorem sn_un {f : Nat → Int32} {k j : Nat} {x : Int32} (h : j ≠ k) : upd f k x j = f j := if_neg h
theorem sn_m1 (n : Nat) : nI (n + 1) + (-1) = nI n := by
  rw [← nI_1, Int32.add_assoc, show (1 : Int32) + (-1) = 0 from rfl, Int32.add_zero]
theorem sn_mul (a b : Nat) : nI a * nI b = nI (a * b) := (Int32.ofNat_mul a b).symm
theorem sn_4 (a : Nat) : 4 * nI a = nI (4 * a) := sn_mul 4 a
theorem sn_4a (a b : Nat) : 4 * nI a + nI b = nI (4 * a + b) := by rw [sn_4, nI_add]
theorem sn_256 (a : Nat) : 256 * nI a = nI (256 * a) := sn_mul 256 a
theorem sn_256a (a b : Nat) : 256 * nI a + nI b = nI (256 * a + b) := by rw [sn_256, nI_add]
theorem sn_1792 (a : Nat) : 1792 + nI a = nI (1792 + a) := nI_add 1792 a
theorem sn_eq0 {a : Nat} (h : a < 2 ^ 31) : nI a = 0 ↔ a = 0 := by
  rw [← nI_0, nI_eq h (by omega)]
theorem sn_eq1 {a : Nat} (h : a < 2 ^ 31) : nI a = 1 ↔ a = 1 := by
  rw [show (1 : Int32) = nI 1 from rfl, nI_eq h (by omega)]
theorem sn_neg : (-1 : Int32) < 0 := by decide
theorem sn_nneg : ¬ (0 : Int32) ≤ -1 := by decide
theorem sn_ne1 {a : Nat} (h : a < 2 ^ 31) : ¬ nI a = -1 := by
  intro e
  have := nI_pos (n := a) h
  rw [e] at this
  exact this sn_neg
theorem sn_ne1' {a : Nat} (h : a < 2 ^ 31) : ¬ (-1 : Int32) = nI a := fun e => sn_ne1 h e.symm
theorem sn_and3 {n : Nat} (h : n < 2 ^ 32) : nI n &&& 3 = nI (n % 4) := by
  apply Int32.toBitVec_inj.mp
  apply BitVec.eq_of_toNat_eq
  rw [Int32.toBitVec_and, BitVec.toNat_and, show (3 : Int32).toBitVec.toNat = 2 ^ 2 - 1 from rfl, Nat.and_two_pow_sub_one_eq_mod, show (nI n).toBitVec.toNat = n from Nat.mod_eq_of_lt h]
  exact (show (nI (n % 4)).toBitVec.toNat = n % 4 from Nat.mod_eq_of_lt (by omega)).symm
/-- an int of any sign: below 0, or a number below N, or N and more -/
theorem sn_ix (x : Int32) {n : Nat} (hn : n < 2 ^ 31) : x < 0 ∨ nI n ≤ x ∨ ∃ j : Nat, j < n ∧ x = nI j := by
  by_cases h : x < 0
  · exact Or.inl h
  · obtain ⟨j, hj, rfl⟩ := nI_of h
    by_cases h2 : j < n
    · exact Or.inr (Or.inr ⟨j, h2, rfl⟩)
    · exact Or.inr (Or.inl (nI_le (by omega) hj))

/-! counting -/
noncomputable def sn_b (p : Prop) : Nat := @ite Nat p (Classical.propDecidable p) 1 0
theorem sn_b1 {p : Prop} (h : p) : sn_b p = 1 := @if_pos p (Classical.propDecidable p) h Nat 1 0
theorem sn_b0 {p : Prop} (h : ¬ p) : sn_b p = 0 := @if_neg p (Classical.propDecidable p) h Nat 1 0
theorem sn_bi {p q : Prop} (h : p ↔ q) : sn_b p = sn_b q := congrArg sn_b (propext h)
theorem sn_bl (p : Prop) : sn_b p ≤ 1 := by
  by_cases h : p
  · rw [sn_b1 h]; exact Nat.le_refl 1
  · rw [sn_b0 h]; exact Nat.zero_le 1
noncomputable def sn_c (P : Nat → Prop) : Nat → Nat
  | 0 => 0
  | n + 1 => sn_c P n + sn_b (P n)
theorem sn_cs (P : Nat → Prop) (n : Nat) : sn_c P (n + 1) = sn_c P n + sn_b (P n) := rfl
theorem sn_cc {P Q : Nat → Prop} : ∀ {n : Nat}, (∀ i, i < n → (P i ↔ Q i)) → sn_c P n = sn_c Q n := by
  intro n
  induction n with
  | zero => intro _; rfl
  | succ n ih =>
    intro h
    rw [sn_cs, sn_cs, ih (fun i hi => h i (by omega)), sn_bi (h n (by omega))]
theorem sn_cl (P : Nat → Prop) (n : Nat) : sn_c P n ≤ n := by
  induction n with
  | zero => exact Nat.le_refl 0
  | succ n ih =>
    rw [sn_cs]
    have := sn_bl (P n)
    omega
theorem sn_cor {P Q S : Nat → Prop} : ∀ {n : Nat}, (∀ i, i < n → P i → Q i ∨ S i) → sn_c P n ≤ sn_c Q n + sn_c S n := by
  intro n
  induction n with
  | zero => intro _; exact Nat.le_refl 0
  | succ n ih =>
    intro h
    rw [sn_cs, sn_cs, sn_cs]
    have h1 := ih (fun i hi => h i (by omega))
    by_cases hp : P n
    · rcases h n (by omega) hp with hq | hs
      · rw [sn_b1 hp, sn_b1 hq]; omega
      · rw [sn_b1 hp, sn_b1 hs]; omega
    · rw [sn_b0 hp]; omega
theorem sn_cm {P Q : Nat → Prop} : ∀ {n : Nat}, (∀ i, i < n → P i → Q i) → sn_c P n ≤ sn_c Q n := by
  intro n
  induction n with
  | zero => intro _; exact Nat.le_refl 0
  | succ n ih =>
    intro h
    rw [sn_cs, sn_cs]
    have h1 := ih (fun i hi => h i (by omega))
    by_cases hp : P n
    · rw [sn_b1 hp, sn_b1 (h n (by omega) hp)]; omega
    · rw [sn_b0 hp]; omega
theorem sn_cz {P : Nat → Prop} : ∀ {n : Nat}, (∀ i, i < n → ¬ P i) → sn_c P n = 0 := by
  intro n
  induction n with
  | zero => intro _; rfl
  | succ n ih =>
    intro h
    rw [sn_cs, ih (fun i hi => h i (by omega)), sn_b0 (h n (by omega))]
theorem sn_c1 {P : Nat → Prop} {i : Nat} : ∀ {n : Nat}, i < n → P i → 0 < sn_c P n := by
  intro n
  induction n with
  | zero => intro h; omega
  | succ n ih =>
    intro h hp
    rw [sn_cs]
    by_cases e : i = n
    · subst e; rw [sn_b1 hp]; omega
    · have := ih (by omega) hp; omega
theorem sn_cp {P : Nat → Prop} {n : Nat} (h : 0 < sn_c P n) : ∃ i, i < n ∧ P i := by
  by_cases z : ∃ i, i < n ∧ P i
  · exact z
  · rw [sn_cz (fun i hi hp => z ⟨i, hi, hp⟩)] at h
    omega
/-- one point changed -/
theorem sn_cu {P Q : Nat → Prop} {i : Nat} : ∀ {n : Nat}, i < n → (∀ j, j < n → j ≠ i → (P j ↔ Q j)) → sn_c Q n + sn_b (P i) = sn_c P n + sn_b (Q i) := by
  intro n
  induction n with
  | zero => intro h; omega
  | succ n ih =>
    intro hi h
    rw [sn_cs, sn_cs]
    by_cases e : i = n
    · subst e
      rw [sn_cc (fun j hj => h j (by omega) (by omega))]
      omega
    · have h1 := ih (by omega) (fun j hj hne => h j (by omega) hne)
      rw [sn_bi (h n (by omega) (fun z => e z.symm))]
      omega
/-- at most one -/
theorem sn_c11 {P : Nat → Prop} {i j : Nat} : ∀ {n : Nat}, sn_c P n ≤ 1 → i < n → j < n → P i → P j → i = j := by
  intro n
  induction n with
  | zero => intro _ h; omega
  | succ n ih =>
    intro hc hi hj pi pj
    rw [sn_cs] at hc
    by_cases ei : i = n
    · by_cases ej : j = n
      · omega
      · subst ei
        have := sn_c1 (n := i) (i := j) (by omega) pj
        rw [sn_b1 pi] at hc
        omega
    · by_cases ej : j = n
      · subst ej
        have := sn_c1 (n := j) (i := i) (by omega) pi
        rw [sn_b1 pj] at hc
        omega
      · exact ih (by omega) (by omega) (by omega) pi pj
/-- fewer than all: one is missing -/
theorem sn_cf {P : Nat → Prop} : ∀ {n : Nat}, sn_c P n < n → ∃ i, i < n ∧ ¬ P i := by
  intro n
  induction n with
  | zero => intro h; omega
  | succ n ih =>
    intro h
    by_cases hp : P n
    · rw [sn_cs, sn_b1 hp] at h
      obtain ⟨i, hi, hn⟩ := ih (by omega)
      exact ⟨i, by omega, hn⟩
    · exact ⟨n, by omega, hp⟩
/-- a cover -/
theorem sn_cov {Q : Nat → Prop} {g : Nat → Nat} {M : Nat} : ∀ {N : Nat} {P : Nat → Prop}, (∀ x, x < M → P x → ∃ j, j < N ∧ Q j ∧ g j = x) → sn_c P M ≤ sn_c Q N := by
  intro N
  induction N with
  | zero =>
    intro P h
    rw [sn_cz (fun x hx hp => by obtain ⟨j, hj, _⟩ := h x hx hp; omega)]
    exact Nat.zero_le _
  | succ N ih =>
    intro P h
    have h1 := ih (P := fun x => P x ∧ ∃ j, j < N ∧ Q j ∧ g j = x) (fun x _ hp => hp.2)
    rw [sn_cs]
    by_cases hq : Q N
    · rw [sn_b1 hq]
      have h2 : sn_c P M ≤ sn_c (fun x => P x ∧ ∃ j, j < N ∧ Q j ∧ g j = x) M + sn_c (fun x => x = g N) M :=
        sn_cor (fun x hx hp => by
          obtain ⟨j, hj, qj, e⟩ := h x hx hp
          by_cases ej : j = N
          · subst ej; exact Or.inr e.symm
          · exact Or.inl ⟨hp, j, by omega, qj, e⟩)
      have h3 : ∀ n, sn_c (fun x => x = g N) n ≤ 1 := by
        intro n
        by_cases z : ∃ y, y < n ∧ y = g N
        · obtain ⟨y, hy, ey⟩ := z
          have := sn_cu (P := fun x => x = g N) (Q := fun _ => False) (i := y) hy (fun j _ hne => ⟨fun ej => hne (ej.trans ey.symm), fun f => f.elim⟩)
          rw [sn_cz (fun _ _ f => f), sn_b0 (p := False) (fun f => f)] at this
          have h4 := sn_bl (y = g N)
          omega
        · rw [sn_cz (fun i hi e => z ⟨i, hi, e⟩)]
          omega
      have := h3 M
      omega
    · rw [sn_b0 hq]
      have h2 : sn_c P M ≤ sn_c (fun x => P x ∧ ∃ j, j < N ∧ Q j ∧ g j = x) M :=
        sn_cm (fun x hx hp => by
          obtain ⟨j, hj, qj, e⟩ := h x hx hp
          by_cases ej : j = N
          · subst ej; exact (hq qj).elim
          · exact ⟨hp, j, by omega, qj, e⟩)
      omega
theorem sn_csp (P : Nat → Prop) (a b : Nat) : sn_c P (a + b) = sn_c P a + sn_c (fun i => P (a + i)) b := by
  induction b with
  | zero => rfl
  | succ b ih =>
    rw [← Nat.add_assoc, sn_cs, ih, sn_cs]
    omega
theorem sn_cbl {P : Nat → Prop} {s : Nat} : ∀ {m : Nat}, (∀ q, q < m → sn_c (fun i => P (256 * q + i)) 256 ≤ s) → sn_c P (256 * m) ≤ s * m := by
  intro m
  induction m with
  | zero => intro _; exact Nat.le_refl 0
  | succ m ih =>
    intro h
    rw [Nat.mul_succ, sn_csp, Nat.mul_succ]
    have h1 := ih (fun q hq => h q (by omega))
    have h2 := h m (by omega)
    omega
theorem sn_ceq (x : Nat) : ∀ n, sn_c (fun i => i = x) n ≤ 1 := by
  intro n
  by_cases z : x < n
  · have := sn_cu (P := fun i => i = x) (Q := fun _ => False) (i := x) z (fun j _ hne => ⟨fun ej => hne ej, fun f => f.elim⟩)
    rw [sn_cz (fun _ _ f => f), sn_b0 (p := False) (fun f => f)] at this
    have h4 := sn_bl (x = x)
    omega
  · rw [sn_cz (fun i hi e => z (by omega))]
    omega
end SnA
end
section
section SnB
/-! contents of a pointer -/
def sn_bit (x : Int32) (j : Nat) : Int32 := (x.toUInt32 >>> ((nI j).toUInt32 &&& Int32.toUInt32 31)).toInt32 &&& 1
def sn_ct (W H : Nat → Int32) : Nat → Int32 → Nat → Option Int32
  | 0, x, k => if x < 0 then none else if sn_bit (H x.toNatClampNeg) (k % 4) = 0 then none else some (W (4 * x.toNatClampNeg + k % 4))
  | d + 1, x, k => if x < 0 then none else sn_ct W H d (W (4 * x.toNatClampNeg + k / 4 ^ (d + 1) % 4)) k
theorem sn_ct_n {W H : Nat → Int32} {k : Nat} (d : Nat) : sn_ct W H d (-1) k = none := by
  cases d with
  | zero => exact if_pos sn_neg
  | succ d => exact if_pos sn_neg
theorem sn_ct_0 {W H : Nat → Int32} {n k : Nat} (h : n < 400) : sn_ct W H 0 (nI n) k = if sn_bit (H n) (k % 4) = 0 then none else some (W (4 * n + k % 4)) := by
  rw [sn_ct, if_neg (nI_pos (by omega)), nI_clamp (by omega)]
theorem sn_ct_s {W H : Nat → Int32} {n k d : Nat} (h : n < 400) : sn_ct W H (d + 1) (nI n) k = sn_ct W H d (W (4 * n + k / 4 ^ (d + 1) % 4)) k := by
  rw [sn_ct, if_neg (nI_pos (by omega)), nI_clamp (by omega)]
theorem sn_ct_00 {W H : Nat → Int32} {n k : Nat} (h : n < 400) (hb : sn_bit (H n) (k % 4) = 0) : sn_ct W H 0 (nI n) k = none := by
  rw [sn_ct_0 h, if_pos hb]
theorem sn_ct_01 {W H : Nat → Int32} {n k : Nat} (h : n < 400) (hb : ¬ sn_bit (H n) (k % 4) = 0) : sn_ct W H 0 (nI n) k = some (W (4 * n + k % 4)) := by
  rw [sn_ct_0 h, if_neg hb]
/-! tables -/
theorem sn_tb_turn : ∀ k, k < 256 → ∀ l, l < 3 → (((nI k).toUInt32 >>> ((6 - (2 * nI l)).toUInt32 &&& Int32.toUInt32 31)).toInt32) &&& 3 = nI (k / 4 ^ (3 - l) % 4) := by decide +kernel
theorem sn_tb_beh : ∀ k, k < 256 → ∀ l, l < 5 → (nI k &&& ((((256 : Int32).toUInt32 >>> ((2 * nI l).toUInt32 &&& Int32.toUInt32 31)).toInt32 - 1) ^^^ (-1))) + ((256 : Int32).toUInt32 >>> ((2 * nI l).toUInt32 &&& Int32.toUInt32 31)).toInt32 = nI ((k / 4 ^ (4 - l) + 1) * 4 ^ (4 - l)) := by decide +kernel
theorem sn_tb_or : ∀ b, b < 16 → ∀ j, j < 4 → nI (256 + b) ||| ((1 : Int32) <<< (nI j &&& 31)) = nI (256 + (b ||| 2 ^ j)) ∧ (b ||| 2 ^ j) < 16 ∧ (b ||| 2 ^ j) ≠ 0 := by decide +kernel
theorem sn_tb_orb : ∀ b, b < 16 → ∀ j, j < 4 → ∀ i, i < 4 → (sn_bit (nI (256 + (b ||| 2 ^ j))) i = 0 ↔ (i ≠ j ∧ sn_bit (nI (256 + b)) i = 0)) := by decide +kernel
theorem sn_tb_an : ∀ b, b < 16 → ∀ j, j < 4 → nI (256 + b) &&& (((1 : Int32) <<< (nI j &&& 31)) ^^^ (-1)) = nI (256 + (b &&& (15 ^^^ 2 ^ j))) ∧ (b &&& (15 ^^^ 2 ^ j)) < 16 := by decide +kernel
theorem sn_tb_anb : ∀ b, b < 16 → ∀ j, j < 4 → ∀ i, i < 4 → (sn_bit (nI (256 + (b &&& (15 ^^^ 2 ^ j)))) i = 0 ↔ (i = j ∨ sn_bit (nI (256 + b)) i = 0)) := by decide +kernel
theorem sn_tb_15 : ∀ b, b < 16 → (nI (256 + b) &&& 15 = 0 ↔ b = 0) := by decide +kernel
theorem sn_tb_256 : ∀ b, b < 16 → ¬ nI (256 + b) &&& 256 = 0 := by decide +kernel
theorem sn_tb_m : ∀ b, b < 16 → nI (256 + b) ||| 256 = nI (256 + b) := by decide +kernel
theorem sn_tb_b0 : ∀ i, i < 4 → sn_bit (nI 256) i = 0 := by decide +kernel
theorem sn_tb_ne : ∀ b, b < 16 → b ≠ 0 → ∃ j, j < 4 ∧ ¬ sn_bit (nI (256 + b)) j = 0 := by decide +kernel
theorem sn_turn {post : Int32 → Prop} {k l : Nat} (hk : k < 256) (hl : l < 3) (h : post (nI (k / 4 ^ (3 - l) % 4))) : wpX_turn post (nI k) (nI l) := by
  unfold wpX_turn
  rw [sn_tb_turn k hk l hl]
  exact h
theorem sn_behind {post : Int32 → Prop} {k l : Nat} (hk : k < 256) (hl : l < 5) (h : post (nI ((k / 4 ^ (4 - l) + 1) * 4 ^ (4 - l)))) : wpX_behind post (nI k) (nI l) := by
  unfold wpX_behind
  intro x ex
  rw [ex, sn_tb_beh k hk l hl]
  exact h
theorem sn_dv {a b i j : Nat} (h : a / 4 ^ i = b / 4 ^ i) (hij : i ≤ j) : a / 4 ^ j = b / 4 ^ j := by
  obtain ⟨e, rfl⟩ : ∃ e, j = i + e := ⟨j - i, by omega⟩
  rw [Nat.pow_add, ← Nat.div_div_eq_div_mul, ← Nat.div_div_eq_div_mul, h]
/-! validity of what the readers go through -/
def sn_pt (U : Nat → Int32) (L : Nat → Nat) (l : Nat) (x : Int32) : Prop := x = -1 ∨ ∃ n, n < 400 ∧ x = nI n ∧ U n ≠ 0 ∧ L n = l
def sn_Mk (H U : Nat → Int32) (L : Nat → Nat) (a : Nat) : Prop := ∀ p, p < 400 → p ≠ a → U p ≠ 0 → L p ≤ 3 ∧ (L p = 3 → ∃ b, b < 16 ∧ H p = nI (256 + b)) ∧ (L p < 3 → H p &&& 256 = 0)
def sn_Cl (W U : Nat → Int32) (L : Nat → Nat) : Prop := ∀ p, p < 400 → U p ≠ 0 → L p < 3 → ∀ w, w < 4 → sn_pt U L (L p + 1) (W (4 * p + w))
def sn_Vd (W H U R : Nat → Int32) (L : Nat → Nat) : Prop := (∀ m, m < 8 → sn_pt U L 0 (R m)) ∧ sn_Cl W U L ∧ sn_Mk H U L 400
/-! the core invariant: references are counted -/
noncomputable def sn_rc (G : Nat → Int32) (n : Nat) : Nat := sn_c (fun i => G i = nI n) 1608
def sn_sl (L : Nat → Nat) (i : Nat) : Nat := if i < 1600 then L (i / 4) + 1 else 0
theorem sn_sl4 {L : Nat → Nat} {p w : Nat} (hp : p < 400) (hw : w < 4) : sn_sl L (4 * p + w) = L p + 1 := by
  unfold sn_sl
  rw [if_pos (by omega), show (4 * p + w) / 4 = p from by omega]
theorem sn_slr {L : Nat → Nat} {m : Nat} : sn_sl L (1600 + m) = 0 := by
  unfold sn_sl
  rw [if_neg (by omega)]
theorem sn_rcu {G : Nat → Int32} {i n : Nat} {v : Int32} (hi : i < 1608) : sn_rc (upd G i v) n + sn_b (G i = nI n) = sn_rc G n + sn_b (v = nI n) := by
  have h := sn_cu (P := fun j => G j = nI n) (Q := fun j => upd G i v j = nI n) (i := i) (n := 1608) hi (fun j _ hne => by rw [sn_un hne])
  rw [sn_us] at h
  exact h
theorem sn_rcl (G : Nat → Int32) (n : Nat) : sn_rc G n ≤ 1608 := sn_cl _ _
/-- U counts the slots of G and what is pending (E); a is exempt -/
def sn_Rf (U G : Nat → Int32) (E : Nat → Nat) : Prop := (∀ n, n < 400 → U n = nI (sn_rc G n + E n)) ∧ (∀ n, n < 400 → E n ≤ 16)
def sn_Sl (G : Nat → Int32) (L : Nat → Nat) : Prop := ∀ i, i < 1608 → G i = -1 ∨ ∃ n, n < 400 ∧ G i = nI n ∧ L n = sn_sl L i
def sn_Ac (W U G : Nat → Int32) (L : Nat → Nat) (a : Nat) : Prop := ∀ p, p < 400 → p ≠ a → (U p ≠ 0 → L p < 3 → ∀ w, w < 4 → G (4 * p + w) = W (4 * p + w)) ∧ ((U p = 0 ∨ L p = 3) → ∀ w, w < 4 → G (4 * p + w) = -1)
def sn_Inv (W H U : Nat → Int32) (L : Nat → Nat) (G : Nat → Int32) (E : Nat → Nat) (a : Nat) : Prop := sn_Rf U G E ∧ sn_Sl G L ∧ sn_Ac W U G L a ∧ sn_Mk H U L a
def sn_Ro (R G : Nat → Int32) : Prop := ∀ m, m < 8 → G (1600 + m) = R m
def sn_z : Nat → Nat := fun _ => 0
theorem sn_Rf0 {U G : Nat → Int32} {E : Nat → Nat} (h : sn_Rf U G E) {n : Nat} (hn : n < 400) : U n = 0 ↔ sn_rc G n + E n = 0 := by
  rw [h.1 n hn]
  have := sn_rcl G n
  have := h.2 n hn
  exact sn_eq0 (by omega)
theorem sn_Rf1 {U G : Nat → Int32} {E : Nat → Nat} (h : sn_Rf U G E) {n : Nat} (hn : n < 400) : U n = 1 ↔ sn_rc G n + E n = 1 := by
  rw [h.1 n hn]
  have := sn_rcl G n
  have := h.2 n hn
  exact sn_eq1 (by omega)
theorem sn_used {U G : Nat → Int32} {E : Nat → Nat} (h : sn_Rf U G E) {i n : Nat} (hi : i < 1608) (hn : n < 400) (e : G i = nI n) : U n ≠ 0 := by
  intro z
  have h0 := (sn_Rf0 h hn).mp z
  have h1 : 0 < sn_rc G n := sn_c1 hi e
  omega
theorem sn_slot {W H U G : Nat → Int32} {L E : Nat → Nat} {a i : Nat} (I : sn_Inv W H U L G E a) (hi : i < 1608) : sn_pt U L (sn_sl L i) (G i) := by
  rcases I.2.1 i hi with h | ⟨n, hn, e, l⟩
  · exact Or.inl h
  · exact Or.inr ⟨n, hn, e, sn_used I.1 hi hn e, l⟩
theorem sn_cl_of {W H U G : Nat → Int32} {L E : Nat → Nat} (I : sn_Inv W H U L G E 400) : sn_Cl W U L := by
  intro p hp hu hl w hw
  have h := sn_slot I (i := 4 * p + w) (by omega)
  rw [sn_sl4 hp hw, (I.2.2.1 p hp (by omega)).1 hu hl w hw] at h
  exact h
theorem sn_vd_of {W H U R G : Nat → Int32} {L E : Nat → Nat} (I : sn_Inv W H U L G E 400) (hr : sn_Ro R G) : sn_Vd W H U R L := by
  refine ⟨fun m hm => ?_, sn_cl_of I, I.2.2.2⟩
  have h := sn_slot I (i := 1600 + m) (by omega)
  rw [sn_slr, hr m hm] at h
  exact h
/-- contents are kept where each node's pointers lead to what had the same content before -/
theorem sn_pres {W H W1 H1 U : Nat → Int32} {L : Nat → Nat}
    (h0 : ∀ p, p < 400 → U p ≠ 0 → L p = 3 → H1 p = H p ∧ ∀ w, w < 4 → W1 (4 * p + w) = W (4 * p + w))
    (h1 : ∀ p, p < 400 → U p ≠ 0 → L p < 3 → ∀ w, w < 4 → sn_pt U L (L p + 1) (W1 (4 * p + w)) ∧ ∀ k, sn_ct W H (2 - L p) (W1 (4 * p + w)) k = sn_ct W H (2 - L p) (W (4 * p + w)) k) :
    ∀ d p, p < 400 → U p ≠ 0 → L p + d = 3 → ∀ k, sn_ct W1 H1 d (nI p) k = sn_ct W H d (nI p) k := by
  intro d
  induction d with
  | zero =>
    intro p hp hu hl k
    obtain ⟨a, b⟩ := h0 p hp hu (by omega)
    rw [sn_ct_0 hp, sn_ct_0 hp, a, b (k % 4) (by omega)]
  | succ d ih =>
    intro p hp hu hl k
    obtain ⟨a, b⟩ := h1 p hp hu (by omega) (k / 4 ^ (d + 1) % 4) (Nat.mod_lt _ (by decide))
    rw [show 2 - L p = d from by omega] at b
    rw [sn_ct_s hp, sn_ct_s hp, ← b k]
    rcases a with e | ⟨n, hn, e, un, ln⟩
    · rw [e, sn_ct_n, sn_ct_n]
    · rw [e]
      exact ih n hn un (by omega) k
/-- the same for a pointer -/
theorem sn_presp {W H W1 H1 U : Nat → Int32} {L : Nat → Nat} {d : Nat} (h : ∀ p, p < 400 → U p ≠ 0 → L p + d = 3 → ∀ k, sn_ct W1 H1 d (nI p) k = sn_ct W H d (nI p) k) {l : Nat} {x : Int32} (hx : sn_pt U L l x) (hl : l + d = 3) (k : Nat) : sn_ct W1 H1 d x k = sn_ct W H d x k := by
  rcases hx with e | ⟨n, hn, e, un, ln⟩
  · rw [e, sn_ct_n, sn_ct_n]
  · rw [e]; exact h n hn un (by omega) k
end SnB
end
section
section SnC
theorem sn_in400 {n : Nat} (h : n < 400) : vp_in (nI n) 400 := vp_in_nI h (by omega)
theorem sn_in8 {n : Nat} (h : n < 8) : vp_in (nI n) 8 := vp_in_nI h (by omega)
theorem sn_in4 {n t : Nat} (hn : n < 400) (ht : t < 4) : vp_in (4 * nI n + nI t) 1600 := by
  rw [sn_4a]
  exact vp_in_nI (by omega) (by omega)
theorem sn_cl4 {n t : Nat} (hn : n < 400) (ht : t < 4) : (4 * nI n + nI t).toNatClampNeg = 4 * n + t := by
  rw [sn_4a]
  exact nI_clamp (by omega)
theorem sn_rd4 (W : Nat → Int32) {n t : Nat} (hn : n < 400) (ht : t < 4) : W (4 * nI n + nI t).toNatClampNeg = W (4 * n + t) := by
  rw [sn_cl4 hn ht]
theorem sn_clm {n : Nat} (h : n < 2048) : (nI n).toNatClampNeg = n := nI_clamp (by omega)
theorem sn_rd (W : Nat → Int32) {n : Nat} (hn : n < 2048) : W (nI n).toNatClampNeg = W n := by
  rw [sn_clm hn]
theorem sn_turn' {post : Int32 → Prop} {k l t : Nat} (hk : k < 256) (hl : l < 3) (et : k / 4 ^ (3 - l) % 4 = t) (h : post (nI t)) : wpX_turn post (nI k) (nI l) := by
  refine sn_turn hk hl ?_
  rw [et]
  exact h
variable {W H U T R Z P K : Nat → Int32} {L : Nat → Nat}
theorem sn_child (V : sn_Cl W U L) {k d l : Nat} {x : Int32} (hl : l + (d + 1) = 3) (hx : sn_pt U L l x) :
    ∃ c, sn_pt U L (l + 1) c ∧ (∀ k', k' / 4 ^ (d + 1) = k / 4 ^ (d + 1) → sn_ct W H (d + 1) x k' = sn_ct W H d c k') ∧ ((x = -1 ∧ c = -1) ∨ ∃ n t, n < 400 ∧ t < 4 ∧ x = nI n ∧ k / 4 ^ (3 - l) % 4 = t ∧ c = W (4 * n + t)) := by
  rcases hx with rfl | ⟨n, hn, rfl, un, ln⟩
  · exact ⟨-1, Or.inl rfl, fun k' _ => by rw [sn_ct_n, sn_ct_n], Or.inl ⟨rfl, rfl⟩⟩
  · have ht : k / 4 ^ (d + 1) % 4 < 4 := Nat.mod_lt _ (by decide)
    have h := V n hn un (by omega) _ ht
    rw [ln] at h
    refine ⟨W (4 * n + k / 4 ^ (d + 1) % 4), h, fun k' e => ?_, Or.inr ⟨n, _, hn, ht, rfl, ?_, rfl⟩⟩
    · rw [sn_ct_s hn, e]
    · rw [show 3 - l = d + 1 from by omega]
theorem sn_lf (V : sn_Vd W H U R L) {k : Nat} (hk : k < 256) : ∀ d l x, l + d = 3 → sn_pt U L l x → ∃ y, sn_pt U L 3 y ∧ sn_ct W H d x k = sn_ct W H 0 y k ∧ ∀ post : Int32 → Prop, post y → wX_leafFor_10 post (nI k) W H U T R Z P K (d + 1) x (nI l) := by
  intro d
  induction d with
  | zero =>
    intro l x hl hx
    have e : l = 3 := by omega
    subst e
    exact ⟨x, hx, rfl, fun post hp => br_t (nI_le (a := 3) (b := 3) (Nat.le_refl 3) (by decide)) hp⟩
  | succ d ih =>
    intro l x hl hx
    have h3 : ¬ (3 : Int32) ≤ nI l := nI_ge (b := 3) (by omega) (by decide)
    obtain ⟨c, hc, ec, h⟩ := sn_child (H := H) V.2.1 (k := k) hl hx
    rcases h with ⟨rfl, rfl⟩ | ⟨n, t, hn, ht, rfl, et, rfl⟩
    · exact ⟨-1, Or.inl rfl, by rw [sn_ct_n, sn_ct_n], fun post hp => br_f h3 (br_t sn_neg hp)⟩
    · obtain ⟨y, hy, ey, w⟩ := ih (l + 1) _ (by omega) hc
      exact ⟨y, hy, (ec k rfl).trans ey, fun post hp => br_f h3 (br_f (nI_pos (by omega)) (sn_turn' hk (by omega) et ⟨sn_in4 hn ht, nm_r (sn_rd4 W hn ht) (nm_r (nI_1 l) (w post hp))⟩))⟩
theorem sn_leafFor (V : sn_Vd W H U R L) {m k : Nat} (hm : m < 8) (hk : k < 256) : ∃ y, sn_pt U L 3 y ∧ sn_ct W H 3 (R m) k = sn_ct W H 0 y k ∧ ∀ post : Int32 → Prop, post y → wpX_leafFor post (W, H, U, T, R, Z, P, K) (nI m) (nI k) := by
  obtain ⟨y, h1, h2, h3⟩ := sn_lf (T := T) (Z := Z) (P := P) (K := K) V hk 3 0 (R m) rfl (V.1 m hm)
  exact ⟨y, h1, h2, fun post hp => ⟨sn_in8 hm, nm_r (sn_rd R (by omega)) ⟨_, h3 post hp⟩⟩⟩
theorem sn_holds (V : sn_Vd W H U R L) {m k : Nat} (hm : m < 8) (hk : k < 256) {post : Int32 → Prop} (h0 : sn_ct W H 3 (R m) k = none → post 0) (h1 : sn_ct W H 3 (R m) k ≠ none → post 1) : wpX_holds post (W, H, U, T, R, Z, P, K) (nI m) (nI k) := by
  obtain ⟨y, hy, ey, w⟩ := sn_leafFor (T := T) (Z := Z) (P := P) (K := K) V hm hk
  unfold wpX_holds
  dsimp only
  refine w _ ?_
  rcases hy with rfl | ⟨n, hn, rfl, un, ln⟩
  · exact br_t sn_neg (h0 (by rw [ey, sn_ct_n]))
  · refine br_f (nI_pos (by omega)) ⟨sn_in400 hn, ?_⟩
    rw [sn_and3 (by omega), sn_clm (by omega)]
    by_cases z : sn_bit (H n) (k % 4) = 0
    · exact br_t z (h0 (by rw [ey, sn_ct_00 hn z]))
    · exact br_f z (h1 (by rw [ey, sn_ct_01 hn z]; exact fun h => nomatch h))
/-! next -/
theorem sn_ml (V : sn_Vd W H U R L) {k : Nat} (hk : k < 256) : ∀ d l x, l + d = 3 → sn_pt U L l x → ∃ v, l ≤ v ∧ v ≤ 5 ∧ (v ≤ 4 → ∀ k', k' / 4 ^ (4 - v) = k / 4 ^ (4 - v) → sn_ct W H d x k' = none) ∧ (v = 5 → sn_ct W H d x k ≠ none) ∧ ∀ post : Int32 → Prop, post (nI v) → wX_missingLevel_10 post (nI k) W H U T R Z P K (d + 1) x (nI l) := by
  intro d
  induction d with
  | zero =>
    intro l x hl hx
    have e : l = 3 := by omega
    subst e
    have h3 : (3 : Int32) ≤ nI 3 := nI_le (a := 3) (b := 3) (Nat.le_refl 3) (by decide)
    rcases hx with rfl | ⟨n, hn, rfl, un, ln⟩
    · exact ⟨3, by omega, by omega, fun _ k' _ => sn_ct_n 0, fun h => by omega, fun post hp => br_t h3 (br_f sn_nneg hp)⟩
    · by_cases z : sn_bit (H n) (k % 4) = 0
      · refine ⟨4, by omega, by omega, fun _ k' e => ?_, fun h => by omega, fun post hp => br_t h3 (br_t (nI_pos' (by omega)) ⟨sn_in400 hn, ?_⟩)⟩
        · rw [Nat.sub_self, Nat.pow_zero, Nat.div_one, Nat.div_one] at e
          rw [e]
          exact sn_ct_00 hn z
        · rw [sn_and3 (by omega), sn_clm (by omega)]
          exact br_t z hp
      · refine ⟨5, by omega, by omega, fun h => by omega, fun _ => ?_, fun post hp => br_t h3 (br_t (nI_pos' (by omega)) ⟨sn_in400 hn, ?_⟩)⟩
        · rw [sn_ct_01 hn z]
          exact fun h => nomatch h
        · rw [sn_and3 (by omega), sn_clm (by omega)]
          exact br_f z hp
  | succ d ih =>
    intro l x hl hx
    have h3 : ¬ (3 : Int32) ≤ nI l := nI_ge (b := 3) (by omega) (by decide)
    obtain ⟨c, hc, ec, h⟩ := sn_child (H := H) V.2.1 (k := k) hl hx
    rcases h with ⟨rfl, rfl⟩ | ⟨n, t, hn, ht, rfl, et, rfl⟩
    · exact ⟨l, by omega, by omega, fun _ k' _ => sn_ct_n _, fun h => by omega, fun post hp => br_f h3 (br_f sn_nneg hp)⟩
    · obtain ⟨v, v1, v2, hn4, h5, w⟩ := ih (l + 1) _ (by omega) hc
      refine ⟨v, by omega, v2, fun hv k' e => ?_, fun hv => ?_, fun post hp => br_f h3 (br_t (nI_pos' (by omega)) (sn_turn' hk (by omega) et ⟨sn_in4 hn ht, nm_r (sn_rd4 W hn ht) (nm_r (nI_1 l) (w post hp))⟩))⟩
      · rw [ec k' (sn_dv e (by omega))]
        exact hn4 hv k' e
      · rw [ec k rfl]
        exact h5 hv
theorem sn_missing (V : sn_Vd W H U R L) {m k : Nat} (hm : m < 8) (hk : k < 256) : ∃ v, v ≤ 5 ∧ (v ≤ 4 → ∀ k', k' / 4 ^ (4 - v) = k / 4 ^ (4 - v) → sn_ct W H 3 (R m) k' = none) ∧ (v = 5 → sn_ct W H 3 (R m) k ≠ none) ∧ ∀ post : Int32 → Prop, post (nI v) → wpX_missingLevel post (W, H, U, T, R, Z, P, K) (nI m) (nI k) := by
  obtain ⟨v, _, h1, h2, h3, h4⟩ := sn_ml (T := T) (Z := Z) (P := P) (K := K) V hk 3 0 (R m) rfl (V.1 m hm)
  exact ⟨v, h1, h2, h3, fun post hp => ⟨sn_in8 hm, nm_r (sn_rd R (by omega)) ⟨_, h4 post hp⟩⟩⟩
def sn_nx (Q : Nat → Prop) (f j : Nat) : Prop := j ≤ 256 ∧ (∀ i, f ≤ i → i < j → ¬ Q i) ∧ (j < 256 → f ≤ j ∧ Q j)
theorem sn_nxu {Q : Nat → Prop} {f j j' : Nat} (h : sn_nx Q f j) (h' : sn_nx Q f j') : j = j' := by
  rcases Nat.lt_trichotomy j j' with z | z | z
  · have := h.2.2 (by have := h'.1; omega)
    exact (h'.2.1 j this.1 z this.2).elim
  · exact z
  · have := h'.2.2 (by have := h.1; omega)
    exact (h.2.1 j' this.1 z this.2).elim
theorem sn_nxc {Q Q' : Nat → Prop} {f j : Nat} (e : ∀ i, i < 256 → (Q i ↔ Q' i)) (h : sn_nx Q f j) : sn_nx Q' f j :=
  ⟨h.1, fun i h1 h2 q => h.2.1 i h1 h2 ((e i (by have := h.1; omega)).mpr q), fun hj => ⟨(h.2.2 hj).1, (e j hj).mp (h.2.2 hj).2⟩⟩
theorem sn_nx256 {Q : Nat → Prop} {f : Nat} (h : 256 ≤ f) : sn_nx Q f 256 := ⟨Nat.le_refl _, fun i h1 h2 => by omega, fun h => by omega⟩
theorem sn_nxj {Q : Nat → Prop} {f f' j : Nat} (h : sn_nx Q f' j) (hf : f ≤ f') (g : ∀ i, f ≤ i → i < f' → ¬ Q i) : sn_nx Q f j :=
  ⟨h.1, fun i h1 h2 q => by
    by_cases z : i < f'
    · exact g i h1 z q
    · exact h.2.1 i (by omega) h2 q, fun hj => ⟨by have := (h.2.2 hj).1; omega, (h.2.2 hj).2⟩⟩
theorem sn_tb_b1 : ∀ k, k < 256 → ∀ v, v < 5 → k < (k / 4 ^ (4 - v) + 1) * 4 ^ (4 - v) ∧ (k / 4 ^ (4 - v) + 1) * 4 ^ (4 - v) ≤ 256 := by decide +kernel
theorem sn_span {k i b : Nat} (h1 : k ≤ i) (h2 : i < (k / b + 1) * b) : i / b = k / b :=
  Nat.div_eq_of_lt_le (Nat.le_trans (Nat.div_mul_le_self k b) h1) h2
theorem sn_nextl (V : sn_Vd W H U R L) {m : Nat} (hm : m < 8) {p0 : Int32} (e0 : p0 + 1 = nI m) : ∀ d s key, s + d = 256 → s ≤ key → key < 2 ^ 31 → ∃ j, sn_nx (fun k => sn_ct W H 3 (R m) k ≠ none) key j ∧ ∀ post : Int32 → Prop, post (nI j) → wX_next_23 post p0 W H U T R Z P K (d + 1) (nI key) (nI s) := by
  intro d
  induction d with
  | zero =>
    intro s key hs hk hb
    have e : s = 256 := by omega
    subst e
    exact ⟨256, sn_nx256 hk, fun post hp => br_t (nI_le (a := 256) (b := 256) (Nat.le_refl _) (by decide)) hp⟩
  | succ d ih =>
    intro s key hs hk hb
    have h3 : ¬ (256 : Int32) ≤ nI s := nI_ge (b := 256) (by omega) (by decide)
    by_cases z : 256 ≤ key
    · exact ⟨256, sn_nx256 z, fun post hp => br_f h3 (br_t (nI_le (a := 256) z hb) hp)⟩
    · have h4 : ¬ (256 : Int32) ≤ nI key := nI_ge (b := 256) (by omega) (by decide)
      obtain ⟨v, v5, a4, a5, w⟩ := sn_missing (T := T) (Z := Z) (P := P) (K := K) V hm (k := key) (by omega)
      by_cases hv : v = 5
      · refine ⟨key, ⟨by omega, fun i h1 h2 => by omega, fun _ => ⟨Nat.le_refl _, a5 hv⟩⟩, fun post hp => br_f h3 (br_f h4 ?_)⟩
        rw [e0]
        refine w _ (br_f ?_ hp)
        exact nI_ge (b := v) (a := 4) (by omega) (by omega)
      · obtain ⟨b1, b2⟩ := sn_tb_b1 key (by omega) v (by omega)
        obtain ⟨j, hj, wj⟩ := ih (s + 1) ((key / 4 ^ (4 - v) + 1) * 4 ^ (4 - v)) (by omega) (by omega) (by omega)
        refine ⟨j, sn_nxj hj (by omega) (fun i h1 h2 q => q (a4 (by omega) i (sn_span h1 h2))), fun post hp => br_f h3 (br_f h4 ?_)⟩
        rw [e0]
        refine w _ (br_t (nI_le (a := v) (b := 4) (by omega) (by decide)) (sn_behind (by omega) (by omega) (nm_r (nI_1 s) (wj post hp))))
end SnC
end
section
section SnD
variable {W H U T R Z P K : Nat → Int32} {L : Nat → Nat}
/-! sharedLevel -/
theorem sn_s158 {post : Int32 → Prop} {x y fx fy : Int32} {k : Nat} (hk : k < 256) (hx : sn_pt U L 3 x) (hy : sn_pt U L 3 y)
    (ex : (fx = 0 ∧ sn_ct W H 0 x k = none) ∨ (fx = 1 ∧ sn_ct W H 0 x k ≠ none)) (ey : (fy = 0 ∧ sn_ct W H 0 y k = none) ∨ (fy = 1 ∧ sn_ct W H 0 y k ≠ none))
    (h4 : sn_ct W H 0 x k = sn_ct W H 0 y k → post 4) (h5 : sn_ct W H 0 x k ≠ sn_ct W H 0 y k → post 5) :
    wX_sharedLevel_158 post (nI k) x y fx fy W H U T R Z P K := by
  unfold wX_sharedLevel_158
  rcases ex with ⟨rfl, ax⟩ | ⟨rfl, ax⟩
  · rcases ey with ⟨rfl, ay⟩ | ⟨rfl, ay⟩
    · exact br_t rfl (br_t rfl (h4 (ax.trans ay.symm)))
    · exact br_f (by decide) (h5 (fun e => ay (e.symm.trans ax)))
  · rcases ey with ⟨rfl, ay⟩ | ⟨rfl, ay⟩
    · exact br_f (by decide) (h5 (fun e => ax (e.trans ay)))
    · rcases hx with rfl | ⟨n, hn, rfl, un, ln⟩
      · exact (ax (sn_ct_n 0)).elim
      · rcases hy with rfl | ⟨n', hn', rfl, un', ln'⟩
        · exact (ay (sn_ct_n 0)).elim
        · have ht : k % 4 < 4 := Nat.mod_lt _ (by decide)
          have bx : ¬ sn_bit (H n) (k % 4) = 0 := fun z => ax (sn_ct_00 hn z)
          have b2 : ¬ sn_bit (H n') (k % 4) = 0 := fun z => ay (sn_ct_00 hn' z)
          rw [sn_ct_01 hn bx, sn_ct_01 hn' b2] at h4 h5
          refine br_t rfl (br_f (by decide) ?_)
          rw [sn_and3 (by omega)]
          refine ⟨sn_in4 hn ht, sn_in4 hn' ht, ?_⟩
          rw [sn_cl4 hn ht, sn_cl4 hn' ht]
          exact br_c (fun e => h4 (by rw [e])) (fun e => h5 (fun z => e (Option.some.inj z)))
theorem sn_s130 {post : Int32 → Prop} {x y fx : Int32} {k : Nat} (hk : k < 256) (hx : sn_pt U L 3 x) (hy : sn_pt U L 3 y)
    (ex : (fx = 0 ∧ sn_ct W H 0 x k = none) ∨ (fx = 1 ∧ sn_ct W H 0 x k ≠ none))
    (h4 : sn_ct W H 0 x k = sn_ct W H 0 y k → post 4) (h5 : sn_ct W H 0 x k ≠ sn_ct W H 0 y k → post 5) :
    wX_sharedLevel_130 post (nI k) x y fx W H U T R Z P K := by
  unfold wX_sharedLevel_130 wX_sharedLevel_157
  rcases hy with rfl | ⟨n, hn, rfl, un, ln⟩
  · exact br_t sn_neg (sn_s158 (L := L) hk hx (Or.inl rfl) ex (Or.inl ⟨rfl, sn_ct_n 0⟩) h4 h5)
  · refine br_f (nI_pos (by omega)) ⟨sn_in400 hn, ?_⟩
    rw [sn_and3 (by omega), sn_clm (by omega)]
    by_cases z : sn_bit (H n) (k % 4) = 0
    · exact br_t z (sn_s158 (L := L) hk hx (Or.inr ⟨n, hn, rfl, un, ln⟩) ex (Or.inl ⟨rfl, sn_ct_00 hn z⟩) h4 h5)
    · exact br_f z (sn_s158 (L := L) hk hx (Or.inr ⟨n, hn, rfl, un, ln⟩) ex (Or.inr ⟨rfl, by rw [sn_ct_01 hn z]; exact fun h => nomatch h⟩) h4 h5)
theorem sn_s60 {post : Int32 → Prop} {J : Int32 → Int32 → Int32 → Prop} {y c z0 : Int32} {k l : Nat} (hk : k < 256) (hl : l < 3)
    (h : (y = -1 ∧ c = -1) ∨ ∃ n t, n < 400 ∧ t < 4 ∧ y = nI n ∧ k / 4 ^ (3 - l) % 4 = t ∧ c = W (4 * n + t)) (hJ : J z0 c (nI (l + 1))) :
    wX_sharedLevel_60 post J (nI k) y (nI l) z0 W H U T R Z P K := by
  unfold wX_sharedLevel_60
  rcases h with ⟨rfl, rfl⟩ | ⟨n, t, hn, ht, rfl, et, rfl⟩
  · exact br_f sn_nneg (nm_r (nI_1 l) hJ)
  · exact br_t (nI_pos' (by omega)) (sn_turn' hk hl et ⟨sn_in4 hn ht, nm_r (sn_rd4 W hn ht) (nm_r (nI_1 l) hJ)⟩)
theorem sn_sh (V : sn_Vd W H U R L) {k : Nat} (hk : k < 256) : ∀ d l x y, l + d = 3 → sn_pt U L l x → sn_pt U L l y → ∃ v, l ≤ v ∧ v ≤ 5 ∧ (v ≤ 4 → ∀ k', k' / 4 ^ (4 - v) = k / 4 ^ (4 - v) → sn_ct W H d x k' = sn_ct W H d y k') ∧ (v = 5 → sn_ct W H d x k ≠ sn_ct W H d y k) ∧ ∀ post : Int32 → Prop, post (nI v) → wX_sharedLevel_19 post (nI k) W H U T R Z P K (d + 1) x y (nI l) := by
  intro d
  induction d with
  | zero =>
    intro l x y hl hx hy
    have e : l = 3 := by omega
    subst e
    have h3 : (3 : Int32) ≤ nI 3 := nI_le (a := 3) (b := 3) (Nat.le_refl 3) (by decide)
    by_cases exy : x = y
    · exact ⟨3, by omega, by omega, fun _ k' _ => by rw [exy], fun h => by omega, fun post hp => br_t h3 (br_t exy hp)⟩
    · have key : ∀ post : Int32 → Prop, (sn_ct W H 0 x k = sn_ct W H 0 y k → post 4) → (sn_ct W H 0 x k ≠ sn_ct W H 0 y k → post 5) → wX_sharedLevel_19 post (nI k) W H U T R Z P K (0 + 1) x y (nI 3) := by
        intro post h4 h5
        refine br_t h3 (br_f exy ?_)
        rcases hx with rfl | ⟨n, hn, rfl, un, ln⟩
        · exact br_t sn_neg (sn_s130 (L := L) hk (Or.inl rfl) hy (Or.inl ⟨rfl, sn_ct_n 0⟩) h4 h5)
        · refine br_f (nI_pos (by omega)) ⟨sn_in400 hn, ?_⟩
          rw [sn_and3 (by omega), sn_clm (by omega)]
          by_cases z : sn_bit (H n) (k % 4) = 0
          · exact br_t z (sn_s130 (L := L) hk (Or.inr ⟨n, hn, rfl, un, ln⟩) hy (Or.inl ⟨rfl, sn_ct_00 hn z⟩) h4 h5)
          · exact br_f z (sn_s130 (L := L) hk (Or.inr ⟨n, hn, rfl, un, ln⟩) hy (Or.inr ⟨rfl, by rw [sn_ct_01 hn z]; exact fun h => nomatch h⟩) h4 h5)
      by_cases ec : sn_ct W H 0 x k = sn_ct W H 0 y k
      · refine ⟨4, by omega, by omega, fun _ k' e => ?_, fun h => by omega, fun post hp => key post (fun _ => hp) (fun z => (z ec).elim)⟩
        rw [Nat.sub_self, Nat.pow_zero, Nat.div_one, Nat.div_one] at e
        rw [e]
        exact ec
      · exact ⟨5, by omega, by omega, fun h => by omega, fun _ => ec, fun post hp => key post (fun z => (ec z).elim) (fun _ => hp)⟩
  | succ d ih =>
    intro l x y hl hx hy
    have h3 : ¬ (3 : Int32) ≤ nI l := nI_ge (b := 3) (by omega) (by decide)
    by_cases exy : x = y
    · exact ⟨l, by omega, by omega, fun _ k' _ => by rw [exy], fun h => by omega, fun post hp => br_f h3 (br_t exy hp)⟩
    · obtain ⟨c, hc, ec, hcx⟩ := sn_child (H := H) V.2.1 (k := k) hl hx
      obtain ⟨c', hc', ec', hcy⟩ := sn_child (H := H) V.2.1 (k := k) hl hy
      obtain ⟨v, v1, v2, a4, a5, w⟩ := ih (l + 1) c c' (by omega) hc hc'
      refine ⟨v, by omega, v2, fun hv k' e => ?_, fun hv => ?_, fun post hp => br_f h3 (br_f exy ?_)⟩
      · rw [ec k' (sn_dv e (by omega)), ec' k' (sn_dv e (by omega))]
        exact a4 hv k' e
      · rw [ec k rfl, ec' k rfl]
        exact a5 hv
      · rcases hcx with ⟨rfl, rfl⟩ | ⟨n, t, hn, ht, rfl, et, rfl⟩
        · exact br_f sn_nneg (sn_s60 hk (by omega) hcy (w post hp))
        · refine br_t (nI_pos' (by omega)) (sn_turn' hk (by omega) et ⟨sn_in4 hn ht, ?_⟩)
          rw [sn_rd4 W hn ht]
          exact sn_s60 hk (by omega) hcy (w post hp)
theorem sn_shared (V : sn_Vd W H U R L) {a b k : Nat} (ha : a < 8) (hb : b < 8) (hk : k < 256) : ∃ v, v ≤ 5 ∧ (v ≤ 4 → ∀ k', k' / 4 ^ (4 - v) = k / 4 ^ (4 - v) → sn_ct W H 3 (R a) k' = sn_ct W H 3 (R b) k') ∧ (v = 5 → sn_ct W H 3 (R a) k ≠ sn_ct W H 3 (R b) k) ∧ ∀ post : Int32 → Prop, post (nI v) → wpX_sharedLevel post (W, H, U, T, R, Z, P, K) (nI a) (nI b) (nI k) := by
  obtain ⟨v, _, h1, h2, h3, h4⟩ := sn_sh (T := T) (Z := Z) (P := P) (K := K) V hk 3 0 (R a) (R b) rfl (V.1 a ha) (V.1 b hb)
  exact ⟨v, h1, h2, h3, fun post hp => ⟨sn_in8 ha, nm_r (sn_rd R (by omega)) ⟨sn_in8 hb, nm_r (sn_rd R (by omega)) ⟨_, h4 post hp⟩⟩⟩⟩
theorem sn_ncl (V : sn_Vd W H U R L) {a b : Nat} (ha : a < 8) (hb : b < 8) {p0 p1 : Int32} (e0 : p0 + 1 = nI a) (e1 : p1 + 1 = nI b) : ∀ d s key, s + d = 256 → s ≤ key → key < 2 ^ 31 → ∃ j, sn_nx (fun k => sn_ct W H 3 (R a) k ≠ sn_ct W H 3 (R b) k) key j ∧ ∀ post : Int32 → Prop, post (nI j) → wX_nextChange_32 post p0 p1 W H U T R Z P K (d + 1) (nI key) (nI s) := by
  intro d
  induction d with
  | zero =>
    intro s key hs hk hb
    have e : s = 256 := by omega
    subst e
    exact ⟨256, sn_nx256 hk, fun post hp => br_t (nI_le (a := 256) (b := 256) (Nat.le_refl _) (by decide)) hp⟩
  | succ d ih =>
    intro s key hs hk hlt
    have h3 : ¬ (256 : Int32) ≤ nI s := nI_ge (b := 256) (by omega) (by decide)
    by_cases z : 256 ≤ key
    · exact ⟨256, sn_nx256 z, fun post hp => br_f h3 (br_t (nI_le (a := 256) z hlt) hp)⟩
    · have h4 : ¬ (256 : Int32) ≤ nI key := nI_ge (b := 256) (by omega) (by decide)
      obtain ⟨v, v5, a4, a5, w⟩ := sn_shared (T := T) (Z := Z) (P := P) (K := K) V ha hb (k := key) (by omega)
      by_cases hv : v = 5
      · refine ⟨key, ⟨by omega, fun i h1 h2 => by omega, fun _ => ⟨Nat.le_refl _, a5 hv⟩⟩, fun post hp => br_f h3 (br_f h4 ?_)⟩
        rw [e0, e1]
        refine w _ (br_f ?_ hp)
        exact nI_ge (b := v) (a := 4) (by omega) (by omega)
      · obtain ⟨b1, b2⟩ := sn_tb_b1 key (by omega) v (by omega)
        obtain ⟨j, hj, wj⟩ := ih (s + 1) ((key / 4 ^ (4 - v) + 1) * 4 ^ (4 - v)) (by omega) (by omega) (by omega)
        refine ⟨j, sn_nxj hj (by omega) (fun i h1 h2 q => q (a4 (by omega) i (sn_span h1 h2))), fun post hp => br_f h3 (br_f h4 ?_)⟩
        rw [e0, e1]
        refine w _ (br_t (nI_le (a := v) (b := 4) (by omega) (by decide)) (sn_behind (by omega) (by omega) (nm_r (nI_1 s) (wj post hp))))
/-! isMap, nextChange, changes -/
def sn_mp (T : Nat → Int32) (x : Int32) (m : Nat) : Prop := m < 8 ∧ x + 1 = nI m ∧ T m ≠ 0
theorem sn_m1z : (-1 : Int32) + 1 = nI 0 := by decide
theorem sn_mcase (x : Int32) : (x < (-1)) ∨ (6 < x) ∨ (¬ x < (-1) ∧ ¬ 6 < x ∧ ∃ m, m < 8 ∧ x + 1 = nI m ∧ ((m = 0 ∧ x = -1) ∨ ∃ s, s < 7 ∧ m = s + 1 ∧ x = nI s)) := by
  by_cases h1 : x < (-1)
  · exact Or.inl h1
  · by_cases h2 : 6 < x
    · exact Or.inr (Or.inl h2)
    · refine Or.inr (Or.inr ⟨h1, h2, ?_⟩)
      by_cases h0 : x < 0
      · have e : x = -1 := by
          apply Int32.toInt_inj.mp
          rw [Int32.lt_iff_toInt_lt] at h1 h0
          rw [show (-1 : Int32).toInt = -1 from by decide] at h1 ⊢
          rw [show (0 : Int32).toInt = 0 from by decide] at h0
          omega
        exact ⟨0, by omega, by rw [e]; decide, Or.inl ⟨rfl, e⟩⟩
      · obtain ⟨j, hj, rfl⟩ := nI_of h0
        have h6 : ¬ nI 6 < nI j := h2
        rw [nI_ltI (by omega) hj] at h6
        exact ⟨j + 1, by omega, nI_1 j, Or.inr ⟨j, by omega, rfl, rfl⟩⟩
theorem sn_isMap1 {x : Int32} {m : Nat} (h : sn_mp T x m) {post : Int32 → Prop} (hp : post 1) : wpX_isMap post (W, H, U, T, R, Z, P, K) x := by
  rcases sn_mcase x with z | z | ⟨z1, z2, m', hm', e, _⟩
  · exfalso
    obtain ⟨hm, e, _⟩ := h
    have e2 : x = nI m - 1 := by rw [← e, Int32.add_sub_cancel]
    rw [Int32.lt_iff_toInt_lt, e2, Int32.toInt_sub, nI_toInt (by omega), show (1 : Int32).toInt = 1 from by decide, show (-1 : Int32).toInt = -1 from by decide, Int.bmod_eq_of_le (by omega) (by omega)] at z
    omega
  · exfalso
    obtain ⟨hm, e, _⟩ := h
    have e2 : x = nI m - 1 := by rw [← e, Int32.add_sub_cancel]
    rw [Int32.lt_iff_toInt_lt, e2, Int32.toInt_sub, nI_toInt (by omega), show (1 : Int32).toInt = 1 from by decide, show (6 : Int32).toInt = 6 from by decide, Int.bmod_eq_of_le (by omega) (by omega)] at z
    omega
  · refine br_f z1 (br_f z2 ?_)
    rw [h.2.1]
    refine ⟨sn_in8 h.1, ?_⟩
    rw [sn_clm (by have := h.1; omega)]
    exact br_f h.2.2 hp
theorem sn_isMap0 {x : Int32} (h : ∀ m, ¬ sn_mp T x m) {post : Int32 → Prop} (hp : post 0) : wpX_isMap post (W, H, U, T, R, Z, P, K) x := by
  rcases sn_mcase x with z | z | ⟨z1, z2, m', hm', e, _⟩
  · exact br_t z hp
  · by_cases z1 : x < (-1)
    · exact br_t z1 hp
    · exact br_f z1 (br_t z hp)
  · refine br_f z1 (br_f z2 ?_)
    rw [e]
    refine ⟨sn_in8 hm', ?_⟩
    rw [sn_clm (by omega)]
    by_cases t : T m' = 0
    · exact br_t t hp
    · exact (h m' ⟨hm', e, t⟩).elim
theorem sn_nextX (V : sn_Vd W H U R L) {p0 p1 : Int32} {m : Nat} (hm : sn_mp T p0 m) : ∃ j, sn_nx (fun k => sn_ct W H 3 (R m) k ≠ none) p1.toNatClampNeg j ∧ ∀ post : Int32 → Prop, post (nI j) → wpX_next post (W, H, U, T, R, Z, P, K) p0 p1 := by
  by_cases h : 0 ≤ p1
  · obtain ⟨f, hf, rfl⟩ := nI_of (x := p1) (Int32.not_lt.mpr h)
    rw [nI_clamp hf]
    obtain ⟨j, hj, w⟩ := sn_nextl (T := T) (Z := Z) (P := P) (K := K) V hm.1 hm.2.1 256 0 f rfl (Nat.zero_le _) hf
    refine ⟨j, hj, fun post hp => ?_⟩
    unfold wpX_next
    exact sn_isMap1 hm (br_f (by decide) (br_t h ⟨_, w post hp⟩))
  · have e : p1.toNatClampNeg = 0 := by
      rw [Int32.le_iff_toInt_le, show (0 : Int32).toInt = 0 from by decide] at h
      show p1.toInt.toNat = 0
      omega
    rw [e]
    obtain ⟨j, hj, w⟩ := sn_nextl (T := T) (Z := Z) (P := P) (K := K) V hm.1 hm.2.1 256 0 0 rfl (Nat.zero_le _) (by decide)
    refine ⟨j, hj, fun post hp => ?_⟩
    unfold wpX_next
    exact sn_isMap1 hm (br_f (by decide) (br_f h ⟨_, w post hp⟩))
theorem sn_ncX (V : sn_Vd W H U R L) {p0 p1 p2 : Int32} {a b : Nat} (ha : sn_mp T p0 a) (hb : sn_mp T p1 b) : ∃ j, sn_nx (fun k => sn_ct W H 3 (R a) k ≠ sn_ct W H 3 (R b) k) p2.toNatClampNeg j ∧ ∀ post : Int32 → Prop, post (nI j) → wpX_nextChange post (W, H, U, T, R, Z, P, K) p0 p1 p2 := by
  by_cases h : 0 ≤ p2
  · obtain ⟨f, hf, rfl⟩ := nI_of (x := p2) (Int32.not_lt.mpr h)
    rw [nI_clamp hf]
    obtain ⟨j, hj, w⟩ := sn_ncl (T := T) (Z := Z) (P := P) (K := K) V ha.1 hb.1 ha.2.1 hb.2.1 256 0 f rfl (Nat.zero_le _) hf
    refine ⟨j, hj, fun post hp => ?_⟩
    unfold wpX_nextChange
    exact sn_isMap1 ha (br_f (by decide) (sn_isMap1 hb (br_f (by decide) (br_t h ⟨_, w post hp⟩))))
  · have e : p2.toNatClampNeg = 0 := by
      rw [Int32.le_iff_toInt_le, show (0 : Int32).toInt = 0 from by decide] at h
      show p2.toInt.toNat = 0
      omega
    rw [e]
    obtain ⟨j, hj, w⟩ := sn_ncl (T := T) (Z := Z) (P := P) (K := K) V ha.1 hb.1 ha.2.1 hb.2.1 256 0 0 rfl (Nat.zero_le _) (by decide)
    refine ⟨j, hj, fun post hp => ?_⟩
    unfold wpX_nextChange
    exact sn_isMap1 ha (br_f (by decide) (sn_isMap1 hb (br_f (by decide) (br_f h ⟨_, w post hp⟩))))
/-- X's count of changes: n is the number below the next one -/
theorem sn_chl (V : sn_Vd W H U R L) {p0 p1 : Int32} {a b : Nat} (ha : sn_mp T p0 a) (hb : sn_mp T p1 b) : ∀ d s f key, s + d = 256 → s ≤ key → sn_nx (fun k => sn_ct W H 3 (R a) k ≠ sn_ct W H 3 (R b) k) f key → f ≤ key → ∀ post : Int32 → Prop, post (nI (sn_c (fun k => sn_ct W H 3 (R a) k ≠ sn_ct W H 3 (R b) k) 256)) → wX_changes_32 post p0 p1 W H U T R Z P K (d + 1) (nI (sn_c (fun k => sn_ct W H 3 (R a) k ≠ sn_ct W H 3 (R b) k) f)) (nI key) (nI s) := by
  have ext : ∀ f key, f ≤ key → sn_nx (fun k => sn_ct W H 3 (R a) k ≠ sn_ct W H 3 (R b) k) f key → sn_c (fun k => sn_ct W H 3 (R a) k ≠ sn_ct W H 3 (R b) k) key = sn_c (fun k => sn_ct W H 3 (R a) k ≠ sn_ct W H 3 (R b) k) f := by
    intro f key hfk hn
    obtain ⟨e, rfl⟩ : ∃ e, key = f + e := ⟨key - f, by omega⟩
    rw [sn_csp, sn_cz (fun i hi => hn.2.1 (f + i) (by omega) (by omega)), Nat.add_zero]
  intro d
  induction d with
  | zero =>
    intro s f key hs hk hn hf post hp
    have e : s = 256 := by omega
    subst e
    have ek : key = 256 := by have := hn.1; omega
    subst ek
    rw [ext f 256 hf hn] at hp
    exact br_t (nI_le (a := 256) (b := 256) (Nat.le_refl _) (by decide)) hp
  | succ d ih =>
    intro s f key hs hk hn hf post hp
    have h3 : ¬ (256 : Int32) ≤ nI s := nI_ge (b := 256) (by omega) (by decide)
    by_cases z : key = 256
    · subst z
      rw [ext f 256 hf hn] at hp
      exact br_f h3 (br_t (nI_le (a := 256) (b := 256) (Nat.le_refl _) (by decide)) hp)
    · have hk2 : key < 256 := by have := hn.1; omega
      have h4 : ¬ (256 : Int32) ≤ nI key := nI_ge (b := 256) hk2 (by decide)
      obtain ⟨j, hj, w⟩ := sn_ncX (T := T) (Z := Z) (P := P) (K := K) (p2 := nI key + 1) V ha hb
      rw [nI_1, nI_clamp (by omega)] at hj
      rw [nI_1] at w
      have hq := (hn.2.2 hk2).2
      have e1 : sn_c (fun k => sn_ct W H 3 (R a) k ≠ sn_ct W H 3 (R b) k) (key + 1) = sn_c (fun k => sn_ct W H 3 (R a) k ≠ sn_ct W H 3 (R b) k) f + 1 := by
        rw [sn_cs, ext f key hf hn, sn_b1 hq]
      have hjk : key + 1 ≤ j := by
        by_cases zj : j < 256
        · exact (hj.2.2 zj).1
        · omega
      have st := ih (s + 1) (key + 1) j (by omega) (by omega) hj hjk post hp
      rw [e1] at st
      refine br_f h3 (br_f h4 (nm_r (nI_1 _) ?_))
      rw [nI_1 key]
      refine w _ ?_
      exact nm_r (nI_1 s) st
theorem sn_chX (V : sn_Vd W H U R L) {p0 p1 : Int32} {a b : Nat} (ha : sn_mp T p0 a) (hb : sn_mp T p1 b) {post : Int32 → Prop} (hp : post (nI (sn_c (fun k => sn_ct W H 3 (R a) k ≠ sn_ct W H 3 (R b) k) 256))) : wpX_changes post (W, H, U, T, R, Z, P, K) p0 p1 := by
  obtain ⟨j, hj, w⟩ := sn_ncX (T := T) (Z := Z) (P := P) (K := K) (p2 := 0) V ha hb
  unfold wpX_changes
  exact sn_isMap1 ha (br_f (by decide) (sn_isMap1 hb (br_f (by decide) (w _ ⟨_, sn_chl V ha hb 256 0 0 j rfl (Nat.zero_le _) hj (Nat.zero_le _) post hp⟩))))
end SnD
end
section
section SnE
variable {T A B V : Nat → Int32}
def sn_yc (B V : Nat → Int32) (m k : Nat) : Option Int32 := if B (256 * m + k) = 0 then none else some (V (256 * m + k))
theorem sn_yc0 {m k : Nat} (h : B (256 * m + k) = 0) : sn_yc B V m k = none := if_pos h
theorem sn_yc1 {m k : Nat} (h : ¬ B (256 * m + k) = 0) : sn_yc B V m k = some (V (256 * m + k)) := if_neg h
theorem sn_ycn {m k : Nat} (h : ¬ B (256 * m + k) = 0) : sn_yc B V m k ≠ none := by
  rw [sn_yc1 h]
  exact fun z => nomatch z
theorem sn_in2k {m k : Nat} (hm : m < 8) (hk : k < 256) : vp_in (256 * nI m + nI k) 2048 := by
  rw [sn_256a]
  exact vp_in_nI (by omega) (by omega)
theorem sn_cl2k {m k : Nat} (hm : m < 8) (hk : k < 256) : (256 * nI m + nI k).toNatClampNeg = 256 * m + k := by
  rw [sn_256a]
  exact nI_clamp (by omega)
theorem sn_ltf {i : Nat} {x : Int32} (hi : i < 2 ^ 31) : nI i < x ↔ i < x.toNatClampNeg := by
  by_cases h : x < 0
  · have e : x.toNatClampNeg = 0 := by
      rw [Int32.lt_iff_toInt_lt, show (0 : Int32).toInt = 0 from by decide] at h
      show x.toInt.toNat = 0
      omega
    rw [e]
    constructor
    · intro z
      exact (nI_pos hi (Int32.lt_trans z h)).elim
    · intro z
      omega
  · obtain ⟨j, hj, rfl⟩ := nI_of h
    rw [nI_clamp hj, nI_ltI hi hj]
theorem sn_ycl {m : Nat} (hm : m < 8) {post : Int32 → Prop} (hp : post (nI (sn_c (fun k => sn_yc B V m k ≠ none) 256))) : ∀ d i, i + d = 256 → wY_count_4 post (nI m) A B V (d + 1) (nI (sn_c (fun k => sn_yc B V m k ≠ none) i)) (nI i) := by
  intro d
  induction d with
  | zero =>
    intro i hi
    have e : i = 256 := by omega
    subst e
    exact br_t (nI_le (a := 256) (b := 256) (Nat.le_refl _) (by decide)) hp
  | succ d ih =>
    intro i hi
    have h3 : ¬ (256 : Int32) ≤ nI i := nI_ge (b := 256) (by omega) (by decide)
    have st := ih (i + 1) (by omega)
    rw [sn_cs] at st
    refine br_f h3 ⟨sn_in2k hm (by omega), ?_⟩
    rw [sn_cl2k hm (by omega)]
    by_cases z : B (256 * m + i) = 0
    · rw [sn_b0 (fun h => h (sn_yc0 z)), Nat.add_zero] at st
      exact br_t z (nm_r (nI_1 i) st)
    · rw [sn_b1 (sn_ycn z)] at st
      exact br_f z (nm_r (nI_1 _) (nm_r (nI_1 i) st))
theorem sn_ycount {m : Nat} (hm : m < 8) {post : Int32 → Prop} (hp : post (nI (sn_c (fun k => sn_yc B V m k ≠ none) 256))) : wpY_count post (A, B, V) (nI m) :=
  ⟨_, sn_ycl hm hp 256 0 rfl⟩
/-! place -/
def sn_pm (m : Nat) : Nat := if m = 0 then 7 else m - 1
theorem sn_pm0 : sn_pm 0 = 7 := rfl
theorem sn_pms (s : Nat) : sn_pm (s + 1) = s := if_neg (by omega)
theorem sn_pml {m : Nat} (h : m < 8) : sn_pm m < 8 := by
  unfold sn_pm
  split <;> omega
theorem sn_pmi {m n : Nat} (hm : m < 8) (hn : n < 8) (h : sn_pm m = sn_pm n) : m = n := by
  unfold sn_pm at h
  split at h <;> split at h <;> omega
def sn_TA (T A : Nat → Int32) : Prop := T 0 ≠ 0 ∧ ∀ s, s < 7 → (T (s + 1) = 0 ↔ A s = 0)
theorem sn_place1 (hT : sn_TA T A) {x : Int32} {m : Nat} (h : sn_mp T x m) {post : Int32 → Prop} (hp : post (nI (sn_pm m))) : wpY_place post (A, B, V) x := by
  obtain ⟨hm, e, ht⟩ := h
  have e2 : x = nI m - 1 := by rw [← e, Int32.add_sub_cancel]
  cases m with
  | zero =>
    have e3 : x = -1 := by rw [e2]; decide
    exact br_t e3 hp
  | succ s =>
    rw [nI_pred] at e2
    subst e2
    rw [sn_pms] at hp
    refine br_f (sn_ne1 (by omega)) (br_f (nI_pos (by omega)) (br_f (nI_nlt (a := 6) (by omega) (by omega)) ⟨sn_in8 (by omega), ?_⟩))
    rw [sn_clm (by omega)]
    exact br_f (fun z => ht ((hT.2 s (by omega)).mpr z)) hp
theorem sn_place0 (hT : sn_TA T A) {x : Int32} (h : ∀ m, ¬ sn_mp T x m) {post : Int32 → Prop} (hp : post (-1)) : wpY_place post (A, B, V) x := by
  rcases sn_mcase x with z | z | ⟨z1, z2, m, hm, e, hx⟩
  · refine br_f (fun e => ?_) (br_t (Int32.lt_trans z sn_neg) hp)
    rw [e] at z
    exact Int32.lt_irrefl z
  · have z0 : ¬ x < 0 := fun q => by
      have := Int32.lt_trans z q
      exact absurd this (by decide)
    refine br_f (fun e => ?_) (br_f z0 (br_t z hp))
    rw [e] at z0
    exact z0 sn_neg
  · rcases hx with ⟨rfl, rfl⟩ | ⟨s, hs, rfl, rfl⟩
    · exact (h 0 ⟨hm, e, hT.1⟩).elim
    · refine br_f (sn_ne1 (by omega)) (br_f (nI_pos (by omega)) (br_f z2 ⟨sn_in8 (by omega), ?_⟩))
      rw [sn_clm (by omega)]
      by_cases t : A s = 0
      · exact br_t t hp
      · exact (h (s + 1) ⟨hm, e, fun z => t ((hT.2 s hs).mp z)⟩).elim
/-! badKey -/
theorem sn_bad0 {k : Nat} (hk : k < 256) {post : Int32 → Prop} (hp : post 0) : wpY_badKey post (nI k) :=
  br_f (nI_pos (by omega)) (br_t (nI_le (b := 255) (by omega) (by decide)) hp)
theorem sn_key (x : Int32) : x < 0 ∨ (¬ x < 0 ∧ ¬ x ≤ 255 ∧ 255 < x) ∨ ∃ k, k < 256 ∧ x = nI k := by
  by_cases h : x < 0
  · exact Or.inl h
  · obtain ⟨j, hj, rfl⟩ := nI_of h
    by_cases h2 : j < 256
    · exact Or.inr (Or.inr ⟨j, h2, rfl⟩)
    · exact Or.inr (Or.inl ⟨h, nI_ge (a := 255) (by omega) hj, nI_lt (a := 255) (by omega) hj⟩)
theorem sn_bad1 {x : Int32} (h : x < 0 ∨ (¬ x < 0 ∧ ¬ x ≤ 255 ∧ 255 < x)) {post : Int32 → Prop} (hp : post 1) : wpY_badKey post x := by
  rcases h with h | ⟨h1, h2, _⟩
  · exact br_t h hp
  · exact br_f h1 (br_f h2 hp)
/-! copy -/
def sn_cpi (B V : Nat → Int32) (m n i : Nat) (B1 V1 : Nat → Int32) : Prop := (∀ k, k < i → B1 (256 * n + k) = B (256 * m + k) ∧ V1 (256 * n + k) = V (256 * m + k)) ∧ (∀ j, (j < 256 * n ∨ 256 * n + i ≤ j) → B1 j = B j ∧ V1 j = V j)
theorem sn_nb {x : Int32} (h : x = 0 ∨ x = 1) : vp_nar .boolean x = x := by
  rcases h with rfl | rfl <;> rfl
theorem sn_cpl (hB : ∀ j, B j = 0 ∨ B j = 1) {m n : Nat} (hm : m < 8) (hn : n < 8) (hmn : m ≠ n) : ∀ d i B1 V1, i + d = 256 → sn_cpi B V m n i B1 V1 → ∃ B' V', sn_cpi B V m n 256 B' V' ∧ ∀ post : SY → Prop, post (A, B', V') → wY_copy_2 post (nI m) (nI n) (d + 1) (nI i) A B1 V1 := by
  intro d
  induction d with
  | zero =>
    intro i B1 V1 hi h
    have e : i = 256 := by omega
    subst e
    exact ⟨B1, V1, h, fun post hp => br_t (nI_le (a := 256) (b := 256) (Nat.le_refl _) (by decide)) hp⟩
  | succ d ih =>
    intro i B1 V1 hi h
    have h3 : ¬ (256 : Int32) ≤ nI i := nI_ge (b := 256) (by omega) (by decide)
    have hs := h.2 (256 * m + i) (by omega)
    obtain ⟨B', V', h', w⟩ := ih (i + 1) (upd B1 (256 * n + i) (B (256 * m + i))) (upd V1 (256 * n + i) (V (256 * m + i))) (by omega) ⟨fun k hk => by
        by_cases e : k = i
        · subst e
          exact ⟨sn_us, sn_us⟩
        · rw [sn_un (by omega), sn_un (by omega)]
          exact h.1 k (by omega), fun j hj => by
        rw [sn_un (by omega), sn_un (by omega)]
        exact h.2 j (by omega)⟩
    refine ⟨B', V', h', fun post hp => br_f h3 ⟨sn_in2k hm (by omega), sn_in2k hn (by omega), nm_r (e' := upd B1 (256 * n + i) (B (256 * m + i))) ?_ ⟨sn_in2k hm (by omega), sn_in2k hn (by omega), nm_r (e' := upd V1 (256 * n + i) (V (256 * m + i))) ?_ (nm_r (nI_1 i) (w post hp))⟩⟩⟩
    · rw [sn_cl2k hm (by omega), sn_cl2k hn (by omega), hs.1, sn_nb (hB _)]
    · rw [sn_cl2k hm (by omega), sn_cl2k hn (by omega), hs.2]
theorem sn_ycopy (hB : ∀ j, B j = 0 ∨ B j = 1) {m n : Nat} (hm : m < 8) (hn : n < 8) (hmn : m ≠ n) : ∃ B' V', (∀ j, B' j = 0 ∨ B' j = 1) ∧ (∀ k, k < 256 → sn_yc B' V' n k = sn_yc B V m k) ∧ (∀ q k, q ≠ n → k < 256 → sn_yc B' V' q k = sn_yc B V q k) ∧ ∀ post : SY → Prop, post (A, B', V') → wpY_copy post (A, B, V) (nI m) (nI n) := by
  obtain ⟨B', V', h, w⟩ := sn_cpl (A := A) (V := V) hB hm hn hmn 256 0 B V rfl ⟨fun k hk => by omega, fun j _ => ⟨rfl, rfl⟩⟩
  refine ⟨B', V', fun j => ?_, fun k hk => ?_, fun q k hq hk => ?_, fun post hp => ⟨_, w post hp⟩⟩
  · by_cases z : j < 256 * n ∨ 256 * n + 256 ≤ j
    · rw [(h.2 j z).1]
      exact hB j
    · have := (h.1 (j - 256 * n) (by omega)).1
      rw [show 256 * n + (j - 256 * n) = j from by omega] at this
      rw [this]
      exact hB _
  · unfold sn_yc
    rw [(h.1 k hk).1, (h.1 k hk).2]
  · unfold sn_yc
    rw [(h.2 (256 * q + k) (by omega)).1, (h.2 (256 * q + k) (by omega)).2]
/-! next -/
theorem sn_ynl {m : Nat} (hm : m < 8) (x : Int32) : ∀ d i, i + d = 256 → (∀ i', x.toNatClampNeg ≤ i' → i' < i → ¬ sn_yc B V m i' ≠ none) → ∃ j, sn_nx (fun k => sn_yc B V m k ≠ none) x.toNatClampNeg j ∧ ∀ post : Int32 → Prop, post (nI j) → wY_next_15 post x (nI m) A B V (d + 1) (nI i) := by
  intro d
  induction d with
  | zero =>
    intro i hi h
    have e : i = 256 := by omega
    subst e
    exact ⟨256, ⟨Nat.le_refl _, h, fun z => by omega⟩, fun post hp => br_t (nI_le (a := 256) (b := 256) (Nat.le_refl _) (by decide)) hp⟩
  | succ d ih =>
    intro i hi h
    have h3 : ¬ (256 : Int32) ≤ nI i := nI_ge (b := 256) (by omega) (by decide)
    by_cases z : i < x.toNatClampNeg
    · obtain ⟨j, hj, w⟩ := ih (i + 1) (by omega) (fun i' h1 h2 => by omega)
      exact ⟨j, hj, fun post hp => br_f h3 (br_t ((sn_ltf (by omega)).mpr z) (nm_r (nI_1 i) (w post hp)))⟩
    · have z' : ¬ nI i < x := fun q => z ((sn_ltf (by omega)).mp q)
      by_cases b : B (256 * m + i) = 0
      · obtain ⟨j, hj, w⟩ := ih (i + 1) (by omega) (fun i' h1 h2 => by
          by_cases e : i' = i
          · subst e
            exact fun q => q (sn_yc0 b)
          · exact h i' h1 (by omega))
        refine ⟨j, hj, fun post hp => br_f h3 (br_f z' ⟨sn_in2k hm (by omega), ?_⟩)⟩
        rw [sn_cl2k hm (by omega)]
        exact br_t b (nm_r (nI_1 i) (w post hp))
      · refine ⟨i, ⟨by omega, h, fun _ => ⟨by omega, sn_ycn b⟩⟩, fun post hp => br_f h3 (br_f z' ⟨sn_in2k hm (by omega), ?_⟩)⟩
        rw [sn_cl2k hm (by omega)]
        exact br_f b hp
theorem sn_ynext (hT : sn_TA T A) {p0 x : Int32} {m : Nat} (hm : sn_mp T p0 m) : ∃ j, sn_nx (fun k => sn_yc B V (sn_pm m) k ≠ none) x.toNatClampNeg j ∧ ∀ post : Int32 → Prop, post (nI j) → wpY_next post (A, B, V) p0 x := by
  obtain ⟨j, hj, w⟩ := sn_ynl (A := A) (B := B) (V := V) (sn_pml hm.1) x 256 0 rfl (fun i' _ h => by omega)
  refine ⟨j, hj, fun post hp => ?_⟩
  unfold wpY_next
  exact sn_place1 hT hm (br_t (nI_pos' (by have := sn_pml hm.1; omega)) ⟨_, w post hp⟩)
/-! differ, nextChange, changes -/
theorem sn_differ (hB : ∀ j, B j = 0 ∨ B j = 1) {m n k : Nat} (hm : m < 8) (hn : n < 8) (hk : k < 256) {post : Int32 → Prop} (h0 : sn_yc B V m k = sn_yc B V n k → post 0) (h1 : sn_yc B V m k ≠ sn_yc B V n k → post 1) : wpY_differ post (A, B, V) (nI m) (nI n) (nI k) := by
  refine ⟨sn_in2k hm hk, sn_in2k hn hk, ?_⟩
  rw [sn_cl2k hm hk, sn_cl2k hn hk]
  rcases hB (256 * m + k) with a | a
  · rcases hB (256 * n + k) with b | b
    · exact br_t (a.trans b.symm) ⟨sn_in2k hm hk, br_t a (h0 ((sn_yc0 a).trans (sn_yc0 b).symm))⟩
    · have b' : ¬ B (256 * n + k) = 0 := by rw [b]; decide
      exact br_f (by rw [a, b]; decide) (h1 (fun e => sn_ycn b' (e.symm.trans (sn_yc0 a))))
  · have a' : ¬ B (256 * m + k) = 0 := by rw [a]; decide
    rcases hB (256 * n + k) with b | b
    · exact br_f (by rw [a, b]; decide) (h1 (fun e => sn_ycn a' (e.trans (sn_yc0 b))))
    · have b' : ¬ B (256 * n + k) = 0 := by rw [b]; decide
      rw [sn_yc1 a', sn_yc1 b'] at h0 h1
      exact br_t (a.trans b.symm) ⟨sn_in2k hm hk, br_f a' ⟨sn_in2k hm hk, sn_in2k hn hk, br_c (fun e => h0 (by rw [e])) (fun e => h1 (fun z => e (Option.some.inj z)))⟩⟩
theorem sn_ycnl (hB : ∀ j, B j = 0 ∨ B j = 1) {m n : Nat} (hm : m < 8) (hn : n < 8) (x : Int32) : ∀ d i, i + d = 256 → (∀ i', x.toNatClampNeg ≤ i' → i' < i → ¬ sn_yc B V m i' ≠ sn_yc B V n i') → ∃ j, sn_nx (fun k => sn_yc B V m k ≠ sn_yc B V n k) x.toNatClampNeg j ∧ ∀ post : Int32 → Prop, post (nI j) → wY_nextChange_29 post x (nI m) (nI n) A B V (d + 1) (nI i) := by
  intro d
  induction d with
  | zero =>
    intro i hi h
    have e : i = 256 := by omega
    subst e
    exact ⟨256, ⟨Nat.le_refl _, h, fun z => by omega⟩, fun post hp => br_t (nI_le (a := 256) (b := 256) (Nat.le_refl _) (by decide)) hp⟩
  | succ d ih =>
    intro i hi h
    have h3 : ¬ (256 : Int32) ≤ nI i := nI_ge (b := 256) (by omega) (by decide)
    by_cases z : i < x.toNatClampNeg
    · obtain ⟨j, hj, w⟩ := ih (i + 1) (by omega) (fun i' h1 h2 => by omega)
      exact ⟨j, hj, fun post hp => br_f h3 (br_t ((sn_ltf (by omega)).mpr z) (nm_r (nI_1 i) (w post hp)))⟩
    · have z' : ¬ nI i < x := fun q => z ((sn_ltf (by omega)).mp q)
      by_cases b : sn_yc B V m i = sn_yc B V n i
      · obtain ⟨j, hj, w⟩ := ih (i + 1) (by omega) (fun i' h1 h2 => by
          by_cases e : i' = i
          · subst e
            exact fun q => q b
          · exact h i' h1 (by omega))
        exact ⟨j, hj, fun post hp => br_f h3 (br_f z' (sn_differ hB hm hn (by omega) (fun _ => br_t rfl (nm_r (nI_1 i) (w post hp))) (fun q => (q b).elim)))⟩
      · exact ⟨i, ⟨by omega, h, fun _ => ⟨by omega, b⟩⟩, fun post hp => br_f h3 (br_f z' (sn_differ hB hm hn (by omega) (fun q => (b q).elim) (fun _ => br_f (by decide) hp)))⟩
theorem sn_ync (hB : ∀ j, B j = 0 ∨ B j = 1) (hT : sn_TA T A) {p0 p1 x : Int32} {a b : Nat} (ha : sn_mp T p0 a) (hb : sn_mp T p1 b) : ∃ j, sn_nx (fun k => sn_yc B V (sn_pm a) k ≠ sn_yc B V (sn_pm b) k) x.toNatClampNeg j ∧ ∀ post : Int32 → Prop, post (nI j) → wpY_nextChange post (A, B, V) p0 p1 x := by
  obtain ⟨j, hj, w⟩ := sn_ycnl (A := A) (V := V) hB (sn_pml ha.1) (sn_pml hb.1) x 256 0 rfl (fun i' _ h => by omega)
  refine ⟨j, hj, fun post hp => ?_⟩
  unfold wpY_nextChange
  exact sn_place1 hT ha (sn_place1 hT hb (br_f (nI_pos (by have := sn_pml ha.1; omega)) (br_t (nI_pos' (by have := sn_pml hb.1; omega)) ⟨_, w post hp⟩)))
theorem sn_ychl (hB : ∀ j, B j = 0 ∨ B j = 1) {m n : Nat} (hm : m < 8) (hn : n < 8) {post : Int32 → Prop} (hp : post (nI (sn_c (fun k => sn_yc B V m k ≠ sn_yc B V n k) 256))) : ∀ d i, i + d = 256 → wY_changes_30 post (nI m) (nI n) A B V (d + 1) (nI (sn_c (fun k => sn_yc B V m k ≠ sn_yc B V n k) i)) (nI i) := by
  intro d
  induction d with
  | zero =>
    intro i hi
    have e : i = 256 := by omega
    subst e
    exact br_t (nI_le (a := 256) (b := 256) (Nat.le_refl _) (by decide)) hp
  | succ d ih =>
    intro i hi
    have h3 : ¬ (256 : Int32) ≤ nI i := nI_ge (b := 256) (by omega) (by decide)
    have st := ih (i + 1) (by omega)
    rw [sn_cs] at st
    refine br_f h3 (sn_differ hB hm hn (by omega) (fun e => ?_) (fun e => ?_))
    · rw [sn_b0 (fun h => h e), Nat.add_zero] at st
      exact br_t rfl (nm_r (nI_1 i) st)
    · rw [sn_b1 e] at st
      exact br_f (by decide) (nm_r (nI_1 _) (nm_r (nI_1 i) st))
theorem sn_ych (hB : ∀ j, B j = 0 ∨ B j = 1) (hT : sn_TA T A) {p0 p1 : Int32} {a b : Nat} (ha : sn_mp T p0 a) (hb : sn_mp T p1 b) {post : Int32 → Prop} (hp : post (nI (sn_c (fun k => sn_yc B V (sn_pm a) k ≠ sn_yc B V (sn_pm b) k) 256))) : wpY_changes post (A, B, V) p0 p1 := by
  unfold wpY_changes
  exact sn_place1 hT ha (sn_place1 hT hb (br_f (nI_pos (by have := sn_pml ha.1; omega)) (br_t (nI_pos' (by have := sn_pml hb.1; omega)) ⟨_, sn_ychl hB (sn_pml ha.1) (sn_pml hb.1) hp 256 0 rfl⟩)))
end SnE
end
section
section SnF
variable {W H U T R Z P K G : Nat → Int32} {L E : Nat → Nat} {a : Nat}
theorem sn_ac_cg {U' : Nat → Int32} (h : ∀ p, p < 400 → p ≠ a → (U' p = 0 ↔ U p = 0)) (A : sn_Ac W U G L a) : sn_Ac W U' G L a := by
  intro p hp hne
  obtain ⟨h1, h2⟩ := A p hp hne
  have e := h p hp hne
  exact ⟨fun hu => h1 (fun z => hu (e.mpr z)), fun hu => h2 (hu.imp e.mp id)⟩
theorem sn_mk_cg {U' : Nat → Int32} (h : ∀ p, p < 400 → p ≠ a → (U' p = 0 ↔ U p = 0)) (A : sn_Mk H U L a) : sn_Mk H U' L a := by
  intro p hp hne hu
  exact A p hp hne (fun z => hu ((h p hp hne).mpr z))
theorem sn_inv_E {E' : Nat → Nat} (h : ∀ n, n < 400 → E n = E' n) (I : sn_Inv W H U L G E a) : sn_Inv W H U L G E' a :=
  ⟨⟨fun n hn => by rw [← h n hn]; exact I.1.1 n hn, fun n hn => by rw [← h n hn]; exact I.1.2 n hn⟩, I.2⟩
/-! share -/
theorem sn_share_inv (I : sn_Inv W H U L G sn_z 400) {t : Nat} (ht : t < 8) {x : Int32} (hx : sn_pt U L 0 x) {U' : Nat → Int32} (hU : ∀ n, n < 400 → U' n = nI (sn_rc G n + sn_b (x = nI n))) :
    sn_Inv W H U' L (upd G (1600 + t) x) (fun n => sn_b (G (1600 + t) = nI n)) 400 ∧ (∀ p, p < 400 → (U' p = 0 ↔ U p = 0)) := by
  have hu : ∀ p, p < 400 → (U' p = 0 ↔ U p = 0) := by
    intro p hp
    have h0 := sn_Rf0 I.1 hp
    have hr := sn_rcl G p
    have hb := sn_bl (x = nI p)
    rw [h0, hU p hp, sn_eq0 (by omega)]
    show _ ↔ sn_rc G p + 0 = 0
    by_cases e : x = nI p
    · have hpos : U p ≠ 0 := by
        rcases hx with z | ⟨n, hn, e2, un, _⟩
        · exact (sn_ne1 (by omega) (e.symm.trans z)).elim
        · have : p = n := (nI_eq (by omega) (by omega)).mp (e.symm.trans e2)
          rw [this]
          exact un
      have : sn_rc G p ≠ 0 := fun z => hpos (h0.mpr (by rw [z]; rfl))
      omega
    · rw [sn_b0 e]
  refine ⟨⟨⟨fun n hn => ?_, fun n hn => ?_⟩, fun i hi => ?_, ?_, sn_mk_cg (fun p hp _ => hu p hp) I.2.2.2⟩, hu⟩
  · rw [hU n hn, ← sn_rcu (i := 1600 + t) (by omega)]
  · have := sn_bl (G (1600 + t) = nI n)
    dsimp only
    omega
  · by_cases e : i = 1600 + t
    · subst e
      rw [sn_us, sn_slr]
      rcases hx with z | ⟨n, hn, e2, un, ln⟩
      · exact Or.inl z
      · exact Or.inr ⟨n, hn, e2, ln⟩
    · rw [sn_un e]
      exact I.2.1 i hi
  · have A := sn_ac_cg (fun p hp _ => hu p hp) I.2.2.1
    intro p hp hne
    obtain ⟨h1, h2⟩ := A p hp hne
    refine ⟨fun h3 h4 w hw => ?_, fun h3 w hw => ?_⟩
    · rw [sn_un (by omega)]
      exact h1 h3 h4 w hw
    · rw [sn_un (by omega)]
      exact h2 h3 w hw
theorem sn_shareX (I : sn_Inv W H U L G sn_z 400) {f t : Nat} (hf : f < 8) (ht : t < 8) (hx : sn_pt U L 0 (R f)) :
    ∃ U', (∀ n, n < 400 → U' n = nI (sn_rc G n + sn_b (R f = nI n))) ∧ ∀ post : SX → Prop, post (W, H, U', T, upd R t (R f), upd Z t (Z f), P, K) → wpX_share post (W, H, U, T, R, Z, P, K) (nI f) (nI t) := by
  have key : ∀ post : SX → Prop, ((R f < 0 → post (W, H, U, T, upd R t (R f), upd Z t (Z f), P, K)) ∧ (¬ R f < 0 → vp_in (R f) 400 ∧ post (W, H, upd U (R f).toNatClampNeg (U (R f).toNatClampNeg + 1), T, upd R t (R f), upd Z t (Z f), P, K))) → wpX_share post (W, H, U, T, R, Z, P, K) (nI f) (nI t) := by
    intro post h
    have et : (nI t).toNatClampNeg = t := sn_clm (by omega)
    refine ⟨sn_in8 hf, sn_in8 ht, nm_r (e' := upd R t (R f)) (by rw [et, sn_clm (by omega)]) ⟨sn_in8 hf, sn_in8 ht, nm_r (e' := upd Z t (Z f)) (by rw [et, sn_clm (by omega)]) ⟨sn_in8 ht, ?_⟩⟩⟩
    rw [et, sn_us]
    exact br_c (fun z => h.1 z) (fun z => ⟨sn_in8 ht, (h.2 z).1, (h.2 z).1, nm_e (h.2 z).2⟩)
  rcases hx with e | ⟨q, hq, e, uq, lq⟩
  · refine ⟨U, fun n hn => ?_, fun post hp => key post (br_t (by rw [e]; exact sn_neg) hp)⟩
    rw [e, sn_b0 (sn_ne1' (by omega))]
    exact I.1.1 n hn
  · refine ⟨upd U q (U q + 1), fun n hn => ?_, fun post hp => key post (br_f (by rw [e]; exact nI_pos (by omega)) ⟨by rw [e]; exact sn_in400 hq, ?_⟩)⟩
    · rw [e]
      by_cases z : n = q
      · subst z
        rw [sn_us, sn_b1 rfl, I.1.1 n hn]
        exact nI_1 _
      · rw [sn_un z, sn_b0 (fun y => z ((nI_eq (by omega) (by omega)).mp y.symm))]
        exact I.1.1 n hn
    · have e2 : (R f).toNatClampNeg = q := by rw [e]; exact sn_clm (by omega)
      rw [e2]
      exact hp
/-! giveBack -/
def sn_wt (l : Nat) : Nat := if l = 0 then 85 else if l = 1 then 21 else if l = 2 then 5 else 1
theorem sn_wt1 : ∀ l, l < 3 → sn_wt l = 1 + 4 * sn_wt (l + 1) := by decide
theorem sn_wtp (l : Nat) : 1 ≤ sn_wt l := by
  unfold sn_wt
  split
  · omega
  · split
    · omega
    · split <;> omega
def sn_mu (L : Nat → Nat) (K : Nat → Int32) : Nat → Nat
  | 0 => 0
  | d + 1 => sn_mu L K d + sn_wt (L (K d).toNatClampNeg)
theorem sn_mus (L : Nat → Nat) (K : Nat → Int32) (d : Nat) : sn_mu L K (d + 1) = sn_mu L K d + sn_wt (L (K d).toNatClampNeg) := rfl
theorem sn_muc {K' : Nat → Int32} : ∀ d, (∀ j, j < d → K' j = K j) → sn_mu L K' d = sn_mu L K d := by
  intro d
  induction d with
  | zero => intro _; rfl
  | succ d ih =>
    intro h
    rw [sn_mus, sn_mus, ih (fun j hj => h j (by omega)), h d (by omega)]
noncomputable def sn_E (K : Nat → Int32) (d : Nat) : Nat → Nat := fun n => sn_c (fun j => K j = nI n) d
theorem sn_Es (K : Nat → Int32) (d n : Nat) : sn_E K (d + 1) n = sn_E K d n + sn_b (K d = nI n) := rfl
theorem sn_El (K : Nat → Int32) (d n : Nat) : sn_E K d n ≤ d := sn_cl _ _
theorem sn_Ec {K' : Nat → Int32} {d : Nat} (h : ∀ j, j < d → K' j = K j) (n : Nat) : sn_E K' d n = sn_E K d n := sn_cc (fun j hj => by rw [h j hj])
def sn_Sk (L : Nat → Nat) (K : Nat → Int32) (d : Nat) : Prop := ∀ j, j < d → ∃ n, n < 400 ∧ K j = nI n ∧ L n ≤ 3 ∧ j ≤ 3 * L n
/-- the inner loop: the references of a node that goes are put on the stack -/
theorem sn_gbi {n l s : Nat} (hn : n < 400) (hl : L n = l) (hl3 : l < 3) (un : U n = 0) : ∀ e w d G K, w + e = 4 → sn_Inv W H U L G (sn_E K d) n → (∀ w', w' < w → G (4 * n + w') = -1) → (∀ w', w ≤ w' → w' < 4 → G (4 * n + w') = W (4 * n + w')) → sn_Sk L K d → d ≤ 3 * l + w →
    ∃ d' G' K', sn_Inv W H U L G' (sn_E K' d') 400 ∧ (∀ i, 1600 ≤ i → G' i = G i) ∧ sn_Sk L K' d' ∧ sn_mu L K' d' ≤ sn_mu L K d + e * sn_wt (l + 1) ∧
      ∀ (post : SX → Prop) (J : Int32 → Int32 → (Nat → Int32) → (Nat → Int32) → (Nat → Int32) → (Nat → Int32) → (Nat → Int32) → (Nat → Int32) → (Nat → Int32) → (Nat → Int32) → Prop), J (nI d') (nI (s + 1)) W H U T R Z P K' → wX_giveBack_76 post J (nI s) (nI n) (e + 1) (nI d) (nI w) W H U T R Z P K := by
  intro e
  induction e with
  | zero =>
    intro w d G K hw I g1 g2 hS hd
    have ew : w = 4 := by omega
    subst ew
    refine ⟨d, G, K, ⟨I.1, I.2.1, ?_, ?_⟩, fun _ _ => rfl, hS, by omega, fun post J hJ => br_t (nI_le (a := 4) (b := 4) (Nat.le_refl _) (by decide)) (nm_r (nI_1 s) hJ)⟩
    · intro p hp _
      by_cases e : p = n
      · subst e
        exact ⟨fun h => (h un).elim, fun _ w' hw' => g1 w' hw'⟩
      · exact I.2.2.1 p hp e
    · intro p hp _ hu
      by_cases e : p = n
      · subst e
        exact (hu un).elim
      · exact I.2.2.2 p hp e hu
  | succ e ih =>
    intro w d G K hw I g1 g2 hS hd
    have h4 : ¬ (4 : Int32) ≤ nI w := nI_ge (b := 4) (by omega) (by decide)
    have eg := g2 w (Nat.le_refl _) (by omega)
    rcases I.2.1 (4 * n + w) (by omega) with ex | ⟨c, hc, ex, lc⟩
    · obtain ⟨d', G', K', h1, h2, h3, h5, h6⟩ := ih (w + 1) d G K (by omega) I (fun w' hw' => by
          by_cases z : w' = w
          · subst z; exact ex
          · exact g1 w' (by omega)) (fun w' a b => g2 w' (by omega) b) hS (by omega)
      refine ⟨d', G', K', h1, h2, h3, ?_, fun post J hJ => br_f h4 ⟨sn_in4 hn (by omega), ?_⟩⟩
      · rw [Nat.succ_mul]; omega
      · rw [sn_cl4 hn (by omega), ← eg, ex]
        exact br_t sn_neg (nm_r (nI_1 w) (h6 post J hJ))
    · rw [sn_sl4 hn (by omega), hl] at lc
      have hKd : ∀ j, j < d → upd K d (nI c) j = K j := fun j hj => sn_un (by omega)
      have I' : sn_Inv W H U L (upd G (4 * n + w) (-1)) (sn_E (upd K d (nI c)) (d + 1)) n := by
        refine ⟨⟨fun m hm => ?_, fun m hm => ?_⟩, fun i hi => ?_, ?_, I.2.2.2⟩
        · rw [I.1.1 m hm, sn_Es, sn_Ec hKd, sn_us]
          have h := sn_rcu (G := G) (i := 4 * n + w) (n := m) (v := -1) (by omega)
          rw [ex, sn_b0 (p := (-1 : Int32) = nI m) (sn_ne1' (by omega))] at h
          exact congrArg nI (by omega)
        · have := sn_El (upd K d (nI c)) (d + 1) m
          omega
        · by_cases z : i = 4 * n + w
          · subst z
            exact Or.inl sn_us
          · rw [sn_un z]
            exact I.2.1 i hi
        · intro p hp hne
          obtain ⟨a1, a2⟩ := I.2.2.1 p hp hne
          refine ⟨fun x1 x2 w' hw' => ?_, fun x1 w' hw' => ?_⟩
          · rw [sn_un (by omega)]
            exact a1 x1 x2 w' hw'
          · rw [sn_un (by omega)]
            exact a2 x1 w' hw'
      obtain ⟨d', G', K', h1, h2, h3, h5, h6⟩ := ih (w + 1) (d + 1) (upd G (4 * n + w) (-1)) (upd K d (nI c)) (by omega) I' (fun w' hw' => by
          by_cases z : w' = w
          · subst z; exact sn_us
          · rw [sn_un (by omega)]
            exact g1 w' (by omega)) (fun w' a b => by
          rw [sn_un (by omega)]
          exact g2 w' (by omega) b) (fun j hj => by
          by_cases z : j = d
          · subst z
            exact ⟨c, hc, sn_us, by omega, by omega⟩
          · rw [sn_un z]
            exact hS j (by omega)) (by omega)
      refine ⟨d', G', K', h1, fun i hi => (h2 i hi).trans (sn_un (by omega)), h3, ?_, fun post J hJ => br_f h4 ⟨sn_in4 hn (by omega), ?_⟩⟩
      · rw [sn_mus, sn_muc d hKd, sn_us, sn_clm (by omega), lc] at h5
        rw [Nat.succ_mul]
        omega
      · rw [sn_cl4 hn (by omega), ← eg, ex]
        exact br_f (nI_pos (by omega)) ⟨sn_in4 hn (by omega), vp_in_nI (by omega) (by omega), nm_r (e' := upd K d (nI c)) (by rw [sn_clm (by omega)]) (nm_r (nI_1 d) (nm_r (nI_1 w) (h6 post J hJ)))⟩
theorem sn_gbo : ∀ F U G K d s, sn_Inv W H U L G (sn_E K d) 400 → sn_Sk L K d → sn_mu L K d ≤ F → s + sn_mu L K d ≤ 400 →
    ∃ U' G' K', sn_Inv W H U' L G' sn_z 400 ∧ (∀ i, 1600 ≤ i → G' i = G i) ∧ (∀ p, p < 400 → U' p ≠ 0 → U p ≠ 0) ∧
      ∀ post : SX → Prop, post (W, H, U', T, R, Z, P, K') → wX_giveBack_16 post (F + 1) (nI d) (nI s) W H U T R Z P K := by
  intro F
  induction F with
  | zero =>
    intro U G K d s I hS hm hs
    cases d with
    | zero => exact ⟨U, G, K, I, fun _ _ => rfl, fun _ _ h => h, fun post hp => br_c (fun _ => hp) (fun _ => br_t (by decide) hp)⟩
    | succ d =>
      rw [sn_mus] at hm
      have := sn_wtp (L (K d).toNatClampNeg)
      omega
  | succ F ih =>
    intro U G K d s I hS hm hs
    cases d with
    | zero => exact ⟨U, G, K, I, fun _ _ => rfl, fun _ _ h => h, fun post hp => br_c (fun _ => hp) (fun _ => br_t (by decide) hp)⟩
    | succ d =>
      obtain ⟨n, hn, ek, ln3, hdl⟩ := hS d (by omega)
      have hS' : sn_Sk L K d := fun j hj => hS j (by omega)
      have ew : sn_wt (L (K d).toNatClampNeg) = sn_wt (L n) := by rw [ek, sn_clm (by omega)]
      rw [sn_mus, ew] at hm hs
      have hwp := sn_wtp (L n)
      have hsn : ¬ (400 : Int32) ≤ nI s := nI_ge (b := 400) (by omega) (by decide)
      have hdn : ¬ nI (d + 1) ≤ 0 := nI_nle (by omega) (by omega)
      have un : U n ≠ 0 := by
        intro z
        have := (sn_Rf0 I.1 hn).mp z
        rw [sn_Es, sn_b1 ek] at this
        omega
      have hR : sn_Rf (upd U n (U n - 1)) G (sn_E K d) := by
        refine ⟨fun m hm4 => ?_, fun m hm4 => ?_⟩
        · by_cases z : m = n
          · subst z
            rw [sn_us, I.1.1 m hm4, sn_Es, sn_b1 ek, ← Nat.add_assoc]
            exact nI_pred _
          · rw [sn_un z, I.1.1 m hm4, sn_Es, sn_b0 (fun y => z ((nI_eq (by omega) (by omega)).mp (y.symm.trans ek))), Nat.add_zero]
        · have := sn_El K d m
          omega
      have step : ∀ (post : SX → Prop), ((upd U n (U n - 1) n = 0 → ((H n &&& 256 = 0 → ∃ n76 : Nat, wX_giveBack_76 post (wX_giveBack_16 post (F + 1)) (nI s) (nI n) n76 (nI d) 0 W H (upd U n (U n - 1)) T R Z P K) ∧ (¬ H n &&& 256 = 0 → wX_giveBack_16 post (F + 1) (nI d) (nI (s + 1)) W H (upd U n (U n - 1)) T R Z P K))) ∧ (¬ upd U n (U n - 1) n = 0 → wX_giveBack_16 post (F + 1) (nI d) (nI (s + 1)) W H (upd U n (U n - 1)) T R Z P K)) → wX_giveBack_16 post (F + 1 + 1) (nI (d + 1)) (nI s) W H U T R Z P K := by
        intro post h
        refine br_f hsn (br_f hdn (nm_r (sn_m1 d) ⟨vp_in_nI (by omega) (by omega), nm_r (e' := nI n) (by rw [sn_clm (by omega), ek]) ⟨sn_in400 hn, sn_in400 hn, nm_r (e' := upd U n (U n - 1)) (by rw [sn_clm (by omega)]) ⟨sn_in400 hn, ?_⟩⟩⟩))
        rw [sn_clm (by omega)]
        refine br_c (fun z => ⟨sn_in400 hn, br_c (fun y => (h.1 z).1 y) (fun y => nm_r (nI_1 s) ((h.1 z).2 y))⟩) (fun z => nm_r (nI_1 s) (h.2 z))
      by_cases z : upd U n (U n - 1) n = 0
      · have hne : ∀ p, p < 400 → p ≠ n → (upd U n (U n - 1) p = 0 ↔ U p = 0) := fun p _ hpn => by rw [sn_un hpn]
        have hA : sn_Ac W (upd U n (U n - 1)) G L n := sn_ac_cg hne (fun p hp _ => I.2.2.1 p hp (by omega))
        have hM : sn_Mk H (upd U n (U n - 1)) L n := sn_mk_cg hne (fun p hp _ => I.2.2.2 p hp (by omega))
        have hsub : ∀ p, p < 400 → upd U n (U n - 1) p ≠ 0 → U p ≠ 0 := fun p hp h => by
          by_cases e : p = n
          · subst e; exact un
          · rw [sn_un e] at h; exact h
        have mk := I.2.2.2 n hn (by omega) un
        by_cases l3 : L n < 3
        · obtain ⟨d', G', K', I', g', S', m', w'⟩ := sn_gbi (W := W) (H := H) (T := T) (R := R) (Z := Z) (P := P) (s := s) hn rfl l3 z 4 0 d G K rfl ⟨hR, I.2.1, hA, hM⟩ (fun w' hw' => by omega) (fun w' _ hw' => (I.2.2.1 n hn (by omega)).1 un l3 w' hw') hS' (by omega)
          have hw4 := sn_wt1 (L n) l3
          obtain ⟨U2, G2, K2, I2, g2, s2, w2⟩ := ih (upd U n (U n - 1)) G' K' d' (s + 1) I' S' (by omega) (by omega)
          exact ⟨U2, G2, K2, I2, fun i hi => (g2 i hi).trans (g' i hi), fun p hp h => hsub p hp (s2 p hp h), fun post hp => step post (br_t z (br_t (mk.2.2 l3) ⟨_, w' post _ (w2 post hp)⟩))⟩
        · have l3' : L n = 3 := by omega
          obtain ⟨b, hb, eb⟩ := mk.2.1 l3'
          have I1 : sn_Inv W H (upd U n (U n - 1)) L G (sn_E K d) 400 := by
            refine ⟨hR, I.2.1, fun p hp _ => ?_, fun p hp _ hu => ?_⟩
            · by_cases e : p = n
              · subst e
                exact ⟨fun h => (h z).elim, fun _ => (I.2.2.1 p hp (by omega)).2 (Or.inr l3')⟩
              · exact hA p hp e
            · by_cases e : p = n
              · subst e
                exact (hu z).elim
              · exact hM p hp e hu
          obtain ⟨U2, G2, K2, I2, g2, s2, w2⟩ := ih (upd U n (U n - 1)) G K d (s + 1) I1 hS' (by omega) (by omega)
          exact ⟨U2, G2, K2, I2, g2, fun p hp h => hsub p hp (s2 p hp h), fun post hp => step post (br_t z (br_f (by rw [eb]; exact sn_tb_256 b hb) (w2 post hp)))⟩
      · have hall : ∀ p, p < 400 → p ≠ 400 → (upd U n (U n - 1) p = 0 ↔ U p = 0) := fun p hp _ => by
          by_cases e : p = n
          · subst e
            exact ⟨fun h => (z h).elim, fun h => (un h).elim⟩
          · rw [sn_un e]
        have I1 : sn_Inv W H (upd U n (U n - 1)) L G (sn_E K d) 400 := ⟨hR, I.2.1, sn_ac_cg hall I.2.2.1, sn_mk_cg hall I.2.2.2⟩
        obtain ⟨U2, G2, K2, I2, g2, s2, w2⟩ := ih (upd U n (U n - 1)) G K d (s + 1) I1 hS' (by omega) (by omega)
        exact ⟨U2, G2, K2, I2, g2, fun p hp h q => s2 p hp h ((hall p hp (by omega)).mpr q), fun post hp => step post (br_f z (w2 post hp))⟩
theorem sn_giveBack {x : Int32} (I : sn_Inv W H U L G (fun n => sn_b (x = nI n)) 400) (hx : x = -1 ∨ ∃ n, n < 400 ∧ x = nI n ∧ L n = 0) :
    ∃ U' G' K', sn_Inv W H U' L G' sn_z 400 ∧ (∀ i, 1600 ≤ i → G' i = G i) ∧ (∀ p, p < 400 → U' p ≠ 0 → U p ≠ 0) ∧
      ∀ post : SX → Prop, post (W, H, U', T, R, Z, P, K') → wpX_giveBack post (W, H, U, T, R, Z, P, K) x := by
  rcases hx with rfl | ⟨n, hn, rfl, ln⟩
  · exact ⟨U, G, K, sn_inv_E (fun n hn => sn_b0 (sn_ne1' (by omega))) I, fun _ _ => rfl, fun _ _ h => h, fun post hp => br_f sn_nneg hp⟩
  · have eE : ∀ m, m < 400 → sn_b (nI n = nI m) = sn_E (upd K 0 (nI n)) 1 m := fun m _ => by
      rw [sn_Es, sn_us]
      exact (Nat.zero_add _).symm
    have em : sn_mu L (upd K 0 (nI n)) 1 = 85 := by
      rw [sn_mus, sn_us, sn_clm (by omega), ln]
      rfl
    obtain ⟨U', G', K', h1, h2, h3, h4⟩ := sn_gbo (T := T) (R := R) (Z := Z) (P := P) 85 U G (upd K 0 (nI n)) 1 0 (sn_inv_E eE I) (fun j hj => by
      have : j = 0 := by omega
      subst this
      exact ⟨n, hn, sn_us, by omega, by omega⟩) (by omega) (by omega)
    exact ⟨U', G', K', h1, h2, h3, fun post hp => br_t (nI_pos' (by omega)) (nm_e ⟨_, h4 post hp⟩)⟩
end SnF
end
section
section SnG
variable {W H U T R Z P K G : Nat → Int32} {L : Nat → Nat}
def sn_ul (L : Nat → Nat) (n l : Nat) : Nat → Nat := fun j => if j = n then l else L j
theorem sn_uls {L : Nat → Nat} {n l : Nat} : sn_ul L n l n = l := if_pos rfl
theorem sn_uln {L : Nat → Nat} {n l j : Nat} (h : j ≠ n) : sn_ul L n l j = L j := if_neg h
noncomputable def sn_e1 (n : Nat) : Nat → Nat := fun m => sn_b (m = n)
/-! freeNode -/
theorem sn_fnl : ∀ d i, i + d = 400 → (∃ j, i ≤ j ∧ j < 400 ∧ U j = 0) → ∃ n, n < 400 ∧ U n = 0 ∧ ∀ post : Int32 → Prop, post (nI n) → wX_freeNode_2 post W H U T R Z P K (d + 1) (nI i) := by
  intro d
  induction d with
  | zero =>
    intro i hi ⟨j, h1, h2, _⟩
    omega
  | succ d ih =>
    intro i hi ⟨j, h1, h2, h3⟩
    have h4 : ¬ (400 : Int32) ≤ nI i := nI_ge (b := 400) (by omega) (by decide)
    by_cases z : U i = 0
    · refine ⟨i, by omega, z, fun post hp => br_f h4 ⟨sn_in400 (by omega), ?_⟩⟩
      rw [sn_clm (by omega)]
      exact br_t z hp
    · obtain ⟨n, hn, un, w⟩ := ih (i + 1) (by omega) ⟨j, by
        by_cases e : i = j
        · subst e; exact (z h3).elim
        · omega, h2, h3⟩
      refine ⟨n, hn, un, fun post hp => br_f h4 ⟨sn_in400 (by omega), ?_⟩⟩
      rw [sn_clm (by omega)]
      exact br_f z (nm_r (nI_1 i) (w post hp))
theorem sn_freeX (h : ∃ j, j < 400 ∧ U j = 0) : ∃ n, n < 400 ∧ U n = 0 ∧ ∀ post : Int32 → Prop, post (nI n) → wpX_freeNode post (W, H, U, T, R, Z, P, K) := by
  obtain ⟨j, hj, uj⟩ := h
  obtain ⟨n, hn, un, w⟩ := sn_fnl (W := W) (H := H) (T := T) (R := R) (Z := Z) (P := P) (K := K) 400 0 rfl ⟨j, Nat.zero_le _, hj, uj⟩
  exact ⟨n, hn, un, fun post hp => ⟨_, w post hp⟩⟩
/-! a new node is claimed -/
theorem sn_claim (I : sn_Inv W H U L G sn_z 400) {n l : Nat} (hn : n < 400) (un : U n = 0) :
    sn_Inv W H (upd U n 1) (sn_ul L n l) G (sn_e1 n) n ∧ (∀ w, w < 4 → G (4 * n + w) = -1) ∧ (∀ i, i < 1608 → G i ≠ nI n) := by
  have g1 := (I.2.2.1 n hn (by omega)).2 (Or.inl un)
  have r0 : sn_rc G n = 0 := (sn_Rf0 I.1 hn).mp un
  have g2 : ∀ i, i < 1608 → G i ≠ nI n := fun i hi e => by
    have : 0 < sn_rc G n := sn_c1 hi e
    omega
  refine ⟨⟨⟨fun m hm => ?_, fun m hm => ?_⟩, fun i hi => ?_, fun p hp hne => ?_, fun p hp hne hu => ?_⟩, g1, g2⟩
  · by_cases e : m = n
    · subst e
      rw [sn_us, r0]
      show 1 = nI (0 + sn_b (m = m))
      rw [sn_b1 rfl]
      rfl
    · rw [sn_un e, I.1.1 m hm]
      show nI (sn_rc G m + 0) = nI (sn_rc G m + sn_b (m = n))
      rw [sn_b0 e]
  · have := sn_bl (m = n)
    show sn_b (m = n) ≤ 16
    omega
  · rcases I.2.1 i hi with e | ⟨c, hc, e, lc⟩
    · exact Or.inl e
    · have hcn : c ≠ n := fun z => g2 i hi (by rw [e, z])
      refine Or.inr ⟨c, hc, e, ?_⟩
      rw [sn_uln hcn, lc]
      unfold sn_sl
      by_cases hi2 : i < 1600
      · rw [if_pos hi2, if_pos hi2, sn_uln]
        intro z
        have := g1 (i % 4) (by omega)
        rw [show 4 * n + i % 4 = i from by omega, e] at this
        exact sn_ne1 (by omega) this
      · rw [if_neg hi2, if_neg hi2]
  · rw [sn_un hne, sn_uln hne]
    exact I.2.2.1 p hp (by omega)
  · rw [sn_un hne] at hu
    rw [sn_uln hne]
    exact I.2.2.2 p hp (by omega) hu
/-! the four ways -/
theorem sn_o75 {post : Int32 → SX → Prop} {J : Int32 → (Nat → Int32) → (Nat → Int32) → (Nat → Int32) → (Nat → Int32) → (Nat → Int32) → (Nat → Int32) → (Nat → Int32) → (Nat → Int32) → Prop} {x v : Int32} {n l w : Nat} (hn : n < 400) (hw : w < 4) (hl : l ≤ 3)
    (h : (l = 3 ∧ J (nI (w + 1)) (upd W (4 * n + w) v) H U T R Z P K) ∨ (l < 3 ∧ v = -1 ∧ J (nI (w + 1)) (upd W (4 * n + w) v) H U T R Z P K) ∨ (l < 3 ∧ ∃ c, c < 400 ∧ v = nI c ∧ J (nI (w + 1)) (upd W (4 * n + w) v) H (upd U c (U c + 1)) T R Z P K)) :
    wX_ownNode_75 post J x (nI l) (nI n) (nI w) v (4 * nI n + nI w) W H U T R Z P K := by
  unfold wX_ownNode_75
  refine ⟨sn_in4 hn hw, nm_r (e' := upd W (4 * n + w) v) (by rw [sn_cl4 hn hw]) ?_⟩
  rw [sn_cl4 hn hw, sn_us]
  rcases h with ⟨e, hJ⟩ | ⟨hl3, e, hJ⟩ | ⟨hl3, c, hc, e, hJ⟩
  · subst e
    exact br_t (nI_le (a := 3) (b := 3) (Nat.le_refl _) (by decide)) (nm_r (nI_1 w) hJ)
  · subst e
    exact br_f (nI_ge (b := 3) hl3 (by decide)) ⟨sn_in4 hn hw, br_t sn_neg (nm_r (nI_1 w) hJ)⟩
  · subst e
    refine br_f (nI_ge (b := 3) hl3 (by decide)) ⟨sn_in4 hn hw, br_f (nI_pos (by omega)) ⟨sn_in4 hn hw, sn_in400 hc, sn_in400 hc, nm_r (e' := upd U c (U c + 1)) (by rw [sn_clm (by omega)]) (nm_r (nI_1 w) hJ)⟩⟩
/-- what the loop keeps: v w are the values, U0 the users at its start -/
def sn_BI (W H U0 G0 : Nat → Int32) (L : Nat → Nat) (n l : Nat) (v : Nat → Int32) (w : Nat) (W' U' G' : Nat → Int32) : Prop :=
  sn_Inv W' H U' L G' (sn_e1 n) n ∧ (∀ j, (j < 4 * n ∨ 4 * n + 4 ≤ j) → W' j = W j) ∧ (∀ w', w' < w → W' (4 * n + w') = v w') ∧
  (l < 3 → ∀ w', w' < w → G' (4 * n + w') = v w') ∧ (∀ w', (w ≤ w' ∨ l = 3) → w' < 4 → G' (4 * n + w') = -1) ∧ (∀ i, (i < 4 * n ∨ 4 * n + 4 ≤ i) → G' i = G0 i) ∧
  (∀ p, p < 400 → (U' p = 0 ↔ U0 p = 0)) ∧ (∀ p, p < 400 → L p ≤ l → U' p = U0 p)
theorem sn_bis {W' U' G' U0 : Nat → Int32} {n l w : Nat} {v : Nat → Int32} (hn : n < 400) (hw : w < 4) (B : sn_BI W H U0 G L n l v w W' U' G')
    (h : l = 3 ∨ (l < 3 ∧ v w = -1)) : sn_BI W H U0 G L n l v (w + 1) (upd W' (4 * n + w) (v w)) U' G' := by
  obtain ⟨I, b1, b2, b3, b4, b5, b6, b7⟩ := B
  refine ⟨⟨I.1, I.2.1, fun p hp hne => ?_, I.2.2.2⟩, fun j hj => ?_, fun w' hw' => ?_, fun hl w' hw' => ?_, fun w' h1 h2 => b4 w' (by omega) h2, b5, b6, b7⟩
  · obtain ⟨a1, a2⟩ := I.2.2.1 p hp hne
    refine ⟨fun x1 x2 w' hw' => ?_, a2⟩
    rw [sn_un (by omega)]
    exact a1 x1 x2 w' hw'
  · rw [sn_un (by omega)]
    exact b1 j hj
  · by_cases e : w' = w
    · subst e; exact sn_us
    · rw [sn_un (by omega)]
      exact b2 w' (by omega)
  · by_cases e : w' = w
    · subst e
      rcases h with h | h
      · omega
      · rw [h.2]
        exact b4 w' (Or.inl (Nat.le_refl _)) hw
    · exact b3 hl w' (by omega)
theorem sn_bic {W' U' G' U0 : Nat → Int32} {n l w c : Nat} {v : Nat → Int32} (hn : n < 400) (hw : w < 4) (B : sn_BI W H U0 G L n l v w W' U' G') (ln : L n = l)
    (hl : l < 3) (hc : c < 400) (hcn : c ≠ n) (ev : v w = nI c) (uc : U0 c ≠ 0) (lc : L c = l + 1) : sn_BI W H U0 G L n l v (w + 1) (upd W' (4 * n + w) (v w)) (upd U' c (U' c + 1)) (upd G' (4 * n + w) (v w)) := by
  obtain ⟨I, b1, b2, b3, b4, b5, b6, b7⟩ := B
  have g0 := b4 w (Or.inl (Nat.le_refl _)) hw
  have hR : ∀ m, m < 400 → upd U' c (U' c + 1) m = nI (sn_rc (upd G' (4 * n + w) (v w)) m + sn_e1 n m) := by
    intro m hm
    have h := sn_rcu (G := G') (i := 4 * n + w) (n := m) (v := v w) (by omega)
    rw [g0, sn_b0 (sn_ne1' (by omega)), ev] at h
    rw [ev]
    by_cases e : m = c
    · subst e
      rw [sn_us, I.1.1 m hm, nI_1]
      rw [sn_b1 rfl] at h
      exact congrArg nI (by omega)
    · rw [sn_un e, I.1.1 m hm]
      rw [sn_b0 (fun y => e ((nI_eq (by omega) (by omega)).mp y.symm))] at h
      exact congrArg nI (by omega)
  have hu : ∀ p, p < 400 → (upd U' c (U' c + 1) p = 0 ↔ U' p = 0) := by
    intro p hp
    by_cases e : p = c
    · subst e
      rw [sn_us]
      constructor
      · intro z
        rw [I.1.1 p hp, nI_1] at z
        have h1 := sn_rcl G' p
        have h2 := I.1.2 p hp
        rw [sn_eq0 (by omega)] at z
        omega
      · intro z
        exact (uc ((b6 p hp).mp z)).elim
    · rw [sn_un e]
  refine ⟨⟨⟨hR, I.1.2⟩, fun i hi => ?_, fun p hp hne => ?_, sn_mk_cg (fun p hp _ => hu p hp) I.2.2.2⟩, fun j hj => ?_, fun w' hw' => ?_, fun hl w' hw' => ?_, fun w' h1 h2 => ?_, fun i hi => ?_, fun p hp => (hu p hp).trans (b6 p hp), fun p hp hpl => ?_⟩
  · by_cases e : i = 4 * n + w
    · subst e
      rw [sn_us, sn_sl4 hn hw, ln]
      exact Or.inr ⟨c, hc, ev, lc⟩
    · rw [sn_un e]
      exact I.2.1 i hi
  · obtain ⟨a1, a2⟩ := sn_ac_cg (fun p hp _ => hu p hp) I.2.2.1 p hp hne
    refine ⟨fun x1 x2 w' hw' => ?_, fun x1 w' hw' => ?_⟩
    · rw [sn_un (by omega), sn_un (by omega)]
      exact a1 x1 x2 w' hw'
    · rw [sn_un (by omega)]
      exact a2 x1 w' hw'
  · rw [sn_un (by omega)]
    exact b1 j hj
  · by_cases e : w' = w
    · subst e; exact sn_us
    · rw [sn_un (by omega)]
      exact b2 w' (by omega)
  · by_cases e : w' = w
    · subst e; exact sn_us
    · rw [sn_un (by omega)]
      exact b3 hl w' (by omega)
  · rw [sn_un (by omega)]
    exact b4 w' (by omega) h2
  · rw [sn_un (by omega)]
    exact b5 i hi
  · rw [sn_un (fun e => by rw [e] at hpl; omega)]
    exact b7 p hp hpl
/-- the values of the loop -/
def sn_vl (W : Nat → Int32) (x : Int32) (l : Nat) (v : Nat → Int32) : Prop :=
  (x = -1 ∧ ∀ w, w < 4 → v w = if l < 3 then -1 else 0) ∨ ∃ q, q < 400 ∧ x = nI q ∧ ∀ w, w < 4 → v w = W (4 * q + w)
theorem sn_ol {U0 : Nat → Int32} {x : Int32} {n l : Nat} {v : Nat → Int32} (hn : n < 400) (hl : l ≤ 3) (ln : L n = l) (hv : sn_vl W x l v) (hxn : x ≠ nI n)
    (hc : l < 3 → ∀ w, w < 4 → v w = -1 ∨ ∃ c, c < 400 ∧ c ≠ n ∧ v w = nI c ∧ U0 c ≠ 0 ∧ L c = l + 1) :
    ∀ e w W' U' G', w + e = 4 → sn_BI W H U0 G L n l v w W' U' G' → ∃ W4 U4 G4, sn_BI W H U0 G L n l v 4 W4 U4 G4 ∧
      ∀ post : Int32 → SX → Prop, wX_ownNode_31 post x (nI l) (nI n) 1 (nI 4) W4 H U4 T R Z P K → wX_ownNode_31 post x (nI l) (nI n) (e + 1) (nI w) W' H U' T R Z P K := by
  intro e
  induction e with
  | zero =>
    intro w W' U' G' hw B
    have ew : w = 4 := by omega
    subst ew
    exact ⟨W', U', G', B, fun post h => h⟩
  | succ e ih =>
    intro w W' U' G' hw B
    have h4 : ¬ (4 : Int32) ≤ nI w := nI_ge (b := 4) (by omega) (by decide)
    have st : ∀ post : Int32 → SX → Prop, wX_ownNode_75 post (wX_ownNode_31 post x (nI l) (nI n) (e + 1)) x (nI l) (nI n) (nI w) (v w) (4 * nI n + nI w) W' H U' T R Z P K → wX_ownNode_31 post x (nI l) (nI n) (e + 1 + 1) (nI w) W' H U' T R Z P K := by
      intro post h
      refine br_f h4 ?_
      rcases hv with ⟨rfl, hv⟩ | ⟨q, hq, rfl, hv⟩
      · refine br_f sn_nneg ?_
        by_cases l3 : l < 3
        · rw [hv w (by omega), if_pos l3] at h
          exact br_f (nI_ge (b := 3) l3 (by decide)) h
        · rw [hv w (by omega), if_neg l3] at h
          exact br_t (nI_le (a := 3) (by omega) (by omega)) h
      · refine br_t (nI_pos' (by omega)) ⟨sn_in4 hq (by omega), ?_⟩
        have hqn : q ≠ n := fun z => hxn (by rw [z])
        rw [sn_cl4 hq (by omega), B.2.1 (4 * q + w) (by omega), ← hv w (by omega)]
        exact h
    by_cases l3 : l < 3
    · rcases hc l3 w (by omega) with ev | ⟨c, hc1, hc2, ev, uc, lc⟩
      · obtain ⟨W4, U4, G4, B4, w4⟩ := ih (w + 1) _ _ _ (by omega) (sn_bis hn (by omega) B (Or.inr ⟨l3, ev⟩))
        exact ⟨W4, U4, G4, B4, fun post h => st post (sn_o75 hn (by omega) hl (Or.inr (Or.inl ⟨l3, ev, w4 post h⟩)))⟩
      · obtain ⟨W4, U4, G4, B4, w4⟩ := ih (w + 1) _ _ _ (by omega) (sn_bic hn (by omega) B ln l3 hc1 hc2 ev uc lc)
        exact ⟨W4, U4, G4, B4, fun post h => st post (sn_o75 hn (by omega) hl (Or.inr (Or.inr ⟨l3, c, hc1, ev, w4 post h⟩)))⟩
    · have l3' : l = 3 := by omega
      obtain ⟨W4, U4, G4, B4, w4⟩ := ih (w + 1) _ _ _ (by omega) (sn_bis hn (by omega) B (Or.inl l3'))
      exact ⟨W4, U4, G4, B4, fun post h => st post (sn_o75 hn (by omega) hl (Or.inl ⟨l3', w4 post h⟩))⟩
/-- behind the loop: the marks, and one user of the old node less -/
theorem sn_tail {x : Int32} {n l : Nat} (hn : n < 400) (hl : l ≤ 3) (hx : x = -1 ∨ ∃ q, q < 400 ∧ x = nI q ∧ (l = 3 → ∃ b, b < 16 ∧ H q = nI (256 + b))) :
    ∃ H', (∀ p, p ≠ n → H' p = H p) ∧ (l < 3 → H' n = 0) ∧ (l = 3 → (x = -1 ∧ H' n = nI 256) ∨ ∃ q, q < 400 ∧ x = nI q ∧ H' n = H q) ∧
      ∀ post : Int32 → SX → Prop, post (nI n) (W, H', (if x < 0 then U else upd U x.toNatClampNeg (U x.toNatClampNeg - 1)), T, R, Z, P, K) → wX_ownNode_31 post x (nI l) (nI n) 1 (nI 4) W H U T R Z P K := by
  have h4 : (4 : Int32) ≤ nI 4 := nI_le (a := 4) (b := 4) (Nat.le_refl _) (by decide)
  have en : (nI n).toNatClampNeg = n := sn_clm (by omega)
  have key : ∀ (z0 z1 : Int32), z1 = (if l = 3 then z0 ||| 256 else 0) → ∀ post : Int32 → SX → Prop, ((x < 0 → post (nI n) (W, upd (upd H n z0) n z1, U, T, R, Z, P, K)) ∧ (¬ x < 0 → vp_in x 400 ∧ post (nI n) (W, upd (upd H n z0) n z1, upd U x.toNatClampNeg (U x.toNatClampNeg - 1), T, R, Z, P, K))) → wX_ownNode_140 post x (nI l) (nI n) z0 (nI n) W H U T R Z P K := by
    intro z0 z1 ez post h
    unfold wX_ownNode_140
    refine ⟨sn_in400 hn, nm_r (e' := upd H n z0) (by rw [en]) ?_⟩
    unfold wpX_levelMark
    dsimp only
    by_cases l3 : l = 3
    · rw [if_pos l3] at ez
      subst l3
      refine br_t rfl ⟨sn_in400 hn, sn_in400 hn, nm_r (e' := upd (upd H n z0) n z1) (by rw [en, sn_us, ez]) ?_⟩
      exact br_c (fun z => h.1 z) (fun z => ⟨(h.2 z).1, (h.2 z).1, nm_e (h.2 z).2⟩)
    · rw [if_neg l3] at ez
      refine br_f (fun z => l3 ((nI_eq (a := l) (b := 3) (by omega) (by decide)).mp z)) ⟨sn_in400 hn, nm_r (e' := upd (upd H n z0) n z1) (by rw [en, ez]) ?_⟩
      exact br_c (fun z => h.1 z) (fun z => ⟨(h.2 z).1, (h.2 z).1, nm_e (h.2 z).2⟩)
  rcases hx with rfl | ⟨q, hq, rfl, hb⟩
  · refine ⟨upd (upd H n 0) n (if l = 3 then 0 ||| 256 else 0), fun p hp => by rw [sn_un hp, sn_un hp], fun h => by rw [sn_us, if_neg (by omega)], fun h => Or.inl ⟨rfl, by rw [sn_us, if_pos h]; decide⟩, fun post hp => ?_⟩
    rw [if_pos sn_neg] at hp
    exact br_t h4 (br_f sn_nneg (key 0 _ rfl post (br_t sn_neg hp)))
  · have hq0 : ¬ nI q < 0 := nI_pos (by omega)
    refine ⟨upd (upd H n (H q)) n (if l = 3 then H q ||| 256 else 0), fun p hp => by rw [sn_un hp, sn_un hp], fun h => by rw [sn_us, if_neg (by omega)], fun h => Or.inr ⟨q, hq, rfl, ?_⟩, fun post hp => ?_⟩
    · obtain ⟨b, hb1, hb2⟩ := hb h
      rw [sn_us, if_pos h, hb2]
      exact sn_tb_m b hb1
    · rw [if_neg hq0] at hp
      refine br_t h4 (br_t (nI_pos' (by omega)) ⟨sn_in400 hq, ?_⟩)
      rw [sn_clm (n := q) (by omega)]
      exact key (H q) _ rfl post (br_f hq0 ⟨sn_in400 hq, hp⟩)
end SnG
end
section
section SnH
variable {W H U T R Z P K G : Nat → Int32} {L : Nat → Nat}
/-- what ownNode gives for the pointer in slot i, at level l -/
def sn_Own (W H U G : Nat → Int32) (L : Nat → Nat) (i l n : Nat) (W' H' U' G' : Nat → Int32) (L' : Nat → Nat) : Prop :=
  n < 400 ∧ U' n = 1 ∧ L' n = l ∧
  (∀ p, p < 400 → U p ≠ 0 → U' p ≠ 0 ∧ L' p = L p ∧ H' p = H p ∧ (∀ w, w < 4 → W' (4 * p + w) = W (4 * p + w)) ∧ (L p < l → U' p = U p)) ∧
  (∀ p, p < 400 → U' p ≠ 0 → p = n ∨ U p ≠ 0) ∧
  (∀ k, sn_ct W' H' (3 - l) (nI n) k = sn_ct W H (3 - l) (G i) k) ∧
  (∀ W'', (∀ j, j < 1600 → W'' j = upd W' i (nI n) j) → sn_Inv W'' H' U' L' G' sn_z 400) ∧
  (∀ m, m < 8 → G' (1600 + m) = upd G i (nI n) (1600 + m))
theorem sn_inv_W {W' : Nat → Int32} {E : Nat → Nat} {a : Nat} (h : ∀ j, j < 1600 → W' j = W j) (I : sn_Inv W H U L G E a) : sn_Inv W' H U L G E a := by
  refine ⟨I.1, I.2.1, fun p hp hne => ?_, I.2.2.2⟩
  obtain ⟨a1, a2⟩ := I.2.2.1 p hp hne
  refine ⟨fun x1 x2 w hw => ?_, a2⟩
  rw [h _ (by omega)]
  exact a1 x1 x2 w hw
/-- the old nodes keep their contents while new ones are made -/
theorem sn_old {W' H' : Nat → Int32} (C : sn_Cl W U L) (h : ∀ p, p < 400 → U p ≠ 0 → H' p = H p ∧ ∀ w, w < 4 → W' (4 * p + w) = W (4 * p + w)) :
    ∀ d p, p < 400 → U p ≠ 0 → L p + d = 3 → ∀ k, sn_ct W' H' d (nI p) k = sn_ct W H d (nI p) k := by
  refine sn_pres (fun p hp hu _ => h p hp hu) (fun p hp hu hl w hw => ?_)
  rw [(h p hp hu).2 w hw]
  exact ⟨C p hp hu hl w hw, fun _ => rfl⟩
theorem sn_ownA (I : sn_Inv W H U L G sn_z 400) {i l q : Nat} (hi : i < 1608) (hl : sn_sl L i = l) (hact : i < 1600 → U (i / 4) ≠ 0 ∧ L (i / 4) < 3) (hq : q < 400) (ex : G i = nI q) (uq : U q = 1) :
    sn_Own W H U G L i l q W H U G L := by
  refine ⟨hq, uq, ?_, fun p hp hu => ⟨hu, rfl, rfl, fun _ _ => rfl, fun _ => rfl⟩, fun p hp hu => Or.inr hu, fun k => by rw [ex], fun W'' hW => sn_inv_W (fun j hj => ?_) I, fun m hm => ?_⟩
  · rcases I.2.1 i hi with z | ⟨n, hn, e, ln⟩
    · exact (sn_ne1 (by omega) (ex.symm.trans z)).elim
    · rw [ex, nI_eq (by omega) (by omega)] at e
      rw [e, ln, hl]
  · rw [hW j hj]
    by_cases e : j = i
    · subst e
      obtain ⟨h1, h2⟩ := hact hj
      have := (I.2.2.1 (j / 4) (by omega) (by omega)).1 h1 h2 (j % 4) (by omega)
      rw [show 4 * (j / 4) + j % 4 = j from by omega] at this
      rw [sn_us, ← this, ex]
    · exact sn_un e
  · by_cases e : 1600 + m = i
    · rw [e, sn_us, ex]
    · rw [sn_un e]
theorem sn_ownU (I : sn_Inv W H U L G sn_z 400) {i l n : Nat} (hi : i < 1608) (hl : sn_sl L i = l) (hn : n < 400) (un : U n = 0)
    {U4 G4 U' : Nat → Int32} (r4 : ∀ m, m < 400 → U4 m = nI (sn_rc G4 m + sn_b (m = n))) (ei : G4 i = G i) (u0 : ∀ p, p < 400 → (U4 p = 0 ↔ upd U n 1 p = 0))
    (u4 : ∀ p, p < 400 → p ≠ n → L p ≤ l → U4 p = U p) (u4n : U4 n = 1) (h1 : ∀ q, q < 400 → G i = nI q → U q ≠ 1)
    (eU : U' = if G i < 0 then U4 else upd U4 (G i).toNatClampNeg (U4 (G i).toNatClampNeg - 1)) :
    (∀ m, m < 400 → U' m = nI (sn_rc (upd G4 i (nI n)) m + sn_z m)) ∧ (∀ p, p < 400 → (U' p = 0 ↔ upd U n 1 p = 0)) ∧ U' n = 1 ∧ (∀ p, p < 400 → p ≠ n → L p < l → U' p = U p) := by
  have rc : ∀ m, m < 400 → sn_rc (upd G4 i (nI n)) m + sn_b (G i = nI m) = sn_rc G4 m + sn_b (m = n) := fun m hm => by
    have h := sn_rcu (G := G4) (i := i) (n := m) (v := nI n) hi
    rw [ei, sn_bi (p := nI n = nI m) (q := m = n) (by rw [nI_eq (by omega) (by omega)]; exact ⟨fun e => e.symm, fun e => e.symm⟩)] at h
    exact h
  have slot := sn_slot I hi
  rw [hl] at slot
  rcases slot with z | ⟨q, hq, z, uq, lq⟩
  · rw [z, if_pos sn_neg] at eU
    subst eU
    refine ⟨fun m hm => ?_, u0, u4n, fun p hp hpn hpl => u4 p hp hpn (by omega)⟩
    have h := rc m hm
    rw [z, sn_b0 (sn_ne1' (by omega))] at h
    rw [r4 m hm, ← h]
    rfl
  · rw [z, if_neg (nI_pos (by omega)), sn_clm (by omega)] at eU
    subst eU
    have hqn : q ≠ n := fun y => uq (by rw [y]; exact un)
    refine ⟨fun m hm => ?_, fun p hp => ?_, ?_, fun p hp hpn hpl => ?_⟩
    · have h := rc m hm
      rw [z] at h
      by_cases e : m = q
      · subst e
        rw [sn_us, r4 m hm, ← h, sn_b1 rfl]
        exact nI_pred _
      · rw [sn_un e, r4 m hm, ← h, sn_b0 (fun y => e ((nI_eq (by omega) (by omega)).mp y.symm))]
        rfl
    · by_cases e : p = q
      · subst e
        have hv1 : U p = nI (sn_rc G p) := I.1.1 p hp
        have hr := sn_rcl G p
        have n1 : ¬ sn_rc G p = 1 := fun y => h1 p hp z ((sn_Rf1 I.1 hp).mpr y)
        have n0 : ¬ sn_rc G p = 0 := fun y => uq ((sn_Rf0 I.1 hp).mpr y)
        obtain ⟨r, er⟩ : ∃ r, sn_rc G p = r + 1 := ⟨sn_rc G p - 1, by omega⟩
        rw [sn_us, u4 p hp hqn (by omega), sn_un hqn]
        rw [hv1, er, nI_pred, sn_eq0 (by omega), sn_eq0 (by omega)]
        omega
      · rw [sn_un e]
        exact u0 p hp
    · rw [sn_un (fun y => hqn y.symm)]
      exact u4n
    · rw [sn_un (fun y => by rw [y] at hpl; omega)]
      exact u4 p hp hpn (by omega)
theorem sn_ownB (I : sn_Inv W H U L G sn_z 400) {i l n : Nat} (hi : i < 1608) (hl : sn_sl L i = l) (hl3 : l ≤ 3) (hact : i < 1600 → U (i / 4) ≠ 0 ∧ L (i / 4) < 3) (hn : n < 400) (un : U n = 0)
    {v : Nat → Int32} (hv : sn_vl W (G i) l v) {W4 U4 G4 : Nat → Int32} (B : sn_BI W H (upd U n 1) G (sn_ul L n l) n l v 4 W4 U4 G4)
    {H' : Nat → Int32} (e1 : ∀ p, p ≠ n → H' p = H p) (e2 : l < 3 → H' n = 0) (e3 : l = 3 → (G i = -1 ∧ H' n = nI 256) ∨ ∃ q, q < 400 ∧ G i = nI q ∧ H' n = H q)
    (h1 : ∀ q, q < 400 → G i = nI q → U q ≠ 1) {U' : Nat → Int32} (eU : U' = if G i < 0 then U4 else upd U4 (G i).toNatClampNeg (U4 (G i).toNatClampNeg - 1)) :
    sn_Own W H U G L i l n W4 H' U' (upd G4 i (nI n)) (sn_ul L n l) := by
  obtain ⟨I4, b1, b2, b3, b4, b5, b6, b7⟩ := B
  have hin : i < 4 * n ∨ 4 * n + 4 ≤ i := by
    by_cases z : i < 1600
    · have h2 : i / 4 ≠ n := fun e => (hact z).1 (by rw [e]; exact un)
      omega
    · omega
  obtain ⟨r', u', un', ul'⟩ := sn_ownU I hi hl hn un I4.1.1 (b5 i hin) b6 (fun p hp hpn hpl => by rw [b7 p hp (by rw [sn_uln hpn]; exact hpl), sn_un hpn]) (by rw [b7 n hn (by rw [sn_uls]; exact Nat.le_refl _), sn_us]) h1 eU
  have slot := sn_slot I hi
  rw [hl] at slot
  have hq' : ∀ q, q < 400 → G i = nI q → U q ≠ 0 ∧ L q = l := by
    intro q hq e
    rcases slot with z | ⟨q', hq', z, uq, lq⟩
    · exact (sn_ne1 (by omega) (e.symm.trans z)).elim
    · rw [(nI_eq (by omega) (by omega)).mp (e.symm.trans z)]
      exact ⟨uq, lq⟩
  have old : ∀ p, p < 400 → U p ≠ 0 → p ≠ n := fun p _ hu e => hu (by rw [e]; exact un)
  have keep : ∀ p, p < 400 → U p ≠ 0 → H' p = H p ∧ ∀ w, w < 4 → W4 (4 * p + w) = W (4 * p + w) := fun p hp hu => ⟨e1 p (old p hp hu), fun w hw => b1 _ (by have := old p hp hu; omega)⟩
  have hI : ∀ W'', (∀ j, j < 1600 → W'' j = upd W4 i (nI n) j) → sn_Inv W'' H' U' (sn_ul L n l) (upd G4 i (nI n)) sn_z 400 := by
    intro W'' hW
    refine ⟨⟨r', fun m hm => Nat.zero_le _⟩, fun j hj => ?_, fun p hp _ => ?_, fun p hp _ hu => ?_⟩
    · by_cases e : j = i
      · subst e
        refine Or.inr ⟨n, hn, sn_us, ?_⟩
        rw [sn_uls, ← hl]
        unfold sn_sl
        by_cases z : j < 1600
        · rw [if_pos z, if_pos z, sn_uln (old _ (by omega) (hact z).1)]
        · rw [if_neg z, if_neg z]
      · rw [sn_un e]
        exact I4.2.1 j hj
    · by_cases e : p = n
      · subst e
        rw [sn_uls]
        refine ⟨fun _ l3 w hw => ?_, fun z w hw => ?_⟩
        · rw [hW _ (by omega), sn_un (by omega), sn_un (by omega), b3 l3 w hw, b2 w hw]
        · rw [sn_un (by omega)]
          refine b4 w (Or.inr ?_) hw
          rcases z with z | z
          · rw [un'] at z
            exact absurd z (by decide)
          · exact z
      · have hpi : ∀ w, w < 4 → 4 * p + w = i → U p ≠ 0 ∧ L p < 3 := fun w hw e => by
          have := hact (by omega)
          rw [show i / 4 = p from by omega] at this
          exact this
        have a := sn_ac_cg (U' := U') (fun p hp _ => (u' p hp).trans (b6 p hp).symm) I4.2.2.1 p hp e
        refine ⟨fun x1 x2 w hw => ?_, fun x1 w hw => ?_⟩
        · rw [hW _ (by omega)]
          by_cases z : 4 * p + w = i
          · rw [z, sn_us, sn_us]
          · rw [sn_un z, sn_un z]
            exact a.1 x1 x2 w hw
        · by_cases z : 4 * p + w = i
          · exfalso
            obtain ⟨c1, c2⟩ := hpi w hw z
            rcases x1 with x1 | x1
            · rw [u' p hp, sn_un e] at x1
              exact c1 x1
            · rw [sn_uln e] at x1
              omega
          · rw [sn_un z]
            exact a.2 x1 w hw
    · by_cases e : p = n
      · subst e
        rw [sn_uls]
        refine ⟨hl3, fun z => ?_, fun z => ?_⟩
        · rcases e3 z with ⟨_, y⟩ | ⟨q, hq, y1, y2⟩
          · exact ⟨0, by omega, y⟩
          · obtain ⟨uq, lq⟩ := hq' q hq y1
            rw [y2]
            exact (I.2.2.2 q hq (by omega) uq).2.1 (lq.trans z)
        · rw [e2 z]
          decide
      · rw [sn_uln e, e1 p e]
        refine I.2.2.2 p hp (by omega) (fun y => hu ?_)
        rw [u' p hp, sn_un e]
        exact y
  refine ⟨hn, un', sn_uls, fun p hp hu => ⟨?_, sn_uln (old p hp hu), (keep p hp hu).1, (keep p hp hu).2, fun hpl => ul' p hp (old p hp hu) hpl⟩, fun p hp hu => ?_, fun k => ?_, hI, fun m hm => ?_⟩
  · intro z
    rw [u' p hp, sn_un (old p hp hu)] at z
    exact hu z
  · by_cases e : p = n
    · exact Or.inl e
    · refine Or.inr (fun z => hu ?_)
      rw [u' p hp, sn_un e]
      exact z
  · rcases hv with ⟨x1, v1⟩ | ⟨q, hq, x1, v1⟩
    · rw [x1, sn_ct_n]
      by_cases l3 : l < 3
      · rw [show 3 - l = (2 - l) + 1 from by omega, sn_ct_s hn, b2 _ (Nat.mod_lt _ (by decide)), v1 _ (Nat.mod_lt _ (by decide)), if_pos l3, sn_ct_n]
      · rw [show 3 - l = 0 from by omega]
        refine sn_ct_00 hn ?_
        rcases e3 (by omega) with ⟨_, y⟩ | ⟨q, hq, y1, y2⟩
        · rw [y]
          exact sn_tb_b0 _ (Nat.mod_lt _ (by decide))
        · exact (sn_ne1 (by omega) (y1.symm.trans x1)).elim
    · obtain ⟨uq, lq⟩ := hq' q hq x1
      rw [x1]
      by_cases l3 : l < 3
      · rw [show 3 - l = (2 - l) + 1 from by omega, sn_ct_s hn, sn_ct_s hq, b2 _ (Nat.mod_lt _ (by decide)), v1 _ (Nat.mod_lt _ (by decide))]
        exact sn_presp (sn_old (sn_cl_of I) keep (2 - l)) (sn_cl_of I q hq uq (by omega) _ (Nat.mod_lt _ (by decide))) (by omega) k
      · rw [show 3 - l = 0 from by omega, sn_ct_0 hn, sn_ct_0 hq, b2 _ (Nat.mod_lt _ (by decide)), v1 _ (Nat.mod_lt _ (by decide))]
        rcases e3 (by omega) with ⟨y, _⟩ | ⟨q', hq', y1, y2⟩
        · exact (sn_ne1 (by omega) (x1.symm.trans y)).elim
        · rw [y2, (nI_eq (by omega) (by omega)).mp (y1.symm.trans x1)]
  · by_cases e : 1600 + m = i
    · rw [e, sn_us, sn_us]
    · rw [sn_un e, sn_un e]
      exact b5 _ (by omega)
/-- ownNode -/
theorem sn_ownX (I : sn_Inv W H U L G sn_z 400) {i l : Nat} (hi : i < 1608) (hl : sn_sl L i = l) (hl3 : l ≤ 3) (hact : i < 1600 → U (i / 4) ≠ 0 ∧ L (i / 4) < 3) (hf : ∃ j, j < 400 ∧ U j = 0) :
    ∃ n W' H' U' G' L', sn_Own W H U G L i l n W' H' U' G' L' ∧ ∀ post : Int32 → SX → Prop, post (nI n) (W', H', U', T, R, Z, P, K) → wpX_ownNode post (W, H, U, T, R, Z, P, K) (G i) (nI l) := by
  have slot := sn_slot I hi
  rw [hl] at slot
  have C := sn_cl_of I
  -- a copy or a new node
  have new : (∀ q, q < 400 → G i = nI q → U q ≠ 1) → ∃ n W' H' U' G' L', sn_Own W H U G L i l n W' H' U' G' L' ∧ ∀ post : Int32 → SX → Prop, post (nI n) (W', H', U', T, R, Z, P, K) → wX_ownNode_16 post (G i) (nI l) W H U T R Z P K := by
    intro h1
    obtain ⟨n, hn, un, wf⟩ := sn_freeX (W := W) (H := H) (T := T) (R := R) (Z := Z) (P := P) (K := K) hf
    obtain ⟨I0, g1, g2⟩ := sn_claim (l := l) I hn un
    obtain ⟨v, hv, hc⟩ : ∃ v, sn_vl W (G i) l v ∧ (l < 3 → ∀ w, w < 4 → v w = -1 ∨ ∃ c, c < 400 ∧ c ≠ n ∧ v w = nI c ∧ upd U n 1 c ≠ 0 ∧ sn_ul L n l c = l + 1) := by
      rcases slot with z | ⟨q, hq, z, uq, lq⟩
      · exact ⟨fun _ => if l < 3 then -1 else 0, Or.inl ⟨z, fun _ _ => rfl⟩, fun l3 w hw => Or.inl (if_pos l3)⟩
      · refine ⟨fun w => W (4 * q + w), Or.inr ⟨q, hq, z, fun _ _ => rfl⟩, fun l3 w hw => ?_⟩
        rcases C q hq uq (by omega) w hw with y | ⟨c, hc, y, uc, lc⟩
        · exact Or.inl y
        · have hcn : c ≠ n := fun e => uc (by rw [e]; exact un)
          exact Or.inr ⟨c, hc, hcn, y, by rw [sn_un hcn]; exact uc, by rw [sn_uln hcn, lc, lq]⟩
    have B0 : sn_BI W H (upd U n 1) G (sn_ul L n l) n l v 0 W (upd U n 1) G := ⟨I0, fun _ _ => rfl, fun w hw => by omega, fun _ w hw => by omega, fun w _ hw => g1 w hw, fun _ _ => rfl, fun _ _ => Iff.rfl, fun _ _ _ => rfl⟩
    obtain ⟨W4, U4, G4, B4, w4⟩ := sn_ol (T := T) (R := R) (Z := Z) (P := P) (K := K) hn hl3 sn_uls hv (g2 i hi) hc 4 0 W (upd U n 1) G rfl B0
    obtain ⟨H', e1, e2, e3, wt⟩ := sn_tail (W := W4) (H := H) (U := U4) (T := T) (R := R) (Z := Z) (P := P) (K := K) (x := G i) hn hl3 (by
      rcases slot with z | ⟨q, hq, z, uq, lq⟩
      · exact Or.inl z
      · exact Or.inr ⟨q, hq, z, fun y => (I.2.2.2 q hq (by omega) uq).2.1 (lq.trans y)⟩)
    refine ⟨n, W4, H', _, _, _, sn_ownB I hi hl hl3 hact hn un hv B4 e1 e2 e3 h1 rfl, fun post hp => ?_⟩
    unfold wX_ownNode_16
    exact wf _ ⟨sn_in400 hn, nm_r (e' := upd U n 1) (by rw [sn_clm (by omega)]) ⟨_, w4 post (wt post hp)⟩⟩
  rcases slot with z | ⟨q, hq, z, uq, lq⟩
  · obtain ⟨n, W', H', U', G', L', h, w⟩ := new (fun q hq e => (sn_ne1 (by omega) (e.symm.trans z)).elim)
    exact ⟨n, W', H', U', G', L', h, fun post hp => br_t (by rw [z]; exact sn_neg) (w post hp)⟩
  · by_cases u1 : U q = 1
    · refine ⟨q, W, H, U, G, L, sn_ownA I hi hl hact hq z u1, fun post hp => ?_⟩
      rw [z]
      refine br_f (nI_pos (by omega)) ⟨sn_in400 hq, ?_⟩
      rw [sn_clm (by omega)]
      exact br_t u1 hp
    · obtain ⟨n, W', H', U', G', L', h, w⟩ := new (fun q' hq' e => by
        rw [(nI_eq (by omega) (by omega)).mp (e.symm.trans z)]
        exact u1)
      refine ⟨n, W', H', U', G', L', h, fun post hp => ?_⟩
      have w' := w post hp
      rw [z] at w' ⊢
      refine br_f (nI_pos (by omega)) ⟨sn_in400 hq, ?_⟩
      rw [sn_clm (by omega)]
      exact br_f u1 w'
end SnH
end
section
section SnI
variable {T R Z K : Nat → Int32}
def sn_NE (W H U : Nat → Int32) (L : Nat → Nat) (X : Nat → Prop) : Prop := ∀ p, p < 400 → U p ≠ 0 → ¬ X p → (L p < 3 → ∃ w, w < 4 ∧ W (4 * p + w) ≠ -1) ∧ (L p = 3 → H p ≠ nI 256)
def sn_tn (key j : Nat) : Nat := key / 4 ^ (3 - j) % 4
theorem sn_tnl (key j : Nat) : sn_tn key j < 4 := Nat.mod_lt _ (by decide)
/-- the path down to level l is the working map's own -/
def sn_OP (key : Nat) (c : Nat → Nat → Option Int32) (W H U R P G : Nat → Int32) (L : Nat → Nat) (l : Nat) (p : Nat → Nat) : Prop :=
  sn_Inv W H U L G sn_z 400 ∧ sn_Ro R G ∧ (∀ m, m < 8 → ∀ k, sn_ct W H 3 (R m) k = c m k) ∧
  (∀ j, j ≤ l → p j < 400 ∧ P j = nI (p j) ∧ U (p j) = 1 ∧ L (p j) = j) ∧ R 0 = nI (p 0) ∧
  (∀ j, j < l → W (4 * p j + sn_tn key j) = nI (p (j + 1))) ∧ sn_NE W H U L (fun q => ∃ j, j ≤ l ∧ q = p j)
theorem sn_hasfree {U : Nat → Int32} (h : sn_c (fun n => U n ≠ 0) 400 < 400) : ∃ j, j < 400 ∧ U j = 0 := by
  obtain ⟨j, hj, h⟩ := sn_cf h
  exact ⟨j, hj, Decidable.of_not_not h⟩
theorem sn_cnt1 {U U' : Nat → Int32} {n : Nat} (h : ∀ p, p < 400 → U' p ≠ 0 → p = n ∨ U p ≠ 0) : sn_c (fun n => U' n ≠ 0) 400 ≤ sn_c (fun n => U n ≠ 0) 400 + 1 := by
  have h1 : sn_c (fun n => U' n ≠ 0) 400 ≤ sn_c (fun q => q = n) 400 + sn_c (fun n => U n ≠ 0) 400 := sn_cor (fun p hp hu => h p hp hu)
  have h2 := sn_ceq n 400
  omega
theorem sn_ops {key : Nat} {c : Nat → Nat → Option Int32} {W H U P G : Nat → Int32} {L : Nat → Nat} {l : Nat} {p : Nat → Nat} (hl : l < 3) (O : sn_OP key c W H U R P G L l p) (hc : sn_c (fun n => U n ≠ 0) 400 ≤ 297 + l) :
    ∃ n W' H' U' G' L', n < 400 ∧ sn_c (fun n => U' n ≠ 0) 400 ≤ 297 + (l + 1) ∧ sn_OP key c (upd W' (4 * p l + sn_tn key l) (nI n)) H' U' R (upd P (l + 1) (nI n)) G' L' (l + 1) (sn_ul p (l + 1) n) ∧
      ∀ post : Int32 → SX → Prop, post (nI n) (W', H', U', T, R, Z, P, K) → wpX_ownNode post (W, H, U, T, R, Z, P, K) (W (4 * p l + sn_tn key l)) (nI (l + 1)) := by
  obtain ⟨I, hR, hC, hP, hr, hW, hN⟩ := O
  obtain ⟨pl, pP, pu, pL⟩ := hP l (Nat.le_refl _)
  have ht := sn_tnl key l
  have pu0 : U (p l) ≠ 0 := by rw [pu]; decide
  have hact : 4 * p l + sn_tn key l < 1600 → U ((4 * p l + sn_tn key l) / 4) ≠ 0 ∧ L ((4 * p l + sn_tn key l) / 4) < 3 := fun _ => by
    rw [show (4 * p l + sn_tn key l) / 4 = p l from by omega]
    exact ⟨pu0, by omega⟩
  have gi : G (4 * p l + sn_tn key l) = W (4 * p l + sn_tn key l) := (I.2.2.1 _ pl (by omega)).1 pu0 (by omega) _ ht
  obtain ⟨n, W', H', U', G', L', ⟨hn, un, ln, o1, o2, o3, o4, o5⟩, w⟩ := sn_ownX (T := T) (R := R) (Z := Z) (P := P) (K := K) I (i := 4 * p l + sn_tn key l) (l := l + 1) (by omega) (by rw [sn_sl4 pl ht, pL]) (by omega) hact (sn_hasfree (by omega))
  rw [gi] at w o3
  have I' := o4 (upd W' (4 * p l + sn_tn key l) (nI n)) (fun _ _ => rfl)
  have hnp : ∀ q, q < 400 → U q ≠ 0 → L q < 3 → (q = n → L q = l + 1) := fun q hq uq _ e => by
    rw [← (o1 q hq uq).2.1, e, ln]
  have old := sn_old (W' := W') (H' := H') (H := H) (sn_cl_of I) (fun q hq uq => ⟨(o1 q hq uq).2.2.1, (o1 q hq uq).2.2.2.1⟩)
  have C' := sn_cl_of I'
  have new := sn_pres (W := W') (H := H') (W1 := upd W' (4 * p l + sn_tn key l) (nI n)) (H1 := H') (U := U') (L := L') (fun q hq uq lq => ⟨rfl, fun w hw => by
      refine sn_un (fun e => ?_)
      have : q = p l := by omega
      rw [this, (o1 _ pl pu0).2.1, pL] at lq
      omega⟩) (fun q hq uq lq w hw => by
      refine ⟨C' q hq uq lq w hw, fun k => ?_⟩
      by_cases e : 4 * q + w = 4 * p l + sn_tn key l
      · have eq : q = p l := by omega
        have e2 : L' q = l := by rw [eq, (o1 _ pl pu0).2.1, pL]
        rw [e, sn_us, e2, show 2 - l = 3 - (l + 1) from by omega, o3 k, (o1 _ pl pu0).2.2.2.1 _ ht]
        exact (sn_presp (old (3 - (l + 1))) (sn_cl_of I _ pl pu0 (by omega) _ ht) (by omega) k).symm
      · rw [sn_un e])
  have V := sn_vd_of I hR
  have hR' : sn_Ro R G' := fun m hm => by
    rw [o5 m hm, sn_un (by omega)]
    exact hR m hm
  have V' := sn_vd_of I' hR'
  have hpj : ∀ j, j ≤ l → p j ≠ p l → ∀ w w', w < 4 → w' < 4 → 4 * p j + w ≠ 4 * p l + w' := fun j _ h w w' h1 h2 => by omega
  refine ⟨n, W', H', U', G', L', hn, ?_, ⟨I', hR', fun m hm k => ?_, fun j hj => ?_, ?_, fun j hj => ?_, fun q hq uq hX => ?_⟩, w⟩
  · have := sn_cnt1 o2
    omega
  · rw [← hC m hm k]
    exact (sn_presp (new 3) (V'.1 m hm) rfl k).trans (sn_presp (old 3) (V.1 m hm) rfl k)
  · by_cases e : j = l + 1
    · subst e
      rw [sn_uls, sn_us]
      exact ⟨hn, rfl, un, ln⟩
    · obtain ⟨a1, a2, a3, a4⟩ := hP j (by omega)
      have a5 : U (p j) ≠ 0 := by rw [a3]; decide
      rw [sn_uln e, sn_un e]
      obtain ⟨_, b2, _, _, b5⟩ := o1 _ a1 a5
      exact ⟨a1, a2, by rw [b5 (by omega), a3], by rw [b2, a4]⟩
  · rw [sn_uln (by omega)]
    exact hr
  · rw [sn_uln (by omega)]
    by_cases e : j = l
    · subst e
      rw [sn_uls, sn_us]
    · obtain ⟨a1, a2, a3, a4⟩ := hP j (by omega)
      have a5 : U (p j) ≠ 0 := by rw [a3]; decide
      have hne : p j ≠ p l := fun z => by
        rw [z, pL] at a4
        omega
      rw [sn_uln (by omega), sn_un (hpj j (by omega) hne _ _ (sn_tnl _ _) ht), (o1 _ a1 a5).2.2.2.1 _ (sn_tnl _ _)]
      exact hW j (by omega)
  · have hqn : q ≠ n := fun e => hX ⟨l + 1, Nat.le_refl _, by rw [sn_uls]; exact e⟩
    have hqp : ∀ j, j ≤ l → q ≠ p j := fun j hj e => hX ⟨j, by omega, by rw [sn_uln (by omega)]; exact e⟩
    have uq0 : U q ≠ 0 := (o2 q hq uq).resolve_left hqn
    obtain ⟨_, b2, b3, b4, _⟩ := o1 q hq uq0
    obtain ⟨n1, n2⟩ := hN q hq uq0 (fun ⟨j, hj, e⟩ => hqp j hj e)
    rw [b2, b3]
    refine ⟨fun z => ?_, n2⟩
    obtain ⟨w, hw, e⟩ := n1 z
    refine ⟨w, hw, ?_⟩
    rw [sn_un (by have := hqp l (Nat.le_refl _); omega), b4 w hw]
    exact e
theorem sn_opl {key : Nat} (hk : key < 256) {c : Nat → Nat → Option Int32} : ∀ e l W H U P G L p, l + e = 3 → sn_OP key c W H U R P G L l p → sn_c (fun n => U n ≠ 0) 400 ≤ 297 + l → ∃ W' H' U' P' G' L' p', sn_OP key c W' H' U' R P' G' L' 3 p' ∧
    ∀ post : Int32 → SX → Prop, post (nI (p' 3)) (W', H', U', T, R, Z, P', K) → wX_ownPath_31 post (nI key) (e + 1) (nI l) W H U T R Z P K := by
  intro e
  induction e with
  | zero =>
    intro l W H U P G L p hl O hc
    have el : l = 3 := by omega
    subst el
    refine ⟨W, H, U, P, G, L, p, O, fun post hp => br_t (nI_le (a := 3) (b := 3) (Nat.le_refl _) (by decide)) ?_⟩
    rw [(O.2.2.2.1 3 (Nat.le_refl _)).2.1]
    exact hp
  | succ e ih =>
    intro l W H U P G L p hl O hc
    have h3 : ¬ (3 : Int32) ≤ nI l := nI_ge (b := 3) (by omega) (by decide)
    obtain ⟨n, W1, H1, U1, G1, L1, hn, hc1, O1, w1⟩ := sn_ops (T := T) (Z := Z) (K := K) (by omega) O hc
    obtain ⟨W', H', U', P', G', L', p', O', w'⟩ := ih (l + 1) _ _ _ _ _ _ _ (by omega) O1 hc1
    refine ⟨W', H', U', P', G', L', p', O', fun post hp => br_f h3 ⟨vp_in_nI (by omega) (by omega), sn_turn' hk (by omega) (t := sn_tn key l) rfl ?_⟩⟩
    obtain ⟨pl, pP, pu, pL⟩ := O.2.2.2.1 l (Nat.le_refl _)
    have ht := sn_tnl key l
    have hin : vp_in (nI (4 * p l + sn_tn key l)) 1600 := vp_in_nI (by omega) (by omega)
    have hcl : (nI (4 * p l + sn_tn key l)).toNatClampNeg = 4 * p l + sn_tn key l := sn_clm (by omega)
    refine nm_r (e' := nI (4 * p l + sn_tn key l)) (by rw [sn_clm (by omega), pP, sn_4a]) ⟨hin, ?_⟩
    rw [hcl, nI_1 l]
    refine w1 _ ?_
    dsimp only
    exact ⟨hin, nm_e ⟨hin, vp_in_nI (by omega) (by omega), nm_r (e' := upd P (l + 1) (nI n)) (by rw [sn_us, sn_clm (by omega)]) (nm_e (w' post hp))⟩⟩
theorem sn_ownPathX {key : Nat} (hk : key < 256) {W H U P G : Nat → Int32} {L : Nat → Nat} (I : sn_Inv W H U L G sn_z 400) (hR : sn_Ro R G) (hN : sn_NE W H U L (fun _ => False)) (hc : sn_c (fun n => U n ≠ 0) 400 ≤ 296) :
    ∃ W' H' U' P' G' L' p', sn_OP key (fun m k => sn_ct W H 3 (R m) k) W' H' U' (upd R 0 (nI (p' 0))) P' G' L' 3 p' ∧
    ∀ post : Int32 → SX → Prop, post (nI (p' 3)) (W', H', U', T, upd R 0 (nI (p' 0)), Z, P', K) → wpX_ownPath post (W, H, U, T, R, Z, P, K) (nI key) := by
  have e0 : G 1600 = R 0 := hR 0 (by omega)
  obtain ⟨n, W1, H1, U1, G1, L1, ⟨hn, un, ln, o1, o2, o3, o4, o5⟩, w⟩ := sn_ownX (T := T) (R := R) (Z := Z) (P := P) (K := K) I (i := 1600) (l := 0) (by omega) rfl (by omega) (fun h => by omega) (sn_hasfree (by omega))
  rw [e0] at w o3
  have I1 := o4 W1 (fun j hj => (sn_un (by omega)).symm)
  have old := sn_old (W' := W1) (H' := H1) (H := H) (sn_cl_of I) (fun q hq uq => ⟨(o1 q hq uq).2.2.1, (o1 q hq uq).2.2.2.1⟩)
  have V := sn_vd_of I hR
  have O : sn_OP key (fun m k => sn_ct W H 3 (R m) k) W1 H1 U1 (upd R 0 (nI n)) (upd P 0 (nI n)) G1 L1 0 (fun _ => n) := by
    refine ⟨I1, fun m hm => ?_, fun m hm k => ?_, fun j hj => ?_, sn_us, fun j hj => by omega, fun q hq uq hX => ?_⟩
    · rw [o5 m hm]
      by_cases e : m = 0
      · subst e
        rw [sn_us]
        exact sn_us.symm
      · rw [sn_un e, sn_un (by omega)]
        exact hR m hm
    · by_cases e : m = 0
      · subst e
        rw [sn_us]
        exact o3 k
      · rw [sn_un e]
        exact sn_presp (old 3) (V.1 m hm) rfl k
    · have : j = 0 := by omega
      subst this
      exact ⟨hn, sn_us, un, ln⟩
    · have hqn : q ≠ n := fun e => hX ⟨0, Nat.le_refl _, e⟩
      have uq0 : U q ≠ 0 := (o2 q hq uq).resolve_left hqn
      obtain ⟨_, b2, b3, b4, _⟩ := o1 q hq uq0
      obtain ⟨n1, n2⟩ := hN q hq uq0 (fun h => h)
      rw [b2, b3]
      refine ⟨fun z => ?_, n2⟩
      obtain ⟨w, hw, e⟩ := n1 z
      exact ⟨w, hw, by rw [b4 w hw]; exact e⟩
  obtain ⟨W', H', U', P', G', L', p', O', w'⟩ := sn_opl (T := T) (Z := Z) (K := K) hk 3 0 _ _ _ _ _ _ _ rfl O (by have := sn_cnt1 o2; omega)
  have ep : nI (p' 0) = nI n := by
    have := O'.2.2.2.2.1
    rw [sn_us] at this
    exact this.symm
  rw [← ep] at O' w' w
  refine ⟨W', H', U', P', G', L', p', O', fun post hp => ?_⟩
  unfold wpX_ownPath
  dsimp only
  refine w _ ?_
  dsimp only
  exact nm_e (nm_r (e' := upd P 0 (nI (p' 0))) (by rw [sn_us]) ⟨_, w' post hp⟩)
end SnI
end
section
section SnJ
variable {T R Z K : Nat → Int32}
/-- the only slot that leads to a node of the path -/
theorem sn_uniq {W H U G : Nat → Int32} {L : Nat → Nat} (I : sn_Inv W H U L G sn_z 400) {q a b : Nat} (hq : q < 400) (uq : U q = 1) (ha : a < 1608) (hb : b < 1608) (ea : G a = nI q) (eb : G b = nI q) : a = b := by
  have h : sn_rc G q = 1 := (sn_Rf1 I.1 hq).mp uq
  exact sn_c11 (P := fun i => G i = nI q) (n := 1608) (by have : sn_c (fun i => G i = nI q) 1608 = 1 := h; omega) ha hb ea eb
theorem sn_uq {key : Nat} {c : Nat → Nat → Option Int32} {W H U P G : Nat → Int32} {L : Nat → Nat} {l : Nat} {p : Nat → Nat} (hl : l ≤ 3) (O : sn_OP key c W H U R P G L l p)
    {j q w : Nat} (hj : j < l) (hq : q < 400) (uq : U q ≠ 0) (lq : L q < 3) (hw : w < 4) (e : W (4 * q + w) = nI (p (j + 1))) : q = p j ∧ w = sn_tn key j := by
  obtain ⟨I, hR, hC, hP, hr, hW, hN⟩ := O
  obtain ⟨a1, a2, a3, a4⟩ := hP j (by omega)
  obtain ⟨b1, b2, b3, b4⟩ := hP (j + 1) (by omega)
  have ht := sn_tnl key j
  have g1 := (I.2.2.1 q hq (by omega)).1 uq lq w hw
  have g2 := (I.2.2.1 (p j) a1 (by omega)).1 (by rw [a3]; decide) (by omega) _ ht
  have := sn_uniq I b1 b3 (a := 4 * q + w) (b := 4 * p j + sn_tn key j) (by omega) (by omega) (g1.trans e) (g2.trans (hW j hj))
  omega
theorem sn_leafw {key : Nat} (hk : key < 256) {c : Nat → Nat → Option Int32} {W H U P G : Nat → Int32} {L : Nat → Nat} {p : Nat → Nat} (O : sn_OP key c W H U R P G L 3 p) {W1 H1 : Nat → Int32}
    (hH : ∀ q, q ≠ p 3 → H1 q = H q) (hW1 : ∀ j, (j < 4 * p 3 ∨ 4 * p 3 + 4 ≤ j) → W1 j = W j)
    (hb : ∀ j, j < 4 → j ≠ key % 4 → W1 (4 * p 3 + j) = W (4 * p 3 + j) ∧ (sn_bit (H1 (p 3)) j = 0 ↔ sn_bit (H (p 3)) j = 0)) :
    (∀ m, m < 8 → ∀ k, k < 256 → (m ≠ 0 ∨ k ≠ key) → sn_ct W1 H1 3 (R m) k = c m k) ∧ sn_ct W1 H1 3 (R 0) key = sn_ct W1 H1 0 (nI (p 3)) key := by
  have O' := O
  obtain ⟨I, hR, hC, hP, hr, hW, hN⟩ := O
  have C := sn_cl_of I
  have V := sn_vd_of I hR
  obtain ⟨p3, pP3, pu3, pL3⟩ := hP 3 (Nat.le_refl _)
  have in3 : ∀ q w, q ≠ p 3 → w < 4 → W1 (4 * q + w) = W (4 * q + w) := fun q w hq hw => hW1 _ (by omega)
  have A : ∀ d q, q < 400 → U q ≠ 0 → L q + d = 3 → q ≠ p (3 - d) → ∀ k, sn_ct W1 H1 d (nI q) k = sn_ct W H d (nI q) k := by
    intro d
    induction d with
    | zero =>
      intro q hq uq lq hne k
      rw [sn_ct_0 hq, sn_ct_0 hq, hH q hne, in3 q _ hne (Nat.mod_lt _ (by decide))]
    | succ d ih =>
      intro q hq uq lq hne k
      have hq3 : q ≠ p 3 := fun e => by rw [e, pL3] at lq; omega
      have ht : k / 4 ^ (d + 1) % 4 < 4 := Nat.mod_lt _ (by decide)
      rw [sn_ct_s hq, sn_ct_s hq, in3 q _ hq3 ht]
      rcases C q hq uq (by omega) _ ht with e | ⟨n, hn, e, un, ln⟩
      · rw [e, sn_ct_n, sn_ct_n]
      · rw [e]
        refine ih n hn un (by omega) (fun z => hne ?_) k
        rw [z, show 3 - d = (3 - (d + 1)) + 1 from by omega] at e
        exact (sn_uq (Nat.le_refl _) O' (by omega) hq uq (by omega) ht e).1
  have B : ∀ d, d ≤ 3 → ∀ k, k % 4 ^ (d + 1) ≠ key % 4 ^ (d + 1) → sn_ct W1 H1 d (nI (p (3 - d))) k = sn_ct W H d (nI (p (3 - d))) k := by
    intro d
    induction d with
    | zero =>
      intro _ k hne
      have hne4 : k % 4 ≠ key % 4 := hne
      obtain ⟨b1, b2⟩ := hb (k % 4) (Nat.mod_lt _ (by decide)) hne4
      show sn_ct W1 H1 0 (nI (p 3)) k = sn_ct W H 0 (nI (p 3)) k
      by_cases z : sn_bit (H (p 3)) (k % 4) = 0
      · rw [sn_ct_00 p3 z, sn_ct_00 p3 (b2.mpr z)]
      · rw [sn_ct_01 p3 z, sn_ct_01 p3 (fun y => z (b2.mp y)), b1]
    | succ d ih =>
      intro hd k hne
      obtain ⟨a1, a2, a3, a4⟩ := hP (3 - (d + 1)) (by omega)
      have ht : k / 4 ^ (d + 1) % 4 < 4 := Nat.mod_lt _ (by decide)
      have et : sn_tn key (3 - (d + 1)) = key / 4 ^ (d + 1) % 4 := by
        unfold sn_tn
        rw [show 3 - (3 - (d + 1)) = d + 1 from by omega]
      have u0 : U (p (3 - (d + 1))) ≠ 0 := by rw [a3]; decide
      have hq3 : p (3 - (d + 1)) ≠ p 3 := fun e => by rw [e, pL3] at a4; omega
      have lk := hW (3 - (d + 1)) (by omega)
      rw [et, show 3 - (d + 1) + 1 = 3 - d from by omega] at lk
      rw [sn_ct_s a1, sn_ct_s a1, in3 _ _ hq3 ht]
      by_cases z : k / 4 ^ (d + 1) % 4 = key / 4 ^ (d + 1) % 4
      · rw [z, lk]
        refine ih (by omega) k (fun y => hne ?_)
        rw [Nat.mod_pow_succ (k := d + 1), Nat.mod_pow_succ (x := key) (k := d + 1), y, z]
      · rcases C _ a1 u0 (by omega) _ ht with e | ⟨n, hn, e, un, ln⟩
        · rw [e, sn_ct_n, sn_ct_n]
        · rw [e]
          refine A d n hn un (by omega) (fun y => z ?_) k
          rw [y, show 3 - d = (3 - (d + 1)) + 1 from by omega] at e
          have := (sn_uq (Nat.le_refl _) O' (by omega) a1 u0 (by omega) ht e).2
          rw [et] at this
          exact this
  have D : ∀ d, d ≤ 3 → sn_ct W1 H1 d (nI (p (3 - d))) key = sn_ct W1 H1 0 (nI (p 3)) key := by
    intro d
    induction d with
    | zero => intro _; rfl
    | succ d ih =>
      intro hd
      obtain ⟨a1, a2, a3, a4⟩ := hP (3 - (d + 1)) (by omega)
      have ht : key / 4 ^ (d + 1) % 4 < 4 := Nat.mod_lt _ (by decide)
      have et : sn_tn key (3 - (d + 1)) = key / 4 ^ (d + 1) % 4 := by
        unfold sn_tn
        rw [show 3 - (3 - (d + 1)) = d + 1 from by omega]
      have hq3 : p (3 - (d + 1)) ≠ p 3 := fun e => by rw [e, pL3] at a4; omega
      have lk := hW (3 - (d + 1)) (by omega)
      rw [et, show 3 - (d + 1) + 1 = 3 - d from by omega] at lk
      rw [sn_ct_s a1, in3 _ _ hq3 ht, lk]
      exact ih (by omega)
  refine ⟨fun m hm k hk2 hne => ?_, ?_⟩
  · rw [← hC m hm k]
    by_cases e : m = 0
    · subst e
      rw [hr]
      refine B 3 (Nat.le_refl _) k ?_
      have h256 : 4 ^ (3 + 1) = 256 := by decide
      rw [h256]
      omega
    · rcases V.1 m hm with z | ⟨q, hq, z, uq, lq⟩
      · rw [z, sn_ct_n, sn_ct_n]
      · rw [z]
        refine A 3 q hq uq (by omega) (fun y => e ?_) k
        obtain ⟨a1, a2, a3, a4⟩ := hP 0 (by omega)
        have y' : q = p 0 := y
        have := sn_uniq I a1 a3 (a := 1600 + m) (b := 1600 + 0) (by omega) (by omega) (by rw [hR m hm, z, y']) (by rw [hR 0 (by omega), hr])
        omega
  · rw [hr]
    exact D 3 (Nat.le_refl _)
/-- the core invariant over a write of one leaf -/
theorem sn_leafI {W H U G W1 H1 : Nat → Int32} {L : Nat → Nat} (I : sn_Inv W H U L G sn_z 400) {q b : Nat} (hq : q < 400) (lq : L q = 3) (hH : ∀ r, r ≠ q → H1 r = H r) (hW1 : ∀ j, (j < 4 * q ∨ 4 * q + 4 ≤ j) → W1 j = W j)
    (hb : b < 16) (eb : H1 q = nI (256 + b)) : sn_Inv W1 H1 U L G sn_z 400 := by
  refine ⟨I.1, I.2.1, fun r hr hne => ?_, fun r hr hne ur => ?_⟩
  · obtain ⟨a1, a2⟩ := I.2.2.1 r hr hne
    refine ⟨fun x1 x2 w hw => ?_, a2⟩
    have hrq : r ≠ q := fun e => by rw [e, lq] at x2; omega
    rw [hW1 _ (by omega)]
    exact a1 x1 x2 w hw
  · by_cases e : r = q
    · subst e
      exact ⟨by omega, fun _ => ⟨b, hb, eb⟩, fun z => by omega⟩
    · rw [hH r e]
      exact I.2.2.2 r hr hne ur
end SnJ
end
section
section SnK
variable {T R Z K : Nat → Int32}
/-! leadsOn -/
theorem sn_ldl {W H U P : Nat → Int32} {n : Nat} (hn : n < 400) (hv : ∀ w, w < 4 → W (4 * n + w) = -1 ∨ ∃ c, c < 400 ∧ W (4 * n + w) = nI c) :
    ∀ d i, i + d = 4 → (∀ w, w < i → W (4 * n + w) = -1) → ((∀ w, w < 4 → W (4 * n + w) = -1) ∧ ∀ post : Int32 → Prop, post 0 → wX_leadsOn_2 post (nI n) W H U T R Z P K (d + 1) (nI i)) ∨ ((∃ w, w < 4 ∧ W (4 * n + w) ≠ -1) ∧ ∀ post : Int32 → Prop, post 1 → wX_leadsOn_2 post (nI n) W H U T R Z P K (d + 1) (nI i)) := by
  intro d
  induction d with
  | zero =>
    intro i hi h
    have e : i = 4 := by omega
    subst e
    exact Or.inl ⟨h, fun post hp => br_t (nI_le (a := 4) (b := 4) (Nat.le_refl _) (by decide)) hp⟩
  | succ d ih =>
    intro i hi h
    have h4 : ¬ (4 : Int32) ≤ nI i := nI_ge (b := 4) (by omega) (by decide)
    rcases hv i (by omega) with e | ⟨c, hc, e⟩
    · have st : ∀ post : Int32 → Prop, wX_leadsOn_2 post (nI n) W H U T R Z P K (d + 1) (nI (i + 1)) → wX_leadsOn_2 post (nI n) W H U T R Z P K (d + 1 + 1) (nI i) := by
        intro post hs
        refine br_f h4 ⟨sn_in4 hn (by omega), ?_⟩
        rw [sn_cl4 hn (by omega), e]
        exact br_t sn_neg (nm_r (nI_1 i) hs)
      rcases ih (i + 1) (by omega) (fun w hw => by
        by_cases z : w = i
        · rw [z]; exact e
        · exact h w (by omega)) with ⟨a, b⟩ | ⟨a, b⟩
      · exact Or.inl ⟨a, fun post hp => st post (b post hp)⟩
      · exact Or.inr ⟨a, fun post hp => st post (b post hp)⟩
    · refine Or.inr ⟨⟨i, by omega, by rw [e]; exact sn_ne1 (by omega)⟩, fun post hp => br_f h4 ⟨sn_in4 hn (by omega), ?_⟩⟩
      rw [sn_cl4 hn (by omega), e]
      exact br_f (nI_pos (by omega)) hp
/-- an empty node of the own path goes -/
theorem sn_freeI {W H U G W' : Nat → Int32} {L : Nat → Nat} (I : sn_Inv W H U L G sn_z 400) {q i : Nat} (hq : q < 400) (hi : i < 1608) (gi : G i = nI q) (uq : U q = 1) (hg : ∀ w, w < 4 → G (4 * q + w) = -1)
    (hW : ∀ j, j < 1600 → j ≠ i → W' j = W j) (hWi : i < 1600 → W' i = -1) : sn_Inv W' H (upd U q 0) L (upd G i (-1)) sn_z 400 := by
  have rc : ∀ m, m < 400 → sn_rc (upd G i (-1)) m + sn_b (nI q = nI m) = sn_rc G m := fun m hm => by
    have h := sn_rcu (G := G) (i := i) (n := m) (v := -1) hi
    rw [gi, sn_b0 (p := (-1 : Int32) = nI m) (sn_ne1' (by omega)), Nat.add_zero] at h
    exact h
  refine ⟨⟨fun m hm => ?_, fun m hm => Nat.zero_le _⟩, fun j hj => ?_, fun p hp hne => ?_, fun p hp hne hu => ?_⟩
  · have h := rc m hm
    by_cases e : m = q
    · subst e
      have h1 : sn_rc G m = 1 := (sn_Rf1 I.1 hm).mp uq
      rw [sn_b1 rfl, h1] at h
      rw [sn_us, show sn_rc (upd G i (-1)) m = 0 from by omega]
      rfl
    · rw [sn_b0 (fun y => e ((nI_eq (by omega) (by omega)).mp y).symm), Nat.add_zero] at h
      rw [sn_un e, h]
      exact I.1.1 m hm
  · by_cases e : j = i
    · subst e
      exact Or.inl sn_us
    · rw [sn_un e]
      exact I.2.1 j hj
  · by_cases e : p = q
    · subst e
      refine ⟨fun z => (z sn_us).elim, fun _ w hw => ?_⟩
      by_cases y : 4 * p + w = i
      · rw [y, sn_us]
      · rw [sn_un y]
        exact hg w hw
    · rw [sn_un e]
      obtain ⟨a1, a2⟩ := I.2.2.1 p hp hne
      refine ⟨fun x1 x2 w hw => ?_, fun x1 w hw => ?_⟩
      · by_cases y : 4 * p + w = i
        · rw [y, sn_us, hWi (by omega)]
        · rw [sn_un y, hW _ (by omega) y]
          exact a1 x1 x2 w hw
      · by_cases y : 4 * p + w = i
        · rw [y, sn_us]
        · rw [sn_un y]
          exact a2 x1 w hw
  · by_cases e : p = q
    · subst e
      exact (hu sn_us).elim
    · rw [sn_un e] at hu
      exact I.2.2.2 p hp hne hu
/-- a node at the end of the own path without content, and nothing behind it -/
def sn_Em (W H G : Nat → Int32) (l q : Nat) : Prop := (∀ k, sn_ct W H (3 - l) (nI q) k = none) ∧ (∀ w, w < 4 → G (4 * q + w) = -1)
/-- one round of prune: the way to the empty node goes, and the node -/
theorem sn_prs {key : Nat} {c : Nat → Nat → Option Int32} {W H U P G : Nat → Int32} {L : Nat → Nat} {l : Nat} {p : Nat → Nat} (hl : l < 3) (O : sn_OP key c W H U R P G L (l + 1) p) (hE : sn_Em W H G (l + 1) (p (l + 1))) :
    sn_OP key c (upd W (4 * p l + sn_tn key l) (-1)) H (upd U (p (l + 1)) 0) R P (upd G (4 * p l + sn_tn key l) (-1)) L l p := by
  obtain ⟨I, hR, hC, hP, hr, hW, hN⟩ := O
  obtain ⟨pl, pP, pu, pL⟩ := hP l (by omega)
  obtain ⟨ql, qP, qu, qL⟩ := hP (l + 1) (Nat.le_refl _)
  have ht := sn_tnl key l
  have pu0 : U (p l) ≠ 0 := by rw [pu]; decide
  have hpq : ∀ j, j ≤ l → p j ≠ p (l + 1) := fun j hj e => by
    have := (hP j (by omega)).2.2.2
    rw [e, qL] at this
    omega
  have gi : G (4 * p l + sn_tn key l) = nI (p (l + 1)) := ((I.2.2.1 _ pl (by omega)).1 pu0 (by omega) _ ht).trans (hW l (by omega))
  have I' := sn_freeI (W' := upd W (4 * p l + sn_tn key l) (-1)) I ql (by omega) gi qu hE.2 (fun j _ e => sn_un e) (fun _ => sn_us)
  have hR' : sn_Ro R (upd G (4 * p l + sn_tn key l) (-1)) := fun m hm => by
    rw [sn_un (by omega)]
    exact hR m hm
  have V' := sn_vd_of I' hR'
  have C' := sn_cl_of I'
  have new := sn_pres (W := W) (H := H) (W1 := upd W (4 * p l + sn_tn key l) (-1)) (H1 := H) (U := upd U (p (l + 1)) 0) (L := L) (fun q hq uq lq => ⟨rfl, fun w hw => by
      refine sn_un (fun e => ?_)
      have : q = p l := by omega
      rw [this, pL] at lq
      omega⟩) (fun q hq uq lq w hw => by
      refine ⟨C' q hq uq lq w hw, fun k => ?_⟩
      by_cases e : 4 * q + w = 4 * p l + sn_tn key l
      · have eq : q = p l := by omega
        rw [e, sn_us, hW l (by omega), sn_ct_n, eq, pL]
        have := hE.1 k
        rw [show 3 - (l + 1) = 2 - l from by omega] at this
        exact this.symm
      · rw [sn_un e])
  have hpj : ∀ j, j < l → ∀ w w', w < 4 → w' < 4 → 4 * p j + w ≠ 4 * p l + w' := fun j hj w w' h1 h2 => by
    have : p j ≠ p l := fun e => by
      have := (hP j (by omega)).2.2.2
      rw [e, pL] at this
      omega
    omega
  refine ⟨I', hR', fun m hm k => ?_, fun j hj => ?_, hr, fun j hj => ?_, fun q hq uq hX => ?_⟩
  · rw [← hC m hm k]
    exact sn_presp (new 3) (V'.1 m hm) rfl k
  · obtain ⟨a1, a2, a3, a4⟩ := hP j (by omega)
    refine ⟨a1, a2, ?_, a4⟩
    rw [sn_un (hpq j hj)]
    exact a3
  · rw [sn_un (hpj j hj _ _ (sn_tnl _ _) ht)]
    exact hW j (by omega)
  · have hqq : q ≠ p (l + 1) := fun e => uq (by rw [e]; exact sn_us)
    rw [sn_un hqq] at uq
    obtain ⟨n1, n2⟩ := hN q hq uq (fun ⟨j, hj, e⟩ => by
      by_cases z : j = l + 1
      · rw [z] at e
        exact hqq e
      · exact hX ⟨j, by omega, e⟩)
    refine ⟨fun z => ?_, n2⟩
    obtain ⟨w, hw, e⟩ := n1 z
    refine ⟨w, hw, ?_⟩
    have : q ≠ p l := fun y => hX ⟨l, Nat.le_refl _, y⟩
    rw [sn_un (by omega)]
    exact e
/-- the own path leads on: nothing is empty any more -/
theorem sn_NEof {key : Nat} {c : Nat → Nat → Option Int32} {W H U P G : Nat → Int32} {L : Nat → Nat} {l : Nat} {p : Nat → Nat} (O : sn_OP key c W H U R P G L l p)
    (h : (L (p l) < 3 → ∃ w, w < 4 ∧ W (4 * p l + w) ≠ -1) ∧ (L (p l) = 3 → H (p l) ≠ nI 256)) (hl : l ≤ 3) : sn_NE W H U L (fun _ => False) := by
  obtain ⟨I, hR, hC, hP, hr, hW, hN⟩ := O
  intro q hq uq _
  by_cases z : ∃ j, j ≤ l ∧ q = p j
  · obtain ⟨j, hj, e⟩ := z
    by_cases y : j = l
    · subst y
      rw [e]
      exact h
    · obtain ⟨a1, a2, a3, a4⟩ := hP j hj
      obtain ⟨b1, b2, b3, b4⟩ := hP (j + 1) (by omega)
      rw [e]
      refine ⟨fun _ => ⟨sn_tn key j, sn_tnl key j, ?_⟩, fun x => by omega⟩
      rw [hW j (by omega)]
      exact sn_ne1 (by omega)
  · exact hN q hq uq z
/-- the walk of one round, as leadsOn answers -/
theorem sn_prw0 {key : Nat} (hk : key < 256) {W H U P : Nat → Int32} {l q F : Nat} {y : Int32} (hl : l < 3) (hq : q < 400) (eP : P l = nI q) (ey : nI l + (-1) = y)
    (h : ∀ post : Int32 → Prop, post 0 → wpX_leadsOn post (upd W (4 * q + sn_tn key l) (-1), H, U, T, R, Z, P, K) (nI q)) {post : SX → Prop}
    (hp : wX_prune_32 post (nI key) F y (upd W (4 * q + sn_tn key l) (-1)) H (upd U q 0) T R Z P K) : wX_prune_32 post (nI key) (F + 1) (nI l) W H U T R Z P K := by
  have ht := sn_tnl key l
  have h4 : vp_in (nI l) 4 := vp_in_nI (by omega) (by omega)
  have eP' : P (nI l).toNatClampNeg = nI q := by rw [sn_clm (by omega), eP]
  refine br_f (nI_pos (by omega)) ⟨h4, sn_turn' hk hl (t := sn_tn key l) rfl ?_⟩
  rw [eP']
  refine ⟨sn_in4 hq ht, nm_r (e' := upd W (4 * q + sn_tn key l) (-1)) (by rw [sn_cl4 hq ht]) ⟨h4, ?_⟩⟩
  refine h _ ?_
  exact br_t rfl ⟨h4, sn_in400 hq, nm_r (e' := upd U q 0) (by rw [sn_clm (by omega)]) (nm_r ey hp)⟩
theorem sn_prw1 {key : Nat} (hk : key < 256) {W H U P : Nat → Int32} {l q F : Nat} (hl : l < 3) (hq : q < 400) (eP : P l = nI q)
    (h : ∀ post : Int32 → Prop, post 1 → wpX_leadsOn post (upd W (4 * q + sn_tn key l) (-1), H, U, T, R, Z, P, K) (nI q)) {post : SX → Prop}
    (hp : post (upd W (4 * q + sn_tn key l) (-1), H, U, T, R, Z, P, K)) : wX_prune_32 post (nI key) (F + 1) (nI l) W H U T R Z P K := by
  have ht := sn_tnl key l
  have h4 : vp_in (nI l) 4 := vp_in_nI (by omega) (by omega)
  have eP' : P (nI l).toNatClampNeg = nI q := by rw [sn_clm (by omega), eP]
  refine br_f (nI_pos (by omega)) ⟨h4, sn_turn' hk hl (t := sn_tn key l) rfl ?_⟩
  rw [eP']
  refine ⟨sn_in4 hq ht, nm_r (e' := upd W (4 * q + sn_tn key l) (-1)) (by rw [sn_cl4 hq ht]) ⟨h4, ?_⟩⟩
  refine h _ ?_
  exact br_f (by decide) hp
theorem sn_prl {key : Nat} (hk : key < 256) {c : Nat → Nat → Option Int32} {H P : Nat → Int32} {L : Nat → Nat} {p : Nat → Nat} : ∀ l, l < 3 → ∀ W U G, sn_OP key c W H U R P G L (l + 1) p → sn_Em W H G (l + 1) (p (l + 1)) →
    ∃ W' U' R' G', sn_Inv W' H U' L G' sn_z 400 ∧ sn_Ro R' G' ∧ (∀ m, m < 8 → ∀ k, sn_ct W' H 3 (R' m) k = c m k) ∧ sn_NE W' H U' L (fun _ => False) ∧ (∀ m, m ≠ 0 → R' m = R m) ∧
      ∀ post : SX → Prop, post (W', H, U', T, R', Z, P, K) → wX_prune_32 post (nI key) (l + 1 + 1) (nI l) W H (upd U (p (l + 1)) 0) T R Z P K := by
  intro l
  induction l with
  | zero =>
    intro _ W U G O hE
    have O1 := sn_prs (by omega) O hE
    have O2 := O1
    obtain ⟨I, hR, hC, hP, hr, hW, hN⟩ := O1
    obtain ⟨pl, pP, pu, pL⟩ := hP 0 (Nat.le_refl _)
    have pu0 : upd U (p (0 + 1)) 0 (p 0) ≠ 0 := by rw [pu]; decide
    have C := sn_cl_of I
    have hv : ∀ w, w < 4 → upd W (4 * p 0 + sn_tn key 0) (-1) (4 * p 0 + w) = -1 ∨ ∃ c, c < 400 ∧ upd W (4 * p 0 + sn_tn key 0) (-1) (4 * p 0 + w) = nI c := fun w hw => by
      rcases C (p 0) pl pu0 (by omega) w hw with e | ⟨c, hc, e, _, _⟩
      · exact Or.inl e
      · exact Or.inr ⟨c, hc, e⟩
    rcases sn_ldl (T := T) (R := R) (Z := Z) (K := K) (P := P) (H := H) (U := upd U (p (0 + 1)) 0) pl hv 4 0 rfl (fun w hw => by omega) with ⟨a, b⟩ | ⟨a, b⟩
    · have g0 : ∀ w, w < 4 → upd G (4 * p 0 + sn_tn key 0) (-1) (4 * p 0 + w) = -1 := fun w hw => by
        rw [(I.2.2.1 (p 0) pl (by omega)).1 pu0 (by omega) w hw]
        exact a w hw
      have I' := sn_freeI (W' := upd W (4 * p 0 + sn_tn key 0) (-1)) (i := 1600) I pl (by omega) (by rw [← hr]; exact hR 0 (by omega)) pu g0 (fun _ _ _ => rfl) (fun h => by omega)
      refine ⟨_, _, upd R 0 (-1), _, I', fun m hm => ?_, fun m hm k => ?_, fun q hq uq _ => ?_, fun m hm => sn_un hm, fun post hp => ?_⟩
      · by_cases e : m = 0
        · subst e
          rw [sn_us]
          exact sn_us.symm
        · rw [sn_un e, sn_un (by omega)]
          exact hR m hm
      · by_cases e : m = 0
        · subst e
          rw [sn_us, sn_ct_n, ← hC 0 (by omega) k, hr, sn_ct_s pl, a _ (Nat.mod_lt _ (by decide)), sn_ct_n]
        · rw [sn_un e]
          exact hC m hm k
      · have hq0 : q ≠ p 0 := fun e => uq (by rw [e]; exact sn_us)
        rw [sn_un hq0] at uq
        exact hN q hq uq (fun ⟨j, hj, e⟩ => hq0 (by rw [e, show j = 0 from by omega]))
      · exact sn_prw0 hk (by omega) pl pP (y := -1) (by decide) (fun post hp => ⟨_, b post hp⟩) (br_t sn_neg (nm_e hp))
    · exact ⟨_, _, R, _, I, hR, hC, sn_NEof O2 ⟨fun _ => a, fun z => by omega⟩ (by omega), fun _ _ => rfl, fun post hp => sn_prw1 hk (by omega) pl pP (fun post hp => ⟨_, b post hp⟩) hp⟩
  | succ l ih =>
    intro hl3 W U G O hE
    have O1 := sn_prs hl3 O hE
    have O2 := O1
    obtain ⟨I, hR, hC, hP, hr, hW, hN⟩ := O1
    obtain ⟨pl, pP, pu, pL⟩ := hP (l + 1) (Nat.le_refl _)
    have pu0 : upd U (p (l + 1 + 1)) 0 (p (l + 1)) ≠ 0 := by rw [pu]; decide
    have C := sn_cl_of I
    have hv : ∀ w, w < 4 → upd W (4 * p (l + 1) + sn_tn key (l + 1)) (-1) (4 * p (l + 1) + w) = -1 ∨ ∃ c, c < 400 ∧ upd W (4 * p (l + 1) + sn_tn key (l + 1)) (-1) (4 * p (l + 1) + w) = nI c := fun w hw => by
      rcases C (p (l + 1)) pl pu0 (by omega) w hw with e | ⟨c, hc, e, _, _⟩
      · exact Or.inl e
      · exact Or.inr ⟨c, hc, e⟩
    rcases sn_ldl (T := T) (R := R) (Z := Z) (K := K) (P := P) (H := H) (U := upd U (p (l + 1 + 1)) 0) pl hv 4 0 rfl (fun w hw => by omega) with ⟨a, b⟩ | ⟨a, b⟩
    · have g0 : ∀ w, w < 4 → upd G (4 * p (l + 1) + sn_tn key (l + 1)) (-1) (4 * p (l + 1) + w) = -1 := fun w hw => by
        rw [(I.2.2.1 (p (l + 1)) pl (by omega)).1 pu0 (by omega) w hw]
        exact a w hw
      obtain ⟨W', U', R', G', h1, h2, h3, h4, h5, h6⟩ := ih (by omega) _ _ _ O2 ⟨fun k => by
        rw [show 3 - (l + 1) = (1 - l) + 1 from by omega, sn_ct_s pl, a _ (Nat.mod_lt _ (by decide)), sn_ct_n], g0⟩
      exact ⟨W', U', R', G', h1, h2, h3, h4, h5, fun post hp => sn_prw0 hk hl3 pl pP (sn_m1 l) (fun post hp => ⟨_, b post hp⟩) (h6 post hp)⟩
    · exact ⟨_, _, R, _, I, hR, hC, sn_NEof O2 ⟨fun _ => a, fun z => by omega⟩ (by omega), fun _ _ => rfl, fun post hp => sn_prw1 hk hl3 pl pP (fun post hp => ⟨_, b post hp⟩) hp⟩
/-- prune -/
theorem sn_pruneX {key : Nat} (hk : key < 256) {c : Nat → Nat → Option Int32} {W H U P G : Nat → Int32} {L : Nat → Nat} {p : Nat → Nat} (O : sn_OP key c W H U R P G L 3 p) :
    ∃ W' U' R' G', sn_Inv W' H U' L G' sn_z 400 ∧ sn_Ro R' G' ∧ (∀ m, m < 8 → ∀ k, sn_ct W' H 3 (R' m) k = c m k) ∧ sn_NE W' H U' L (fun _ => False) ∧ (∀ m, m ≠ 0 → R' m = R m) ∧
      ∀ post : SX → Prop, post (W', H, U', T, R', Z, P, K) → wpX_prune post (W, H, U, T, R, Z, P, K) (nI key) := by
  have O2 := O
  obtain ⟨I, hR, hC, hP, hr, hW, hN⟩ := O
  obtain ⟨p3, pP, pu, pL⟩ := hP 3 (Nat.le_refl _)
  have pu0 : U (p 3) ≠ 0 := by rw [pu]; decide
  obtain ⟨b, hb, eb⟩ := (I.2.2.2 (p 3) p3 (by omega) pu0).2.1 pL
  by_cases z : b = 0
  · subst z
    have eb' : H (p 3) = nI 256 := eb
    obtain ⟨W', U', R', G', h1, h2, h3, h4, h5, h6⟩ := sn_prl (T := T) (Z := Z) (K := K) hk 2 (by omega) W U G O2 ⟨fun k => sn_ct_00 p3 (by rw [eb']; exact sn_tb_b0 _ (Nat.mod_lt _ (by decide))), (I.2.2.1 (p 3) p3 (by omega)).2 (Or.inr pL)⟩
    refine ⟨W', U', R', G', h1, h2, h3, h4, h5, fun post hp => ?_⟩
    unfold wpX_prune
    dsimp only
    rw [pP, sn_clm (by omega), eb']
    exact ⟨sn_in400 p3, br_t (by decide) ⟨sn_in400 p3, nm_e ⟨_, h6 post hp⟩⟩⟩
  · refine ⟨W, U, R, G, I, hR, hC, sn_NEof O2 ⟨fun y => by omega, fun _ y => ?_⟩ (Nat.le_refl _), fun _ _ => rfl, fun post hp => ?_⟩
    · rw [eb, nI_eq (by omega) (by omega)] at y
      omega
    · unfold wpX_prune
      dsimp only
      rw [pP, sn_clm (by omega), eb]
      exact ⟨sn_in400 p3, br_f (fun y => z ((sn_tb_15 b hb).mp y)) hp⟩
end SnK
end
section
section SnL
variable {W H U R G : Nat → Int32} {L : Nat → Nat}
/-- the node at level l on the way to key k -/
def sn_nd (W : Nat → Int32) (x : Int32) (k : Nat) : Nat → Int32
  | 0 => x
  | l + 1 => W (4 * (sn_nd W x k l).toNatClampNeg + k / 4 ^ (3 - l) % 4)
/-- every used node is reached from a map -/
theorem sn_up (I : sn_Inv W H U L G sn_z 400) (hR : sn_Ro R G) : ∀ l, l ≤ 3 → ∀ n, n < 400 → U n ≠ 0 → L n = l →
    ∃ m a, m < 8 ∧ a < 4 ^ l ∧ ∀ k, k < 256 → k / 4 ^ (4 - l) = a → sn_nd W (R m) k l = nI n ∧ sn_ct W H 3 (R m) k = sn_ct W H (3 - l) (nI n) k := by
  have par : ∀ n, n < 400 → U n ≠ 0 → ∃ i, i < 1608 ∧ G i = nI n ∧ L n = sn_sl L i := by
    intro n hn un
    have : 0 < sn_rc G n := Nat.pos_of_ne_zero (fun z => un ((sn_Rf0 I.1 hn).mpr z))
    obtain ⟨i, hi, e⟩ := sn_cp this
    refine ⟨i, hi, e, ?_⟩
    rcases I.2.1 i hi with z | ⟨q, hq, z, lq⟩
    · exact (sn_ne1 (by omega) (e.symm.trans z)).elim
    · rw [(nI_eq (by omega) (by omega)).mp (e.symm.trans z)]
      exact lq
  intro l
  induction l with
  | zero =>
    intro _ n hn un ln
    obtain ⟨i, hi, e, li⟩ := par n hn un
    have h16 : ¬ i < 1600 := fun z => by
      unfold sn_sl at li
      rw [if_pos z, ln] at li
      omega
    have er : R (i - 1600) = nI n := by
      rw [← hR (i - 1600) (by omega), show 1600 + (i - 1600) = i from by omega]
      exact e
    refine ⟨i - 1600, 0, by omega, by decide, fun k _ _ => ⟨er, ?_⟩⟩
    rw [er]
  | succ l ih =>
    intro hl n hn un ln
    obtain ⟨i, hi, e, li⟩ := par n hn un
    have h16 : i < 1600 := by
      unfold sn_sl at li
      by_cases z : i < 1600
      · exact z
      · rw [if_neg z, ln] at li
        omega
    have lp : L (i / 4) = l := by
      unfold sn_sl at li
      rw [if_pos h16, ln] at li
      omega
    have hw : i % 4 < 4 := Nat.mod_lt _ (by decide)
    have hp : i / 4 < 400 := by omega
    have ei : 4 * (i / 4) + i % 4 = i := by omega
    have ac := I.2.2.1 (i / 4) hp (by omega)
    have up : U (i / 4) ≠ 0 := fun z => by
      have := ac.2 (Or.inl z) (i % 4) hw
      rw [ei, e] at this
      exact sn_ne1 (by omega) this
    have we : W (4 * (i / 4) + i % 4) = nI n := by
      rw [← ac.1 up (by omega) (i % 4) hw, ei]
      exact e
    obtain ⟨m, a, hm, ha, h⟩ := ih (by omega) (i / 4) hp up lp
    refine ⟨m, 4 * a + i % 4, hm, by rw [Nat.pow_succ]; omega, fun k hk ek => ?_⟩
    have e3 : 4 - (l + 1) = 3 - l := by omega
    rw [e3] at ek
    have e4 : k / 4 ^ (4 - l) = a := by
      rw [show 4 - l = (3 - l) + 1 from by omega, Nat.pow_succ, ← Nat.div_div_eq_div_mul, ek]
      omega
    have e5 : k / 4 ^ (3 - l) % 4 = i % 4 := by
      rw [ek]
      omega
    obtain ⟨h1, h2⟩ := h k hk e4
    refine ⟨?_, ?_⟩
    · show W (4 * (sn_nd W (R m) k l).toNatClampNeg + k / 4 ^ (3 - l) % 4) = nI n
      rw [h1, e5, sn_clm (by omega)]
      exact we
    · rw [h2, show 3 - l = (2 - l) + 1 from by omega, sn_ct_s hp, show (2 - l) + 1 = 3 - l from by omega, e5, we, show 3 - (l + 1) = 2 - l from by omega]
/-- every used node leads to a key -/
theorem sn_dn (I : sn_Inv W H U L G sn_z 400) (hN : sn_NE W H U L (fun _ => False)) : ∀ d n, n < 400 → U n ≠ 0 → L n + d = 3 →
    ∃ s, s < 4 ^ (d + 1) ∧ ∀ k, k % 4 ^ (d + 1) = s → sn_ct W H d (nI n) k ≠ none := by
  intro d
  induction d with
  | zero =>
    intro n hn un ln
    have l3 : L n = 3 := by omega
    obtain ⟨b, hb, eb⟩ := (I.2.2.2 n hn (by omega) un).2.1 l3
    have hb0 : b ≠ 0 := fun z => (hN n hn un (fun h => h)).2 l3 (by rw [eb, z])
    obtain ⟨j, hj, e⟩ := sn_tb_ne b hb hb0
    refine ⟨j, hj, fun k ek => ?_⟩
    have ek' : k % 4 = j := ek
    rw [sn_ct_01 hn (by rw [eb, ek']; exact e)]
    exact fun z => nomatch z
  | succ d ih =>
    intro n hn un ln
    obtain ⟨w, hw, e⟩ := (hN n hn un (fun h => h)).1 (by omega)
    rcases sn_cl_of I n hn un (by omega) w hw with z | ⟨c, hc, z, uc, lc⟩
    · exact (e z).elim
    · obtain ⟨s, hs, h⟩ := ih c hc uc (by omega)
      refine ⟨s + 4 ^ (d + 1) * w, ?_, fun k ek => ?_⟩
      · rw [Nat.pow_succ 4 (d + 1)]
        have : 4 ^ (d + 1) * w ≤ 4 ^ (d + 1) * 3 := Nat.mul_le_mul_left _ (by omega)
        omega
      · rw [Nat.mod_pow_succ (k := d + 1)] at ek
        have p4 : 0 < 4 ^ (d + 1) := Nat.pow_pos (by decide)
        have m1 : k % 4 ^ (d + 1) < 4 ^ (d + 1) := Nat.mod_lt _ p4
        have e1 : k % 4 ^ (d + 1) = s := by
          have := congrArg (· % 4 ^ (d + 1)) ek
          rw [Nat.add_mul_mod_self_left, Nat.add_mul_mod_self_left, Nat.mod_eq_of_lt m1, Nat.mod_eq_of_lt hs] at this
          exact this
        have e2 : k / 4 ^ (d + 1) % 4 = w := by
          rw [e1] at ek
          exact Nat.eq_of_mul_eq_mul_left p4 (Nat.add_left_cancel ek)
        rw [sn_ct_s hn, e2, z]
        exact h k e1
/-- at most 296 nodes are used -/
theorem sn_count (I : sn_Inv W H U L G sn_z 400) (hR : sn_Ro R G) (hN : sn_NE W H U L (fun _ => False)) (hS : ∀ m, m < 8 → sn_c (fun k => sn_ct W H 3 (R m) k ≠ none) 256 ≤ 16) :
    sn_c (fun n => U n ≠ 0) 400 ≤ 296 := by
  have key : ∀ l n, n < 400 → U n ≠ 0 → L n = l → l ≤ 3 → ∃ m k, m < 8 ∧ k < 256 ∧ sn_nd W (R m) k l = nI n ∧ sn_ct W H 3 (R m) k ≠ none := by
    intro l n hn un ln hl
    obtain ⟨m, a, hm, ha, h⟩ := sn_up I hR l hl n hn un ln
    obtain ⟨s, hs, h2⟩ := sn_dn I hN (3 - l) n hn un (by omega)
    rw [show 3 - l + 1 = 4 - l from by omega] at hs h2
    have p4 : 0 < 4 ^ (4 - l) := Nat.pow_pos (by decide)
    have e256 : 4 ^ l * 4 ^ (4 - l) = 256 := by
      rw [← Nat.pow_add, show l + (4 - l) = 4 from by omega]
    have hk : s + 4 ^ (4 - l) * a < 256 := by
      have h3 : (a + 1) * 4 ^ (4 - l) ≤ 4 ^ l * 4 ^ (4 - l) := Nat.mul_le_mul_right _ ha
      rw [e256, Nat.add_mul, Nat.one_mul, Nat.mul_comm] at h3
      omega
    have d1 : (s + 4 ^ (4 - l) * a) / 4 ^ (4 - l) = a := by
      rw [Nat.add_mul_div_left _ _ p4, Nat.div_eq_of_lt hs, Nat.zero_add]
    have d2 : (s + 4 ^ (4 - l) * a) % 4 ^ (4 - l) = s := by
      rw [Nat.add_mul_mod_self_left, Nat.mod_eq_of_lt hs]
    obtain ⟨h3, h4⟩ := h _ hk d1
    exact ⟨m, _, hm, hk, h3, by rw [h4]; exact h2 _ d2⟩
  have c0 : sn_c (fun n => U n ≠ 0 ∧ L n = 0) 400 ≤ sn_c (fun _ => True) 8 := by
    refine sn_cov (g := fun m => (R m).toNatClampNeg) (fun n hn h => ?_)
    obtain ⟨m, k, hm, hk, h1, h2⟩ := key 0 n hn h.1 h.2 (by omega)
    have h1' : R m = nI n := h1
    exact ⟨m, hm, True.intro, by rw [h1', sn_clm (by omega)]⟩
  have c1 : sn_c (fun n => U n ≠ 0 ∧ L n = 1) 400 ≤ sn_c (fun _ => True) 32 := by
    refine sn_cov (g := fun j => (sn_nd W (R (j / 4)) (j % 4 * 64) 1).toNatClampNeg) (fun n hn h => ?_)
    obtain ⟨m, a, hm, ha, h1⟩ := sn_up I hR 1 (by omega) n hn h.1 h.2
    have ha4 : a < 4 := ha
    have h2 := (h1 (a * 64) (by omega) (by
      show a * 64 / 64 = a
      omega)).1
    refine ⟨4 * m + a, by omega, True.intro, ?_⟩
    rw [show (4 * m + a) / 4 = m from by omega, show (4 * m + a) % 4 = a from by omega, h2, sn_clm (by omega)]
  have cl : ∀ l, l ≤ 3 → sn_c (fun n => U n ≠ 0 ∧ L n = l) 400 ≤ sn_c (fun j => sn_ct W H 3 (R (j / 256)) (j % 256) ≠ none) (256 * 8) := by
    intro l hl
    refine sn_cov (g := fun j => (sn_nd W (R (j / 256)) (j % 256) l).toNatClampNeg) (fun n hn h => ?_)
    obtain ⟨m, k, hm, hk, h1, h2⟩ := key l n hn h.1 h.2 hl
    refine ⟨256 * m + k, by omega, ?_, ?_⟩
    · rw [show (256 * m + k) / 256 = m from by omega, show (256 * m + k) % 256 = k from by omega]
      exact h2
    · rw [show (256 * m + k) / 256 = m from by omega, show (256 * m + k) % 256 = k from by omega, h1, sn_clm (by omega)]
  have cb : sn_c (fun j => sn_ct W H 3 (R (j / 256)) (j % 256) ≠ none) (256 * 8) ≤ 16 * 8 := by
    refine sn_cbl (fun q hq => ?_)
    have e : sn_c (fun i => sn_ct W H 3 (R ((256 * q + i) / 256)) ((256 * q + i) % 256) ≠ none) 256 = sn_c (fun k => sn_ct W H 3 (R q) k ≠ none) 256 := sn_cc (fun i hi => by
      rw [show (256 * q + i) / 256 = q from by omega, show (256 * q + i) % 256 = i from by omega])
    rw [e]
    exact hS q hq
  have s1 : sn_c (fun n => U n ≠ 0) 400 ≤ sn_c (fun n => U n ≠ 0 ∧ L n = 0) 400 + sn_c (fun n => U n ≠ 0 ∧ L n ≠ 0) 400 := sn_cor (fun n _ h => by
    by_cases z : L n = 0
    · exact Or.inl ⟨h, z⟩
    · exact Or.inr ⟨h, z⟩)
  have s2 : sn_c (fun n => U n ≠ 0 ∧ L n ≠ 0) 400 ≤ sn_c (fun n => U n ≠ 0 ∧ L n = 1) 400 + sn_c (fun n => U n ≠ 0 ∧ 2 ≤ L n) 400 := sn_cor (fun n _ h => by
    by_cases z : L n = 1
    · exact Or.inl ⟨h.1, z⟩
    · exact Or.inr ⟨h.1, by have := h.2; omega⟩)
  have s3 : sn_c (fun n => U n ≠ 0 ∧ 2 ≤ L n) 400 ≤ sn_c (fun n => U n ≠ 0 ∧ L n = 2) 400 + sn_c (fun n => U n ≠ 0 ∧ L n = 3) 400 := sn_cor (fun n hn h => by
    by_cases z : L n = 2
    · exact Or.inl ⟨h.1, z⟩
    · exact Or.inr ⟨h.1, by have := h.2; have := (I.2.2.2 n hn (by omega) h.1).1; omega⟩)
  have t1 := sn_cl (fun _ => True) 8
  have t2 := sn_cl (fun _ => True) 32
  have t3 := cl 2 (by omega)
  have t4 := cl 3 (by omega)
  omega
end SnL
end
section
section SnM
variable {T Z K : Nat → Int32}
theorem sn_leafOP {key : Nat} {c : Nat → Nat → Option Int32} {W H U R P G W1 H1 : Nat → Int32} {L : Nat → Nat} {p : Nat → Nat} {b : Nat} (O : sn_OP key c W H U R P G L 3 p)
    (hH : ∀ q, q ≠ p 3 → H1 q = H q) (hW1 : ∀ j, (j < 4 * p 3 ∨ 4 * p 3 + 4 ≤ j) → W1 j = W j) (hb : b < 16) (eb : H1 (p 3) = nI (256 + b)) :
    sn_OP key (fun m k => sn_ct W1 H1 3 (R m) k) W1 H1 U R P G L 3 p := by
  obtain ⟨I, hR, hC, hP, hr, hW, hN⟩ := O
  obtain ⟨p3, pP3, pu3, pL3⟩ := hP 3 (Nat.le_refl _)
  refine ⟨sn_leafI I p3 pL3 hH hW1 hb eb, hR, fun _ _ _ => rfl, hP, hr, fun j hj => ?_, fun q hq uq hX => ?_⟩
  · have hne : p j ≠ p 3 := fun e => by
      have := (hP j (by omega)).2.2.2
      rw [e, pL3] at this
      omega
    rw [hW1 _ (by have := sn_tnl key j; omega)]
    exact hW j hj
  · have hne : q ≠ p 3 := fun e => hX ⟨3, Nat.le_refl _, e⟩
    have hout : ∀ w, w < 4 → 4 * q + w < 4 * p 3 ∨ 4 * p 3 + 4 ≤ 4 * q + w := fun w hw => by omega
    obtain ⟨n1, n2⟩ := hN q hq uq hX
    rw [hH q hne]
    refine ⟨fun z => ?_, n2⟩
    obtain ⟨w, hw, e⟩ := n1 z
    exact ⟨w, hw, by rw [hW1 _ (hout w hw)]; exact e⟩
theorem sn_putc {key : Nat} (hk : key < 256) {W H U R P G : Nat → Int32} {L : Nat → Nat} (I : sn_Inv W H U L G sn_z 400) (hR : sn_Ro R G) (hN : sn_NE W H U L (fun _ => False)) (hc : sn_c (fun n => U n ≠ 0) 400 ≤ 296) (v : Int32) :
    ∃ W' H' U' P' G' L' R', sn_Inv W' H' U' L' G' sn_z 400 ∧ sn_Ro R' G' ∧ sn_NE W' H' U' L' (fun _ => False) ∧
      (∀ m, m < 8 → ∀ k, k < 256 → (m ≠ 0 ∨ k ≠ key) → sn_ct W' H' 3 (R' m) k = sn_ct W H 3 (R m) k) ∧ sn_ct W' H' 3 (R' 0) key = some v ∧ (∀ m, m ≠ 0 → R' m = R m) ∧
      ∀ (post : Int32 → SX → Prop) (x3 : Int32), ((x3 = 0 → post (Z 0 + 1) (W', H', U', T, R', upd Z 0 (Z 0 + 1), P', K)) ∧ (¬ x3 = 0 → post (Z 0 + 0) (W', H', U', T, R', upd Z 0 (Z 0 + 0), P', K))) → wX_put_37 post (nI key) v x3 W H U T R Z P K := by
  obtain ⟨W1, H1, U1, P1, G1, L1, p, O, w⟩ := sn_ownPathX (T := T) (Z := Z) (K := K) (P := P) hk I hR hN hc
  obtain ⟨p3, pP, pu, pL⟩ := O.2.2.2.1 3 (Nat.le_refl _)
  have hj : key % 4 < 4 := Nat.mod_lt _ (by decide)
  obtain ⟨b, hb, eb⟩ := (O.1.2.2.2 (p 3) p3 (by omega) (by rw [pu]; decide)).2.1 pL
  obtain ⟨t1, t2, t3⟩ := sn_tb_or b hb (key % 4) hj
  have eH : upd H1 (p 3) (nI (256 + (b ||| 2 ^ (key % 4)))) (p 3) = nI (256 + (b ||| 2 ^ (key % 4))) := sn_us
  have hH : ∀ q, q ≠ p 3 → upd H1 (p 3) (nI (256 + (b ||| 2 ^ (key % 4)))) q = H1 q := fun q hq => sn_un hq
  have hW1 : ∀ j, (j < 4 * p 3 ∨ 4 * p 3 + 4 ≤ j) → upd W1 (4 * p 3 + key % 4) v j = W1 j := fun j h => sn_un (by omega)
  have O2 := sn_leafOP O hH hW1 t2 eH
  obtain ⟨c1, c2⟩ := sn_leafw hk O hH hW1 (fun j h1 h2 => ⟨sn_un (by omega), by
    rw [eH, eb, sn_tb_orb b hb _ hj j h1]
    exact ⟨fun z => z.2, fun z => ⟨h2, z⟩⟩⟩)
  refine ⟨_, _, U1, P1, G1, L1, _, O2.1, O2.2.1, sn_NEof O2 ⟨fun z => by omega, fun _ z => ?_⟩ (Nat.le_refl _), c1, ?_, fun m hm => sn_un hm, fun post x3 hp => ?_⟩
  · rw [eH, nI_eq (by omega) (by omega)] at z
    omega
  · rw [c2, sn_ct_01 p3, sn_us]
    intro z
    rw [eH, sn_tb_orb b hb _ hj _ hj] at z
    exact z.1 rfl
  · unfold wX_put_37
    refine w _ ?_
    dsimp only
    rw [sn_and3 (by omega), sn_cl4 p3 hj, sn_clm (by omega), eb, t1]
    exact ⟨sn_in4 p3 hj, nm_e ⟨sn_in400 p3, sn_in400 p3, nm_e (br_c (fun z => nm_e (by rw [sn_us]; exact hp.1 z)) (fun z => nm_e (by rw [sn_us]; exact hp.2 z)))⟩⟩
theorem sn_remc {key : Nat} (hk : key < 256) {W H U R P G : Nat → Int32} {L : Nat → Nat} (I : sn_Inv W H U L G sn_z 400) (hR : sn_Ro R G) (hN : sn_NE W H U L (fun _ => False)) (hc : sn_c (fun n => U n ≠ 0) 400 ≤ 296) :
    ∃ W' H' U' P' G' L' R', sn_Inv W' H' U' L' G' sn_z 400 ∧ sn_Ro R' G' ∧ sn_NE W' H' U' L' (fun _ => False) ∧
      (∀ m, m < 8 → ∀ k, k < 256 → (m ≠ 0 ∨ k ≠ key) → sn_ct W' H' 3 (R' m) k = sn_ct W H 3 (R m) k) ∧ sn_ct W' H' 3 (R' 0) key = none ∧ (∀ m, m ≠ 0 → R' m = R m) ∧
      ∀ (post : Int32 → SX → Prop), sn_ct W H 3 (R 0) key ≠ none → post (Z 0 - 1) (W', H', U', T, R', upd Z 0 (Z 0 - 1), P', K) → sn_Vd W H U R L → wpX_remove post (W, H, U, T, R, Z, P, K) (nI key) := by
  obtain ⟨W1, H1, U1, P1, G1, L1, p, O, w⟩ := sn_ownPathX (T := T) (Z := Z) (K := K) (P := P) hk I hR hN hc
  obtain ⟨p3, pP, pu, pL⟩ := O.2.2.2.1 3 (Nat.le_refl _)
  have hj : key % 4 < 4 := Nat.mod_lt _ (by decide)
  obtain ⟨b, hb, eb⟩ := (O.1.2.2.2 (p 3) p3 (by omega) (by rw [pu]; decide)).2.1 pL
  obtain ⟨t1, t2⟩ := sn_tb_an b hb (key % 4) hj
  have eH : upd H1 (p 3) (nI (256 + (b &&& (15 ^^^ 2 ^ (key % 4))))) (p 3) = nI (256 + (b &&& (15 ^^^ 2 ^ (key % 4)))) := sn_us
  have hH : ∀ q, q ≠ p 3 → upd H1 (p 3) (nI (256 + (b &&& (15 ^^^ 2 ^ (key % 4))))) q = H1 q := fun q hq => sn_un hq
  have O2 := sn_leafOP O hH (fun _ _ => rfl) t2 eH
  obtain ⟨c1, c2⟩ := sn_leafw hk O hH (fun _ _ => rfl) (fun j h1 h2 => ⟨rfl, by
    rw [eH, eb, sn_tb_anb b hb _ hj j h1]
    exact ⟨fun z => z.resolve_left h2, fun z => Or.inr z⟩⟩)
  have c3 : sn_ct W1 (upd H1 (p 3) (nI (256 + (b &&& (15 ^^^ 2 ^ (key % 4)))))) 3 (upd R 0 (nI (p 0)) 0) key = none := by
    rw [c2]
    refine sn_ct_00 p3 ?_
    rw [eH, sn_tb_anb b hb _ hj _ hj]
    exact Or.inl rfl
  obtain ⟨W', U', R', G', i1, i2, i3, i4, i5, wp⟩ := sn_pruneX (T := T) (Z := Z) (K := K) hk O2
  refine ⟨W', _, U', P1, G', L1, R', i1, i2, i4, fun m hm k hk2 hne => (i3 m hm k).trans (c1 m hm k hk2 hne), (i3 0 (by omega) key).trans c3, fun m hm => (i5 m hm).trans (sn_un hm), fun post h0 hp V => ?_⟩
  unfold wpX_remove
  dsimp only
  refine br_f (nI_pos (by omega)) (br_f (nI_nlt (a := 255) (by omega) (by omega)) ?_)
  refine sn_holds (m := 0) V (by omega) hk (fun z => (h0 z).elim) (fun _ => br_f (by decide) ?_)
  refine w _ ?_
  dsimp only
  rw [sn_and3 (by omega), sn_clm (by omega), eb, t1]
  refine ⟨sn_in400 p3, sn_in400 p3, nm_e ?_⟩
  refine wp _ ?_
  dsimp only
  exact nm_e (by rw [sn_us]; exact hp)
/-! commit: the first slot that is not there -/
theorem sn_first (T : Nat → Int32) : ∀ n, (∀ j, j < n → T (j + 1) ≠ 0) ∨ ∃ s, s < n ∧ T (s + 1) = 0 ∧ ∀ j, j < s → T (j + 1) ≠ 0 := by
  intro n
  induction n with
  | zero => exact Or.inl (fun j hj => by omega)
  | succ n ih =>
    rcases ih with h | ⟨s, hs, h1, h2⟩
    · by_cases z : T (n + 1) = 0
      · exact Or.inr ⟨n, by omega, z, h⟩
      · refine Or.inl (fun j hj => ?_)
        by_cases e : j = n
        · rw [e]; exact z
        · exact h j (by omega)
    · exact Or.inr ⟨s, by omega, h1, h2⟩
theorem sn_xc0 {W H U R P : Nat → Int32} (h : ∀ j, j < 7 → T (j + 1) ≠ 0) {post : Int32 → SX → Prop} (hp : post (-1) (W, H, U, T, R, Z, P, K)) : ∀ d i, i + d = 7 → wX_commit_2 post W H U T R Z P K (d + 1) (nI (i + 1)) := by
  intro d
  induction d with
  | zero =>
    intro i hi
    exact br_t (nI_le (a := 8) (by omega) (by omega)) hp
  | succ d ih =>
    intro i hi
    refine br_f (nI_ge (b := 8) (by omega) (by decide)) ⟨sn_in8 (by omega), ?_⟩
    rw [sn_clm (by omega)]
    exact br_f (h i (by omega)) (nm_r (nI_1 _) (ih (i + 1) (by omega)))
theorem sn_xc1 {W H U U' R P : Nat → Int32} {s : Nat} (hs : s < 7) (h0 : T (s + 1) = 0) (hlt : ∀ j, j < s → T (j + 1) ≠ 0) {post : Int32 → SX → Prop}
    (ws : ∀ post : SX → Prop, post (W, H, U', upd T (s + 1) 1, upd R (s + 1) (R 0), upd Z (s + 1) (Z 0), P, K) → wpX_share post (W, H, U, upd T (s + 1) 1, R, Z, P, K) (nI 0) (nI (s + 1)))
    (hp : post (nI s) (W, H, U', upd T (s + 1) 1, upd R (s + 1) (R 0), upd Z (s + 1) (Z 0), P, K)) : ∀ d i, i + d = s → wX_commit_2 post W H U T R Z P K (d + 1) (nI (i + 1)) := by
  intro d
  induction d with
  | zero =>
    intro i hi
    have e : i = s := by omega
    subst e
    refine br_f (nI_ge (b := 8) (by omega) (by decide)) ⟨sn_in8 (by omega), ?_⟩
    rw [sn_clm (by omega)]
    refine br_t h0 ⟨sn_in8 (by omega), nm_r (e' := upd T (i + 1) 1) rfl ?_⟩
    refine ws _ ?_
    dsimp only
    rw [nI_pred]
    exact hp
  | succ d ih =>
    intro i hi
    refine br_f (nI_ge (b := 8) (by omega) (by decide)) ⟨sn_in8 (by omega), ?_⟩
    rw [sn_clm (by omega)]
    exact br_f (hlt i (by omega)) (nm_r (nI_1 _) (ih (i + 1) (by omega)))
theorem sn_yco0 {A B V : Nat → Int32} (h : ∀ j, j < 7 → A j ≠ 0) {post : Int32 → SY → Prop} (hp : post (-1) (A, B, V)) : ∀ d i, i + d = 7 → wY_commit_2 post A B V (d + 1) (nI i) := by
  intro d
  induction d with
  | zero =>
    intro i hi
    exact br_t (nI_le (a := 7) (by omega) (by omega)) hp
  | succ d ih =>
    intro i hi
    refine br_f (nI_ge (b := 7) (by omega) (by decide)) ⟨sn_in8 (by omega), ?_⟩
    rw [sn_clm (by omega)]
    exact br_f (h i (by omega)) (nm_r (nI_1 _) (ih (i + 1) (by omega)))
theorem sn_yco1 {A B V B' V' : Nat → Int32} {s : Nat} (hs : s < 7) (h0 : A s = 0) (hlt : ∀ j, j < s → A j ≠ 0) {post : Int32 → SY → Prop}
    (ws : ∀ post : SY → Prop, post (upd A s 1, B', V') → wpY_copy post (upd A s 1, B, V) (nI 7) (nI s))
    (hp : post (nI s) (upd A s 1, B', V')) : ∀ d i, i + d = s → wY_commit_2 post A B V (d + 1) (nI i) := by
  intro d
  induction d with
  | zero =>
    intro i hi
    have e : i = s := by omega
    subst e
    refine br_f (nI_ge (b := 7) (by omega) (by decide)) ⟨sn_in8 (by omega), ?_⟩
    rw [sn_clm (by omega)]
    refine br_t h0 ⟨sn_in8 (by omega), nm_r (e' := upd A i 1) rfl ?_⟩
    refine ws _ ?_
    dsimp only
    exact hp
  | succ d ih =>
    intro i hi
    refine br_f (nI_ge (b := 7) (by omega) (by decide)) ⟨sn_in8 (by omega), ?_⟩
    rw [sn_clm (by omega)]
    exact br_f (hlt i (by omega)) (nm_r (nI_1 _) (ih (i + 1) (by omega)))
end SnM
end
section
section SnN
def sn_St (W H T R Z A B V : Nat → Int32) : Prop :=
  sn_TA T A ∧ (∀ m, m < 8 → T m = 0 → R m = -1) ∧
  (∀ m, m < 8 → Z m = nI (sn_c (fun k => sn_ct W H 3 (R m) k ≠ none) 256) ∧ sn_c (fun k => sn_ct W H 3 (R m) k ≠ none) 256 ≤ 16) ∧
  (∀ m, m < 8 → T m ≠ 0 → ∀ k, k < 256 → sn_ct W H 3 (R m) k = sn_yc B V (sn_pm m) k) ∧ (∀ j, B j = 0 ∨ B j = 1)
def sn_Rel (W H U T R Z A B V : Nat → Int32) : Prop := ∃ L G, sn_Inv W H U L G sn_z 400 ∧ sn_Ro R G ∧ sn_NE W H U L (fun _ => False) ∧ sn_St W H T R Z A B V
theorem sn_ceqf {f g : Nat → Option Int32} (h : ∀ k, k < 256 → f k = g k) : sn_c (fun k => f k ≠ none) 256 = sn_c (fun k => g k ≠ none) 256 := sn_cc (fun k hk => by rw [h k hk])
theorem sn_NEsub {W H U U' : Nat → Int32} {L : Nat → Nat} (h : ∀ p, p < 400 → U' p ≠ 0 → U p ≠ 0) (hN : sn_NE W H U L (fun _ => False)) : sn_NE W H U' L (fun _ => False) :=
  fun p hp hu hX => hN p hp (h p hp hu) hX
/-! Y's storing methods -/
theorem sn_in17 {k : Nat} (hk : k < 256) : vp_in (1792 + nI k) 2048 := by
  rw [sn_1792]
  exact vp_in_nI (by omega) (by omega)
theorem sn_cl17 {k : Nat} (hk : k < 256) : (1792 + nI k).toNatClampNeg = 256 * 7 + k := by
  rw [sn_1792]
  exact nI_clamp (by omega)
variable {A B V : Nat → Int32}
theorem sn_ycu {key : Nat} {x y : Int32} : (∀ q k, k < 256 → key < 256 → (q ≠ 7 ∨ k ≠ key) → sn_yc (upd B (256 * 7 + key) x) (upd V (256 * 7 + key) y) q k = sn_yc B V q k) := by
  intro q k hk hkey hne
  unfold sn_yc
  rw [sn_un (by omega), sn_un (by omega)]
theorem sn_ycu' {key : Nat} {x : Int32} : (∀ q k, k < 256 → key < 256 → (q ≠ 7 ∨ k ≠ key) → sn_yc (upd B (256 * 7 + key) x) V q k = sn_yc B V q k) := by
  intro q k hk hkey hne
  unfold sn_yc
  rw [sn_un (by omega)]
theorem sn_bits {key : Nat} {x : Int32} (hB : ∀ j, B j = 0 ∨ B j = 1) (hx : x = 0 ∨ x = 1) : ∀ j, upd B key x j = 0 ∨ upd B key x j = 1 := by
  intro j
  by_cases e : j = key
  · rw [e, sn_us]
    exact hx
  · rw [sn_un e]
    exact hB j
theorem sn_yput33 (hB : ∀ j, B j = 0 ∨ B j = 1) {key : Nat} (hkey : key < 256) {v : Int32} {post : Int32 → SY → Prop}
    (hp : ∀ B' V', (∀ j, B' j = 0 ∨ B' j = 1) → (∀ q k, k < 256 → (q ≠ 7 ∨ k ≠ key) → sn_yc B' V' q k = sn_yc B V q k) → sn_yc B' V' 7 key = some v → post (nI (sn_c (fun k => sn_yc B' V' 7 k ≠ none) 256)) (A, B', V')) :
    wY_put_33 post (nI key) v A B V := by
  unfold wY_put_33
  rw [sn_cl17 hkey]
  refine ⟨sn_in17 hkey, nm_r (e' := upd B (256 * 7 + key) 1) rfl ⟨sn_in17 hkey, nm_e ?_⟩⟩
  refine sn_ycount (m := 7) (by omega) ?_
  refine hp _ _ (sn_bits hB (Or.inr rfl)) (fun q k h1 h2 => sn_ycu q k h1 hkey h2) ?_
  rw [sn_yc1 (by rw [sn_us]; decide), sn_us]
theorem sn_yput (hB : ∀ j, B j = 0 ∨ B j = 1) {key : Nat} (hkey : key < 256) {v : Int32} {post : Int32 → SY → Prop} (h16 : sn_yc B V 7 key = none → sn_c (fun k => sn_yc B V 7 k ≠ none) 256 < 16)
    (hp : ∀ B' V', (∀ j, B' j = 0 ∨ B' j = 1) → (∀ q k, k < 256 → (q ≠ 7 ∨ k ≠ key) → sn_yc B' V' q k = sn_yc B V q k) → sn_yc B' V' 7 key = some v → post (nI (sn_c (fun k => sn_yc B' V' 7 k ≠ none) 256)) (A, B', V')) :
    wpY_put post (A, B, V) (nI key) v := by
  unfold wpY_put
  dsimp only
  refine sn_bad0 hkey (br_t rfl ⟨sn_in17 hkey, ?_⟩)
  rw [sn_cl17 hkey]
  by_cases z : B (256 * 7 + key) = 0
  · refine br_t z (sn_ycount (m := 7) (by omega) (br_f ?_ (sn_yput33 hB hkey hp)))
    have h := h16 (sn_yc0 z)
    intro e
    have e' : nI (sn_c (fun k => sn_yc B V 7 k ≠ none) 256) = nI 16 := e
    rw [nI_eq (by omega) (by decide)] at e'
    omega
  · exact br_f z (sn_yput33 hB hkey hp)
theorem sn_yput16 {key : Nat} (hkey : key < 256) {v : Int32} {post : Int32 → SY → Prop} (h0 : sn_yc B V 7 key = none) (h16 : sn_c (fun k => sn_yc B V 7 k ≠ none) 256 = 16) (hp : post (-1) (A, B, V)) :
    wpY_put post (A, B, V) (nI key) v := by
  unfold wpY_put
  dsimp only
  refine sn_bad0 hkey (br_t rfl ⟨sn_in17 hkey, ?_⟩)
  rw [sn_cl17 hkey]
  have z : B (256 * 7 + key) = 0 := Decidable.of_not_not (fun y => sn_ycn y h0)
  refine br_t z (sn_ycount (m := 7) (by omega) (br_t ?_ hp))
  rw [h16]
  rfl
theorem sn_yrem (hB : ∀ j, B j = 0 ∨ B j = 1) {key : Nat} (hkey : key < 256) {post : Int32 → SY → Prop} (h0 : sn_yc B V 7 key ≠ none)
    (hp : ∀ B', (∀ j, B' j = 0 ∨ B' j = 1) → (∀ q k, k < 256 → (q ≠ 7 ∨ k ≠ key) → sn_yc B' V q k = sn_yc B V q k) → sn_yc B' V 7 key = none → post (nI (sn_c (fun k => sn_yc B' V 7 k ≠ none) 256)) (A, B', V)) :
    wpY_remove post (A, B, V) (nI key) := by
  unfold wpY_remove
  dsimp only
  refine sn_bad0 hkey (br_t rfl ⟨sn_in17 hkey, ?_⟩)
  rw [sn_cl17 hkey]
  have z : ¬ B (256 * 7 + key) = 0 := fun y => h0 (sn_yc0 y)
  refine br_f z ⟨sn_in17 hkey, nm_r (e' := upd B (256 * 7 + key) 0) rfl (sn_ycount (m := 7) (by omega) ?_)⟩
  refine hp _ (sn_bits hB (Or.inl rfl)) (fun q k h1 h2 => sn_ycu' q k h1 hkey h2) ?_
  exact sn_yc0 sn_us
theorem sn_yrem0 {key : Nat} (hkey : key < 256) {post : Int32 → SY → Prop} (h0 : sn_yc B V 7 key = none) (hp : post (-1) (A, B, V)) :
    wpY_remove post (A, B, V) (nI key) := by
  unfold wpY_remove
  dsimp only
  refine sn_bad0 hkey (br_t rfl ⟨sn_in17 hkey, ?_⟩)
  rw [sn_cl17 hkey]
  exact br_t (Decidable.of_not_not (fun y => sn_ycn y h0)) hp
/-! slots -/
theorem sn_slotc (x : Int32) : x < 0 ∨ (¬ x < 0 ∧ 6 < x) ∨ ∃ s, s < 7 ∧ x = nI s := by
  by_cases h : x < 0
  · exact Or.inl h
  · obtain ⟨j, hj, rfl⟩ := nI_of h
    by_cases h2 : j < 7
    · exact Or.inr (Or.inr ⟨j, h2, rfl⟩)
    · exact Or.inr (Or.inl ⟨h, nI_lt (a := 6) (by omega) hj⟩)
theorem sn_yfreeb {x : Int32} (h : x < 0 ∨ (¬ x < 0 ∧ 6 < x)) {post : Int32 → Prop} (hp : post 1) : wpY_free post (A, B, V) x := by
  rcases h with h | ⟨h1, h2⟩
  · exact br_t h hp
  · exact br_f h1 (br_t h2 hp)
theorem sn_yfree {s : Nat} (hs : s < 7) {post : Int32 → Prop} (h1 : A s = 0 → post 1) (h0 : A s ≠ 0 → post 0) : wpY_free post (A, B, V) (nI s) := by
  refine br_f (nI_pos (by omega)) (br_f (nI_nlt (a := 6) (by omega) (by omega)) ⟨sn_in8 (by omega), ?_⟩)
  rw [sn_clm (by omega)]
  exact br_c h1 h0
end SnN
/-- both sides hold the same maps: X's content of each root is Y's row, the pool's references are counted, no used node is empty -/
def i_Rel (k : Nat) (u : SX) (v : SY) : Prop := match u, v with
  | (W, H, U, T, R, Z, _, _), (A, B, V) => sn_Rel W H U T R Z A B V
theorem i_up {k : Nat} {u : SX} {v : SY} (h : i_Rel k u v) : i_Rel (k + 4) u v := h
end
section
section SnO
theorem sn_initl {post : SX → Prop} {W H U T Z P K : Nat → Int32} (hp : ∀ R, (∀ j, j < 8 → R j = -1) → post (W, H, U, T, R, Z, P, K)) : ∀ d i R, i + d = 8 → (∀ j, j < i → R j = -1) → wX_init_79 post (d + 1) (nI i) W H U T R Z P K := by
  intro d
  induction d with
  | zero =>
    intro i R hi h
    have e : i = 8 := by omega
    subst e
    exact br_t (nI_le (a := 8) (b := 8) (Nat.le_refl _) (by decide)) (hp R h)
  | succ d ih =>
    intro i R hi h
    refine br_f (nI_ge (b := 8) (by omega) (by decide)) ⟨sn_in8 (by omega), nm_r (e' := upd R i (-1)) (by rw [sn_clm (by omega)]) (nm_r (nI_1 i) (ih (i + 1) _ (by omega) (fun j hj => ?_)))⟩
    by_cases e : j = i
    · rw [e, sn_us]
    · rw [sn_un e]
      exact h j (by omega)
theorem i_vc0 : wpX_init (fun u => wpY_init (fun v => i_Rel 0 u v)) := by
  unfold wpX_init
  refine nm_r (e' := upd (fun _ => 0) 0 1) rfl ⟨9, ?_⟩
  refine sn_initl (fun R hR => ?_) 8 0 _ rfl (fun j hj => by omega)
  unfold wpY_init
  refine nm_r (e' := upd (fun _ => 0) 7 1) rfl ?_
  have hc : ∀ m, m < 8 → ∀ k, sn_ct (fun _ => 0) (fun _ => 0) 3 (R m) k = none := fun m hm k => by rw [hR m hm, sn_ct_n]
  have hs : ∀ m, m < 8 → sn_c (fun k => sn_ct (fun _ => 0) (fun _ => 0) 3 (R m) k ≠ none) 256 = 0 := fun m hm => sn_cz (fun k _ h => h (hc m hm k))
  refine ⟨fun _ => 0, fun _ => -1, ⟨⟨fun n hn => ?_, fun n hn => Nat.zero_le _⟩, fun i hi => Or.inl rfl, fun p hp _ => ⟨fun h => (h rfl).elim, fun _ w hw => rfl⟩, fun p hp _ h => (h rfl).elim⟩, fun m hm => (hR m hm).symm, fun p hp h => (h rfl).elim, ⟨by rw [sn_us]; decide, fun s hs => ?_⟩, fun m hm _ => hR m hm, fun m hm => ⟨?_, ?_⟩, fun m hm _ k hk => ?_, fun j => Or.inl rfl⟩
  · have : sn_rc (fun _ => -1) n = 0 := sn_cz (fun i hi => sn_ne1' (by omega))
    rw [this]
    rfl
  · rw [sn_un (by omega), sn_un (by omega)]
  · rw [hs m hm]
    rfl
  · rw [hs m hm]
    omega
  · rw [hc m hm k]
    exact (sn_yc0 rfl).symm
/-- one key of the working map changes -/
theorem sn_St0 {W H T R Z A B V W' H' R' Z' B' V' : Nat → Int32} {key : Nat} (S : sn_St W H T R Z A B V) (hkey : key < 256)
    (c1 : ∀ m, m < 8 → ∀ k, k < 256 → (m ≠ 0 ∨ k ≠ key) → sn_ct W' H' 3 (R' m) k = sn_ct W H 3 (R m) k) (hr : ∀ m, m ≠ 0 → R' m = R m)
    (y1 : ∀ q k, k < 256 → (q ≠ 7 ∨ k ≠ key) → sn_yc B' V' q k = sn_yc B V q k) (ce : sn_ct W' H' 3 (R' 0) key = sn_yc B' V' 7 key)
    (z0 : Z' 0 = nI (sn_c (fun k => sn_ct W' H' 3 (R' 0) k ≠ none) 256)) (zl : sn_c (fun k => sn_ct W' H' 3 (R' 0) k ≠ none) 256 ≤ 16) (z1 : ∀ m, m ≠ 0 → Z' m = Z m) (hB : ∀ j, B' j = 0 ∨ B' j = 1) :
    sn_St W' H' T R' Z' A B' V' ∧ nI (sn_c (fun k => sn_yc B' V' 7 k ≠ none) 256) = Z' 0 := by
  obtain ⟨s1, s2, s3, s4, s5⟩ := S
  have e0 : ∀ k, k < 256 → sn_ct W' H' 3 (R' 0) k = sn_yc B' V' 7 k := fun k hk => by
    by_cases e : k = key
    · rw [e]; exact ce
    · rw [c1 0 (by omega) k hk (Or.inr e), y1 7 k hk (Or.inr e)]
      exact s4 0 (by omega) s1.1 k hk
  refine ⟨⟨s1, fun m hm h => ?_, fun m hm => ?_, fun m hm h k hk => ?_, hB⟩, ?_⟩
  · rw [hr m (fun e => s1.1 (by rw [← e]; exact h))]
    exact s2 m hm h
  · by_cases e : m = 0
    · rw [e]
      exact ⟨z0, zl⟩
    · have := sn_ceqf (f := fun k => sn_ct W' H' 3 (R' m) k) (g := fun k => sn_ct W H 3 (R m) k) (fun k hk => c1 m hm k hk (Or.inl e))
      rw [this, z1 m e]
      exact s3 m hm
  · by_cases e : m = 0
    · subst e
      exact e0 k hk
    · have h7 : sn_pm m ≠ 7 := fun z => e (sn_pmi hm (by omega) z)
      rw [c1 m hm k hk (Or.inl e), y1 _ k hk (Or.inl h7)]
      exact s4 m hm h k hk
  · rw [z0]
    exact congrArg nI (sn_ceqf e0).symm
theorem sn_cnt_key {f g : Nat → Option Int32} {key : Nat} (hkey : key < 256) (h : ∀ k, k < 256 → k ≠ key → g k = f k) : sn_c (fun k => g k ≠ none) 256 + sn_b (f key ≠ none) = sn_c (fun k => f k ≠ none) 256 + sn_b (g key ≠ none) :=
  sn_cu (P := fun k => f k ≠ none) (Q := fun k => g k ≠ none) hkey (fun j hj hne => by rw [h j hj hne])
theorem i_vc_put {k : Nat} {u : SX} {v : SY} (I : i_Rel k u v) (hk : k + 4 ≤ 2048) (v1 : Int32) (v2 : Int32) : wpX_put (fun r u' => wpY_put (fun r' v' => r' = r ∧ i_Rel (k + 4) u' v') v v1 v2) u v1 v2 := by
  obtain ⟨W, H, U, T, R, Z, P, K⟩ := u
  obtain ⟨A, B, V⟩ := v
  have I' : sn_Rel W H U T R Z A B V := I
  obtain ⟨L, G, i1, i2, i3, S⟩ := I'
  have S' := S
  obtain ⟨s1, s2, s3, s4, s5⟩ := S'
  have Vd := sn_vd_of i1 i2
  have cnt := sn_count i1 i2 i3 (fun m hm => (s3 m hm).2)
  have yb : (v1 < 0 ∨ (¬ v1 < 0 ∧ ¬ v1 ≤ 255 ∧ 255 < v1)) → wpY_put (fun r' v' => r' = -1 ∧ i_Rel (k + 4) (W, H, U, T, R, Z, P, K) v') (A, B, V) v1 v2 := by
    intro h
    unfold wpY_put
    dsimp only
    exact sn_bad1 h (br_f (by decide) ⟨rfl, I⟩)
  rcases sn_key v1 with h | h | ⟨key, hkey, rfl⟩
  · exact br_t h (yb (Or.inl h))
  · exact br_f h.1 (br_f h.2.1 (yb (Or.inr h)))
  · obtain ⟨W', H', U', P', G', L', R', j1, j2, j3, c1, c2, r1, w⟩ := sn_putc (T := T) (Z := Z) (K := K) (P := P) hkey i1 i2 i3 cnt v2
    have e7 : ∀ k, k < 256 → sn_ct W H 3 (R 0) k = sn_yc B V 7 k := fun k hk => s4 0 (by omega) s1.1 k hk
    have ec : sn_c (fun k => sn_ct W H 3 (R 0) k ≠ none) 256 = sn_c (fun k => sn_yc B V 7 k ≠ none) 256 := sn_ceqf e7
    have z0 := s3 0 (by omega)
    have cu := sn_cnt_key (f := fun k => sn_ct W H 3 (R 0) k) (g := fun k => sn_ct W' H' 3 (R' 0) k) hkey (fun k hk hne => c1 0 (by omega) k hk (Or.inr hne))
    rw [c2, sn_b1 (p := some v2 ≠ none) (fun z => nomatch z)] at cu
    have fin : ∀ Z' : Nat → Int32, Z' 0 = nI (sn_c (fun k => sn_ct W' H' 3 (R' 0) k ≠ none) 256) → sn_c (fun k => sn_ct W' H' 3 (R' 0) k ≠ none) 256 ≤ 16 → (∀ m, m ≠ 0 → Z' m = Z m) → (sn_yc B V 7 key = none → sn_c (fun k => sn_yc B V 7 k ≠ none) 256 < 16) →
        wpY_put (fun r' v' => r' = Z' 0 ∧ i_Rel (k + 4) (W', H', U', T, R', Z', P', K) v') (A, B, V) (nI key) v2 := by
      intro Z' h1 h2 h3 h4
      refine sn_yput s5 hkey h4 (fun B' V' b1 b2 b3 => ?_)
      obtain ⟨S2, e2⟩ := sn_St0 S hkey c1 r1 b2 (c2.trans b3.symm) h1 h2 h3 b1
      exact ⟨e2, L', G', j1, j2, j3, S2⟩
    unfold wpX_put
    dsimp only
    refine br_f (nI_pos (by omega)) (br_t (nI_le (b := 255) (by omega) (by decide)) ?_)
    refine sn_holds (m := 0) Vd (by omega) hkey (fun e => br_t rfl ?_) (fun e => br_f (by decide) ?_)
    · by_cases h16 : sn_c (fun k => sn_ct W H 3 (R 0) k ≠ none) 256 < 16
      · refine br_t ?_ (w _ 0 (br_t rfl ?_))
        · rw [z0.1]
          exact nI_lt (b := 16) h16 (by decide)
        · rw [sn_b0 (fun z => z e)] at cu
          have := fin (upd Z 0 (Z 0 + 1)) (by rw [sn_us, z0.1, nI_1]; exact congrArg nI (by omega)) (by omega) (fun m hm => sn_un hm) (fun _ => by omega)
          rw [sn_us] at this
          exact this
      · refine br_f ?_ ?_
        · rw [z0.1]
          exact nI_nlt (b := 16) (by omega) (by omega)
        · exact sn_yput16 hkey (by rw [← e7 key hkey]; exact e) (by omega) ⟨rfl, I⟩
    · refine w _ 1 (br_f (by decide) ?_)
      rw [sn_b1 e] at cu
      have := fin (upd Z 0 (Z 0 + 0)) (by rw [sn_us, z0.1, Int32.add_zero]; exact congrArg nI (by omega)) (by omega) (fun m hm => sn_un hm) (fun z => (e (by rw [e7 key hkey]; exact z)).elim)
      rw [sn_us] at this
      exact this
theorem i_vc_remove {k : Nat} {u : SX} {v : SY} (I : i_Rel k u v) (hk : k + 4 ≤ 2048) (v1 : Int32) : wpX_remove (fun r u' => wpY_remove (fun r' v' => r' = r ∧ i_Rel (k + 4) u' v') v v1) u v1 := by
  obtain ⟨W, H, U, T, R, Z, P, K⟩ := u
  obtain ⟨A, B, V⟩ := v
  have I' : sn_Rel W H U T R Z A B V := I
  obtain ⟨L, G, i1, i2, i3, S⟩ := I'
  have S' := S
  obtain ⟨s1, s2, s3, s4, s5⟩ := S'
  have Vd := sn_vd_of i1 i2
  have cnt := sn_count i1 i2 i3 (fun m hm => (s3 m hm).2)
  have yb : (v1 < 0 ∨ (¬ v1 < 0 ∧ ¬ v1 ≤ 255 ∧ 255 < v1)) → wpY_remove (fun r' v' => r' = -1 ∧ i_Rel (k + 4) (W, H, U, T, R, Z, P, K) v') (A, B, V) v1 := by
    intro h
    unfold wpY_remove
    dsimp only
    exact sn_bad1 h (br_f (by decide) ⟨rfl, I⟩)
  rcases sn_key v1 with h | h | ⟨key, hkey, rfl⟩
  · exact br_t h (yb (Or.inl h))
  · exact br_f h.1 (br_t h.2.2 (yb (Or.inr h)))
  · obtain ⟨W', H', U', P', G', L', R', j1, j2, j3, c1, c2, r1, w⟩ := sn_remc (T := T) (Z := Z) (K := K) (P := P) hkey i1 i2 i3 cnt
    have e7 : ∀ k, k < 256 → sn_ct W H 3 (R 0) k = sn_yc B V 7 k := fun k hk => s4 0 (by omega) s1.1 k hk
    by_cases e : sn_ct W H 3 (R 0) key = none
    · unfold wpX_remove
      dsimp only
      refine br_f (nI_pos (by omega)) (br_f (nI_nlt (a := 255) (by omega) (by omega)) ?_)
      refine sn_holds (m := 0) Vd (by omega) hkey (fun _ => br_t rfl ?_) (fun z => (z e).elim)
      exact sn_yrem0 hkey (by rw [← e7 key hkey]; exact e) ⟨rfl, I⟩
    · have z0 := s3 0 (by omega)
      have cu := sn_cnt_key (f := fun k => sn_ct W H 3 (R 0) k) (g := fun k => sn_ct W' H' 3 (R' 0) k) hkey (fun k hk hne => c1 0 (by omega) k hk (Or.inr hne))
      rw [c2, sn_b1 e, sn_b0 (p := (none : Option Int32) ≠ none) (fun z => z rfl)] at cu
      refine w _ e ?_ Vd
      refine sn_yrem s5 hkey (by rw [← e7 key hkey]; exact e) (fun B' b1 b2 b3 => ?_)
      obtain ⟨S2, e2⟩ := sn_St0 (Z' := upd Z 0 (Z 0 - 1)) S hkey c1 r1 b2 (c2.trans b3.symm) (by
        rw [sn_us, z0.1, show sn_c (fun k => sn_ct W H 3 (R 0) k ≠ none) 256 = sn_c (fun k => sn_ct W' H' 3 (R' 0) k ≠ none) 256 + 1 from by omega, nI_pred]) (by have := z0.2; omega) (fun m hm => sn_un hm) b1
      rw [sn_us] at e2
      exact ⟨e2, L', G', j1, j2, j3, S2⟩
end SnO
end
section
section SnP
theorem i_vc_commit {k : Nat} {u : SX} {v : SY} (I : i_Rel k u v) (hk : k + 4 ≤ 2048) : wpX_commit (fun r u' => wpY_commit (fun r' v' => r' = r ∧ i_Rel (k + 4) u' v') v) u := by
  obtain ⟨W, H, U, T, R, Z, P, K⟩ := u
  obtain ⟨A, B, V⟩ := v
  have I' : sn_Rel W H U T R Z A B V := I
  obtain ⟨L, G, i1, i2, i3, s1, s2, s3, s4, s5⟩ := I'
  have Vd := sn_vd_of i1 i2
  rcases sn_first T 7 with h | ⟨s, hs, h0, hlt⟩
  · refine ⟨_, sn_xc0 h ?_ 7 0 rfl⟩
    exact ⟨_, sn_yco0 (fun j hj z => h j hj ((s1.2 j hj).mpr z)) ⟨rfl, I⟩ 7 0 rfl⟩
  · obtain ⟨U', hU, ws⟩ := sn_shareX (T := upd T (s + 1) 1) (Z := Z) (P := P) (K := K) i1 (f := 0) (t := s + 1) (by omega) (by omega) (Vd.1 0 (by omega))
    obtain ⟨I2, hu⟩ := sn_share_inv i1 (t := s + 1) (by omega) (Vd.1 0 (by omega)) hU
    have g1 : G (1600 + (s + 1)) = -1 := by
      rw [i2 (s + 1) (by omega)]
      exact s2 (s + 1) (by omega) h0
    have I3 : sn_Inv W H U' L (upd G (1600 + (s + 1)) (R 0)) sn_z 400 := sn_inv_E (fun n hn => by rw [g1]; exact sn_b0 (sn_ne1' (by omega))) I2
    obtain ⟨B', V', b1, b2, b3, wy⟩ := sn_ycopy (A := upd A s 1) (V := V) s5 (m := 7) (n := s) (by omega) (by omega) (by omega)
    refine ⟨_, sn_xc1 hs h0 hlt ws ?_ s 0 (by omega)⟩
    refine ⟨_, sn_yco1 hs ((s1.2 s hs).mp h0) (fun j hj z => hlt j hj ((s1.2 j (by omega)).mpr z)) wy ?_ s 0 (by omega)⟩
    refine ⟨rfl, L, _, I3, fun m hm => ?_, sn_NEsub (fun p hp h z => h ((hu p hp).mpr z)) i3, ⟨?_, fun s' hs' => ?_⟩, fun m hm h => ?_, fun m hm => ?_, fun m hm h k hk => ?_, b1⟩
    · by_cases e : m = s + 1
      · subst e
        rw [sn_us, sn_us]
      · rw [sn_un e, sn_un (by omega)]
        exact i2 m hm
    · rw [sn_un (by omega)]
      exact s1.1
    · by_cases e : s' = s
      · subst e
        rw [sn_us, sn_us]
      · rw [sn_un (by omega), sn_un e]
        exact s1.2 s' hs'
    · by_cases e : m = s + 1
      · subst e
        rw [sn_us] at h
        exact absurd h (by decide)
      · rw [sn_un e] at h ⊢
        exact s2 m hm h
    · by_cases e : m = s + 1
      · subst e
        rw [sn_us, sn_us]
        exact s3 0 (by omega)
      · rw [sn_un e, sn_un e]
        exact s3 m hm
    · by_cases e : m = s + 1
      · subst e
        rw [sn_us, sn_pms, b2 k hk]
        exact s4 0 (by omega) s1.1 k hk
      · rw [sn_un e] at h ⊢
        rw [b3 _ k (fun z => e (sn_pmi hm (by omega) (z.trans (sn_pms s).symm))) hk]
        exact s4 m hm h k hk
theorem i_vc_restore {k : Nat} {u : SX} {v : SY} (I : i_Rel k u v) (hk : k + 4 ≤ 2048) (v1 : Int32) : wpX_restore (fun r u' => wpY_restore (fun r' v' => r' = r ∧ i_Rel (k + 4) u' v') v v1) u v1 := by
  obtain ⟨W, H, U, T, R, Z, P, K⟩ := u
  obtain ⟨A, B, V⟩ := v
  have I' : sn_Rel W H U T R Z A B V := I
  obtain ⟨L, G, i1, i2, i3, s1, s2, s3, s4, s5⟩ := I'
  have Vd := sn_vd_of i1 i2
  unfold wpX_restore wpY_restore
  dsimp only
  rcases sn_slotc v1 with h | h | ⟨s, hs, rfl⟩
  · exact br_t h (sn_yfreeb (Or.inl h) (br_f (by decide) ⟨rfl, I⟩))
  · exact br_f h.1 (br_t h.2 (sn_yfreeb (Or.inr h) (br_f (by decide) ⟨rfl, I⟩)))
  · refine br_f (nI_pos (by omega)) (br_f (nI_nlt (a := 6) (by omega) (by omega)) ?_)
    rw [nI_1 s]
    refine ⟨sn_in8 (by omega), ?_⟩
    rw [sn_clm (by omega)]
    by_cases t0 : T (s + 1) = 0
    · exact br_t t0 (sn_yfree hs (fun _ => br_f (by decide) ⟨rfl, I⟩) (fun z => (z ((s1.2 s hs).mp t0)).elim))
    · refine br_f t0 (nm_e ?_)
      obtain ⟨U', hU, ws⟩ := sn_shareX (T := T) (Z := Z) (P := P) (K := K) i1 (f := s + 1) (t := 0) (by omega) (by omega) (Vd.1 (s + 1) (by omega))
      obtain ⟨I2, hu⟩ := sn_share_inv i1 (t := 0) (by omega) (Vd.1 (s + 1) (by omega)) hU
      rw [i2 0 (by omega)] at I2
      obtain ⟨U2, G2, K2, I3, g3, u3, wg⟩ := sn_giveBack (T := T) (R := upd R 0 (R (s + 1))) (Z := upd Z 0 (Z (s + 1))) (P := P) (K := K) I2 (by
        rcases Vd.1 0 (by omega) with z | ⟨n, hn, z, _, ln⟩
        · exact Or.inl z
        · exact Or.inr ⟨n, hn, z, ln⟩)
      obtain ⟨B', V', b1, b2, b3, wy⟩ := sn_ycopy (A := A) (V := V) s5 (m := s) (n := 7) (by omega) (by omega) (by omega)
      refine ws _ ?_
      dsimp only
      refine wg _ ?_
      dsimp only
      refine sn_yfree hs (fun z => (t0 ((s1.2 s hs).mpr z)).elim) (fun _ => br_t rfl ?_)
      refine wy _ ?_
      dsimp only
      have e7 : ∀ k, k < 256 → sn_ct W H 3 (R (s + 1)) k = sn_yc B' V' 7 k := fun k hk => by
        rw [b2 k hk]
        have := s4 (s + 1) (by omega) t0 k hk
        rw [sn_pms] at this
        exact this
      refine sn_ycount (m := 7) (by omega) ⟨?_, L, G2, I3, fun m hm => ?_, sn_NEsub (fun p hp h z => u3 p hp h ((hu p hp).mpr z)) i3, s1, fun m hm h => ?_, fun m hm => ?_, fun m hm h k hk => ?_, b1⟩
      · rw [sn_us, (s3 (s + 1) (by omega)).1]
        exact congrArg nI (sn_ceqf e7).symm
      · rw [g3 _ (by omega)]
        by_cases e : m = 0
        · subst e
          rw [sn_us, sn_us]
        · rw [sn_un e, sn_un (by omega)]
          exact i2 m hm
      · have e : m ≠ 0 := fun e => s1.1 (by rw [← e]; exact h)
        rw [sn_un e]
        exact s2 m hm h
      · by_cases e : m = 0
        · subst e
          rw [sn_us, sn_us]
          exact s3 (s + 1) (by omega)
        · rw [sn_un e, sn_un e]
          exact s3 m hm
      · by_cases e : m = 0
        · subst e
          rw [sn_us]
          exact e7 k hk
        · rw [sn_un e, b3 _ k (fun z => e (sn_pmi hm (by omega) z)) hk]
          exact s4 m hm h k hk
theorem i_vc_drop {k : Nat} {u : SX} {v : SY} (I : i_Rel k u v) (hk : k + 4 ≤ 2048) (v1 : Int32) : wpX_drop (fun r u' => wpY_drop (fun r' v' => r' = r ∧ i_Rel (k + 4) u' v') v v1) u v1 := by
  obtain ⟨W, H, U, T, R, Z, P, K⟩ := u
  obtain ⟨A, B, V⟩ := v
  have I' : sn_Rel W H U T R Z A B V := I
  obtain ⟨L, G, i1, i2, i3, s1, s2, s3, s4, s5⟩ := I'
  have Vd := sn_vd_of i1 i2
  unfold wpX_drop wpY_drop
  dsimp only
  rcases sn_slotc v1 with h | h | ⟨s, hs, rfl⟩
  · exact br_t h (sn_yfreeb (Or.inl h) (br_f (by decide) ⟨rfl, I⟩))
  · exact br_f h.1 (br_t h.2 (sn_yfreeb (Or.inr h) (br_f (by decide) ⟨rfl, I⟩)))
  · refine br_f (nI_pos (by omega)) (br_f (nI_nlt (a := 6) (by omega) (by omega)) ?_)
    rw [nI_1 s]
    have h8 : vp_in (nI (s + 1)) 8 := sn_in8 (by omega)
    refine ⟨h8, ?_⟩
    rw [sn_clm (by omega)]
    by_cases t0 : T (s + 1) = 0
    · exact br_t t0 (sn_yfree hs (fun _ => br_f (by decide) ⟨rfl, I⟩) (fun z => (z ((s1.2 s hs).mp t0)).elim))
    · refine br_f t0 ⟨h8, nm_r (e' := upd T (s + 1) 0) rfl ⟨h8, ?_⟩⟩
      obtain ⟨I2, hu⟩ := sn_share_inv i1 (t := s + 1) (by omega) (x := -1) (Or.inl rfl) (U' := U) (fun n hn => by
        rw [sn_b0 (sn_ne1' (by omega))]
        exact i1.1.1 n hn)
      rw [i2 (s + 1) (by omega)] at I2
      obtain ⟨U2, G2, K2, I3, g3, u3, wg⟩ := sn_giveBack (T := upd T (s + 1) 0) (R := R) (Z := Z) (P := P) (K := K) I2 (by
        rcases Vd.1 (s + 1) (by omega) with z | ⟨n, hn, z, _, ln⟩
        · exact Or.inl z
        · exact Or.inr ⟨n, hn, z, ln⟩)
      refine wg _ ?_
      dsimp only
      refine ⟨h8, nm_e ⟨h8, nm_e ?_⟩⟩
      refine sn_yfree hs (fun z => (t0 ((s1.2 s hs).mpr z)).elim) (fun _ => br_t rfl ⟨sn_in8 (by omega), nm_r (e' := upd A s 0) (by rw [sn_clm (by omega)]; rfl) ?_⟩)
      refine ⟨rfl, L, G2, I3, fun m hm => ?_, sn_NEsub (fun p hp h => u3 p hp h) i3, ⟨?_, fun s' hs' => ?_⟩, fun m hm h => ?_, fun m hm => ?_, fun m hm h k hk => ?_, s5⟩
      · rw [g3 _ (by omega)]
        by_cases e : m = s + 1
        · subst e
          rw [sn_us, sn_us]
        · rw [sn_un e, sn_un (by omega)]
          exact i2 m hm
      · rw [sn_un (by omega)]
        exact s1.1
      · by_cases e : s' = s
        · subst e
          rw [sn_us, sn_us]
        · rw [sn_un (by omega), sn_un e]
          exact s1.2 s' hs'
      · by_cases e : m = s + 1
        · subst e
          rw [sn_us]
        · rw [sn_un e] at h ⊢
          exact s2 m hm h
      · by_cases e : m = s + 1
        · subst e
          have hz : sn_c (fun k => sn_ct W H 3 (upd R (s + 1) (-1) (s + 1)) k ≠ none) 256 = 0 := sn_cz (fun k _ y => y (by rw [sn_us, sn_ct_n]))
          rw [hz, sn_us]
          exact ⟨rfl, by omega⟩
        · rw [sn_un e, sn_un e]
          exact s3 m hm
      · have e : m ≠ s + 1 := fun e => h (by rw [e, sn_us])
        rw [sn_un e] at h ⊢
        exact s4 m hm h k hk
end SnP
end
section
section SnQ
theorem sn_nI0 {m : Nat} (h : m < 8) : ¬ nI m < 0 := nI_pos (by omega)
theorem sn_nI0' {m : Nat} (h : m < 8) : 0 ≤ nI m := nI_pos' (by omega)
theorem i_vc_get {k : Nat} {u : SX} {v : SY} (I : i_Rel k u v) (hk : k + 4 ≤ 2048) (v1 : Int32) (v2 : Int32) : wpX_get (fun r => wpY_get (fun r' => r' = r ∧ i_Rel (k + 4) u v) v v1 v2) u v1 v2 := by
  obtain ⟨W, H, U, T, R, Z, P, K⟩ := u
  obtain ⟨A, B, V⟩ := v
  have I' : sn_Rel W H U T R Z A B V := I
  obtain ⟨L, G, i1, i2, i3, s1, s2, s3, s4, s5⟩ := I'
  have Vd := sn_vd_of i1 i2
  unfold wpX_get wpY_get
  dsimp only
  by_cases h : ∃ m, sn_mp T v1 m
  · obtain ⟨m, hm⟩ := h
    have hp8 := sn_pml hm.1
    refine sn_isMap1 hm (br_f (by decide) ?_)
    rcases sn_key v2 with z | z | ⟨key, hkey, rfl⟩
    · exact br_t z (sn_place1 s1 hm (br_f (sn_nI0 hp8) (sn_bad1 (Or.inl z) (br_f (by decide) ⟨rfl, I⟩))))
    · exact br_f z.1 (br_f z.2.1 (sn_place1 s1 hm (br_f (sn_nI0 hp8) (sn_bad1 (Or.inr z) (br_f (by decide) ⟨rfl, I⟩)))))
    · refine br_f (nI_pos (by omega)) (br_t (nI_le (b := 255) (by omega) (by decide)) ?_)
      rw [hm.2.1]
      obtain ⟨y, hy, ey, w⟩ := sn_leafFor (T := T) (Z := Z) (P := P) (K := K) Vd hm.1 hkey
      rw [s4 m hm.1 hm.2.2 key hkey] at ey
      refine w _ ?_
      have yn : sn_yc B V (sn_pm m) key = none → ∀ r : Int32, r = 0 → wpY_place (fun r_1 => (r_1 < 0 → (0 : Int32) = r ∧ i_Rel (k + 4) (W, H, U, T, R, Z, P, K) (A, B, V)) ∧ (¬ r_1 < 0 → wpY_badKey (fun r_6 => (r_6 = 0 → vp_in (256 * r_1 + nI key) 2048 ∧ (B (256 * r_1 + nI key).toNatClampNeg = 0 → (0 : Int32) = r ∧ i_Rel (k + 4) (W, H, U, T, R, Z, P, K) (A, B, V)) ∧ (¬ B (256 * r_1 + nI key).toNatClampNeg = 0 → vp_in (256 * r_1 + nI key) 2048 ∧ V (256 * r_1 + nI key).toNatClampNeg = r ∧ i_Rel (k + 4) (W, H, U, T, R, Z, P, K) (A, B, V))) ∧ (¬ r_6 = 0 → (0 : Int32) = r ∧ i_Rel (k + 4) (W, H, U, T, R, Z, P, K) (A, B, V))) (nI key))) (A, B, V) v1 := by
        intro e r er
        refine sn_place1 s1 hm (br_f (sn_nI0 hp8) (sn_bad0 hkey (br_t rfl ⟨sn_in2k hp8 hkey, ?_⟩)))
        rw [sn_cl2k hp8 hkey]
        exact br_t (Decidable.of_not_not (fun q => sn_ycn q e)) ⟨er.symm, I⟩
      rcases hy with rfl | ⟨n, hn, rfl, un, ln⟩
      · rw [sn_ct_n] at ey
        exact br_t sn_neg (yn ey 0 rfl)
      · refine br_f (nI_pos (by omega)) ⟨sn_in400 hn, ?_⟩
        have hj : key % 4 < 4 := Nat.mod_lt _ (by decide)
        rw [sn_and3 (by omega), sn_clm (by omega), sn_cl4 hn hj]
        by_cases z : sn_bit (H n) (key % 4) = 0
        · rw [sn_ct_00 hn z] at ey
          exact br_t z (yn ey 0 rfl)
        · rw [sn_ct_01 hn z] at ey
          refine br_f z ⟨sn_in4 hn hj, ?_⟩
          refine sn_place1 s1 hm (br_f (sn_nI0 hp8) (sn_bad0 hkey (br_t rfl ⟨sn_in2k hp8 hkey, ?_⟩)))
          rw [sn_cl2k hp8 hkey]
          have hb : ¬ B (256 * sn_pm m + key) = 0 := fun q => by
            rw [sn_yc0 q] at ey
            exact nomatch ey
          rw [sn_yc1 hb] at ey
          exact br_f hb ⟨sn_in2k hp8 hkey, Option.some.inj ey, I⟩
  · have h' : ∀ m, ¬ sn_mp T v1 m := fun m hm => h ⟨m, hm⟩
    exact sn_isMap0 h' (br_t rfl (sn_place0 s1 h' (br_t sn_neg ⟨rfl, I⟩)))
theorem i_vc_has {k : Nat} {u : SX} {v : SY} (I : i_Rel k u v) (hk : k + 4 ≤ 2048) (v1 : Int32) (v2 : Int32) : wpX_has (fun r => wpY_has (fun r' => r' = r ∧ i_Rel (k + 4) u v) v v1 v2) u v1 v2 := by
  obtain ⟨W, H, U, T, R, Z, P, K⟩ := u
  obtain ⟨A, B, V⟩ := v
  have I' : sn_Rel W H U T R Z A B V := I
  obtain ⟨L, G, i1, i2, i3, s1, s2, s3, s4, s5⟩ := I'
  have Vd := sn_vd_of i1 i2
  unfold wpX_has wpY_has
  dsimp only
  by_cases h : ∃ m, sn_mp T v1 m
  · obtain ⟨m, hm⟩ := h
    have hp8 := sn_pml hm.1
    refine sn_isMap1 hm (br_f (by decide) ?_)
    rcases sn_key v2 with z | z | ⟨key, hkey, rfl⟩
    · exact br_t z (sn_place1 s1 hm (br_t (sn_nI0' hp8) (sn_bad1 (Or.inl z) (br_f (by decide) ⟨rfl, I⟩))))
    · exact br_f z.1 (br_t z.2.2 (sn_place1 s1 hm (br_t (sn_nI0' hp8) (sn_bad1 (Or.inr z) (br_f (by decide) ⟨rfl, I⟩)))))
    · refine br_f (nI_pos (by omega)) (br_f (nI_nlt (a := 255) (by omega) (by omega)) ?_)
      rw [hm.2.1]
      refine sn_holds Vd hm.1 hkey (fun e => br_t rfl ?_) (fun e => br_f (by decide) ?_)
      · rw [s4 m hm.1 hm.2.2 key hkey] at e
        refine sn_place1 s1 hm (br_t (sn_nI0' hp8) (sn_bad0 hkey (br_t rfl ⟨sn_in2k hp8 hkey, ?_⟩)))
        rw [sn_cl2k hp8 hkey]
        exact br_t (Decidable.of_not_not (fun q => sn_ycn q e)) ⟨rfl, I⟩
      · rw [s4 m hm.1 hm.2.2 key hkey] at e
        refine sn_place1 s1 hm (br_t (sn_nI0' hp8) (sn_bad0 hkey (br_t rfl ⟨sn_in2k hp8 hkey, ?_⟩)))
        rw [sn_cl2k hp8 hkey]
        exact br_f (fun q => e (sn_yc0 q)) ⟨rfl, I⟩
  · have h' : ∀ m, ¬ sn_mp T v1 m := fun m hm => h ⟨m, hm⟩
    exact sn_isMap0 h' (br_t rfl (sn_place0 s1 h' (br_f sn_nneg ⟨rfl, I⟩)))
theorem i_vc_size {k : Nat} {u : SX} {v : SY} (I : i_Rel k u v) (hk : k + 4 ≤ 2048) (v1 : Int32) : wpX_size (fun r => wpY_size (fun r' => r' = r ∧ i_Rel (k + 4) u v) v v1) u v1 := by
  obtain ⟨W, H, U, T, R, Z, P, K⟩ := u
  obtain ⟨A, B, V⟩ := v
  have I' : sn_Rel W H U T R Z A B V := I
  obtain ⟨L, G, i1, i2, i3, s1, s2, s3, s4, s5⟩ := I'
  unfold wpX_size wpY_size
  dsimp only
  by_cases h : ∃ m, sn_mp T v1 m
  · obtain ⟨m, hm⟩ := h
    have hp8 := sn_pml hm.1
    refine sn_isMap1 hm (br_f (by decide) ?_)
    rw [hm.2.1]
    refine ⟨sn_in8 hm.1, ?_⟩
    rw [sn_clm (by have := hm.1; omega)]
    refine sn_place1 s1 hm (br_t (sn_nI0' hp8) (sn_ycount hp8 ⟨?_, I⟩))
    rw [(s3 m hm.1).1]
    exact congrArg nI (sn_ceqf (fun k hk => s4 m hm.1 hm.2.2 k hk)).symm
  · have h' : ∀ m, ¬ sn_mp T v1 m := fun m hm => h ⟨m, hm⟩
    exact sn_isMap0 h' (br_t rfl (sn_place0 s1 h' (br_f sn_nneg ⟨rfl, I⟩)))
theorem i_vc_next {k : Nat} {u : SX} {v : SY} (I : i_Rel k u v) (hk : k + 4 ≤ 2048) (v1 : Int32) (v2 : Int32) : wpX_next (fun r => wpY_next (fun r' => r' = r ∧ i_Rel (k + 4) u v) v v1 v2) u v1 v2 := by
  obtain ⟨W, H, U, T, R, Z, P, K⟩ := u
  obtain ⟨A, B, V⟩ := v
  have I' : sn_Rel W H U T R Z A B V := I
  obtain ⟨L, G, i1, i2, i3, s1, s2, s3, s4, s5⟩ := I'
  have Vd := sn_vd_of i1 i2
  by_cases h : ∃ m, sn_mp T v1 m
  · obtain ⟨m, hm⟩ := h
    obtain ⟨j, hj, w⟩ := sn_nextX (Z := Z) (P := P) (K := K) (p1 := v2) Vd hm
    obtain ⟨j', hj', w'⟩ := sn_ynext (B := B) (V := V) (x := v2) s1 hm
    have e : j' = j := sn_nxu hj' (sn_nxc (fun i hi => by rw [s4 m hm.1 hm.2.2 i hi]) hj)
    exact w _ (w' _ ⟨by rw [e], I⟩)
  · have h' : ∀ m, ¬ sn_mp T v1 m := fun m hm => h ⟨m, hm⟩
    unfold wpX_next wpY_next
    dsimp only
    exact sn_isMap0 h' (br_t rfl (sn_place0 s1 h' (br_f sn_nneg ⟨rfl, I⟩)))
theorem i_vc_nextChange {k : Nat} {u : SX} {v : SY} (I : i_Rel k u v) (hk : k + 4 ≤ 2048) (v1 : Int32) (v2 : Int32) (v3 : Int32) : wpX_nextChange (fun r => wpY_nextChange (fun r' => r' = r ∧ i_Rel (k + 4) u v) v v1 v2 v3) u v1 v2 v3 := by
  obtain ⟨W, H, U, T, R, Z, P, K⟩ := u
  obtain ⟨A, B, V⟩ := v
  have I' : sn_Rel W H U T R Z A B V := I
  obtain ⟨L, G, i1, i2, i3, s1, s2, s3, s4, s5⟩ := I'
  have Vd := sn_vd_of i1 i2
  by_cases h : ∃ m, sn_mp T v1 m
  · obtain ⟨a, ha⟩ := h
    by_cases h2 : ∃ m, sn_mp T v2 m
    · obtain ⟨b, hb⟩ := h2
      obtain ⟨j, hj, w⟩ := sn_ncX (Z := Z) (P := P) (K := K) (p2 := v3) Vd ha hb
      obtain ⟨j', hj', w'⟩ := sn_ync (B := B) (V := V) (x := v3) s5 s1 ha hb
      have e : j' = j := sn_nxu hj' (sn_nxc (fun i hi => by rw [s4 a ha.1 ha.2.2 i hi, s4 b hb.1 hb.2.2 i hi]) hj)
      exact w _ (w' _ ⟨by rw [e], I⟩)
    · have h' : ∀ m, ¬ sn_mp T v2 m := fun m hm => h2 ⟨m, hm⟩
      unfold wpX_nextChange wpY_nextChange
      dsimp only
      exact sn_isMap1 ha (br_f (by decide) (sn_isMap0 h' (br_t rfl (sn_place1 s1 ha (sn_place0 s1 h' (br_f (sn_nI0 (sn_pml ha.1)) (br_f sn_nneg ⟨rfl, I⟩)))))))
  · have h' : ∀ m, ¬ sn_mp T v1 m := fun m hm => h ⟨m, hm⟩
    unfold wpX_nextChange wpY_nextChange
    dsimp only
    refine sn_isMap0 h' (br_t rfl (sn_place0 s1 h' ?_))
    by_cases h2 : ∃ m, sn_mp T v2 m
    · obtain ⟨b, hb⟩ := h2
      exact sn_place1 s1 hb (br_t sn_neg ⟨rfl, I⟩)
    · exact sn_place0 s1 (fun m hm => h2 ⟨m, hm⟩) (br_t sn_neg ⟨rfl, I⟩)
theorem i_vc_changes {k : Nat} {u : SX} {v : SY} (I : i_Rel k u v) (hk : k + 4 ≤ 2048) (v1 : Int32) (v2 : Int32) : wpX_changes (fun r => wpY_changes (fun r' => r' = r ∧ i_Rel (k + 4) u v) v v1 v2) u v1 v2 := by
  obtain ⟨W, H, U, T, R, Z, P, K⟩ := u
  obtain ⟨A, B, V⟩ := v
  have I' : sn_Rel W H U T R Z A B V := I
  obtain ⟨L, G, i1, i2, i3, s1, s2, s3, s4, s5⟩ := I'
  have Vd := sn_vd_of i1 i2
  by_cases h : ∃ m, sn_mp T v1 m
  · obtain ⟨a, ha⟩ := h
    by_cases h2 : ∃ m, sn_mp T v2 m
    · obtain ⟨b, hb⟩ := h2
      refine sn_chX Vd ha hb (sn_ych s5 s1 ha hb ⟨?_, I⟩)
      exact congrArg nI (sn_cc (fun i hi => by rw [s4 a ha.1 ha.2.2 i hi, s4 b hb.1 hb.2.2 i hi]))
    · have h' : ∀ m, ¬ sn_mp T v2 m := fun m hm => h2 ⟨m, hm⟩
      unfold wpX_changes wpY_changes
      dsimp only
      exact sn_isMap1 ha (br_f (by decide) (sn_isMap0 h' (br_t rfl (sn_place1 s1 ha (sn_place0 s1 h' (br_f (sn_nI0 (sn_pml ha.1)) (br_f sn_nneg ⟨rfl, I⟩)))))))
  · have h' : ∀ m, ¬ sn_mp T v1 m := fun m hm => h ⟨m, hm⟩
    unfold wpX_changes wpY_changes
    dsimp only
    refine sn_isMap0 h' (br_t rfl (sn_place0 s1 h' ?_))
    by_cases h2 : ∃ m, sn_mp T v2 m
    · obtain ⟨b, hb⟩ := h2
      exact sn_place1 s1 hb (br_t sn_neg ⟨rfl, I⟩)
    · exact sn_place0 s1 (fun m hm => h2 ⟨m, hm⟩) (br_t sn_neg ⟨rfl, I⟩)
end SnQ
end
