section
theorem pk_us {f : Nat → Int32} {k : Nat} {x : Int32} : upd f k x k = x := if_pos rfl
theorem pk_un {f : Nat → Int32} {k j : Nat} {x : Int32} (h : j ≠ k) : upd f k x j = f j := if_neg h
theorem pk_uLs {f : Nat → Int64} {k : Nat} {x : Int64} : vp_updL f k x k = x := if_pos rfl
theorem pk_uLn {f : Nat → Int64} {k j : Nat} {x : Int64} (h : j ≠ k) : vp_updL f k x j = f j := if_neg h
theorem pk_sub {a b : Nat} (h : b ≤ a) : nI a - nI b = nI (a - b) := by
  obtain ⟨c, rfl⟩ : ∃ c, a = c + b := ⟨a - b, by omega⟩
  rw [← nI_add, Int32.add_sub_cancel, Nat.add_sub_cancel]
theorem pk_m1 (n : Nat) : nI (n + 1) + (-1) = nI n := by
  rw [← nI_1, Int32.add_assoc, show (1 : Int32) + (-1) = 0 from rfl, Int32.add_zero]
theorem pk_mul (a b : Nat) : nI a * nI b = nI (a * b) := (Int32.ofNat_mul a b).symm
theorem pk_div {a d : Nat} (ha : a < 2 ^ 31) (h0 : 0 < d) (hd : d < 2 ^ 31) : nI a / nI d = nI (a / d) := by
  apply Int32.toInt_inj.mp
  rw [lg_idiv_nonneg (by rw [nI_toInt ha]; omega) (by rw [nI_toInt hd]; omega), nI_toInt ha, nI_toInt hd, nI_toInt (Nat.lt_of_le_of_lt (Nat.div_le_self a d) ha)]
  first | rfl | exact (Int.natCast_ediv _ _).symm
theorem pk_rem {a d : Nat} (ha : a < 2 ^ 31) (h0 : 0 < d) (hd : d < 2 ^ 31) : nI a - nI a / nI d * nI d = nI (a % d) := by
  rw [pk_div ha h0 hd, pk_mul, pk_sub (Nat.div_mul_le_self a d)]
  exact congrArg nI (by have := Nat.div_add_mod' a d; omega)
theorem pk_sub_toInt {a b : Nat} (ha : a < 2 ^ 30) (hb : b < 2 ^ 30) : (nI a - nI b).toInt = (a : Int) - b := by
  rw [Int32.toInt_sub, nI_toInt (by omega), nI_toInt (by omega)]
  exact Int.bmod_eq_of_le (by omega) (by omega)
theorem pk_sneg {a b : Nat} (hb : b < 2 ^ 30) (h : a < b) : nI a - nI b < 0 := by
  rw [Int32.lt_iff_toInt_lt, pk_sub_toInt (by omega) hb, show (0 : Int32).toInt = 0 from by decide]
  omega
theorem pk_ix (x : Int32) {n : Nat} (hn : n < 2 ^ 31) : x < 0 ∨ nI n ≤ x ∨ ∃ j : Nat, j < n ∧ x = nI j := by
  by_cases h : x < 0
  · exact Or.inl h
  · obtain ⟨j, hj, rfl⟩ := nI_of h
    by_cases h2 : j < n
    · exact Or.inr (Or.inr ⟨j, h2, rfl⟩)
    · exact Or.inr (Or.inl (nI_le (by omega) hj))
theorem pk_le {x y : Int32} {A B : Prop} (a b : Nat) (f : a ≤ b → A) (g : b < a → B) (hx : x = nI a := by rfl) (hy : y = nI b := by rfl) (ha : a < 2 ^ 31 := by omega) (hb : b < 2 ^ 31 := by omega) : (x ≤ y → A) ∧ (¬ x ≤ y → B) := by
  subst hx hy
  rw [nI_leI ha hb]
  exact ⟨f, fun z => g (by omega)⟩
theorem pk_lt {x y : Int32} {A B : Prop} (a b : Nat) (f : a < b → A) (g : b ≤ a → B) (hx : x = nI a := by rfl) (hy : y = nI b := by rfl) (ha : a < 2 ^ 31 := by omega) (hb : b < 2 ^ 31 := by omega) : (x < y → A) ∧ (¬ x < y → B) := by
  subst hx hy
  rw [nI_ltI ha hb]
  exact ⟨f, fun z => g (by omega)⟩
theorem pk_eq {x y : Int32} {A B : Prop} (a b : Nat) (f : a = b → A) (g : a ≠ b → B) (hx : x = nI a := by rfl) (hy : y = nI b := by rfl) (ha : a < 2 ^ 31 := by omega) (hb : b < 2 ^ 31 := by omega) : (x = y → A) ∧ (¬ x = y → B) := by
  subst hx hy
  rw [nI_eq ha hb]
  exact ⟨f, g⟩
theorem pk_in {x : Int32} (n N : Nat) (h : n < N) (hx : x = nI n := by rfl) (hN : N < 2 ^ 31 := by omega) : vp_in x N := by
  subst hx
  exact vp_in_nI h hN
theorem pk_cl {x : Int32} (n : Nat) (hx : x = nI n := by rfl) (h : n < 2 ^ 31 := by omega) : x.toNatClampNeg = n := by
  subst hx
  exact nI_clamp h
theorem pk_tn {n : Nat} (h : n < 2 ^ 32) : (nI n).toBitVec.toNat = n := Nat.mod_eq_of_lt h
theorem pk_and (x : Int32) {m : Int32} (k : Nat) (hm : m.toBitVec.toNat = 2 ^ k - 1) : x &&& m = nI (x.toBitVec.toNat % 2 ^ k) := by
  apply Int32.toBitVec_inj.mp
  apply BitVec.eq_of_toNat_eq
  rw [Int32.toBitVec_and, BitVec.toNat_and, hm, Nat.and_two_pow_sub_one_eq_mod]
  show _ = (BitVec.ofNat 32 _).toNat
  rw [BitVec.toNat_ofNat]
  exact (Nat.mod_eq_of_lt (Nat.lt_of_le_of_lt (Nat.mod_le _ _) x.toBitVec.isLt)).symm
theorem pk_andN {n : Nat} (h : n < 2 ^ 32) {m : Int32} (k : Nat) (hm : m.toBitVec.toNat = 2 ^ k - 1) : nI n &&& m = nI (n % 2 ^ k) := by
  rw [pk_and _ k hm, pk_tn h]
theorem pk_andE (x : Int32) {m : Int32} (k : Nat) (hm : m.toBitVec.toNat = 2 ^ k - 1) : ∃ j : Nat, j < 2 ^ k ∧ x &&& m = nI j := ⟨_, Nat.mod_lt _ (Nat.two_pow_pos k), pk_and x k hm⟩
theorem pk_andIn (x : Int32) {m : Int32} (k : Nat) (hm : m.toBitVec.toNat = 2 ^ k - 1) (hk : k ≤ 30) : vp_in (x &&& m) (2 ^ k) := by
  obtain ⟨j, hj, e⟩ := pk_andE x k hm
  rw [e]
  exact vp_in_nI hj (Nat.lt_of_le_of_lt (Nat.pow_le_pow_right (by decide) hk) (by decide))
theorem pk_shl (a s : Int32) (k : Nat) (hs : (s.toBitVec.smod 32).toNat = k) : (a <<< s).toBitVec.toNat = a.toBitVec.toNat * 2 ^ k % 2 ^ 32 := by
  show (a.toBitVec <<< (s.toBitVec.smod 32).toNat).toNat = _
  rw [hs, BitVec.toNat_shiftLeft, Nat.shiftLeft_eq]
theorem pk_shlN {n : Nat} (s : Int32) (k : Nat) (hs : (s.toBitVec.smod 32).toNat = k) (h : n * 2 ^ k < 2 ^ 32) : nI n <<< s = nI (n * 2 ^ k) := by
  apply Int32.toBitVec_inj.mp
  apply BitVec.eq_of_toNat_eq
  have hn : n < 2 ^ 32 := Nat.lt_of_le_of_lt (Nat.le_mul_of_pos_right n (Nat.two_pow_pos k)) h
  rw [pk_shl _ _ k hs, pk_tn hn, pk_tn h, Nat.mod_eq_of_lt h]
theorem pk_shr (a s : Int32) (k : Nat) (hs : (s.toBitVec.smod 32).toNat = k) : (a >>> s).toInt = a.toInt >>> k := by
  show (a.toBitVec.sshiftRight (s.toBitVec.smod 32).toNat).toInt = _
  rw [hs, BitVec.toInt_sshiftRight]
  rfl
theorem pk_shrN {n : Nat} (h : n < 2 ^ 31) (s : Int32) (k : Nat) (hs : (s.toBitVec.smod 32).toNat = k) : nI n >>> s = nI (n / 2 ^ k) := by
  apply Int32.toInt_inj.mp
  have h2 : n / 2 ^ k ≤ n := Nat.div_le_self _ _
  rw [pk_shr _ _ k hs, nI_toInt h, nI_toInt (by omega), Int.shiftRight_eq_div_pow]
  rfl
theorem pk_vb (z : Int32) : vp_nar .byte z.toInt8.toInt32 = z.toInt8.toInt32 := by rw [vp_nar_byte]; simp
end
section
/-! the sums of paths to each cell, for any source, as pure functions -/
def zw_in (m : Nat → Int32) (k : Nat) : Int32 :=
  (if 0 < k % 5 then m (k - 1) else 0) + (if 5 ≤ k then m (k - 5) else 0)
def zw_g (C : Nat → Bool) (w q : Nat → Int32) (k : Nat) : Int32 :=
  if C k = true then 0
  else (q k + ((if 0 < k % 5 then zw_g C w q (k - 1) else 0) + (if 5 ≤ k then zw_g C w q (k - 5) else 0))) * w k
termination_by k
decreasing_by all_goals omega
theorem zw_eq (C : Nat → Bool) (w q : Nat → Int32) (k : Nat) :
    zw_g C w q k = if C k = true then 0 else (q k + zw_in (zw_g C w q) k) * w k := by
  unfold zw_in
  rw [zw_g]
theorem zw_free {C : Nat → Bool} {w q : Nat → Int32} {k : Nat} (h : C k = false) :
    zw_g C w q k = (q k + zw_in (zw_g C w q) k) * w k := by
  rw [zw_eq, if_neg (by rw [h]; decide)]
theorem zw_shut {C : Nat → Bool} {w q : Nat → Int32} {k : Nat} (h : C k = true) : zw_g C w q k = 0 := by
  rw [zw_eq, if_pos h]
/-- one source cell -/
def zw_d (c k : Nat) : Int32 := if k = c then 1 else 0
/-- one more closed cell -/
def zw_c (C : Nat → Bool) (c : Nat) : Nat → Bool := fun x => if x = c then true else C x
theorem zw_cs (C : Nat → Bool) (c : Nat) : zw_c C c c = true := if_pos rfl
theorem zw_cn {C : Nat → Bool} {c x : Nat} (h : x ≠ c) : zw_c C c x = C x := if_neg h
theorem zw_ct {C : Nat → Bool} {c x : Nat} (h : C x = true) : zw_c C c x = true := by
  unfold zw_c; split
  · rfl
  · exact h
theorem zw_cc (C : Nat → Bool) (a c : Nat) : zw_c (zw_c C a) c = zw_c (zw_c C c) a := by
  funext x
  unfold zw_c
  by_cases h : x = c <;> by_cases h2 : x = a <;> simp [h, h2]
theorem zw_in0 {m : Nat → Int32} {k : Nat} (h1 : 0 < k % 5 → m (k - 1) = 0) (h5 : 5 ≤ k → m (k - 5) = 0) : zw_in m k = 0 := by
  unfold zw_in
  by_cases a : 0 < k % 5 <;> by_cases b : 5 ≤ k
  · rw [if_pos a, if_pos b, h1 a, h5 b]; rfl
  · rw [if_pos a, if_neg b, h1 a]; rfl
  · rw [if_neg a, if_pos b, h5 b]; rfl
  · rw [if_neg a, if_neg b]; rfl
/-- a set of cells that no flow reaches -/
theorem zw_dead {C : Nat → Bool} {w q : Nat → Int32} (Z : Nat → Prop)
    (hZ : ∀ y, Z y → C y = true ∨ (q y = 0 ∧ (0 < y % 5 → Z (y - 1)) ∧ (5 ≤ y → Z (y - 5)))) :
    ∀ x, Z x → zw_g C w q x = 0 := by
  intro x
  induction x using Nat.strongRecOn with
  | ind x ih =>
    intro hx
    rcases hZ x hx with h | ⟨h, h1, h5⟩
    · exact zw_shut h
    · by_cases hc : C x = true
      · exact zw_shut hc
      · rw [zw_eq, if_neg hc, h, zw_in0 (fun a => ih _ (by omega) (h1 a)) (fun a => ih _ (by omega) (h5 a))]
        grind
theorem zw_lt {C : Nat → Bool} {w : Nat → Int32} {c x : Nat} (h : x < c) : zw_g C w (zw_d c) x = 0 :=
  zw_dead (fun y => y < c) (fun y hy => Or.inr ⟨if_neg (by omega), fun _ => by omega, fun _ => by omega⟩) x h
theorem zw_no {C : Nat → Bool} {w : Nat → Int32} {c : Nat} (h : C c = true) (x : Nat) : zw_g C w (zw_d c) x = 0 :=
  zw_dead (fun _ => True) (fun y _ => by
    by_cases e : y = c
    · exact Or.inl (e ▸ h)
    · exact Or.inr ⟨if_neg e, fun _ => trivial, fun _ => trivial⟩) x trivial
theorem zw_in_src {C : Nat → Bool} {w : Nat → Int32} {c k : Nat} (h : k ≤ c) : zw_in (zw_g C w (zw_d c)) k = 0 :=
  zw_in0 (fun _ => zw_lt (by omega)) (fun _ => zw_lt (by omega))
theorem zw_self {C : Nat → Bool} {w : Nat → Int32} {c : Nat} (h : C c = false) : zw_g C w (zw_d c) c = w c := by
  rw [zw_free h, zw_in_src (Nat.le_refl c), show zw_d c c = 1 from if_pos rfl]
  grind
/-- the row of the component: nothing before the source, one there, then sums -/
theorem zw_x (C : Nat → Bool) (w : Nat → Int32) (c k : Nat) :
    zw_g C w (zw_d c) k = if C k = true then 0 else (if k < c then 0 else if k = c then 1 else zw_in (zw_g C w (zw_d c)) k) * w k := by
  rw [zw_eq]
  by_cases h : k < c
  · rw [if_pos h, zw_in_src (Nat.le_of_lt h), show zw_d c k = 0 from if_neg (by omega)]
    rfl
  · rw [if_neg h]
    by_cases e : k = c
    · rw [if_pos e, zw_in_src (Nat.le_of_eq e), show zw_d c k = 1 from if_pos e]
      rfl
    · rw [if_neg e, show zw_d c k = 0 from if_neg e, Int32.zero_add]
theorem zw_inl {G H D : Nat → Int32} {a b : Int32} {x : Nat} (h : ∀ y, y < x → G y = a * H y + b * D y) :
    zw_in G x = a * zw_in H x + b * zw_in D x := by
  unfold zw_in
  by_cases h1 : 0 < x % 5 <;> by_cases h5 : 5 ≤ x
  · simp only [if_pos h1, if_pos h5]
    rw [h (x - 1) (by omega), h (x - 5) (by omega)]
    grind
  · simp only [if_pos h1, if_neg h5]
    rw [h (x - 1) (by omega)]
    grind
  · simp only [if_neg h1, if_pos h5]
    rw [h (x - 5) (by omega)]
    grind
  · simp only [if_neg h1, if_neg h5]
    grind
theorem zw_lin (C : Nat → Bool) (w : Nat → Int32) (a b : Int32) (q r : Nat → Int32) :
    ∀ x, zw_g C w (fun k => a * q k + b * r k) x = a * zw_g C w q x + b * zw_g C w r x := by
  intro x
  induction x using Nat.strongRecOn with
  | ind x ih =>
    by_cases hc : C x = true
    · rw [zw_shut hc, zw_shut hc, zw_shut hc]; grind
    · have hf : C x = false := by simpa using hc
      rw [zw_free hf, zw_free hf, zw_free hf, zw_inl ih]
      grind
/-- the first step: from a free cell to the right or down, with the cell closed behind -/
theorem zw_first {C : Nat → Bool} {w : Nat → Int32} {c : Nat} (hc : C c = false) :
    ∀ x, zw_g C w (zw_d c) x = (if x = c then w c else 0) +
      zw_g (zw_c C c) w (fun k => w c * (zw_d (c + 5) k + (if c % 5 < 4 then zw_d (c + 1) k else 0))) x := by
  intro x
  induction x using Nat.strongRecOn with
  | ind x ih =>
    by_cases hx : x = c
    · subst hx
      rw [zw_self hc, if_pos rfl, zw_shut (zw_cs C x)]
      grind
    · rw [if_neg hx]
      by_cases hC : C x = true
      · rw [zw_shut hC, zw_shut (zw_ct hC)]; rfl
      · have hf : C x = false := by simpa using hC
        rw [zw_free hf, zw_free (show zw_c C c x = false by rw [zw_cn hx]; exact hf)]
        rw [show zw_d c x = 0 from if_neg hx]
        generalize hH : zw_g (zw_c C c) w (fun k => w c * (zw_d (c + 5) k + (if c % 5 < 4 then zw_d (c + 1) k else 0))) = H at ih
        generalize zw_g C w (zw_d c) = G at ih
        have a1 : (if 0 < x % 5 then G (x - 1) else 0) = (if 0 < x % 5 then H (x - 1) else 0) + w c * (if c % 5 < 4 then zw_d (c + 1) x else 0) := by
          unfold zw_d
          by_cases h : 0 < x % 5
          · rw [if_pos h, if_pos h, ih (x - 1) (by omega)]
            by_cases hc1 : x - 1 = c
            · rw [if_pos hc1, if_pos (show c % 5 < 4 by omega), if_pos (show x = c + 1 by omega)]; grind
            · rw [if_neg hc1, if_neg (show ¬ x = c + 1 by omega)]; split <;> grind
          · rw [if_neg h, if_neg h]
            by_cases h4 : c % 5 < 4
            · rw [if_pos h4, if_neg (show ¬ x = c + 1 by omega)]; grind
            · rw [if_neg h4]; grind
        have a5 : (if 5 ≤ x then G (x - 5) else 0) = (if 5 ≤ x then H (x - 5) else 0) + w c * zw_d (c + 5) x := by
          unfold zw_d
          by_cases h : 5 ≤ x
          · rw [if_pos h, if_pos h, ih (x - 5) (by omega)]
            by_cases hc1 : x - 5 = c
            · rw [if_pos hc1, if_pos (show x = c + 5 by omega)]; grind
            · rw [if_neg hc1, if_neg (show ¬ x = c + 5 by omega)]; grind
          · rw [if_neg h, if_neg h, if_neg (show ¬ x = c + 5 by omega)]; grind
        unfold zw_in
        rw [a1, a5]
        grind
/-- the step law at a cell that is not the source -/
theorem zw_step {C : Nat → Bool} {w : Nat → Int32} {c x : Nat} (hc : C c = false) (hx : x ≠ c) :
    zw_g C w (zw_d c) x = w c * (zw_g (zw_c C c) w (zw_d (c + 5)) x + (if c % 5 < 4 then zw_g (zw_c C c) w (zw_d (c + 1)) x else 0)) := by
  rw [zw_first hc, if_neg hx]
  by_cases h : c % 5 < 4
  · simp only [if_pos h]
    rw [show (fun k => w c * (zw_d (c + 5) k + zw_d (c + 1) k)) = (fun k => w c * zw_d (c + 5) k + w c * zw_d (c + 1) k) from
      funext fun k => by grind, zw_lin]
    grind
  · simp only [if_neg h]
    rw [show (fun k => w c * (zw_d (c + 5) k + 0)) = (fun k => w c * zw_d (c + 5) k + 0 * zw_d (c + 1) k) from
      funext fun k => by grind, zw_lin]
    grind
theorem zw_last {C : Nat → Bool} {w : Nat → Int32} (q : Nat → Int32) {c : Nat} (hc : C c = false) :
    ∃ α : Int32, ∀ x, zw_g C w q x = zw_g (zw_c C c) w q x + α * zw_g C w (zw_d c) x := by
  refine ⟨q c + zw_in (zw_g C w q) c, fun x => ?_⟩
  generalize hα : q c + zw_in (zw_g C w q) c = α
  induction x using Nat.strongRecOn with
  | ind x ih =>
    by_cases hx : x = c
    · subst hx
      rw [zw_self hc, zw_shut (zw_cs C x), zw_free hc, hα]
      grind
    · by_cases hC : C x = true
      · rw [zw_shut hC, zw_shut hC, zw_shut (zw_ct hC)]; grind
      · have hf : C x = false := by simpa using hC
        have e := zw_inl (G := zw_g C w q) (H := zw_g (zw_c C c) w q) (D := zw_g C w (zw_d c)) (a := 1) (b := α) (x := x)
          (fun y hy => by rw [ih y hy]; grind)
        rw [zw_free hf, zw_free (q := zw_d c) hf, zw_free (show zw_c C c x = false by rw [zw_cn hx]; exact hf), e,
          show zw_d c x = 0 from if_neg hx]
        grind
/-- cells that no path from a reaches -/
def zw_dd (C : Nat → Bool) (a x : Nat) : Prop :=
  ∃ Z : Nat → Prop, Z x ∧ ∀ y, Z y → C y = true ∨ (y ≠ a ∧ (0 < y % 5 → Z (y - 1)) ∧ (5 ≤ y → Z (y - 5)))
theorem zw_dd0 {C : Nat → Bool} {w : Nat → Int32} {a x : Nat} (h : zw_dd C a x) : zw_g C w (zw_d a) x = 0 := by
  obtain ⟨Z, hx, hZ⟩ := h
  refine zw_dead Z (fun y hy => ?_) x hx
  rcases hZ y hy with h | ⟨h, h1, h5⟩
  · exact Or.inl h
  · exact Or.inr ⟨if_neg h, h1, h5⟩
theorem zw_dd_mono {C : Nat → Bool} {a x c : Nat} (h : zw_dd C a x) : zw_dd (zw_c C c) a x := by
  obtain ⟨Z, hx, hZ⟩ := h
  refine ⟨Z, hx, fun y hy => ?_⟩
  rcases hZ y hy with h | h
  · exact Or.inl (zw_ct h)
  · exact Or.inr h
theorem zw_dd_un {C : Nat → Bool} {a x : Nat} (h : zw_dd C a x) :
    C x = true ∨ (x ≠ a ∧ (0 < x % 5 → zw_dd C a (x - 1)) ∧ (5 ≤ x → zw_dd C a (x - 5))) := by
  obtain ⟨Z, hx, hZ⟩ := h
  rcases hZ x hx with h | ⟨h, h1, h5⟩
  · exact Or.inl h
  · exact Or.inr ⟨h, fun z => ⟨Z, h1 z, hZ⟩, fun z => ⟨Z, h5 z, hZ⟩⟩
/-- cells above the source's row -/
theorem zw_dd_row {C : Nat → Bool} {a x : Nat} (h : x % 5 < a % 5) : zw_dd C a x :=
  ⟨fun y => y % 5 < a % 5, h, fun y (hy : y % 5 < a % 5) => Or.inr ⟨fun e => by subst e; omega, fun _ => by show (y - 1) % 5 < a % 5; omega, fun _ => by show (y - 5) % 5 < a % 5; omega⟩⟩
/-- the walk goes down from c: the row of c is dead beyond c -/
theorem zw_dd_down {C : Nat → Bool} {a c x : Nat} (ha : a < 5) (hI : ∀ y, c / 5 ≤ y / 5 → y % 5 < c % 5 → zw_dd C a y)
    (h1 : c / 5 ≤ x / 5) (h2 : x % 5 ≤ c % 5) : zw_dd (zw_c C c) a x := by
  by_cases h : x % 5 < c % 5
  · exact zw_dd_mono (hI x h1 h)
  · refine ⟨fun y => zw_dd (zw_c C c) a y ∨ (c / 5 ≤ y / 5 ∧ y % 5 = c % 5), Or.inr ⟨h1, by omega⟩, fun y hy => ?_⟩
    rcases hy with hy | ⟨hy1, hy2⟩
    · rcases zw_dd_un hy with h | ⟨h, h1, h5⟩
      · exact Or.inl h
      · exact Or.inr ⟨h, fun z => Or.inl (h1 z), fun z => Or.inl (h5 z)⟩
    · by_cases e : y = c
      · exact Or.inl (by rw [e]; exact zw_cs C c)
      · exact Or.inr ⟨by omega, fun z => Or.inl (zw_dd_mono (hI (y - 1) (by omega) (by omega))), fun z => Or.inr ⟨by omega, by omega⟩⟩
end
section
/-! the determinant of four rows, and of rows and columns from i on to n (the others a unit) -/
def zd_2 (R : Nat → Nat → Int32) (r s c d : Nat) : Int32 := R r c * R s d - R r d * R s c
def zd_4 (R : Nat → Nat → Int32) : Int32 :=
  zd_2 R 0 1 0 1 * zd_2 R 2 3 2 3 - zd_2 R 0 1 0 2 * zd_2 R 2 3 1 3 + zd_2 R 0 1 0 3 * zd_2 R 2 3 1 2
    + zd_2 R 0 1 1 2 * zd_2 R 2 3 0 3 - zd_2 R 0 1 1 3 * zd_2 R 2 3 0 2 + zd_2 R 0 1 2 3 * zd_2 R 2 3 0 1
def zd_3 (R : Nat → Nat → Int32) : Int32 := R 1 1 * zd_2 R 2 3 2 3 - R 1 2 * zd_2 R 2 3 1 3 + R 1 3 * zd_2 R 2 3 1 2
def zd_M (f n : Nat) (R : Nat → Nat → Int32) (i j : Nat) : Int32 :=
  if f ≤ i ∧ i < n ∧ f ≤ j ∧ j < n then R i j else if i = j then 1 else 0
def zd_D (f n : Nat) (R : Nat → Nat → Int32) : Int32 := zd_4 (zd_M f n R)
theorem zd_cases {P : Nat → Nat → Prop} (h01 : P 0 1) (h02 : P 0 2) (h03 : P 0 3) (h04 : P 0 4) (h12 : P 1 2) (h13 : P 1 3) (h14 : P 1 4)
    (h23 : P 2 3) (h24 : P 2 4) (h34 : P 3 4) (i n : Nat) (hi : i < n) (hn : n ≤ 4) : P i n := by
  rcases (show n = 1 ∨ n = 2 ∨ n = 3 ∨ n = 4 by omega) with rfl | rfl | rfl | rfl
  · cases (show i = 0 by omega); exact h01
  · rcases (show i = 0 ∨ i = 1 by omega) with rfl | rfl
    · exact h02
    · exact h12
  · rcases (show i = 0 ∨ i = 1 ∨ i = 2 by omega) with rfl | rfl | rfl
    · exact h03
    · exact h13
    · exact h23
  · rcases (show i = 0 ∨ i = 1 ∨ i = 2 ∨ i = 3 by omega) with rfl | rfl | rfl | rfl
    · exact h04
    · exact h14
    · exact h24
    · exact h34
theorem zd_4c {R T : Nat → Nat → Int32} (h : ∀ a j, a < 4 → j < 4 → R a j = T a j) : zd_4 R = zd_4 T := by
  unfold zd_4 zd_2
  rw [h 0 0 (by decide) (by decide), h 0 1 (by decide) (by decide), h 0 2 (by decide) (by decide), h 0 3 (by decide) (by decide),
    h 1 0 (by decide) (by decide), h 1 1 (by decide) (by decide), h 1 2 (by decide) (by decide), h 1 3 (by decide) (by decide),
    h 2 0 (by decide) (by decide), h 2 1 (by decide) (by decide), h 2 2 (by decide) (by decide), h 2 3 (by decide) (by decide),
    h 3 0 (by decide) (by decide), h 3 1 (by decide) (by decide), h 3 2 (by decide) (by decide), h 3 3 (by decide) (by decide)]
theorem zd_Dc {i n : Nat} {R T : Nat → Nat → Int32} (h : ∀ a j, i ≤ a → a < n → i ≤ j → j < n → R a j = T a j) : zd_D i n R = zd_D i n T := by
  refine zd_4c (fun a j _ _ => ?_)
  unfold zd_M
  by_cases e : i ≤ a ∧ a < n ∧ i ≤ j ∧ j < n
  · rw [if_pos e, if_pos e, h a j e.1 e.2.1 e.2.2.1 e.2.2.2]
  · rw [if_neg e, if_neg e]
/-- the later rows less multiples of row i -/
theorem zd_rows (R : Nat → Nat → Int32) (α : Nat → Int32) (i n : Nat) (hi : i < n) (hn : n ≤ 4) :
    zd_D i n (fun a j => if a = i then R i j else R a j + α a * R i j) = zd_D i n R := by
  revert i n
  refine zd_cases (P := fun i n => zd_D i n (fun a j => if a = i then R i j else R a j + α a * R i j) = zd_D i n R) ?_ ?_ ?_ ?_ ?_ ?_ ?_ ?_ ?_ ?_ <;>
  (simp (decide := true) only [zd_D, zd_4, zd_2, zd_M, ↓reduceIte] <;> grind)
theorem zd_lin (R : Nat → Nat → Int32) (u v : Nat → Int32) (w : Int32) (i n : Nat) (hi : i < n) (hn : n ≤ 4) :
    zd_D i n (fun a j => if a = i then w * (u j + v j) else R a j)
      = w * (zd_D i n (fun a j => if a = i then u j else R a j) + zd_D i n (fun a j => if a = i then v j else R a j)) := by
  revert i n
  refine zd_cases (P := fun i n => zd_D i n (fun a j => if a = i then w * (u j + v j) else R a j)
      = w * (zd_D i n (fun a j => if a = i then u j else R a j) + zd_D i n (fun a j => if a = i then v j else R a j))) ?_ ?_ ?_ ?_ ?_ ?_ ?_ ?_ ?_ ?_ <;>
  (simp (decide := true) only [zd_D, zd_4, zd_2, zd_M, ↓reduceIte] <;> grind)
theorem zd_col0 (R : Nat → Nat → Int32) (i n : Nat) (hi : i < n) (hn : n ≤ 4) : zd_D i n (fun a j => if j = i then 0 else R a j) = 0 := by
  revert i n
  refine zd_cases (P := fun i n => zd_D i n (fun a j => if j = i then 0 else R a j) = 0) ?_ ?_ ?_ ?_ ?_ ?_ ?_ ?_ ?_ ?_ <;>
  (simp (decide := true) only [zd_D, zd_4, zd_2, zd_M, ↓reduceIte] <;> grind)
theorem zd_row0 (R : Nat → Nat → Int32) (i n : Nat) (hi : i < n) (hn : n ≤ 4) : zd_D i n (fun a j => if a = i then 0 else R a j) = 0 := by
  revert i n
  refine zd_cases (P := fun i n => zd_D i n (fun a j => if a = i then 0 else R a j) = 0) ?_ ?_ ?_ ?_ ?_ ?_ ?_ ?_ ?_ ?_ <;>
  (simp (decide := true) only [zd_D, zd_4, zd_2, zd_M, ↓reduceIte] <;> grind)
theorem zd_unit (R : Nat → Nat → Int32) (i n : Nat) (hi : i < n) (hn : n ≤ 4) :
    zd_D i n (fun a j => if a = i then (if j = i then 1 else 0) else R a j) = zd_D (i + 1) n R := by
  revert i n
  refine zd_cases (P := fun i n => zd_D i n (fun a j => if a = i then (if j = i then 1 else 0) else R a j) = zd_D (i + 1) n R) ?_ ?_ ?_ ?_ ?_ ?_ ?_ ?_ ?_ ?_ <;>
  (simp (decide := true) only [zd_D, zd_4, zd_2, zd_M, ↓reduceIte] <;> grind)
theorem zd_end (R : Nat → Nat → Int32) (n : Nat) (hn : n ≤ 4) : zd_D n n R = 1 := by
  have e : zd_D n n R = zd_D 0 0 R := zd_4c (fun a j _ _ => by
    unfold zd_M
    rw [if_neg (show ¬ (n ≤ a ∧ a < n ∧ n ≤ j ∧ j < n) by omega), if_neg (show ¬ (0 ≤ a ∧ a < 0 ∧ 0 ≤ j ∧ j < 0) by omega)])
  rw [e]
  simp (decide := true) only [zd_D, zd_4, zd_2, zd_M, ↓reduceIte]
theorem zd_col {R : Nat → Nat → Int32} {i n : Nat} (hi : i < n) (hn : n ≤ 4) (h : ∀ a, i ≤ a → a < n → R a i = 0) : zd_D i n R = 0 := by
  rw [← zd_col0 R i n hi hn]
  refine zd_Dc (fun a j ha hb _ _ => ?_)
  by_cases e : j = i
  · rw [if_pos e, e, h a ha hb]
  · rw [if_neg e]
theorem zd_row {R : Nat → Nat → Int32} {i n : Nat} (hi : i < n) (hn : n ≤ 4) (h : ∀ j, i ≤ j → j < n → R i j = 0) : zd_D i n R = 0 := by
  rw [← zd_row0 R i n hi hn]
  refine zd_Dc (fun a j _ _ ha hb => ?_)
  by_cases e : a = i
  · rw [if_pos e, e, h j ha hb]
  · rw [if_neg e]
/-- rows and columns 1 to 3 alone -/
theorem zd_last (f n : Nat) (hf : 0 < f) (R : Nat → Nat → Int32) : zd_3 (zd_M f n R) = zd_D f n R := by
  have a : ∀ j, zd_M f n R 0 j = if 0 = j then 1 else 0 := fun j => if_neg (by omega)
  have b : ∀ i, zd_M f n R i 0 = if i = 0 then 1 else 0 := fun j => if_neg (by omega)
  unfold zd_3 zd_D zd_4 zd_2
  rw [a 0, a 1, a 2, a 3, b 1, b 2, b 3]
  simp (decide := true) only [↓reduceIte]
  grind
end
section
/-! all families from path i at cell c on, with the cells of C closed, in the reference's order -/
def ze_en (n : Nat) (s g : Nat → Nat) : Nat → (Nat → Bool) → Nat → Nat → List (List (Nat × Nat))
  | 0, _, _, _ => []
  | d + 1, C, i, c => if C c = true then [] else
      (if c = g i then (if i + 1 < n then ze_en n s g d (zw_c C c) (i + 1) (s (i + 1)) else [[]])
        else (if c < 25 then ze_en n s g d (zw_c C c) i (c + 5) else []) ++
          (if c % 5 < g i % 5 then ze_en n s g d (zw_c C c) i (c + 1) else [])).map (fun f => (c, i) :: f)
def ze_sm (φ : List (Nat × Nat) → Int32) : List (List (Nat × Nat)) → Int32
  | [] => 0
  | f :: L => φ f + ze_sm φ L
def ze_wt (w : Nat → Int32) : List (Nat × Nat) → Int32
  | [] => 1
  | p :: f => w p.1 * ze_wt w f
theorem ze_sm_app (φ : List (Nat × Nat) → Int32) (A B : List (List (Nat × Nat))) : ze_sm φ (A ++ B) = ze_sm φ A + ze_sm φ B := by
  induction A with
  | nil => rw [List.nil_append]; show _ = 0 + _; grind
  | cons f A ih => rw [List.cons_append]; show φ f + _ = φ f + _ + _; rw [ih]; grind
theorem ze_sm_map (φ : List (Nat × Nat) → Int32) (p : Nat × Nat) (A : List (List (Nat × Nat))) :
    ze_sm φ (A.map (fun f => p :: f)) = ze_sm (fun f => φ (p :: f)) A := by
  induction A with
  | nil => rfl
  | cons f A ih => rw [List.map_cons]; show φ (p :: f) + _ = φ (p :: f) + _; rw [ih]
theorem ze_sm_mul (φ : List (Nat × Nat) → Int32) (a : Int32) (A : List (List (Nat × Nat))) :
    ze_sm (fun f => a * φ f) A = a * ze_sm φ A := by
  induction A with
  | nil => show (0 : Int32) = a * 0; grind
  | cons f A ih => show a * φ f + _ = a * (φ f + _); rw [ih]; grind
theorem ze_sm_cg {φ ψ : List (Nat × Nat) → Int32} (h : ∀ f, φ f = ψ f) (A : List (List (Nat × Nat))) : ze_sm φ A = ze_sm ψ A := by
  rw [show φ = ψ from funext h]
theorem ze_sm_0 (A : List (List (Nat × Nat))) : ze_sm (fun _ => 0) A = 0 := by
  induction A with
  | nil => rfl
  | cons f A ih => show (0 : Int32) + _ = 0; rw [ih]; rfl
theorem ze_sm_1 (A : List (List (Nat × Nat))) : ze_sm (fun _ => 1) A = nI A.length := by
  induction A with
  | nil => rfl
  | cons f A ih => show (1 : Int32) + _ = _; rw [ih, List.length_cons, ← nI_1]; grind
theorem ze_wt1 (f : List (Nat × Nat)) : ze_wt (fun _ => 1) f = 1 := by
  induction f with
  | nil => rfl
  | cons p f ih => show (1 : Int32) * _ = 1; rw [ih]; rfl
theorem ze_smw (w : Nat → Int32) (c i : Nat) (A : List (List (Nat × Nat))) :
    ze_sm (ze_wt w) (A.map (fun f => (c, i) :: f)) = w c * ze_sm (ze_wt w) A := by
  rw [ze_sm_map]
  exact ze_sm_mul (ze_wt w) (w c) A
/-- the ends: starts in the first column, goals in the last, both from above to below -/
def ze_ok (n : Nat) (s g : Nat → Nat) : Prop :=
  1 ≤ n ∧ n ≤ 4 ∧ (∀ i, i < n → s i < 5) ∧ (∀ i j, i < j → j < n → s i < s j) ∧ (∀ i, i < n → 25 ≤ g i ∧ g i < 30) ∧ (∀ i j, i < j → j < n → g i < g j)
theorem ze_nil {n : Nat} {s g : Nat → Nat} : ∀ (d : Nat) (C : Nat → Bool) (i c : Nat), g i % 5 < c % 5 → ze_en n s g d C i c = [] := by
  intro d
  induction d with
  | zero => intro C i c _; rfl
  | succ d ih =>
    intro C i c h
    unfold ze_en
    by_cases hC : C c = true
    · rw [if_pos hC]
    · rw [if_neg hC, if_neg (show ¬ c = g i from fun e => by rw [e] at h; omega), if_neg (show ¬ c % 5 < g i % 5 by omega), ih _ i (c + 5) (by omega)]
      split <;> rfl
/-- the planar invariant: later starts reach no cell beyond the walk that lies above its head's row -/
def ze_inv (n : Nat) (s : Nat → Nat) (C : Nat → Bool) (i c : Nat) : Prop :=
  ∀ k, i < k → k < n → ∀ x, c / 5 ≤ x / 5 → x % 5 < c % 5 → zw_dd C (s k) x
theorem ze_inv_right {n : Nat} {s : Nat → Nat} {C : Nat → Bool} {i c : Nat} (h : ze_inv n s C i c) : ze_inv n s (zw_c C c) i (c + 5) :=
  fun k h1 h2 x hx hr => zw_dd_mono (h k h1 h2 x (by omega) (by omega))
theorem ze_inv_down {n : Nat} {s : Nat → Nat} {C : Nat → Bool} {i c : Nat} (hs : ∀ i, i < n → s i < 5) (hc : c % 5 < 4) (h : ze_inv n s C i c) :
    ze_inv n s (zw_c C c) i (c + 1) :=
  fun k h1 h2 x hx hr => zw_dd_down (hs k h2) (h k h1 h2) (by omega) (by omega)
theorem ze_inv_start {n : Nat} {s g : Nat → Nat} (ok : ze_ok n s g) (C : Nat → Bool) (i : Nat) : ze_inv n s C i (s i) := by
  intro k h1 h2 x _ hr
  have a := ok.2.2.1 k h2
  have b := ok.2.2.1 i (by omega)
  have c := ok.2.2.2.1 i k h1 h2
  exact zw_dd_row (by omega)
/-- the matrix: row i from cell c, the later rows from their starts -/
def ze_R (s g : Nat → Nat) (C : Nat → Bool) (w : Nat → Int32) (i c a j : Nat) : Int32 :=
  if a = i then zw_g C w (zw_d c) (g j) else zw_g C w (zw_d (s a)) (g j)
theorem ze_below {n : Nat} {s g : Nat → Nat} (ok : ze_ok n s g) (w : Nat → Int32) {C : Nat → Bool} {i c : Nat} (hi : i < n)
    (hc : c < 30) (hI : ze_inv n s C i c) (h : g i % 5 < c % 5) : zd_D i n (ze_R s g C w i c) = 0 := by
  refine zd_col hi ok.2.1 (fun a ha hb => ?_)
  have hg := ok.2.2.2.2.1 i hi
  unfold ze_R
  by_cases e : a = i
  · rw [if_pos e]
    exact zw_dd0 (zw_dd_row h)
  · rw [if_neg e]
    exact zw_dd0 (hI a (by omega) hb (g i) (by omega) h)
/-- the later rows see c closed -/
theorem ze_clear {n : Nat} {s g : Nat → Nat} (w : Nat → Int32) {C : Nat → Bool} {i c : Nat} (hi : i < n) (hn : n ≤ 4) (hC : C c = false) :
    zd_D i n (ze_R s g C w i c) = zd_D i n (fun a j => if a = i then zw_g C w (zw_d c) (g j) else zw_g (zw_c C c) w (zw_d (s a)) (g j)) := by
  have hx : ∀ a, ∃ α : Int32, ∀ x, zw_g C w (zw_d (s a)) x = zw_g (zw_c C c) w (zw_d (s a)) x + α * zw_g C w (zw_d c) x := fun a => zw_last _ hC
  refine Eq.trans ?_ (zd_rows (fun a j => if a = i then zw_g C w (zw_d c) (g j) else zw_g (zw_c C c) w (zw_d (s a)) (g j)) (fun a => (hx a).choose) i n hi hn)
  refine zd_Dc (fun a j _ _ _ _ => ?_)
  unfold ze_R
  by_cases e : a = i
  · rw [if_pos e]
    simp only [if_pos e, if_true]
  · simp only [if_neg e, if_true]
    exact (hx a).choose_spec (g j)
/-- THE LAW OF GESSEL AND VIENNOT, with path i at cell c -/
theorem ze_lgv {n : Nat} {s g : Nat → Nat} (ok : ze_ok n s g) (w : Nat → Int32) :
    ∀ (d : Nat) (C : Nat → Bool) (i c : Nat), i < n → c < 30 → 10 * (n - 1 - i) + 10 ≤ d + c / 5 + c % 5 → ze_inv n s C i c →
      zd_D i n (ze_R s g C w i c) = ze_sm (ze_wt w) (ze_en n s g d C i c) := by
  obtain ⟨h1, hn, hs, hsm, hg, hgm⟩ := id ok
  intro d
  induction d with
  | zero => intro C i c hi hc hd; omega
  | succ d ih =>
    intro C i c hi hc hd hI
    by_cases hb : g i % 5 < c % 5
    · rw [ze_below ok w hi hc hI hb, ze_nil _ _ _ _ hb]; rfl
    by_cases hC : C c = true
    · unfold ze_en
      rw [if_pos hC]
      refine zd_row hi hn (fun j _ _ => ?_)
      unfold ze_R
      rw [if_pos rfl, zw_no hC]
    have hf : C c = false := by simpa using hC
    have gi := hg i hi
    rw [ze_clear w hi hn hf]
    unfold ze_en
    rw [if_neg hC, ze_smw]
    by_cases e : c = g i
    · rw [if_pos e]
      -- the goal: row i is a unit row and what leads on, which sees column i closed
      have e1 : zd_D i n (fun a j => if a = i then zw_g C w (zw_d c) (g j) else zw_g (zw_c C c) w (zw_d (s a)) (g j))
          = w c * (zd_D i n (fun a j => if a = i then (if j = i then 1 else 0) else zw_g (zw_c C c) w (zw_d (s a)) (g j))
            + zd_D i n (fun a j => if a = i then (zw_g (zw_c C c) w (zw_d (c + 5)) (g j) + (if c % 5 < 4 then zw_g (zw_c C c) w (zw_d (c + 1)) (g j) else 0)) else zw_g (zw_c C c) w (zw_d (s a)) (g j))) := by
        rw [← zd_lin _ (fun j => if j = i then 1 else 0) _ (w c) i n hi hn]
        refine zd_Dc (fun a j _ _ hj hjn => ?_)
        by_cases ea : a = i
        · rw [if_pos ea, if_pos ea]
          by_cases ej : j = i
          · rw [if_pos ej, ej, ← e, zw_self hf, zw_shut (zw_cs C c), zw_shut (zw_cs C c)]
            split <;> grind
          · have hne := hgm i j (by omega) hjn
            rw [if_neg ej, zw_step hf (show g j ≠ c by omega)]
            grind
        · rw [if_neg ea, if_neg ea]
      rw [e1]
      have e2 : zd_D i n (fun a j => if a = i then (zw_g (zw_c C c) w (zw_d (c + 5)) (g j) + (if c % 5 < 4 then zw_g (zw_c C c) w (zw_d (c + 1)) (g j) else 0)) else zw_g (zw_c C c) w (zw_d (s a)) (g j)) = 0 := by
        refine zd_col hi hn (fun a _ _ => ?_)
        show (if a = i then (zw_g (zw_c C c) w (zw_d (c + 5)) (g i) + (if c % 5 < 4 then zw_g (zw_c C c) w (zw_d (c + 1)) (g i) else 0)) else zw_g (zw_c C c) w (zw_d (s a)) (g i)) = 0
        rw [← e, zw_shut (zw_cs C c), zw_shut (zw_cs C c), zw_shut (zw_cs C c)]
        split
        · split <;> rfl
        · rfl
      rw [e2, zd_unit _ i n hi hn]
      by_cases hl : i + 1 < n
      · rw [if_pos hl, ← ih (zw_c C c) (i + 1) (s (i + 1)) hl (by have := hs (i + 1) hl; omega) (by omega) (ze_inv_start ok _ _)]
        rw [zd_Dc (T := ze_R s g (zw_c C c) w (i + 1) (s (i + 1))) (fun a j _ _ _ _ => by
          unfold ze_R
          by_cases ea : a = i + 1
          · rw [if_pos ea, ea]
          · rw [if_neg ea])]
        grind
      · rw [if_neg hl, show i + 1 = n by omega, zd_end _ n hn]
        show _ = w c * (1 + 0)
        grind
    · rw [if_neg e]
      have e1 : zd_D i n (fun a j => if a = i then zw_g C w (zw_d c) (g j) else zw_g (zw_c C c) w (zw_d (s a)) (g j))
          = w c * (zd_D i n (fun a j => if a = i then zw_g (zw_c C c) w (zw_d (c + 5)) (g j) else zw_g (zw_c C c) w (zw_d (s a)) (g j))
            + zd_D i n (fun a j => if a = i then (if c % 5 < 4 then zw_g (zw_c C c) w (zw_d (c + 1)) (g j) else 0) else zw_g (zw_c C c) w (zw_d (s a)) (g j))) := by
        rw [← zd_lin _ _ _ (w c) i n hi hn]
        refine zd_Dc (fun a j _ _ hj hjn => ?_)
        by_cases ea : a = i
        · rw [if_pos ea, if_pos ea]
          refine zw_step hf (fun ec => ?_)
          by_cases ej : j = i
          · exact e (by rw [← ec, ej])
          · have hne := hgm i j (by omega) hjn
            have hgj := hg j hjn
            omega
        · rw [if_neg ea, if_neg ea]
      rw [e1, ze_sm_app]
      have eR : zd_D i n (fun a j => if a = i then zw_g (zw_c C c) w (zw_d (c + 5)) (g j) else zw_g (zw_c C c) w (zw_d (s a)) (g j))
          = ze_sm (ze_wt w) (if c < 25 then ze_en n s g d (zw_c C c) i (c + 5) else []) := by
        by_cases h25 : c < 25
        · rw [if_pos h25, ← ih (zw_c C c) i (c + 5) hi (by omega) (by omega) (ze_inv_right hI)]
          rfl
        · rw [if_neg h25]
          refine zd_row hi hn (fun j _ hj => ?_)
          have := hg j hj
          show (if i = i then zw_g (zw_c C c) w (zw_d (c + 5)) (g j) else zw_g (zw_c C c) w (zw_d (s i)) (g j)) = 0
          rw [if_pos rfl, zw_lt (by omega)]
      have eD : zd_D i n (fun a j => if a = i then (if c % 5 < 4 then zw_g (zw_c C c) w (zw_d (c + 1)) (g j) else 0) else zw_g (zw_c C c) w (zw_d (s a)) (g j))
          = ze_sm (ze_wt w) (if c % 5 < g i % 5 then ze_en n s g d (zw_c C c) i (c + 1) else []) := by
        by_cases h4 : c % 5 < 4
        · have e3 : zd_D i n (fun a j => if a = i then (if c % 5 < 4 then zw_g (zw_c C c) w (zw_d (c + 1)) (g j) else 0) else zw_g (zw_c C c) w (zw_d (s a)) (g j))
              = zd_D i n (ze_R s g (zw_c C c) w i (c + 1)) := zd_Dc (fun a j _ _ _ _ => by
            unfold ze_R
            rw [if_pos h4])
          rw [e3]
          by_cases hr : c % 5 < g i % 5
          · rw [if_pos hr, ih (zw_c C c) i (c + 1) hi (by omega) (by omega) (ze_inv_down hs h4 hI)]
          · rw [if_neg hr, ze_below ok w hi (by omega) (ze_inv_down hs h4 hI) (by omega)]
            rfl
        · rw [if_neg (show ¬ c % 5 < g i % 5 by omega)]
          refine zd_row hi hn (fun j _ hj => ?_)
          show (if i = i then (if c % 5 < 4 then zw_g (zw_c C c) w (zw_d (c + 1)) (g j) else 0) else zw_g (zw_c C c) w (zw_d (s i)) (g j)) = 0
          rw [if_pos rfl, if_neg h4]
      rw [eR, eD]
end
section
/-! families that avoid a cell; how many there may be; closed cells beyond the board don't matter -/
def ze_has (a : Nat) (f : List (Nat × Nat)) : Bool := f.any (fun p => p.1 == a)
theorem ze_has_c (a c i : Nat) (f : List (Nat × Nat)) : ze_has a ((c, i) :: f) = (c == a || ze_has a f) := rfl
theorem ze_av {n : Nat} {s g : Nat → Nat} (a : Nat) : ∀ (d : Nat) (φ : List (Nat × Nat) → Int32) (C : Nat → Bool) (i c : Nat),
    ze_sm φ (ze_en n s g d (zw_c C a) i c) = ze_sm (fun f => if ze_has a f = true then 0 else φ f) (ze_en n s g d C i c) := by
  intro d
  induction d with
  | zero => intro φ C i c; rfl
  | succ d ih =>
    intro φ C i c
    unfold ze_en
    by_cases hC : C c = true
    · rw [if_pos hC, if_pos (zw_ct hC)]; rfl
    · by_cases e : c = a
      · rw [if_neg hC, if_pos (by rw [e]; exact zw_cs C a), ze_sm_map]
        rw [ze_sm_cg (φ := fun f => if ze_has a ((c, i) :: f) = true then 0 else φ ((c, i) :: f)) (ψ := fun _ => 0)
          (fun f => if_pos (by rw [ze_has_c, e]; simp)), ze_sm_0]
        rfl
      · rw [if_neg hC, if_neg (by rw [zw_cn e]; exact hC), ze_sm_map, ze_sm_map, zw_cc C a c]
        rw [ze_sm_cg (φ := fun f => if ze_has a ((c, i) :: f) = true then 0 else φ ((c, i) :: f))
          (ψ := fun f => if ze_has a f = true then 0 else φ ((c, i) :: f)) (fun f => by rw [ze_has_c]; simp [e])]
        by_cases eg : c = g i
        · rw [if_pos eg, if_pos eg]
          by_cases hl : i + 1 < n
          · rw [if_pos hl, if_pos hl]
            exact ih _ _ _ _
          · rw [if_neg hl, if_neg hl]
            rfl
        · rw [if_neg eg, if_neg eg, ze_sm_app, ze_sm_app]
          by_cases h25 : c < 25 <;> by_cases hr : c % 5 < g i % 5
          · rw [if_pos h25, if_pos h25, if_pos hr, if_pos hr, ih, ih]
          · rw [if_pos h25, if_pos h25, if_neg hr, if_neg hr, ih]; rfl
          · rw [if_neg h25, if_neg h25, if_pos hr, if_pos hr, ih]; rfl
          · rw [if_neg h25, if_neg h25, if_neg hr, if_neg hr]; rfl
theorem ze_cg {n : Nat} {s g : Nat → Nat} (ok : ze_ok n s g) : ∀ (d : Nat) (C C' : Nat → Bool) (i c : Nat), i < n → c < 30 → (∀ x, x < 30 → C x = C' x) →
    ze_en n s g d C i c = ze_en n s g d C' i c := by
  obtain ⟨h1, hn, hs, hsm, hg, hgm⟩ := id ok
  intro d
  induction d with
  | zero => intro C C' i c _ _ _; rfl
  | succ d ih =>
    intro C C' i c hi hc h
    have h' : ∀ x, x < 30 → zw_c C c x = zw_c C' c x := fun x hx => by
      unfold zw_c
      rw [h x hx]
    unfold ze_en
    rw [h c hc]
    by_cases hC : C' c = true
    · rw [if_pos hC, if_pos hC]
    · rw [if_neg hC, if_neg hC]
      refine congrArg (List.map (fun f => (c, i) :: f)) ?_
      by_cases eg : c = g i
      · rw [if_pos eg, if_pos eg]
        by_cases hl : i + 1 < n
        · rw [if_pos hl, if_pos hl]
          exact ih _ _ _ _ hl (by have := hs (i + 1) hl; omega) h'
        · rw [if_neg hl, if_neg hl]
      · rw [if_neg eg, if_neg eg]
        have gi := hg i hi
        by_cases h25 : c < 25 <;> by_cases hr : c % 5 < g i % 5
        · rw [if_pos h25, if_pos h25, if_pos hr, if_pos hr, ih _ _ i (c + 5) hi (by omega) h', ih _ _ i (c + 1) hi (by omega) h']
        · rw [if_pos h25, if_pos h25, if_neg hr, if_neg hr, ih _ _ i (c + 5) hi (by omega) h']
        · rw [if_neg h25, if_neg h25, if_pos hr, if_pos hr, ih _ _ i (c + 1) hi (by omega) h']
        · rw [if_neg h25, if_neg h25, if_neg hr, if_neg hr]
def ze_s (f : Nat → Nat) : Nat → Nat
  | 0 => f 0
  | b + 1 => ze_s f b + f (b + 1)
def ze_b : Nat → Nat → Nat
  | 0 => fun _ => 1
  | a + 1 => ze_s (ze_b a)
theorem ze_b126 : ∀ a, a < 6 → ∀ b, b < 5 → ze_b a b ≤ 126 := by decide
theorem ze_len {n : Nat} {s g : Nat → Nat} (ok : ze_ok n s g) : ∀ (d : Nat) (C : Nat → Bool) (i c : Nat), i < n → c < 30 →
    (ze_en n s g d C i c).length ≤ ze_b (5 - c / 5) (g i % 5 - c % 5) * 126 ^ (n - 1 - i) := by
  obtain ⟨h1, hn, hs, hsm, hg, hgm⟩ := id ok
  intro d
  induction d with
  | zero => intro C i c _ _; exact Nat.zero_le _
  | succ d ih =>
    intro C i c hi hc
    unfold ze_en
    have gi := hg i hi
    by_cases hC : C c = true
    · rw [if_pos hC]; exact Nat.zero_le _
    · rw [if_neg hC, List.length_map]
      by_cases eg : c = g i
      · rw [if_pos eg, show 5 - c / 5 = 0 by omega]
        show _ ≤ 1 * 126 ^ (n - 1 - i)
        rw [Nat.one_mul]
        by_cases hl : i + 1 < n
        · rw [if_pos hl]
          have hsl := hs (i + 1) hl
          refine Nat.le_trans (ih (zw_c C c) (i + 1) (s (i + 1)) hl (by omega)) ?_
          rw [show n - 1 - i = (n - 1 - (i + 1)) + 1 by omega, Nat.pow_succ, Nat.mul_comm (126 ^ _) 126]
          exact Nat.mul_le_mul_right _ (ze_b126 _ (by omega) _ (by omega))
        · rw [if_neg hl]
          exact Nat.pow_pos (by decide)
      · rw [if_neg eg, List.length_append]
        by_cases h25 : c < 25
        · rw [if_pos h25]
          have i1 := ih (zw_c C c) i (c + 5) hi (by omega)
          rw [show 5 - (c + 5) / 5 = 4 - c / 5 by omega, show (c + 5) % 5 = c % 5 by omega] at i1
          rw [show 5 - c / 5 = (4 - c / 5) + 1 by omega]
          by_cases hr : c % 5 < g i % 5
          · rw [if_pos hr]
            have i2 := ih (zw_c C c) i (c + 1) hi (by omega)
            rw [show 5 - (c + 1) / 5 = (4 - c / 5) + 1 by omega, show g i % 5 - (c + 1) % 5 = g i % 5 - c % 5 - 1 by omega] at i2
            generalize hb : g i % 5 - c % 5 = b at i1 i2
            obtain ⟨b', rfl⟩ : ∃ b', b = b' + 1 := ⟨b - 1, by omega⟩
            rw [Nat.add_sub_cancel] at i2
            show _ ≤ (ze_b (4 - c / 5 + 1) b' + ze_b (4 - c / 5) (b' + 1)) * _
            rw [Nat.add_mul]
            omega
          · rw [if_neg hr]
            rw [show g i % 5 - c % 5 = 0 by omega] at i1
            rw [show g i % 5 - c % 5 = 0 by omega]
            exact i1
        · rw [if_neg h25, show 5 - c / 5 = 0 by omega]
          show 0 + _ ≤ 1 * _
          by_cases hr : c % 5 < g i % 5
          · rw [if_pos hr]
            have i2 := ih (zw_c C c) i (c + 1) hi (by omega)
            rw [show 5 - (c + 1) / 5 = 0 by omega] at i2
            rw [Nat.zero_add]
            exact i2
          · rw [if_neg hr]
            exact Nat.zero_le _
theorem ze_small {n : Nat} {s g : Nat → Nat} (ok : ze_ok n s g) (d : Nat) (C : Nat → Bool) {i c : Nat} (hi : i < n) (hc : c < 30) :
    (ze_en n s g d C i c).length < 2 ^ 31 := by
  obtain ⟨h1, hn, hs, hsm, hg, hgm⟩ := id ok
  have gi := hg i hi
  refine Nat.lt_of_le_of_lt (ze_len ok d C i c hi hc) ?_
  refine Nat.lt_of_le_of_lt (Nat.mul_le_mul (ze_b126 _ (by omega) _ (by omega)) (Nat.pow_le_pow_right (by decide) (show n - 1 - i ≤ 3 by omega))) ?_
  decide
end
section
/-! the reference's search as a stack of frames (cell, owner, ways tried), the last cell first -/
def zy_tk (st : List (Nat × Nat × Nat)) (x : Nat) : Bool := st.any (fun p => p.1 == x)
theorem zy_tk_c (c o t : Nat) (r : List (Nat × Nat × Nat)) (x : Nat) : zy_tk ((c, o, t) :: r) x = (c == x || zy_tk r x) := rfl
def zy_ps (B : Nat → Bool) (x o : Nat) (st : List (Nat × Nat × Nat)) : List (Nat × Nat × Nat) :=
  if (B x || zy_tk st x) = true then st else (x, o, 0) :: st
def zy_go (n : Nat) (s g : Nat → Nat) (B : Nat → Bool) : List (Nat × Nat × Nat) → List (Nat × Nat × Nat)
  | [] => []
  | (c, o, t) :: r =>
    if t = 2 then r
    else if c = g o then
      (if t = 0 then (if o + 1 < n then zy_ps B (s (o + 1)) (o + 1) ((c, o, t + 1) :: r) else (c, o, t + 1) :: r) else (c, o, t + 1) :: r)
    else if t = 0 then (if c < 25 then zy_ps B (c + 5) o ((c, o, t + 1) :: r) else (c, o, t + 1) :: r)
    else (if c % 5 < g o % 5 then zy_ps B (c + 1) o ((c, o, t + 1) :: r) else (c, o, t + 1) :: r)
def zy_cm (n : Nat) (g : Nat → Nat) : List (Nat × Nat × Nat) → Bool
  | [] => false
  | (c, o, t) :: _ => c == g (n - 1) && o == n - 1 && t == 0
def zy_rn (n : Nat) (s g : Nat → Nat) (B : Nat → Bool) : Nat → List (Nat × Nat × Nat) → List (List (Nat × Nat × Nat))
  | 0, _ => []
  | N + 1, st => (if zy_cm n g st = true then [st] else []) ++ zy_rn n s g B N (zy_go n s g B st)
def zy_it (n : Nat) (s g : Nat → Nat) (B : Nat → Bool) : Nat → List (Nat × Nat × Nat) → List (Nat × Nat × Nat)
  | 0, st => st
  | N + 1, st => zy_it n s g B N (zy_go n s g B st)
def zy_pr (st : List (Nat × Nat × Nat)) : List (Nat × Nat) := (st.map (fun p => (p.1, p.2.1))).reverse
theorem zy_pr_c (c o t : Nat) (r : List (Nat × Nat × Nat)) : zy_pr ((c, o, t) :: r) = zy_pr r ++ [(c, o)] := by
  unfold zy_pr
  rw [List.map_cons, List.reverse_cons]
/-- from a stack to another, by some steps, meeting these families -/
def zy_S (n : Nat) (s g : Nat → Nat) (B : Nat → Bool) (st : List (Nat × Nat × Nat)) (L : List (List (Nat × Nat))) (st' : List (Nat × Nat × Nat)) : Prop :=
  ∃ N, ∀ K, (zy_rn n s g B (N + K) st).map zy_pr = L ++ (zy_rn n s g B K st').map zy_pr ∧ zy_it n s g B (N + K) st = zy_it n s g B K st'
theorem zy_S_0 (n : Nat) (s g : Nat → Nat) (B : Nat → Bool) (st : List (Nat × Nat × Nat)) : zy_S n s g B st [] st :=
  ⟨0, fun K => by rw [Nat.zero_add]; exact ⟨rfl, rfl⟩⟩
theorem zy_S_t {n : Nat} {s g : Nat → Nat} {B : Nat → Bool} {a b c : List (Nat × Nat × Nat)} {L M : List (List (Nat × Nat))}
    (h : zy_S n s g B a L b) (k : zy_S n s g B b M c) : zy_S n s g B a (L ++ M) c := by
  obtain ⟨N, hN⟩ := h
  obtain ⟨P, hP⟩ := k
  refine ⟨N + P, fun K => ?_⟩
  rw [Nat.add_assoc, (hN (P + K)).1, (hN (P + K)).2, (hP K).1, (hP K).2, List.append_assoc]
  exact ⟨rfl, rfl⟩
theorem zy_S_1 {n : Nat} {s g : Nat → Nat} {B : Nat → Bool} {a b : List (Nat × Nat × Nat)} (h : zy_cm n g a = false) (e : zy_go n s g B a = b) : zy_S n s g B a [] b := by
  refine ⟨1, fun K => ?_⟩
  rw [Nat.add_comm 1 K]
  show (List.map zy_pr ((if zy_cm n g a = true then [a] else []) ++ zy_rn n s g B K (zy_go n s g B a))) = _ ∧ zy_it n s g B K (zy_go n s g B a) = _
  rw [h, e]
  exact ⟨rfl, rfl⟩
theorem zy_S_2 {n : Nat} {s g : Nat → Nat} {B : Nat → Bool} {a b : List (Nat × Nat × Nat)} (h : zy_cm n g a = true) (e : zy_go n s g B a = b) : zy_S n s g B a [zy_pr a] b := by
  refine ⟨1, fun K => ?_⟩
  rw [Nat.add_comm 1 K]
  show (List.map zy_pr ((if zy_cm n g a = true then [a] else []) ++ zy_rn n s g B K (zy_go n s g B a))) = _ ∧ zy_it n s g B K (zy_go n s g B a) = _
  rw [if_pos h, e]
  exact ⟨rfl, rfl⟩
theorem zy_cm_t {n : Nat} {g : Nat → Nat} {c o t : Nat} {r : List (Nat × Nat × Nat)} (h : t ≠ 0) : zy_cm n g ((c, o, t) :: r) = false := by
  show (c == g (n - 1) && o == n - 1 && t == 0) = false
  simp [h]
theorem zy_out {n : Nat} {s g : Nat → Nat} {B : Nat → Bool} {c o : Nat} {r : List (Nat × Nat × Nat)} : zy_S n s g B ((c, o, 2) :: r) [] r :=
  zy_S_1 (zy_cm_t (by decide)) (by rfl)
theorem zy_sim {n : Nat} {s g : Nat → Nat} (ok : ze_ok n s g) (B : Nat → Bool) :
    ∀ (d : Nat) (C : Nat → Bool) (i c : Nat) (r : List (Nat × Nat × Nat)), i < n → c < 30 → 10 * (n - 1 - i) + 10 ≤ d + c / 5 + c % 5 →
      (∀ x, C x = (B x || zy_tk r x)) →
      zy_S n s g B (zy_ps B c i r) ((ze_en n s g d C i c).map (fun f => zy_pr r ++ f)) r := by
  obtain ⟨h1, hn, hs, hsm, hg, hgm⟩ := id ok
  intro d
  induction d with
  | zero => intro C i c r hi hc hd; omega
  | succ d ih =>
    intro C i c r hi hc hd hT
    unfold ze_en
    by_cases hC : C c = true
    · rw [if_pos hC]
      unfold zy_ps
      rw [if_pos (by rw [← hT c]; exact hC)]
      exact zy_S_0 _ _ _ _ _
    · rw [if_neg hC]
      unfold zy_ps
      rw [if_neg (by rw [← hT c]; exact hC), List.map_map]
      have hT' : ∀ t x, zw_c C c x = (B x || zy_tk ((c, i, t) :: r) x) := by
        intro t x
        rw [zy_tk_c]
        unfold zw_c
        by_cases e : x = c
        · rw [if_pos e, e]; simp
        · rw [if_neg e, hT x, show (c == x) = false by simp; omega]; rfl
      have hm : ∀ t (L : List (List (Nat × Nat))), L.map (fun f => zy_pr ((c, i, t) :: r) ++ f) = L.map ((fun f => zy_pr r ++ f) ∘ fun f => (c, i) :: f) := by
        intro t L
        refine List.map_congr_left (fun f _ => ?_)
        show zy_pr ((c, i, t) :: r) ++ f = zy_pr r ++ ((c, i) :: f)
        rw [zy_pr_c, List.append_assoc]
        rfl
      by_cases eg : c = g i
      · rw [if_pos eg]
        have s1 : zy_S n s g B ((c, i, 1) :: r) [] r := zy_S_t (L := []) (M := []) (zy_S_1 (zy_cm_t (by decide)) (by
          show (if 1 = 2 then r else if c = g i then _ else _) = (c, i, 2) :: r
          rw [if_neg (by decide), if_pos eg]
          rfl)) zy_out
        by_cases hl : i + 1 < n
        · rw [if_pos hl]
          have hsl := hs (i + 1) hl
          have s0 : zy_S n s g B ((c, i, 0) :: r) [] (zy_ps B (s (i + 1)) (i + 1) ((c, i, 1) :: r)) := zy_S_1 (by
            show (c == g (n - 1) && i == n - 1 && 0 == 0) = false
            rw [show (i == n - 1) = false by simp; omega]
            simp) (by
            show (if 0 = 2 then r else if c = g i then _ else _) = _
            rw [if_neg (by decide), if_pos eg, if_pos rfl, if_pos hl])
          have s2 := ih (zw_c C c) (i + 1) (s (i + 1)) ((c, i, 1) :: r) hl (by omega) (by omega) (hT' 1)
          rw [hm 1] at s2
          have s3 := zy_S_t s0 (zy_S_t s2 s1)
          rw [List.append_nil, List.nil_append] at s3
          exact s3
        · rw [if_neg hl]
          have s0 : zy_S n s g B ((c, i, 0) :: r) [zy_pr ((c, i, 0) :: r)] ((c, i, 1) :: r) := zy_S_2 (by
            show (c == g (n - 1) && i == n - 1 && 0 == 0) = true
            rw [show n - 1 = i by omega, ← eg]
            simp) (by
            show (if 0 = 2 then r else if c = g i then _ else _) = _
            rw [if_neg (by decide), if_pos eg, if_pos rfl, if_neg hl])
          have s3 := zy_S_t s0 s1
          rw [List.append_nil, zy_pr_c] at s3
          exact s3
      · rw [if_neg eg, List.map_append]
        have gi := hg i hi
        have hcm : zy_cm n g ((c, i, 0) :: r) = false := by
          show (c == g (n - 1) && i == n - 1 && 0 == 0) = false
          by_cases e : i = n - 1
          · rw [← e, show (c == g i) = false by simp [eg]]
            rfl
          · rw [show (i == n - 1) = false by simp [e]]
            simp
        have s0 : zy_S n s g B ((c, i, 0) :: r) ((if c < 25 then ze_en n s g d (zw_c C c) i (c + 5) else []).map ((fun f => zy_pr r ++ f) ∘ fun f => (c, i) :: f)) ((c, i, 1) :: r) := by
          by_cases h25 : c < 25
          · rw [if_pos h25]
            have a0 : zy_S n s g B ((c, i, 0) :: r) [] (zy_ps B (c + 5) i ((c, i, 1) :: r)) := zy_S_1 hcm (by
              show (if 0 = 2 then r else if c = g i then _ else _) = _
              rw [if_neg (by decide), if_neg eg, if_pos rfl, if_pos h25])
            have a1 := ih (zw_c C c) i (c + 5) ((c, i, 1) :: r) hi (by omega) (by omega) (hT' 1)
            rw [hm 1] at a1
            exact zy_S_t (L := []) a0 a1
          · rw [if_neg h25]
            exact zy_S_1 hcm (by
              show (if 0 = 2 then r else if c = g i then _ else _) = _
              rw [if_neg (by decide), if_neg eg, if_pos rfl, if_neg h25])
        have s1 : zy_S n s g B ((c, i, 1) :: r) ((if c % 5 < g i % 5 then ze_en n s g d (zw_c C c) i (c + 1) else []).map ((fun f => zy_pr r ++ f) ∘ fun f => (c, i) :: f)) ((c, i, 2) :: r) := by
          by_cases hr : c % 5 < g i % 5
          · rw [if_pos hr]
            have a0 : zy_S n s g B ((c, i, 1) :: r) [] (zy_ps B (c + 1) i ((c, i, 2) :: r)) := zy_S_1 (zy_cm_t (by decide)) (by
              show (if 1 = 2 then r else if c = g i then _ else _) = _
              rw [if_neg (by decide), if_neg eg, if_neg (by decide), if_pos hr])
            have a1 := ih (zw_c C c) i (c + 1) ((c, i, 2) :: r) hi (by omega) (by omega) (hT' 2)
            rw [hm 2] at a1
            exact zy_S_t (L := []) a0 a1
          · rw [if_neg hr]
            exact zy_S_1 (zy_cm_t (by decide)) (by
              show (if 1 = 2 then r else if c = g i then _ else _) = _
              rw [if_neg (by decide), if_neg eg, if_neg (by decide), if_neg hr])
        have s3 := zy_S_t s0 (zy_S_t s1 zy_out)
        rw [List.append_nil] at s3
        exact s3
/-- the whole search -/
theorem zy_all {n : Nat} {s g : Nat → Nat} (ok : ze_ok n s g) (B : Nat → Bool) :
    ∃ N, (zy_rn n s g B N (zy_ps B (s 0) 0 [])).map zy_pr = ze_en n s g 40 B 0 (s 0) ∧ zy_it n s g B N (zy_ps B (s 0) 0 []) = [] := by
  obtain ⟨h1, hn, hs, hsm, hg, hgm⟩ := id ok
  have h0 := hs 0 (by omega)
  obtain ⟨N, hN⟩ := zy_sim ok B 40 B 0 (s 0) [] (by omega) (by omega) (by omega) (fun x => by
    show B x = (B x || false)
    simp)
  refine ⟨N, ?_⟩
  have h := hN 0
  rw [Nat.add_zero] at h
  refine ⟨?_, h.2⟩
  rw [h.1]
  show List.map (fun f => f) _ ++ [] = _
  rw [List.append_nil, List.map_id']
/-- frames that are sound -/
def zy_wf (n : Nat) : List (Nat × Nat × Nat) → Prop
  | [] => True
  | (c, o, t) :: r => c < 30 ∧ o < n ∧ t ≤ 2 ∧ r.length ≤ 10 * o + c / 5 + c % 5 ∧ zy_tk r c = false ∧ zy_wf n r
theorem zy_wf_ps {n : Nat} {B : Nat → Bool} {x o : Nat} {st : List (Nat × Nat × Nat)} (h : zy_wf n st) (hx : x < 30) (ho : o < n)
    (hl : st.length ≤ 10 * o + x / 5 + x % 5) : zy_wf n (zy_ps B x o st) := by
  unfold zy_ps
  by_cases e : (B x || zy_tk st x) = true
  · rw [if_pos e]; exact h
  · rw [if_neg e]
    refine ⟨hx, ho, Nat.zero_le _, hl, ?_, h⟩
    simp at e
    exact e.2
theorem zy_wf_go {n : Nat} {s g : Nat → Nat} (ok : ze_ok n s g) (B : Nat → Bool) {st : List (Nat × Nat × Nat)} (h : zy_wf n st) : zy_wf n (zy_go n s g B st) := by
  obtain ⟨h1, hn, hs, hsm, hg, hgm⟩ := id ok
  match st, h with
  | [], _ => exact trivial
  | (c, o, t) :: r, h =>
    obtain ⟨hc, ho, ht, hl, hk, hr⟩ := h
    have go := hg o ho
    unfold zy_go
    dsimp only
    by_cases e2 : t = 2
    · rw [if_pos e2]; exact hr
    · rw [if_neg e2]
      have hw : zy_wf n ((c, o, t + 1) :: r) := ⟨hc, ho, by omega, hl, hk, hr⟩
      have hL : ((c, o, t + 1) :: r).length = r.length + 1 := rfl
      by_cases eg : c = g o
      · rw [if_pos eg]
        by_cases e0 : t = 0
        · rw [if_pos e0]
          by_cases hl2 : o + 1 < n
          · rw [if_pos hl2]
            have := hs (o + 1) hl2
            exact zy_wf_ps hw (by omega) hl2 (by omega)
          · rw [if_neg hl2]; exact hw
        · rw [if_neg e0]; exact hw
      · rw [if_neg eg]
        by_cases e0 : t = 0
        · rw [if_pos e0]
          by_cases h25 : c < 25
          · rw [if_pos h25]
            exact zy_wf_ps hw (by omega) ho (by omega)
          · rw [if_neg h25]; exact hw
        · rw [if_neg e0]
          by_cases hr2 : c % 5 < g o % 5
          · rw [if_pos hr2]
            exact zy_wf_ps hw (by omega) ho (by omega)
          · rw [if_neg hr2]; exact hw
end
section
/-! the component: ways, matrix, determinant, count -/
/-- closed cells of two arrays -/
def zx_C (bl cl : Nat → Int32) (x : Nat) : Bool := decide (¬ bl x = 0) || decide (¬ cl x = 0)
def zx_w (p : Int32) (we : Nat → Int32) (x : Nat) : Int32 := if p = 0 then 1 else we x
theorem zx_C0 {bl cl : Nat → Int32} {x : Nat} (h : bl x = 0) (k : cl x = 0) : ¬ zx_C bl cl x = true := by simp [zx_C, h, k]
theorem zx_C1 {bl cl : Nat → Int32} {x : Nat} (h : ¬ bl x = 0) : zx_C bl cl x = true := by simp [zx_C, h]
theorem zx_C2 {bl cl : Nat → Int32} {x : Nat} (h : ¬ cl x = 0) : zx_C bl cl x = true := by simp [zx_C, h]
section
variable {mn xl nb : Int32} {bl we st gl cl fr xw ma sz pa : Nat → Int32}
theorem zx_fw86 {post : SX → Prop} {J : Int32 → (Nat → Int32) → (Nat → Int32) → (Nat → Int32) → (Nat → Int32) → (Nat → Int32) → (Nat → Int32) → (Nat → Int32) → (Nat → Int32) → (Nat → Int32) → (Nat → Int32) → Prop}
    {x1 x2 x6 z0 : Int32} {j : Nat} (hj : j < 30)
    (h : J (nI (j + 1)) bl we st gl cl fr (upd xw j (if zx_C bl cl j = true then 0 else x6 * z0)) ma sz pa) :
    wX_findWays_86 post J x1 x2 (nI j) x6 z0 mn xl nb bl we st gl cl fr xw ma sz pa := by
  have hc : (nI j).toNatClampNeg = j := nI_clamp (by omega)
  have hi : vp_in (nI j) 30 := vp_in_nI hj (by decide)
  unfold wX_findWays_86
  rw [hc]
  refine ⟨hi, ?_⟩
  by_cases hb : bl j = 0
  · refine br_t hb ⟨hi, ?_⟩
    by_cases hl : cl j = 0
    · refine br_t hl ⟨hi, nm_e (nm_r (nI_1 j) ?_)⟩
      rw [if_neg (zx_C0 hb hl)] at h
      exact h
    · refine br_f hl ⟨hi, nm_e (nm_r (nI_1 j) ?_)⟩
      rw [if_pos (zx_C2 hl)] at h
      exact h
  · refine br_f hb ⟨hi, nm_e (nm_r (nI_1 j) ?_)⟩
    rw [if_pos (zx_C1 hb)] at h
    exact h
theorem zx_fw70 {post : SX → Prop} {J : Int32 → (Nat → Int32) → (Nat → Int32) → (Nat → Int32) → (Nat → Int32) → (Nat → Int32) → (Nat → Int32) → (Nat → Int32) → (Nat → Int32) → (Nat → Int32) → (Nat → Int32) → Prop}
    {x1 p z0 : Int32} {j : Nat} (hj : j < 30)
    (h : J (nI (j + 1)) bl we st gl cl fr (upd xw j (if zx_C bl cl j = true then 0 else z0 * zx_w p we j)) ma sz pa) :
    wX_findWays_70 post J x1 p (nI j) z0 mn xl nb bl we st gl cl fr xw ma sz pa := by
  have hc : (nI j).toNatClampNeg = j := nI_clamp (by omega)
  have hi : vp_in (nI j) 30 := vp_in_nI hj (by decide)
  unfold wX_findWays_70
  rw [hc]
  unfold zx_w at h
  by_cases hp : p = 0
  · rw [if_pos hp] at h
    exact br_t hp (zx_fw86 hj h)
  · rw [if_neg hp] at h
    exact br_f hp ⟨hi, zx_fw86 hj h⟩
theorem zx_fw45 {post : SX → Prop} {J : Int32 → (Nat → Int32) → (Nat → Int32) → (Nat → Int32) → (Nat → Int32) → (Nat → Int32) → (Nat → Int32) → (Nat → Int32) → (Nat → Int32) → (Nat → Int32) → (Nat → Int32) → Prop}
    {p x4 z0 : Int32} {c j : Nat} (hc : c < 30) (hj : j < 30)
    (h : J (nI (j + 1)) bl we st gl cl fr (upd xw j (if zx_C bl cl j = true then 0 else (if j < c then 0 else if j = c then 1 else x4 + z0) * zx_w p we j)) ma sz pa) :
    wX_findWays_45 post J (nI c) p (nI j) x4 z0 mn xl nb bl we st gl cl fr xw ma sz pa := by
  unfold wX_findWays_45
  by_cases h1 : j < c
  · rw [if_pos h1] at h
    exact br_f (nI_ge h1 (by omega)) (zx_fw70 hj h)
  · rw [if_neg h1] at h
    refine br_t (nI_le (by omega) (by omega)) ?_
    by_cases h2 : j = c
    · rw [if_pos h2] at h
      exact br_t (by rw [h2]) (zx_fw70 hj h)
    · rw [if_neg h2] at h
      exact br_f (fun e => h2 ((nI_eq (by omega) (by omega)).mp e)) (zx_fw70 hj h)
theorem zx_fw26 {post : SX → Prop} {J : Int32 → (Nat → Int32) → (Nat → Int32) → (Nat → Int32) → (Nat → Int32) → (Nat → Int32) → (Nat → Int32) → (Nat → Int32) → (Nat → Int32) → (Nat → Int32) → (Nat → Int32) → Prop}
    {p z0 : Int32} {c j : Nat} (hc : c < 30) (hj : j < 30)
    (h : J (nI (j + 1)) bl we st gl cl fr (upd xw j (if zx_C bl cl j = true then 0 else (if j < c then 0 else if j = c then 1 else z0 + (if 5 ≤ j then xw (j - 5) else 0)) * zx_w p we j)) ma sz pa) :
    wX_findWays_26 post J (nI c) p (nI j) z0 mn xl nb bl we st gl cl fr xw ma sz pa := by
  unfold wX_findWays_26
  by_cases h1 : 5 ≤ j
  · have e : nI j - 5 = nI (j - 5) := pk_sub (b := 5) h1
    rw [e, nI_clamp (show j - 5 < 2 ^ 31 by omega)]
    rw [if_pos h1] at h
    exact br_f (nI_nlt (b := 5) h1 (by omega)) ⟨vp_in_nI (by omega) (by decide), zx_fw45 hc hj h⟩
  · rw [if_neg h1] at h
    exact br_t (nI_lt (b := 5) (by omega) (by decide)) (zx_fw45 hc hj h)
theorem zx_fw2 {post : SX → Prop} {p : Int32} {c : Nat} (hc : c < 30)
    (H : ∀ xw' : Nat → Int32, (∀ k, k < 30 → xw' k = zw_g (zx_C bl cl) (zx_w p we) (zw_d c) k) → post (mn, xl, nb, bl, we, st, gl, cl, fr, xw', ma, sz, pa)) :
    ∀ (d j : Nat) (xw : Nat → Int32), j + d = 30 → (∀ k, k < j → xw k = zw_g (zx_C bl cl) (zx_w p we) (zw_d c) k) →
      wX_findWays_2 post (nI c) p mn xl nb (d + 1) (nI j) bl we st gl cl fr xw ma sz pa := by
  intro d
  induction d with
  | zero =>
    intro j xw hj hx
    refine br_t (nI_le (a := 30) (by omega) (by omega)) (H xw (fun k hk => hx k (by omega)))
  | succ d ih =>
    intro j xw hj hx
    refine br_f (nI_ge (b := 30) (by omega) (by decide)) ⟨by decide, ?_⟩
    have e5 : nI j - nI j / 5 * 5 = nI (j % 5) := pk_rem (d := 5) (by omega) (by decide) (by decide)
    rw [e5]
    have hv : ∀ a : Int32, a = (if 0 < j % 5 then xw (j - 1) else 0) →
        (if zx_C bl cl j = true then 0 else (if j < c then 0 else if j = c then 1 else a + (if 5 ≤ j then xw (j - 5) else 0)) * zx_w p we j)
          = zw_g (zx_C bl cl) (zx_w p we) (zw_d c) j := by
      intro a ha
      rw [zw_x, ha]
      unfold zw_in
      have a1 : (if 0 < j % 5 then xw (j - 1) else 0) = (if 0 < j % 5 then zw_g (zx_C bl cl) (zx_w p we) (zw_d c) (j - 1) else 0) := by
        by_cases h : 0 < j % 5
        · rw [if_pos h, if_pos h, hx _ (by omega)]
        · rw [if_neg h, if_neg h]
      have a5 : (if 5 ≤ j then xw (j - 5) else 0) = (if 5 ≤ j then zw_g (zx_C bl cl) (zx_w p we) (zw_d c) (j - 5) else 0) := by
        by_cases h : 5 ≤ j
        · rw [if_pos h, if_pos h, hx _ (by omega)]
        · rw [if_neg h, if_neg h]
      rw [a1, a5]
    have hx' : ∀ k, k < j + 1 → upd xw j (zw_g (zx_C bl cl) (zx_w p we) (zw_d c) j) k = zw_g (zx_C bl cl) (zx_w p we) (zw_d c) k := by
      intro k hk
      by_cases e : k = j
      · rw [e, pk_us]
      · rw [pk_un e, hx k (by omega)]
    by_cases h : 0 < j % 5
    · have e : nI j - 1 = nI (j - 1) := pk_sub (b := 1) (by omega)
      rw [e, nI_clamp (show j - 1 < 2 ^ 31 by omega)]
      refine br_f (nI_nle h (by omega)) ⟨vp_in_nI (by omega) (by decide), zx_fw26 hc (by omega) ?_⟩
      rw [hv _ (by rw [if_pos h])]
      exact ih (j + 1) _ (by omega) hx'
    · refine br_t (by rw [show j % 5 = 0 by omega]; decide) (zx_fw26 hc (by omega) ?_)
      rw [hv _ (by rw [if_neg h])]
      exact ih (j + 1) _ (by omega) hx'
theorem zx_fw {post : SX → Prop} {p : Int32} {c : Nat} (hc : c < 30)
    (H : ∀ xw' : Nat → Int32, (∀ k, k < 30 → xw' k = zw_g (zx_C bl cl) (zx_w p we) (zw_d c) k) → post (mn, xl, nb, bl, we, st, gl, cl, fr, xw', ma, sz, pa)) :
    wpX_findWays post (mn, xl, nb, bl, we, st, gl, cl, fr, xw, ma, sz, pa) (nI c) p :=
  ⟨31, zx_fw2 hc H 30 0 xw rfl (fun k hk => absurd hk (Nat.not_lt_zero k))⟩
/-- the matrix -/
theorem zx_fm24 {post : SX → Prop} {J : Int32 → Int32 → Int32 → Int32 → (Nat → Int32) → (Nat → Int32) → (Nat → Int32) → (Nat → Int32) → (Nat → Int32) → (Nat → Int32) → (Nat → Int32) → (Nat → Int32) → (Nat → Int32) → (Nat → Int32) → Prop}
    {x1 x2 : Int32} {n f i : Nat} {g : Nat → Nat} (hn : n ≤ 4) (hi : i < n) (hg : ∀ j, j < n → gl j = nI (g j) ∧ g j < 30)
    (V : Nat → Nat → Int32) (hV : ∀ b, b < n → xw (g b) = V i b)
    (H : ∀ ma' : Nat → Int32, (∀ a b, f ≤ a → a < i + 1 → f ≤ b → b < n → ma' (4 * a + b) = V a b) → J (nI (i + 1)) (nI n) xl nb bl we st gl cl fr xw ma' sz pa) :
    ∀ (d j : Nat) (ma : Nat → Int32), j + d = n → f ≤ j → (∀ a b, f ≤ a → a < i → f ≤ b → b < n → ma (4 * a + b) = V a b) →
      (∀ b, f ≤ b → b < j → ma (4 * i + b) = V i b) →
      wX_fillMatrix_24 post J x1 x2 (nI i) (nI n) xl nb (d + 1) (nI j) bl we st gl cl fr xw ma sz pa := by
  intro d
  induction d with
  | zero =>
    intro j ma hj hf h1 h2
    refine br_t (nI_le (by omega) (by omega)) (nm_r (nI_1 i) (H ma (fun a b ha hb hc hd => ?_)))
    by_cases e : a = i
    · rw [e]; exact h2 b hc (by omega)
    · exact h1 a b ha (by omega) hc hd
  | succ d ih =>
    intro j ma hj hf h1 h2
    refine br_f (nI_ge (by omega) (by omega)) ?_
    rw [nI_clamp (show j < 2 ^ 31 by omega), (hg j (by omega)).1, nI_clamp (show g j < 2 ^ 31 by have := (hg j (by omega)).2; omega),
      show (4 * nI i : Int32) = nI (4 * i) from pk_mul 4 i, nI_add, nI_clamp (show 4 * i + j < 2 ^ 31 by omega)]
    refine ⟨vp_in_nI (by omega) (by decide), vp_in_nI (hg j (by omega)).2 (by decide), vp_in_nI (by omega) (by decide), nm_e (nm_r (nI_1 j) ?_)⟩
    refine ih (j + 1) _ (by omega) (by omega) (fun a b ha hb hc hd => ?_) (fun b hb hc => ?_)
    · rw [pk_un (by omega)]; exact h1 a b ha hb hc hd
    · by_cases e : b = j
      · rw [e, pk_us]; exact hV j (by omega)
      · rw [pk_un (by omega)]; exact h2 b hb (by omega)
theorem zx_fm2 {post : SX → Prop} {p : Int32} {n f : Nat} {F g : Nat → Nat} (hn : n ≤ 4) (hg : ∀ j, j < n → gl j = nI (g j) ∧ g j < 30)
    (hF : ∀ a, f ≤ a → a < n → fr a = nI (F a) ∧ F a < 30)
    (H : ∀ xw' ma' : Nat → Int32, (∀ a b, f ≤ a → a < n → f ≤ b → b < n → ma' (4 * a + b) = zw_g (zx_C bl cl) (zx_w p we) (zw_d (F a)) (g b)) → post (nI n, xl, nb, bl, we, st, gl, cl, fr, xw', ma', sz, pa)) :
    ∀ (d i : Nat) (xw ma : Nat → Int32), i + d = n → f ≤ i →
      (∀ a b, f ≤ a → a < i → f ≤ b → b < n → ma (4 * a + b) = zw_g (zx_C bl cl) (zx_w p we) (zw_d (F a)) (g b)) →
      wX_fillMatrix_2 post (nI f) p (d + 1) (nI i) (nI n) xl nb bl we st gl cl fr xw ma sz pa := by
  intro d
  induction d with
  | zero =>
    intro i xw ma hi hf h1
    exact br_t (nI_le (by omega) (by omega)) (H xw ma (fun a b ha hb hc hd => h1 a b ha (by omega) hc hd))
  | succ d ih =>
    intro i xw ma hi hf h1
    refine br_f (nI_ge (by omega) (by omega)) ⟨vp_in_nI (by omega) (by decide), ?_⟩
    rw [nI_clamp (show i < 2 ^ 31 by omega), (hF i hf (by omega)).1]
    refine zx_fw (hF i hf (by omega)).2 (fun xw' hxw => ?_)
    refine ⟨n - f + 1, zx_fm24 (f := f) hn (by omega) hg (fun a b => zw_g (zx_C bl cl) (zx_w p we) (zw_d (F a)) (g b)) (fun b hb => hxw _ (hg b hb).2)
      (fun ma' hm => ?_) (n - f) f ma (by omega) (Nat.le_refl f) h1 (fun b hb hc => by omega)⟩
    exact ih (i + 1) xw' ma' (by omega) (by omega) hm
theorem zx_fm {post : SX → Prop} {p : Int32} {n f : Nat} {F g : Nat → Nat} (hn : n ≤ 4) (hf : f ≤ n) (hg : ∀ j, j < n → gl j = nI (g j) ∧ g j < 30)
    (hF : ∀ a, f ≤ a → a < n → fr a = nI (F a) ∧ F a < 30)
    (H : ∀ xw' ma' : Nat → Int32, (∀ a b, f ≤ a → a < n → f ≤ b → b < n → ma' (4 * a + b) = zw_g (zx_C bl cl) (zx_w p we) (zw_d (F a)) (g b)) → post (nI n, xl, nb, bl, we, st, gl, cl, fr, xw', ma', sz, pa)) :
    wpX_fillMatrix post (nI n, xl, nb, bl, we, st, gl, cl, fr, xw, ma, sz, pa) (nI f) p :=
  ⟨n - f + 1, zx_fm2 hn hg hF H (n - f) f xw ma (by omega) (Nat.le_refl f) (fun a b ha hb => by omega)⟩
end
end
section
/-! the component: determinant and count -/
def zx_e (k : Nat) : Nat := if k / 4 = 0 then (if k % 4 = 1 then 2 else 1) else 0
def zx_acc (R : Nat → Nat → Int32) : Nat → Int32
  | 0 => 0
  | k + 1 => if k / 4 < k % 4 then
      (if (k / 4 + k % 4) % 2 = 1 then zx_acc R k + zd_2 R 0 1 (k / 4) (k % 4) * zd_2 R 2 3 (zx_e k) (6 - k / 4 - k % 4 - zx_e k)
        else zx_acc R k - zd_2 R 0 1 (k / 4) (k % 4) * zd_2 R 2 3 (zx_e k) (6 - k / 4 - k % 4 - zx_e k))
      else zx_acc R k
theorem zx_acc16 (R : Nat → Nat → Int32) : zx_acc R 16 = zd_4 R := by
  have e : zx_acc R 16 = 0 + zd_2 R 0 1 0 1 * zd_2 R 2 3 2 3 - zd_2 R 0 1 0 2 * zd_2 R 2 3 1 3 + zd_2 R 0 1 0 3 * zd_2 R 2 3 1 2
    + zd_2 R 0 1 1 2 * zd_2 R 2 3 0 3 - zd_2 R 0 1 1 3 * zd_2 R 2 3 0 2 + zd_2 R 0 1 2 3 * zd_2 R 2 3 0 1 := rfl
  rw [e, Int32.zero_add]
  rfl
theorem zx_k16 : ∀ k, k < 16 → nI k >>> ((2 : Int32) &&& 31) = nI (k / 4) ∧ nI k &&& 3 = nI (k % 4) := by decide
theorem zx_f16 : ∀ k, k < 16 → k / 4 < k % 4 → ((6 - nI (k / 4)) - nI (k % 4)) - nI (zx_e k) = nI (6 - k / 4 - k % 4 - zx_e k) ∧ zx_e k < 4 ∧ 6 - k / 4 - k % 4 - zx_e k < 4 := by decide
section
variable {mn xl nb : Int32} {bl we st gl cl fr xw ma sz pa : Nat → Int32}
theorem zx_two {post : Int32 → Prop} {r s c d : Nat} (hr : r < 4) (hs : s < 4) (hc : c < 4) (hd : d < 4)
    (h : post (zd_2 (fun a b => ma (4 * a + b)) r s c d)) : wpX_two post (mn, xl, nb, bl, we, st, gl, cl, fr, xw, ma, sz, pa) (nI r) (nI s) (nI c) (nI d) := by
  unfold wpX_two
  dsimp only
  rw [show (4 * nI r : Int32) = nI (4 * r) from pk_mul 4 r, show (4 * nI s : Int32) = nI (4 * s) from pk_mul 4 s]
  rw [nI_add (4 * r) c, nI_add (4 * s) d, nI_add (4 * r) d, nI_add (4 * s) c, nI_clamp (show 4 * r + c < 2 ^ 31 by omega), nI_clamp (show 4 * s + d < 2 ^ 31 by omega),
    nI_clamp (show 4 * r + d < 2 ^ 31 by omega), nI_clamp (show 4 * s + c < 2 ^ 31 by omega)]
  exact ⟨vp_in_nI (by omega) (by decide), vp_in_nI (by omega) (by decide), vp_in_nI (by omega) (by decide), vp_in_nI (by omega) (by decide), h⟩
theorem zx_l3 {post : Int32 → Prop} (h : post (zd_3 (fun a b => ma (4 * a + b)))) : wpX_lastThree post (mn, xl, nb, bl, we, st, gl, cl, fr, xw, ma, sz, pa) := by
  unfold wpX_lastThree
  dsimp only
  refine zx_two (r := 2) (s := 3) (c := 2) (d := 3) (by decide) (by decide) (by decide) (by decide) ?_
  refine zx_two (r := 2) (s := 3) (c := 1) (d := 3) (by decide) (by decide) (by decide) (by decide) ?_
  refine zx_two (r := 2) (s := 3) (c := 1) (d := 2) (by decide) (by decide) (by decide) (by decide) ?_
  exact h
theorem zx_a44 {post : Int32 → Prop} {J : Int32 → Int32 → Prop} {x1 : Int32} {k c d e f : Nat} (hc : c < 4) (hd : d < 4) (he : e < 4) (hf : f < 4)
    (hE : ((6 - nI c) - nI d) - nI e = nI f)
    (h1 : (c + d) % 2 = 1 → J (x1 + zd_2 (fun a b => ma (4 * a + b)) 0 1 c d * zd_2 (fun a b => ma (4 * a + b)) 2 3 e f) (nI (k + 1)))
    (h0 : ¬ (c + d) % 2 = 1 → J (x1 - zd_2 (fun a b => ma (4 * a + b)) 0 1 c d * zd_2 (fun a b => ma (4 * a + b)) 2 3 e f) (nI (k + 1))) :
    wX_allFour_44 post J x1 (nI k) (nI c) (nI d) (nI e) mn xl nb bl we st gl cl fr xw ma sz pa := by
  unfold wX_allFour_44
  refine nm_r hE ?_
  refine zx_two (r := 0) (s := 1) (by decide) (by decide) hc hd ?_
  refine zx_two (r := 2) (s := 3) (by decide) (by decide) he hf ?_
  have e1 : (nI c + nI d) &&& 1 = nI ((c + d) % 2) := by
    rw [nI_add, pk_andN (by omega) 1 (by decide)]
  rw [e1]
  by_cases h : (c + d) % 2 = 1
  · exact br_t (by rw [h]; rfl) (nm_e (nm_r (nI_1 k) (h1 h)))
  · exact br_f (by rw [show (c + d) % 2 = 0 by omega]; decide) (nm_e (nm_r (nI_1 k) (h0 h)))
theorem zx_a4 {post : Int32 → Prop} (H : post (zd_4 (fun a b => ma (4 * a + b)))) :
    ∀ (d k : Nat), k + d = 16 → wX_allFour_4 post mn xl nb bl we st gl cl fr xw ma sz pa (d + 1) (zx_acc (fun a b => ma (4 * a + b)) k) (nI k) := by
  intro d
  induction d with
  | zero =>
    intro k hk
    refine br_t (nI_le (a := 16) (by omega) (by omega)) ?_
    rw [show k = 16 by omega, zx_acc16]
    exact H
  | succ d ih =>
    intro k hk
    have i1 := ih (k + 1) (by omega)
    unfold zx_acc at i1
    have e := zx_k16 k (by omega)
    refine br_f (nI_ge (b := 16) (by omega) (by decide)) (nm_r e.1 (nm_r e.2 ?_))
    by_cases h : k / 4 < k % 4
    · rw [if_pos h] at i1
      have f := zx_f16 k (by omega) h
      refine br_f (nI_ge h (by omega)) ?_
      have key : ∀ z : Int32, z = nI (zx_e k) → wX_allFour_44 post (wX_allFour_4 post mn xl nb bl we st gl cl fr xw ma sz pa (d + 1)) (zx_acc (fun a b => ma (4 * a + b)) k) (nI k) (nI (k / 4)) (nI (k % 4)) z mn xl nb bl we st gl cl fr xw ma sz pa := by
        intro z hz
        rw [hz]
        refine zx_a44 (by omega) (by omega) f.2.1 f.2.2 f.1 (fun h1 => ?_) (fun h1 => ?_)
        · rw [if_pos h1] at i1; exact i1
        · rw [if_neg h1] at i1; exact i1
      by_cases h0 : k / 4 = 0
      · refine br_t (by rw [h0]; rfl) ?_
        by_cases h1 : k % 4 = 1
        · exact br_t (by rw [h1]; rfl) (key 2 (by unfold zx_e; rw [if_pos h0, if_pos h1]; rfl))
        · exact br_f (fun z => h1 ((nI_eq (b := 1) (by omega) (by omega)).mp z)) (key 1 (by unfold zx_e; rw [if_pos h0, if_neg h1]; rfl))
      · exact br_f (fun z => h0 ((nI_eq (b := 0) (by omega) (by omega)).mp z)) (key 0 (by unfold zx_e; rw [if_neg h0]; rfl))
    · rw [if_neg h] at i1
      exact br_t (nI_le (by omega) (by omega)) (nm_r (nI_1 k) i1)
theorem zx_a {post : Int32 → Prop} (H : post (zd_4 (fun a b => ma (4 * a + b)))) : wpX_allFour post (mn, xl, nb, bl, we, st, gl, cl, fr, xw, ma, sz, pa) :=
  ⟨17, zx_a4 H 16 0 rfl⟩
theorem zx_d50 {post : Int32 → SX → Prop} {J : Int32 → (Nat → Int32) → (Nat → Int32) → (Nat → Int32) → (Nat → Int32) → (Nat → Int32) → (Nat → Int32) → (Nat → Int32) → (Nat → Int32) → (Nat → Int32) → (Nat → Int32) → Prop}
    {x1 z0 : Int32} {k i j : Nat} (hk : k < 16) (hi : i < 4) (hj : j < 4)
    (h : J (nI (k + 1)) bl we st gl cl fr xw (upd ma k (if z0 = 0 then (if i = j then 1 else 0) else ma k)) sz pa) :
    wX_determinant_50 post J x1 (nI k) (nI i) (nI j) z0 mn xl nb bl we st gl cl fr xw ma sz pa := by
  have hc : (nI k).toNatClampNeg = k := nI_clamp (by omega)
  have hv : vp_in (nI k) 16 := vp_in_nI hk (by decide)
  unfold wX_determinant_50
  rw [hc]
  by_cases hz : z0 = 0
  · rw [if_pos hz] at h
    refine br_t hz ?_
    by_cases e : i = j
    · rw [if_pos e] at h
      exact br_t (by rw [e]) ⟨hv, nm_e (nm_r (nI_1 k) h)⟩
    · rw [if_neg e] at h
      exact br_f (fun z => e ((nI_eq (by omega) (by omega)).mp z)) ⟨hv, nm_e (nm_r (nI_1 k) h)⟩
  · rw [if_neg hz] at h
    exact br_f hz ⟨hv, hv, nm_e (nm_r (nI_1 k) h)⟩
theorem zx_d2 {post : Int32 → SX → Prop} {n f : Nat} (hn : n ≤ 4) (hf : f ≤ 4) (R : Nat → Nat → Int32)
    (H : ∀ ma' : Nat → Int32, post (zd_D f n R) (nI n, xl, nb, bl, we, st, gl, cl, fr, xw, ma', sz, pa)) :
    ∀ (d k : Nat) (ma : Nat → Int32), k + d = 16 → (∀ q, q < k → ma q = zd_M f n R (q / 4) (q % 4)) → (∀ q, k ≤ q → q < 16 → ma q = R (q / 4) (q % 4)) →
      wX_determinant_2 post (nI f) (nI n) xl nb (d + 1) (nI k) bl we st gl cl fr xw ma sz pa := by
  intro d
  induction d with
  | zero =>
    intro k ma hk h1 h2
    refine br_t (nI_le (a := 16) (by omega) (by omega)) ?_
    have hm : ∀ a b, a < 4 → b < 4 → ma (4 * a + b) = zd_M f n R a b := by
      intro a b ha hb
      rw [h1 _ (by omega), show (4 * a + b) / 4 = a by omega, show (4 * a + b) % 4 = b by omega]
    by_cases h0 : f = 0
    · refine br_t (by rw [h0]; decide) (zx_a ?_)
      rw [show zd_4 (fun a b => ma (4 * a + b)) = zd_D f n R from zd_4c hm]
      exact H ma
    · refine br_f (nI_nle (by omega) (by omega)) (zx_l3 ?_)
      have e3 : zd_3 (fun a b => ma (4 * a + b)) = zd_3 (zd_M f n R) := by
        unfold zd_3 zd_2
        dsimp only
        rw [hm 1 1 (by decide) (by decide), hm 1 2 (by decide) (by decide), hm 1 3 (by decide) (by decide), hm 2 1 (by decide) (by decide), hm 2 2 (by decide) (by decide), hm 2 3 (by decide) (by decide), hm 3 1 (by decide) (by decide), hm 3 2 (by decide) (by decide), hm 3 3 (by decide) (by decide)]
      rw [e3, zd_last f n (by omega)]
      exact H ma
  | succ d ih =>
    intro k ma hk h1 h2
    have e := zx_k16 k (by omega)
    refine br_f (nI_ge (b := 16) (by omega) (by decide)) (nm_r e.1 (nm_r e.2 ?_))
    have key : ∀ z : Int32, (if z = 0 then (if k / 4 = k % 4 then 1 else 0) else ma k) = zd_M f n R (k / 4) (k % 4) →
        wX_determinant_50 post (wX_determinant_2 post (nI f) (nI n) xl nb (d + 1)) (nI f) (nI k) (nI (k / 4)) (nI (k % 4)) z (nI n) xl nb bl we st gl cl fr xw ma sz pa := by
      intro z hz
      refine zx_d50 (by omega) (by omega) (by omega) ?_
      rw [hz]
      refine ih (k + 1) _ (by omega) (fun q hq => ?_) (fun q hq hr => ?_)
      · by_cases e : q = k
        · rw [e, pk_us]
        · rw [pk_un e, h1 q (by omega)]
      · rw [pk_un (by omega), h2 q (by omega) hr]
    have k0 : ¬ (f ≤ k / 4 ∧ k / 4 < n ∧ f ≤ k % 4 ∧ k % 4 < n) → wX_determinant_49 post (wX_determinant_2 post (nI f) (nI n) xl nb (d + 1)) (nI f) (nI k) (nI (k / 4)) (nI (k % 4)) (nI n) xl nb bl we st gl cl fr xw ma sz pa := by
      intro hz
      unfold wX_determinant_49
      refine key 0 ?_
      unfold zd_M
      rw [if_neg hz, if_pos rfl]
    refine pk_lt (k / 4) f (fun a => k0 (by omega)) (fun a => pk_le n (k / 4) (fun b => k0 (by omega)) (fun b =>
      pk_lt (k % 4) f (fun c => k0 (by omega)) (fun c => pk_le n (k % 4) (fun b => k0 (by omega)) (fun b => key 1 ?_))))
    unfold zd_M
    rw [if_neg (by decide), if_pos (show f ≤ k / 4 ∧ k / 4 < n ∧ f ≤ k % 4 ∧ k % 4 < n by omega), h2 k (Nat.le_refl k) (by omega)]
theorem zx_det {post : Int32 → SX → Prop} {n f : Nat} (hn : n ≤ 4) (hf : f ≤ 4) 
    (H : ∀ ma' : Nat → Int32, post (zd_D f n (fun a b => ma (4 * a + b))) (nI n, xl, nb, bl, we, st, gl, cl, fr, xw, ma', sz, pa)) :
    wpX_determinant post (nI n, xl, nb, bl, we, st, gl, cl, fr, xw, ma, sz, pa) (nI f) :=
  ⟨17, zx_d2 hn hf _ H 16 0 ma rfl (fun q hq => absurd hq (Nat.not_lt_zero q)) (fun q _ _ => by
    show ma q = ma (4 * (q / 4) + q % 4)
    rw [show 4 * (q / 4) + q % 4 = q by omega])⟩
theorem zx_count {post : Int32 → SX → Prop} {p : Int32} {n f : Nat} {F g : Nat → Nat} (hn : n ≤ 4) (hf : f ≤ n) (hg : ∀ j, j < n → gl j = nI (g j) ∧ g j < 30)
    (hF : ∀ a, f ≤ a → a < n → fr a = nI (F a) ∧ F a < 30)
    (H : ∀ xw' ma' : Nat → Int32, post (zd_D f n (fun a b => zw_g (zx_C bl cl) (zx_w p we) (zw_d (F a)) (g b))) (nI n, xl, nb, bl, we, st, gl, cl, fr, xw', ma', sz, pa)) :
    wpX_count post (nI n, xl, nb, bl, we, st, gl, cl, fr, xw, ma, sz, pa) (nI f) p := by
  unfold wpX_count
  dsimp only
  refine zx_fm hn hf hg hF (fun xw' ma' hm => ?_)
  dsimp only
  refine zx_det hn (by omega) (fun ma'' => ?_)
  dsimp only
  rw [zd_Dc (T := fun a b => zw_g (zx_C bl cl) (zx_w p we) (zw_d (F a)) (g b)) (fun a b ha hb hc hd => hm a b ha hb hc hd)]
  exact H xw' ma''
/-- count, by the law of Gessel and Viennot -/
theorem zx_cnt {post : Int32 → SX → Prop} {p : Int32} {n : Nat} {s g : Nat → Nat} (ok : ze_ok n s g) (d i c : Nat) (hi : i < n) (hc : c < 30)
    (hd : 10 * (n - 1 - i) + 10 ≤ d + c / 5 + c % 5) (hI : ze_inv n s (zx_C bl cl) i c) (hg : ∀ j, j < n → gl j = nI (g j))
    (hf : fr i = nI c) (hF : ∀ a, i < a → a < n → fr a = nI (s a))
    (H : ∀ xw' ma' : Nat → Int32, post (ze_sm (ze_wt (zx_w p we)) (ze_en n s g d (zx_C bl cl) i c)) (nI n, xl, nb, bl, we, st, gl, cl, fr, xw', ma', sz, pa)) :
    wpX_count post (nI n, xl, nb, bl, we, st, gl, cl, fr, xw, ma, sz, pa) (nI i) p := by
  refine zx_count (F := fun a => if a = i then c else s a) ok.2.1 (Nat.le_of_lt hi) (fun j hj => ⟨hg j hj, (ok.2.2.2.2.1 j hj).2⟩) (fun a ha hb => ?_) (fun xw' ma' => ?_)
  · by_cases e : a = i
    · rw [if_pos e, e]; exact ⟨hf, hc⟩
    · rw [if_neg e]
      have := ok.2.2.1 a hb
      exact ⟨hF a (by omega) hb, by omega⟩
  · rw [zd_Dc (T := ze_R s g (zx_C bl cl) (zx_w p we) i c) (fun a b _ _ _ _ => by
      unfold ze_R
      by_cases e : a = i
      · rw [if_pos e, if_pos e]
      · rw [if_neg e, if_neg e]), ze_lgv ok (zx_w p we) d _ i c hi hc hd hI]
    exact H xw' ma'
end
end
section
/-! the component: reopen, countWithout and the methods over it -/
theorem zx_b0 : vp_nar .boolean 0 = 0 := rfl
theorem zx_b1 : vp_nar .boolean 1 = 1 := rfl
theorem zx_i8 : ∀ k, k < 64 → (nI k).toInt8.toInt32 = nI k := by decide
theorem zx_vb {k : Nat} (h : k < 64) : vp_nar .byte (nI k) = nI k := by rw [vp_nar_byte, zx_i8 k h]
theorem zx_C_up (bl cl : Nat → Int32) (c : Nat) : zx_C bl (upd cl c 1) = zw_c (zx_C bl cl) c := by
  funext x
  unfold zx_C zw_c upd
  by_cases e : x = c
  · simp [e]
  · simp [e]
def zx_B (bl : Nat → Int32) (x : Nat) : Bool := decide (¬ bl x = 0)
theorem zx_C_0 {bl cl : Nat → Int32} {x : Nat} (h : cl x = 0) : zx_C bl cl x = zx_B bl x := by simp [zx_C, zx_B, h]
def zx_o : Option Nat → Int32
  | none => -1
  | some a => nI a
def zx_ad : Option Nat → (Nat → Bool) → Nat → Bool
  | none, C => C
  | some a, C => zw_c C a
/-- how many families avoid these cells -/
def zx_N (n : Nat) (s g : Nat → Nat) (bl : Nat → Int32) (qa qb : Option Nat) : Int32 :=
  ze_sm (fun _ => 1) (ze_en n s g 40 (zx_ad qb (zx_ad qa (zx_B bl))) 0 (s 0))
def zx_st (n : Nat) (s g : Nat → Nat) (st gl : Nat → Int32) : Prop := ∀ i, i < n → st i = nI (s i) ∧ gl i = nI (g i)
def zx_ms (b : Nat → Bool) : Nat → Int32
  | 0 => 0
  | k + 1 => if b k = true then zx_ms b k + 1 else zx_ms b k
theorem zw_cg {C C' : Nat → Bool} {w q : Nat → Int32} : ∀ x, (∀ y, y ≤ x → C y = C' y) → zw_g C w q x = zw_g C' w q x := by
  intro x
  induction x using Nat.strongRecOn with
  | ind x ih =>
    intro h
    rw [zw_eq C, zw_eq C', h x (Nat.le_refl x)]
    have e := zw_inl (G := zw_g C w q) (H := zw_g C' w q) (D := fun _ => 0) (a := 1) (b := 0) (x := x)
      (fun y hy => by rw [ih y hy (fun z hz => h z (by omega))]; grind)
    rw [e]
    split
    · rfl
    · grind
section
variable {mn xl nb : Int32} {bl we st gl cl fr xw ma sz pa : Nat → Int32}
theorem zx_ro23 {post : SX → Prop} {n : Nat} {s g : Nat → Nat} (ok : ze_ok n s g) (hs : zx_st n s g st gl)
    (H : ∀ fr' : Nat → Int32, (∀ i, i < n → fr' i = nI (s i)) → post (nI n, xl, nb, bl, we, st, gl, cl, fr', xw, ma, sz, pa)) :
    ∀ (d i : Nat) (fr : Nat → Int32), i + d = n → (∀ a, a < i → fr a = nI (s a)) → wX_reopen_23 post (nI n) xl nb (d + 1) (nI i) bl we st gl cl fr xw ma sz pa := by
  have hn := ok.2.1
  intro d
  induction d with
  | zero =>
    intro i fr hi h
    exact br_t (nI_le (by omega) (by omega)) (H fr (fun a ha => h a (by omega)))
  | succ d ih =>
    intro i fr hi h
    have h5 := ok.2.2.1 i (by omega)
    refine br_f (nI_ge (by omega) (by omega)) ⟨vp_in_nI (by omega) (by decide), vp_in_nI (by omega) (by decide), ?_⟩
    rw [nI_clamp (show i < 2 ^ 31 by omega), (hs i (by omega)).1, zx_vb (by omega)]
    refine nm_e (nm_r (nI_1 i) (ih (i + 1) _ (by omega) (fun a ha => ?_)))
    by_cases e : a = i
    · rw [e, pk_us]
    · rw [pk_un e, h a (by omega)]
theorem zx_ro2 {post : SX → Prop} {n : Nat} {s g : Nat → Nat} (ok : ze_ok n s g) (hs : zx_st n s g st gl)
    (H : ∀ cl' fr' : Nat → Int32, (∀ x, x < 30 → cl' x = 0) → (∀ i, i < n → fr' i = nI (s i)) → post (nI n, xl, nb, bl, we, st, gl, cl', fr', xw, ma, sz, pa)) :
    ∀ (d i : Nat) (cl : Nat → Int32), i + d = 30 → (∀ a, a < i → cl a = 0) → wX_reopen_2 post (nI n) xl nb (d + 1) (nI i) bl we st gl cl fr xw ma sz pa := by
  intro d
  induction d with
  | zero =>
    intro i cl hi h
    exact br_t (nI_le (a := 30) (by omega) (by omega)) ⟨n + 1, zx_ro23 ok hs (fun fr' hf => H cl fr' (fun x hx => h x (by omega)) hf) n 0 fr (by omega) (fun a ha => by omega)⟩
  | succ d ih =>
    intro i cl hi h
    refine br_f (nI_ge (b := 30) (by omega) (by decide)) ⟨vp_in_nI (by omega) (by decide), ?_⟩
    rw [nI_clamp (show i < 2 ^ 31 by omega)]
    refine nm_e (nm_r (nI_1 i) (ih (i + 1) _ (by omega) (fun a ha => ?_)))
    by_cases e : a = i
    · rw [e, pk_us]; rfl
    · rw [pk_un e, h a (by omega)]
theorem zx_ro {post : SX → Prop} {n : Nat} {s g : Nat → Nat} (ok : ze_ok n s g) (hs : zx_st n s g st gl)
    (H : ∀ cl' fr' : Nat → Int32, (∀ x, x < 30 → cl' x = 0) → (∀ i, i < n → fr' i = nI (s i)) → post (nI n, xl, nb, bl, we, st, gl, cl', fr', xw, ma, sz, pa)) :
    wpX_reopen post (nI n, xl, nb, bl, we, st, gl, cl, fr, xw, ma, sz, pa) :=
  ⟨31, zx_ro2 ok hs H 30 0 cl rfl (fun a ha => by omega)⟩
theorem zx_wt0 (we : Nat → Int32) (L : List (List (Nat × Nat))) : ze_sm (ze_wt (zx_w 0 we)) L = ze_sm (fun _ => 1) L :=
  ze_sm_cg (fun f => ze_wt1 f) L
theorem zx_wt1 (we : Nat → Int32) : zx_w 1 we = we := rfl
theorem zx_cw {post : Int32 → SX → Prop} {n : Nat} {s g : Nat → Nat} (ok : ze_ok n s g) (hs : zx_st n s g st gl) (qa qb : Option Nat)
    (ha : ∀ a, qa = some a → a < 30) (hb : ∀ a, qb = some a → a < 30)
    (H : ∀ cl' fr' xw' ma' : Nat → Int32, post (zx_N n s g bl qa qb) (nI n, xl, nb, bl, we, st, gl, cl', fr', xw', ma', sz, pa)) :
    wpX_countWithout post (nI n, xl, nb, bl, we, st, gl, cl, fr, xw, ma, sz, pa) (zx_o qa) (zx_o qb) := by
  have h1 := ok.1
  have hn := ok.2.1
  have h5 := ok.2.2.1 0 (by omega)
  unfold wpX_countWithout
  dsimp only
  refine zx_ro ok hs (fun cl' fr' hc hf => ?_)
  dsimp only
  have k26 : ∀ cl2 : Nat → Int32, (∀ x, x < 30 → zx_C bl cl2 x = zx_ad qb (zx_ad qa (zx_B bl)) x) → wX_countWithout_26 post (nI n) xl nb bl we st gl cl2 fr' xw ma sz pa := by
    intro cl2 h2
    unfold wX_countWithout_26
    refine zx_cnt (p := 0) ok 40 0 (s 0) (by omega) (by omega) (by omega) (ze_inv_start ok _ 0) (fun j hj => (hs j hj).2) (hf 0 (by omega)) (fun a _ hb => hf a hb) (fun xw' ma' => ?_)
    dsimp only
    rw [zx_wt0, ze_cg ok 40 _ _ 0 (s 0) (by omega) (by omega) h2]
    exact H cl2 fr' xw' ma'
  have k15 : ∀ cl1 : Nat → Int32, (∀ x, x < 30 → zx_C bl cl1 x = zx_ad qa (zx_B bl) x) → wX_countWithout_15 post (zx_o qb) (nI n) xl nb bl we st gl cl1 fr' xw ma sz pa := by
    intro cl1 h1
    unfold wX_countWithout_15
    match qb, hb, k26 with
    | none, _, k26 => exact br_t (by decide) (k26 cl1 h1)
    | some b, hb, k26 =>
      have hb' := hb b rfl
      refine br_f (nI_pos (by omega)) ⟨vp_in_nI hb' (by decide), nm_r (e' := upd cl1 b 1) (by
        show upd cl1 (nI b).toNatClampNeg _ = _
        rw [nI_clamp (by omega)]; rfl) (k26 _ (fun x hx => ?_))⟩
      rw [zx_C_up]
      show zw_c (zx_C bl cl1) b x = zw_c (zx_ad qa (zx_B bl)) b x
      unfold zw_c
      rw [h1 x hx]
  match qa, ha, k15 with
  | none, _, k15 => exact br_t (by decide) (k15 cl' (fun x hx => zx_C_0 (hc x hx)))
  | some a, ha, k15 =>
    have ha' := ha a rfl
    refine br_f (nI_pos (by omega)) ⟨vp_in_nI ha' (by decide), nm_r (e' := upd cl' a 1) (by
      show upd cl' (nI a).toNatClampNeg _ = _
      rw [nI_clamp (by omega)]; rfl) (k15 _ (fun x hx => ?_))⟩
    rw [zx_C_up]
    show zw_c (zx_C bl cl') a x = zw_c (zx_B bl) a x
    unfold zw_c
    rw [zx_C_0 (hc x hx)]
theorem zx_families {post : Int32 → SX → Prop} {n : Nat} {s g : Nat → Nat} (ok : ze_ok n s g) (hs : zx_st n s g st gl)
    (H : ∀ cl' fr' xw' ma' : Nat → Int32, post (zx_N n s g bl none none) (nI n, xl, nb, bl, we, st, gl, cl', fr', xw', ma', sz, pa)) :
    wpX_families post (nI n, xl, nb, bl, we, st, gl, cl, fr, xw, ma, sz, pa) := by
  unfold wpX_families
  dsimp only
  exact zx_cw ok hs none none (fun a h => by cases h) (fun a h => by cases h) (fun cl' fr' xw' ma' => H cl' fr' xw' ma')
theorem zx_sum {post : Int32 → SX → Prop} {n : Nat} {s g : Nat → Nat} (ok : ze_ok n s g) (hs : zx_st n s g st gl)
    (H : ∀ cl' fr' xw' ma' : Nat → Int32, post (ze_sm (ze_wt we) (ze_en n s g 40 (zx_B bl) 0 (s 0))) (nI n, xl, nb, bl, we, st, gl, cl', fr', xw', ma', sz, pa)) :
    wpX_sum post (nI n, xl, nb, bl, we, st, gl, cl, fr, xw, ma, sz, pa) := by
  have h1 := ok.1
  have hn := ok.2.1
  have h5 := ok.2.2.1 0 (by omega)
  unfold wpX_sum
  dsimp only
  refine zx_ro ok hs (fun cl' fr' hc hf => ?_)
  dsimp only
  refine zx_cnt (p := 1) ok 40 0 (s 0) (by omega) (by omega) (by omega) (ze_inv_start ok _ 0) (fun j hj => (hs j hj).2) (hf 0 (by omega)) (fun a _ hb => hf a hb) (fun xw' ma' => ?_)
  dsimp only
  rw [zx_wt1, ze_cg ok 40 _ _ 0 (s 0) (by omega) (by omega) (fun x hx => zx_C_0 (hc x hx))]
  exact H cl' fr' xw' ma'
theorem zx_paths {post : Int32 → SX → Prop} {n : Nat} {s g : Nat → Nat} (ok : ze_ok n s g) (hs : zx_st n s g st gl) {p0 p1 : Int32}
    (Hb : post (-1) (nI n, xl, nb, bl, we, st, gl, cl, fr, xw, ma, sz, pa)) (i j : Nat)
    (H : p0 = nI i → i < n → p1 = nI j → j < n → ∀ cl' fr' xw' : Nat → Int32, post (zw_g (zx_B bl) (fun _ => 1) (zw_d (s i)) (g j)) (nI n, xl, nb, bl, we, st, gl, cl', fr', xw', ma, sz, pa))
    (h0 : ¬ p0 < 0 → p0 = nI i ∧ i < 2 ^ 31) (h1 : ¬ p1 < 0 → p1 = nI j ∧ j < 2 ^ 31) :
    wpX_paths post (nI n, xl, nb, bl, we, st, gl, cl, fr, xw, ma, sz, pa) p0 p1 := by
  have hn := ok.2.1
  unfold wpX_paths
  dsimp only
  refine br_c (fun _ => Hb) (fun a => ?_)
  obtain ⟨e0, i31⟩ := h0 a
  rw [e0]
  refine pk_le n i (fun _ => Hb) (fun hi => br_c (fun _ => Hb) (fun b => ?_))
  obtain ⟨e1, j31⟩ := h1 b
  rw [e1]
  refine pk_lt j n (fun hj => ?_) (fun _ => Hb)
  have h5 := ok.2.2.1 i hi
  have h9 := ok.2.2.2.2.1 j hj
  refine zx_ro ok hs (fun cl' fr' hc hf => ?_)
  dsimp only
  rw [nI_clamp i31, nI_clamp j31, (hs i hi).1]
  refine ⟨vp_in_nI (by omega) (by decide), zx_fw (by omega) (fun xw' hx => ?_)⟩
  dsimp only
  rw [(hs j hj).2, nI_clamp (by omega), hx _ h9.2, zw_cg (C' := zx_B bl) (g j) (fun y hy => zx_C_0 (hc y (by omega)))]
  exact ⟨vp_in_nI (by omega) (by decide), vp_in_nI (by omega) (by decide), H e0 hi e1 hj cl' fr' xw'⟩
theorem zx_bad {post : Int32 → Prop} {p : Int32} (h1 : p < 0 → post 1) (h2 : nI 30 ≤ p → post 1) (h0 : ∀ a, a < 30 → p = nI a → post 0) : wpX_badCell post (mn, xl, nb, bl, we, st, gl, cl, fr, xw, ma, sz, pa) p := by
  unfold wpX_badCell
  dsimp only
  rcases pk_ix p (n := 30) (by decide) with h | h | ⟨j, hj, rfl⟩
  · exact br_t h (h1 h)
  · refine br_f (fun z => ?_) (br_f (fun z => ?_) (h2 h))
    · rw [Int32.lt_iff_toInt_lt] at z; rw [Int32.le_iff_toInt_le] at h
      rw [show (nI 30).toInt = 30 by decide] at h; rw [show (0 : Int32).toInt = 0 by decide] at z; omega
    · rw [Int32.lt_iff_toInt_lt] at z; rw [Int32.le_iff_toInt_le] at h
      rw [show (nI 30).toInt = 30 by decide] at h; rw [show (30 : Int32).toInt = 30 by decide] at z; omega
  · exact br_f (nI_pos (by omega)) (br_t (nI_lt (b := 30) hj (by decide)) (h0 j hj rfl))
theorem zx_through {post : Int32 → SX → Prop} {n : Nat} {s g : Nat → Nat} (ok : ze_ok n s g) (hs : zx_st n s g st gl) {a : Nat} (ha : a < 30)
    (H : ∀ cl' fr' xw' ma' : Nat → Int32, post (zx_N n s g bl none none - zx_N n s g bl (some a) none) (nI n, xl, nb, bl, we, st, gl, cl', fr', xw', ma', sz, pa)) :
    wpX_through post (nI n, xl, nb, bl, we, st, gl, cl, fr, xw, ma, sz, pa) (nI a) := by
  unfold wpX_through
  dsimp only
  refine zx_bad (fun z => absurd z (nI_pos (by omega))) (fun z => absurd z (nI_ge ha (by decide))) (fun _ _ _ => br_t rfl ?_)
  refine zx_cw ok hs none none (fun a h => by cases h) (fun a h => by cases h) (fun cl' fr' xw' ma' => ?_)
  dsimp only
  refine zx_cw ok hs (some a) none (fun b h => by cases h; exact ha) (fun a h => by cases h) (fun cl' fr' xw' ma' => ?_)
  exact H cl' fr' xw' ma'
theorem zx_throughBoth {post : Int32 → SX → Prop} {n : Nat} {s g : Nat → Nat} (ok : ze_ok n s g) (hs : zx_st n s g st gl) {a b : Nat} (ha : a < 30) (hb : b < 30)
    (H : ∀ cl' fr' xw' ma' : Nat → Int32, post (zx_N n s g bl none none - zx_N n s g bl (some a) none - zx_N n s g bl (some b) none + zx_N n s g bl (some a) (some b)) (nI n, xl, nb, bl, we, st, gl, cl', fr', xw', ma', sz, pa)) :
    wpX_throughBoth post (nI n, xl, nb, bl, we, st, gl, cl, fr, xw, ma, sz, pa) (nI a) (nI b) := by
  unfold wpX_throughBoth
  dsimp only
  refine zx_bad (fun z => absurd z (nI_pos (by omega))) (fun z => absurd z (nI_ge ha (by decide))) (fun _ _ _ => br_t rfl ?_)
  refine zx_bad (fun z => absurd z (nI_pos (by omega))) (fun z => absurd z (nI_ge hb (by decide))) (fun _ _ _ => br_t rfl ?_)
  refine zx_cw ok hs none none (fun a h => by cases h) (fun a h => by cases h) (fun cl' fr' xw' ma' => ?_)
  dsimp only
  refine zx_cw ok hs (some a) none (fun b h => by cases h; exact ha) (fun a h => by cases h) (fun cl' fr' xw' ma' => ?_)
  dsimp only
  refine zx_cw ok hs (some b) none (fun b h => by cases h; exact hb) (fun a h => by cases h) (fun cl' fr' xw' ma' => ?_)
  dsimp only
  refine zx_cw ok hs (some a) (some b) (fun b h => by cases h; exact ha) (fun a h => by cases h; exact hb) (fun cl' fr' xw' ma' => ?_)
  exact H cl' fr' xw' ma'
theorem zx_mu11 {post : Int32 → SX → Prop} {n : Nat} {s g : Nat → Nat} (ok : ze_ok n s g) (hs : zx_st n s g st gl) {x1 : Int32} (hx : ¬ x1 ≤ 0)
    (H : ∀ cl' fr' xw' ma' : Nat → Int32, post (zx_ms (fun k => decide (zx_N n s g bl (some k) none = 0)) 30) (nI n, xl, nb, bl, we, st, gl, cl', fr', xw', ma', sz, pa)) :
    ∀ (d k : Nat) (cl fr xw ma : Nat → Int32), k + d = 30 →
      wX_musts_11 post x1 (d + 1) (zx_ms (fun k => decide (zx_N n s g bl (some k) none = 0)) k) (nI k) (nI n) xl nb bl we st gl cl fr xw ma sz pa := by
  intro d
  induction d with
  | zero =>
    intro k cl fr xw ma hk
    refine br_t (nI_le (a := 30) (by omega) (by omega)) ?_
    rw [show k = 30 by omega]
    exact H cl fr xw ma
  | succ d ih =>
    intro k cl fr xw ma hk
    refine br_f (nI_ge (b := 30) (by omega) (by decide)) (br_f hx ?_)
    refine zx_cw ok hs (some k) none (fun b h => by cases h; omega) (fun a h => by cases h) (fun cl' fr' xw' ma' => ?_)
    dsimp only
    have i1 := ih (k + 1) cl' fr' xw' ma' (by omega)
    unfold zx_ms at i1
    by_cases e : zx_N n s g bl (some k) none = 0
    · rw [if_pos (by simp [e])] at i1
      exact br_t e (nm_e (nm_r (nI_1 k) i1))
    · rw [if_neg (by simp [e])] at i1
      exact br_f e (nm_r (nI_1 k) i1)
theorem zx_musts {post : Int32 → SX → Prop} {n : Nat} {s g : Nat → Nat} (ok : ze_ok n s g) (hs : zx_st n s g st gl)
    (H : ∀ cl' fr' xw' ma' : Nat → Int32, post (if zx_N n s g bl none none ≤ 0 then 0 else zx_ms (fun k => decide (zx_N n s g bl (some k) none = 0)) 30) (nI n, xl, nb, bl, we, st, gl, cl', fr', xw', ma', sz, pa)) :
    wpX_musts post (nI n, xl, nb, bl, we, st, gl, cl, fr, xw, ma, sz, pa) := by
  unfold wpX_musts
  dsimp only
  refine zx_cw ok hs none none (fun a h => by cases h) (fun a h => by cases h) (fun cl' fr' xw' ma' => ?_)
  dsimp only
  by_cases h : zx_N n s g bl none none ≤ 0
  · rw [if_pos h] at H
    exact ⟨1, br_f (by decide) (br_t h (H cl' fr' xw' ma'))⟩
  · rw [if_neg h] at H
    exact ⟨31, zx_mu11 ok hs h H 30 0 cl' fr' xw' ma' rfl⟩
theorem zx_cr {post : Int32 → SX → Prop} {n : Nat} {s g : Nat → Nat} (ok : ze_ok n s g) (hs : zx_st n s g st gl) (d i c : Nat) (hi : i < n) (hc : c < 30)
    (hd : 10 * (n - 1 - i) + 10 ≤ d + 1 + c / 5 + c % 5) (hI : ze_inv n s (zx_C bl cl) i c) (hF : ∀ a, i < a → a < n → fr a = nI (s a))
    (H : ∀ cl' fr' xw' ma' : Nat → Int32, upd cl' c 1 = upd cl c 1 → (∀ a, i < a → a < n → fr' a = nI (s a)) →
      post (nI (if c < 25 then ze_en n s g d (zw_c (zx_C bl cl) c) i (c + 5) else []).length) (nI n, xl, nb, bl, we, st, gl, cl', fr', xw', ma', sz, pa)) :
    wpX_countRight post (nI n, xl, nb, bl, we, st, gl, cl, fr, xw, ma, sz, pa) (nI i) (nI c) := by
  have hn := ok.2.1
  unfold wpX_countRight wpX_mayRight
  dsimp only
  rw [show nI c + 5 = nI (c + 5) from nI_add c 5, zx_i8 (c + 5) (by omega), zx_vb (show c + 5 < 64 by omega), zx_i8 c (by omega), zx_vb (show c < 64 by omega),
    nI_clamp (show i < 2 ^ 31 by omega), nI_clamp (show c < 2 ^ 31 by omega), zx_b0, zx_b1]
  by_cases h25 : c < 25
  · rw [if_pos h25] at H
    refine br_f (nI_ge (b := 30) (by omega) (by decide)) (br_f (by decide) ⟨vp_in_nI (by omega) (by decide), nm_e ⟨vp_in_nI hc (by decide), nm_e ?_⟩⟩)
    refine zx_cnt (p := 0) ok d i (c + 5) hi (by omega) (by omega) (by rw [zx_C_up]; exact ze_inv_right hI) (fun j hj => (hs j hj).2) pk_us
      (fun a ha hb => by rw [pk_un (by omega)]; exact hF a ha hb) (fun xw' ma' => ?_)
    dsimp only
    rw [zx_wt0, ze_sm_1, zx_C_up]
    refine ⟨vp_in_nI hc (by decide), nm_e ⟨vp_in_nI (by omega) (by decide), nm_e (H _ _ xw' ma' ?_ (fun a ha hb => ?_))⟩⟩
    · funext x
      unfold upd
      by_cases e : x = c <;> simp [e]
    · rw [pk_un (by omega), pk_un (by omega)]; exact hF a ha hb
  · rw [if_neg h25] at H
    exact br_t (nI_le (a := 30) (by omega) (by omega)) (br_t rfl (H cl fr xw ma rfl hF))
end
end
section
/-! the reference: its arrays hold the stack; step, goOn, complete, nextFamily, begin -/
def zy_ys (W O T : Nat → Int32) : List (Nat × Nat × Nat) → Prop
  | [] => True
  | (c, o, t) :: r => W r.length = nI c ∧ O r.length = nI o ∧ T r.length = nI t ∧ zy_ys W O T r
theorem zy_ys_cg {W O T W' O' T' : Nat → Int32} : ∀ (st : List (Nat × Nat × Nat)), (∀ j, j < st.length → W' j = W j ∧ O' j = O j ∧ T' j = T j) → zy_ys W O T st → zy_ys W' O' T' st := by
  intro st
  induction st with
  | nil => intro _ _; exact trivial
  | cons f r ih =>
    obtain ⟨c, o, t⟩ := f
    intro h k
    obtain ⟨k1, k2, k3, k4⟩ := k
    have h0 := h r.length (Nat.lt_succ_self _)
    exact ⟨h0.1.trans k1, h0.2.1.trans k2, h0.2.2.trans k3, ih (fun j hj => h j (Nat.lt_succ_of_lt hj)) k4⟩
def zy_at (st : List (Nat × Nat × Nat)) (gn : Int32) (W O T K : Nat → Int32) : Prop :=
  gn = nI st.length ∧ zy_ys W O T st ∧ ∀ x, x < 30 → K x = if zy_tk st x = true then 1 else 0
theorem zy_wf_len {n : Nat} {st : List (Nat × Nat × Nat)} (hn : n ≤ 4) (h : zy_wf n st) : st.length ≤ 40 := by
  match st, h with
  | [], _ => exact Nat.zero_le _
  | (c, o, t) :: r, h =>
    obtain ⟨hc, ho, ht, hl, _, _⟩ := h
    show r.length + 1 ≤ 40
    omega
section
variable {cn gn rk yl : Int32} {bl we ys yg W O T K yw kp ko : Nat → Int32}
theorem zy_step {post : SY → Prop} {st : List (Nat × Nat × Nat)} {x o : Nat} (hx : x < 30) (hl : st.length < 40) (ha : zy_at st gn W O T K)
    (H : ∀ (gn' : Int32) (W' O' T' K' : Nat → Int32), zy_at (zy_ps (zx_B bl) x o st) gn' W' O' T' K' → post (cn, gn', rk, yl, bl, we, ys, yg, W', O', T', K', yw, kp, ko)) :
    wpY_step post (cn, gn, rk, yl, bl, we, ys, yg, W, O, T, K, yw, kp, ko) (nI x) (nI o) := by
  obtain ⟨rfl, hy, hk⟩ := ha
  unfold wpY_step
  dsimp only
  rw [nI_clamp (show x < 2 ^ 31 by omega), nI_clamp (show st.length < 2 ^ 31 by omega), zx_b1]
  refine ⟨vp_in_nI hx (by decide), ?_⟩
  unfold zy_ps at H
  by_cases hb : bl x = 0
  · refine br_t hb ⟨vp_in_nI hx (by decide), ?_⟩
    have hB : zx_B bl x = false := by simp [zx_B, hb]
    rw [hk x hx]
    by_cases ht : zy_tk st x = true
    · rw [if_pos ht]
      refine br_f (by decide) (H _ _ _ _ _ ?_)
      rw [if_pos (by rw [ht]; simp)]
      exact ⟨rfl, hy, hk⟩
    · rw [if_neg ht]
      refine br_t rfl ⟨vp_in_nI hl (by decide), nm_e ⟨vp_in_nI hl (by decide), nm_e ⟨vp_in_nI hl (by decide), nm_e ⟨vp_in_nI hx (by decide), nm_e (nm_r (nI_1 _) (H _ _ _ _ _ ?_))⟩⟩⟩⟩
      rw [if_neg (by rw [hB]; simpa using ht)]
      refine ⟨rfl, ⟨pk_us, pk_us, pk_us, zy_ys_cg st (fun j hj => ⟨pk_un (by omega), pk_un (by omega), pk_un (by omega)⟩) hy⟩, fun y hy => ?_⟩
      rw [zy_tk_c]
      by_cases e : y = x
      · rw [e, pk_us]; simp
      · rw [pk_un e, hk y hy, show (x == y) = false by simp; omega]; rfl
  · refine br_f hb (H _ _ _ _ _ ?_)
    rw [if_pos (by simp [zx_B, hb])]
    exact ⟨rfl, hy, hk⟩
/-- the starts and goals of the reference -/
theorem zy_goOn {post : SY → Prop} {n : Nat} {s g : Nat → Nat} (ok : ze_ok n s g) (hs : zx_st n s g ys yg) {st : List (Nat × Nat × Nat)} (h0 : st ≠ [])
    (hw : zy_wf n st) (ha : zy_at st gn W O T K)
    (H : ∀ (gn' : Int32) (W' O' T' K' : Nat → Int32), zy_wf n (zy_go n s g (zx_B bl) st) → zy_at (zy_go n s g (zx_B bl) st) gn' W' O' T' K' → post (nI n, gn', rk, yl, bl, we, ys, yg, W', O', T', K', yw, kp, ko)) :
    wpY_goOn post (nI n, gn, rk, yl, bl, we, ys, yg, W, O, T, K, yw, kp, ko) := by
  have hn := ok.2.1
  have hwg := zy_wf_go ok (zx_B bl) hw
  match st, h0, hw, ha, H, hwg with
  | (c, o, t) :: r, _, hw, ha, H, hwg =>
    obtain ⟨hc, ho, ht, hl, hkc, hr⟩ := hw
    obtain ⟨rfl, ⟨hW, hO, hT, hy⟩, hk⟩ := ha
    have hg := ok.2.2.2.2.1 o ho
    have H := fun gn' W' O' T' K' => H gn' W' O' T' K' hwg
    unfold zy_go at H
    dsimp only at H
    unfold wpY_goOn
    dsimp only
    have eg : nI ((c, o, t) :: r).length - 1 = nI r.length := nI_pred r.length
    rw [eg, nI_clamp (show r.length < 2 ^ 31 by omega)]
    have hin : vp_in (nI r.length) 40 := vp_in_nI (by omega) (by decide)
    refine ⟨hin, nm_r hW ⟨hin, nm_r hO ⟨hin, nm_r hT ⟨hin, nm_r (e' := upd T r.length (nI (t + 1))) (by rw [nI_1]) ?_⟩⟩⟩⟩
    have hat : zy_at ((c, o, t + 1) :: r) (nI ((c, o, t) :: r).length) W O (upd T r.length (nI (t + 1))) K :=
      ⟨rfl, ⟨hW, hO, pk_us, zy_ys_cg r (fun j hj => ⟨rfl, rfl, pk_un (by omega)⟩) hy⟩, hk⟩
    have hll : ((c, o, t + 1) :: r).length = r.length + 1 := rfl
    by_cases e2 : t = 2
    · rw [if_pos e2] at H
      refine br_t (by rw [e2]; rfl) ?_
      unfold wpY_stepBack
      dsimp only
      refine nm_r eg ?_
      rw [nI_clamp (show r.length < 2 ^ 31 by omega), hW, nI_clamp (show c < 2 ^ 31 by omega), zx_b0]
      refine ⟨hin, vp_in_nI hc (by decide), nm_e (H _ _ _ _ _ ⟨rfl, ?_, fun y hy => ?_⟩)⟩
      · exact zy_ys_cg r (fun j hj => ⟨rfl, rfl, pk_un (by omega)⟩) hy
      · by_cases e : y = c
        · rw [e, pk_us, hkc]; rfl
        · rw [pk_un e, hk y hy, zy_tk_c, show (c == y) = false by simp; omega]; rfl
    · rw [if_neg e2] at H
      refine br_f (fun z => e2 ((nI_eq (b := 2) (by omega) (by omega)).mp z)) ⟨vp_in_nI (by omega) (by decide), ?_⟩
      rw [nI_clamp (show o < 2 ^ 31 by omega), (hs o ho).2]
      by_cases e : c = g o
      · rw [if_pos e] at H
        refine br_t (by rw [e]) ?_
        by_cases e0 : t = 0
        · rw [if_pos e0] at H
          refine br_t (by rw [e0]; rfl) ?_
          rw [nI_1 o, nI_clamp (show o + 1 < 2 ^ 31 by omega)]
          by_cases hl2 : o + 1 < n
          · rw [if_pos hl2] at H
            have h5 := ok.2.2.1 (o + 1) hl2
            refine br_f (nI_ge hl2 (by omega)) ⟨vp_in_nI (by omega) (by decide), ?_⟩
            rw [(hs (o + 1) hl2).1]
            exact zy_step (by omega) (by omega) hat H
          · rw [if_neg hl2] at H
            exact br_t (nI_le (by omega) (by omega)) (H _ _ _ _ _ hat)
        · rw [if_neg e0] at H
          exact br_f (fun z => e0 ((nI_eq (b := 0) (by omega) (by omega)).mp z)) (H _ _ _ _ _ hat)
      · rw [if_neg e] at H
        refine br_f (fun z => e ((nI_eq (by omega) (by omega)).mp z)) ?_
        by_cases e0 : t = 0
        · rw [if_pos e0] at H
          refine br_t (by rw [e0]; rfl) ?_
          by_cases h25 : c < 25
          · rw [if_pos h25] at H
            refine br_f (nI_ge (b := 25) h25 (by decide)) ?_
            rw [show nI c + 5 = nI (c + 5) from nI_add c 5]
            exact zy_step (by omega) (by omega) hat H
          · rw [if_neg h25] at H
            exact br_t (nI_le (a := 25) (by omega) (by omega)) (H _ _ _ _ _ hat)
        · rw [if_neg e0] at H
          refine br_f (fun z => e0 ((nI_eq (b := 0) (by omega) (by omega)).mp z)) ⟨by decide, vp_in_nI (by omega) (by decide), by decide, ?_⟩
          rw [show nI c - nI c / 5 * 5 = nI (c % 5) from pk_rem (d := 5) (by omega) (by decide) (by decide),
            show nI (g o) - nI (g o) / 5 * 5 = nI (g o % 5) from pk_rem (d := 5) (by omega) (by decide) (by decide)]
          by_cases h5 : c % 5 < g o % 5
          · rw [if_pos h5] at H
            refine br_f (nI_ge h5 (by omega)) ?_
            rw [show nI c + 1 = nI (c + 1) from nI_1 c]
            exact zy_step (by omega) (by omega) hat H
          · rw [if_neg h5] at H
            exact br_t (nI_le (by omega) (by omega)) (H _ _ _ _ _ hat)
theorem zy_complete {post : Int32 → Prop} {n : Nat} {s g : Nat → Nat} (ok : ze_ok n s g) (hs : zx_st n s g ys yg) {st : List (Nat × Nat × Nat)} (h0 : st ≠ [])
    (hw : zy_wf n st) (ha : zy_at st gn W O T K) (H : post (if zy_cm n g st = true then 1 else 0)) : wpY_complete post (nI n, gn, rk, yl, bl, we, ys, yg, W, O, T, K, yw, kp, ko) := by
  have h1 := ok.1
  have hn := ok.2.1
  match st, h0, hw, ha, H with
  | (c, o, t) :: r, _, hw, ha, H =>
    obtain ⟨hc, ho, ht, hl, hkc, hr⟩ := hw
    obtain ⟨rfl, ⟨hW, hO, hT, hy⟩, hk⟩ := ha
    have hg := ok.2.2.2.2.1 (n - 1) (by omega)
    unfold wpY_complete
    dsimp only
    have eg : nI ((c, o, t) :: r).length - 1 = nI r.length := nI_pred r.length
    have en : nI n - 1 = nI (n - 1) := pk_sub (b := 1) h1
    rw [eg, en, nI_clamp (show r.length < 2 ^ 31 by omega), nI_clamp (show n - 1 < 2 ^ 31 by omega), hW, hO, hT, (hs (n - 1) (by omega)).2]
    have hin : vp_in (nI r.length) 40 := vp_in_nI (by omega) (by decide)
    have hcm : zy_cm n g ((c, o, t) :: r) = (c == g (n - 1) && o == n - 1 && t == 0) := rfl
    rw [hcm] at H
    refine ⟨hin, vp_in_nI (by omega) (by decide), pk_eq c (g (n - 1)) (fun e1 => ⟨hin, pk_eq o (n - 1) (fun e2 => ⟨hin, pk_eq t 0 (fun e3 => ?_) (fun e3 => ?_)⟩) (fun e2 => ?_)⟩) (fun e1 => ?_)⟩
    · rw [if_pos (by simp [e1, e2, e3])] at H; exact H
    · rw [if_neg (by simp [e3])] at H; exact H
    · rw [if_neg (by simp [e2])] at H; exact H
    · rw [if_neg (by simp [e1])] at H; exact H
theorem zy_rn_nil (n : Nat) (s g : Nat → Nat) (B : Nat → Bool) : ∀ N, zy_rn n s g B N [] = [] := by
  intro N
  induction N with
  | zero => rfl
  | succ N ih => exact ih
theorem zy_nf8 {post : Int32 → SY → Prop} {n : Nat} {s g : Nat → Nat} (ok : ze_ok n s g) (hs : zx_st n s g ys yg) :
    ∀ (N : Nat) (st : List (Nat × Nat × Nat)) (gn : Int32) (W O T K : Nat → Int32), zy_wf n st → zy_at st gn W O T K → zy_it n s g (zx_B bl) N st = [] →
      (zy_rn n s g (zx_B bl) N st = [] → ∀ (gn' : Int32) (W' O' T' K' : Nat → Int32), post 0 (nI n, gn', rk, yl, bl, we, ys, yg, W', O', T', K', yw, kp, ko)) →
      (∀ (st' : List (Nat × Nat × Nat)) (N' : Nat), zy_rn n s g (zx_B bl) N st = st' :: zy_rn n s g (zx_B bl) N' (zy_go n s g (zx_B bl) st') →
        zy_it n s g (zx_B bl) N' (zy_go n s g (zx_B bl) st') = [] → zy_cm n g st' = true → zy_wf n st' →
        ∀ (gn' : Int32) (W' O' T' K' : Nat → Int32), zy_at st' gn' W' O' T' K' → post 1 (nI n, gn', rk, yl, bl, we, ys, yg, W', O', T', K', yw, kp, ko)) →
      wY_nextFamily_8 post (N + 1) (nI n) gn rk yl bl we ys yg W O T K yw kp ko := by
  have hn := ok.2.1
  intro N
  induction N with
  | zero =>
    intro st gn W O T K hw ha hi h0 h1
    refine br_t ?_ (h0 rfl _ _ _ _ _)
    rw [ha.1, show st = [] from hi]
    decide
  | succ N ih =>
    intro st gn W O T K hw ha hi h0 h1
    have hlen := zy_wf_len hn hw
    by_cases e : st = []
    · refine br_t ?_ (h0 (by rw [e]; exact zy_rn_nil _ _ _ _ _) _ _ _ _ _)
      rw [ha.1, e]
      decide
    · have hpos : 0 < st.length := List.length_pos_iff.mpr e
      refine br_f (by rw [ha.1]; exact nI_nle hpos (by omega)) ?_
      refine zy_complete ok hs e hw ha ?_
      have hrn : zy_rn n s g (zx_B bl) (N + 1) st = (if zy_cm n g st = true then [st] else []) ++ zy_rn n s g (zx_B bl) N (zy_go n s g (zx_B bl) st) := rfl
      rw [hrn] at h0 h1
      by_cases c : zy_cm n g st = true
      · rw [if_pos c] at h0 h1 ⊢
        exact br_f (by decide) (h1 st N rfl hi c hw _ _ _ _ _ ha)
      · rw [if_neg c] at h0 h1 ⊢
        refine br_t rfl ?_
        refine zy_goOn ok hs e hw ha (fun gn' W' O' T' K' hw' ha' => ?_)
        exact ih _ gn' W' O' T' K' hw' ha' hi h0 h1
/-- at a complete family f, with these to come -/
def zy_A (n : Nat) (s g : Nat → Nat) (B : Nat → Bool) (f : List (Nat × Nat)) (L : List (List (Nat × Nat))) (gn : Int32) (W O T K : Nat → Int32) : Prop :=
  ∃ (st : List (Nat × Nat × Nat)) (N : Nat), zy_cm n g st = true ∧ zy_wf n st ∧ zy_at st gn W O T K ∧ zy_pr st = f ∧
    (zy_rn n s g B N (zy_go n s g B st)).map zy_pr = L ∧ zy_it n s g B N (zy_go n s g B st) = []
theorem zy_nf8' {post : Int32 → SY → Prop} {n : Nat} {s g : Nat → Nat} (ok : ze_ok n s g) (hs : zx_st n s g ys yg) {N : Nat} {st : List (Nat × Nat × Nat)} {L : List (List (Nat × Nat))}
    (hw : zy_wf n st) (ha : zy_at st gn W O T K) (hi : zy_it n s g (zx_B bl) N st = []) (hL : (zy_rn n s g (zx_B bl) N st).map zy_pr = L)
    (h0 : L = [] → ∀ (gn' : Int32) (W' O' T' K' : Nat → Int32), post 0 (nI n, gn', rk, yl, bl, we, ys, yg, W', O', T', K', yw, kp, ko))
    (h1 : ∀ (f : List (Nat × Nat)) (M : List (List (Nat × Nat))), L = f :: M → ∀ (gn' : Int32) (W' O' T' K' : Nat → Int32), zy_A n s g (zx_B bl) f M gn' W' O' T' K' →
      post 1 (nI n, gn', rk, yl, bl, we, ys, yg, W', O', T', K', yw, kp, ko)) :
    wY_nextFamily_8 post (N + 1) (nI n) gn rk yl bl we ys yg W O T K yw kp ko := by
  refine zy_nf8 ok hs N st gn W O T K hw ha hi (fun e => h0 (by rw [← hL, e]; rfl)) (fun st' N' e hi' hc hw' gn' W' O' T' K' ha' => ?_)
  refine h1 (zy_pr st') ((zy_rn n s g (zx_B bl) N' (zy_go n s g (zx_B bl) st')).map zy_pr) (by rw [← hL, e]; rfl) _ _ _ _ _ ?_
  exact ⟨st', N', hc, hw', ha', rfl, rfl, hi'⟩
theorem zy_next {post : Int32 → SY → Prop} {n : Nat} {s g : Nat → Nat} (ok : ze_ok n s g) (hs : zx_st n s g ys yg) {f : List (Nat × Nat)} {L : List (List (Nat × Nat))}
    (hA : zy_A n s g (zx_B bl) f L gn W O T K)
    (h0 : L = [] → ∀ (gn' : Int32) (W' O' T' K' : Nat → Int32), post 0 (nI n, gn', rk, yl, bl, we, ys, yg, W', O', T', K', yw, kp, ko))
    (h1 : ∀ (f : List (Nat × Nat)) (M : List (List (Nat × Nat))), L = f :: M → ∀ (gn' : Int32) (W' O' T' K' : Nat → Int32), zy_A n s g (zx_B bl) f M gn' W' O' T' K' →
      post 1 (nI n, gn', rk, yl, bl, we, ys, yg, W', O', T', K', yw, kp, ko)) :
    wpY_nextFamily post (nI n, gn, rk, yl, bl, we, ys, yg, W, O, T, K, yw, kp, ko) 0 := by
  obtain ⟨st, N, hc, hw, ha, hf, hL, hi⟩ := hA
  unfold wpY_nextFamily
  dsimp only
  refine br_t rfl ?_
  refine zy_goOn ok hs (fun e => by rw [e] at hc; cases hc) hw ha (fun gn' W' O' T' K' hw' ha' => ?_)
  exact ⟨N + 1, zy_nf8' ok hs hw' ha' hi hL h0 h1⟩
/-- the first family -/
theorem zy_start {post : Int32 → SY → Prop} {n : Nat} {s g : Nat → Nat} (ok : ze_ok n s g) (hs : zx_st n s g ys yg)
    (ha : zy_at (zy_ps (zx_B bl) (s 0) 0 []) gn W O T K)
    (h0 : ze_en n s g 40 (zx_B bl) 0 (s 0) = [] → ∀ (gn' : Int32) (W' O' T' K' : Nat → Int32), post 0 (nI n, gn', rk, yl, bl, we, ys, yg, W', O', T', K', yw, kp, ko))
    (h1 : ∀ (f : List (Nat × Nat)) (M : List (List (Nat × Nat))), ze_en n s g 40 (zx_B bl) 0 (s 0) = f :: M → ∀ (gn' : Int32) (W' O' T' K' : Nat → Int32), zy_A n s g (zx_B bl) f M gn' W' O' T' K' →
      post 1 (nI n, gn', rk, yl, bl, we, ys, yg, W', O', T', K', yw, kp, ko)) :
    wpY_nextFamily post (nI n, gn, rk, yl, bl, we, ys, yg, W, O, T, K, yw, kp, ko) 1 := by
  have hn := ok.1
  have h5 := ok.2.2.1 0 (by omega)
  obtain ⟨N, hN, hi⟩ := zy_all ok (zx_B bl)
  unfold wpY_nextFamily
  dsimp only
  refine br_f (by decide) ⟨N + 1, zy_nf8' ok hs (zy_wf_ps (st := []) trivial (by omega) (by omega) (Nat.zero_le _)) ha hi hN h0 h1⟩
theorem zy_be7 {post : SY → Prop} {n : Nat} {s g : Nat → Nat} (ok : ze_ok n s g) (hs : zx_st n s g ys yg)
    (H : ∀ (gn' : Int32) (W' O' T' K' : Nat → Int32), zy_at (zy_ps (zx_B bl) (s 0) 0 []) gn' W' O' T' K' → post (cn, gn', rk, yl, bl, we, ys, yg, W', O', T', K', yw, kp, ko)) :
    ∀ (d i : Nat) (K : Nat → Int32), i + d = 30 → (∀ x, x < i → K x = 0) → wY_begin_7 post cn 0 rk yl (d + 1) (nI i) bl we ys yg W O T K yw kp ko := by
  have hn := ok.1
  have h5 := ok.2.2.1 0 (by omega)
  intro d
  induction d with
  | zero =>
    intro i K hi h
    refine br_t (nI_le (a := 30) (by omega) (by omega)) ?_
    rw [(hs 0 (by omega)).1]
    exact zy_step (st := []) (o := 0) (by omega) (by decide) ⟨rfl, trivial, fun x hx => h x (by omega)⟩ (fun gn' W' O' T' K' ha => H gn' W' O' T' K' ha)
  | succ d ih =>
    intro i K hi h
    refine br_f (nI_ge (b := 30) (by omega) (by decide)) ⟨vp_in_nI (by omega) (by decide), ?_⟩
    rw [nI_clamp (show i < 2 ^ 31 by omega)]
    refine nm_e (nm_r (nI_1 i) (ih (i + 1) _ (by omega) (fun a ha => ?_)))
    by_cases e : a = i
    · rw [e, pk_us]; rfl
    · rw [pk_un e, h a (by omega)]
theorem zy_begin {post : SY → Prop} {n : Nat} {s g : Nat → Nat} (ok : ze_ok n s g) (hs : zx_st n s g ys yg)
    (H : ∀ (gn' : Int32) (W' O' T' K' : Nat → Int32), zy_at (zy_ps (zx_B bl) (s 0) 0 []) gn' W' O' T' K' → post (cn, gn', rk, yl, bl, we, ys, yg, W', O', T', K', yw, kp, ko)) :
    wpY_begin post (cn, gn, rk, yl, bl, we, ys, yg, W, O, T, K, yw, kp, ko) :=
  ⟨31, zy_be7 ok hs H 30 0 K rfl (fun a ha => by omega)⟩
end
end
section
/-! the reference's methods -/
theorem zy_pr_len (st : List (Nat × Nat × Nat)) : (zy_pr st).length = st.length := by simp [zy_pr]
theorem zy_tk_pr (st : List (Nat × Nat × Nat)) (x : Nat) : zy_tk st x = ze_has x (zy_pr st) := by
  induction st with
  | nil => rfl
  | cons f r ih =>
    obtain ⟨c, o, t⟩ := f
    rw [zy_tk_c, zy_pr_c, ih]
    unfold ze_has
    rw [List.any_append, Bool.or_comm]
    simp
def zy_kp (n : Nat) (f : List (Nat × Nat)) (kp ko : Nat → Int32) : Prop :=
  ∀ (k : Nat) (p : Nat × Nat), f[k]? = some p → kp k = nI p.1 ∧ ko k = nI p.2 ∧ p.1 < 30 ∧ p.2 < n
theorem zy_pr_get {n : Nat} {W O T : Nat → Int32} : ∀ (st : List (Nat × Nat × Nat)), zy_ys W O T st → zy_wf n st → zy_kp n (zy_pr st) W O := by
  intro st
  induction st with
  | nil => intro _ _ k p h; simp [zy_pr] at h
  | cons f r ih =>
    obtain ⟨c, o, t⟩ := f
    intro hy hw k p h
    obtain ⟨h1, h2, h3, h4⟩ := hy
    obtain ⟨w1, w2, w3, w4, w5, w6⟩ := hw
    rw [zy_pr_c] at h
    by_cases hk : k < r.length
    · rw [List.getElem?_append_left (by rw [zy_pr_len]; exact hk)] at h
      exact ih h4 w6 k p h
    · rw [List.getElem?_append_right (by rw [zy_pr_len]; omega), zy_pr_len] at h
      by_cases e : k = r.length
      · rw [e, Nat.sub_self] at h
        cases (show (c, o) = p from Option.some.inj h)
        rw [e]
        exact ⟨h1, h2, w1, w2⟩
      · obtain ⟨m, hm⟩ : ∃ m, k - r.length = m + 1 := ⟨k - r.length - 1, by omega⟩
        rw [hm] at h
        simp at h
theorem zy_A_f {n : Nat} {s g : Nat → Nat} {B : Nat → Bool} {f : List (Nat × Nat)} {L : List (List (Nat × Nat))} {gn : Int32} {W O T K : Nat → Int32} (hn : n ≤ 4)
    (h : zy_A n s g B f L gn W O T K) : gn = nI f.length ∧ f.length ≤ 40 ∧ 0 < f.length ∧ zy_kp n f W O ∧ ∀ x, x < 30 → K x = if ze_has x f = true then 1 else 0 := by
  obtain ⟨st, N, hc, hw, ha, rfl, hL, hi⟩ := h
  refine ⟨?_, ?_, ?_, zy_pr_get st ha.2.1 hw, fun x hx => ?_⟩
  · rw [zy_pr_len]; exact ha.1
  · rw [zy_pr_len]; exact zy_wf_len hn hw
  · rw [zy_pr_len]; exact List.length_pos_iff.mpr (fun e => by rw [e] at hc; cases hc)
  · rw [← zy_tk_pr]; exact ha.2.2 x hx
theorem ze_wt_app (w : Nat → Int32) (A B : List (Nat × Nat)) : ze_wt w (A ++ B) = ze_wt w A * ze_wt w B := by
  induction A with
  | nil => rw [List.nil_append]; show _ = 1 * _; grind
  | cons p A ih => rw [List.cons_append]; show w p.1 * _ = w p.1 * _ * _; rw [ih]; grind
theorem zy_mid {α : Type} (A B : List α) (p : α) : (A ++ p :: B)[A.length]? = some p := by simp
/-- families with both cells -/
def zy_TB (n : Nat) (s g : Nat → Nat) (bl : Nat → Int32) (a b : Nat) : Int32 :=
  ze_sm (fun f => if (ze_has a f && ze_has b f) = true then 1 else 0) (ze_en n s g 40 (zx_B bl) 0 (s 0))
section
variable {cn gn rk yl : Int32} {bl we ys yg W O T K yw kp ko : Nat → Int32}
theorem zy_fa12 {post : Int32 → SY → Prop} {n : Nat} {s g : Nat → Nat} (ok : ze_ok n s g) (hs : zx_st n s g ys yg) :
    ∀ (L : List (List (Nat × Nat))) (f : List (Nat × Nat)) (x1 gn : Int32) (W O T K : Nat → Int32), zy_A n s g (zx_B bl) f L gn W O T K →
      (∀ (gn' : Int32) (W' O' T' K' : Nat → Int32), post (x1 + ze_sm (fun _ => 1) (f :: L)) (nI n, gn', rk, yl, bl, we, ys, yg, W', O', T', K', yw, kp, ko)) →
      wY_families_12 post (L.length + 2) x1 1 (nI n) gn rk yl bl we ys yg W O T K yw kp ko := by
  intro L
  induction L with
  | nil =>
    intro f x1 gn W O T K hA H
    refine br_f (by decide) (nm_e (zy_next ok hs hA (fun _ gn' W' O' T' K' => ?_) (fun f' M e => by cases e)))
    refine br_t rfl ?_
    rw [show x1 + 1 = x1 + ze_sm (fun _ => 1) [f] from rfl]
    exact H gn' W' O' T' K'
  | cons f' L ih =>
    intro f x1 gn W O T K hA H
    refine br_f (by decide) (nm_e (zy_next ok hs hA (fun e => by cases e) (fun f'' M e gn' W' O' T' K' hA' => ?_)))
    cases e
    refine ih f' (x1 + 1) gn' W' O' T' K' hA' (fun gn' W' O' T' K' => ?_)
    rw [show x1 + 1 + ze_sm (fun _ => 1) (f' :: L) = x1 + ze_sm (fun _ => 1) (f :: f' :: L) by
      show x1 + 1 + ze_sm (fun _ => 1) (f' :: L) = x1 + (1 + ze_sm (fun _ => 1) (f' :: L)); grind]
    exact H gn' W' O' T' K'
theorem zy_families {post : Int32 → SY → Prop} {n : Nat} {s g : Nat → Nat} (ok : ze_ok n s g) (hs : zx_st n s g ys yg)
    (H : ∀ (gn' : Int32) (W' O' T' K' : Nat → Int32), post (ze_sm (fun _ => 1) (ze_en n s g 40 (zx_B bl) 0 (s 0))) (nI n, gn', rk, yl, bl, we, ys, yg, W', O', T', K', yw, kp, ko)) :
    wpY_families post (nI n, gn, rk, yl, bl, we, ys, yg, W, O, T, K, yw, kp, ko) := by
  unfold wpY_families
  dsimp only
  refine zy_begin ok hs (fun gn' W' O' T' K' ha => ?_)
  dsimp only
  refine zy_start ok hs ha (fun e gn' W' O' T' K' => ?_) (fun f M e gn' W' O' T' K' hA => ?_)
  · rw [e] at H
    exact ⟨1, br_t rfl (H gn' W' O' T' K')⟩
  · rw [e] at H
    refine ⟨M.length + 2, zy_fa12 ok hs M f 0 gn' W' O' T' K' hA (fun gn' W' O' T' K' => ?_)⟩
    rw [Int32.zero_add]
    exact H gn' W' O' T' K'
theorem zy_tb57 {post : Int32 → SY → Prop} {J : Int32 → Int32 → Int32 → Int32 → Int32 → Int32 → (Nat → Int32) → (Nat → Int32) → (Nat → Int32) → (Nat → Int32) → (Nat → Int32) → (Nat → Int32) → (Nat → Int32) → (Nat → Int32) → (Nat → Int32) → (Nat → Int32) → (Nat → Int32) → Prop}
    {n : Nat} {s g : Nat → Nat} (ok : ze_ok n s g) (hs : zx_st n s g ys yg) {x1 x2 x3 : Int32} {f : List (Nat × Nat)} {L : List (List (Nat × Nat))} (hA : zy_A n s g (zx_B bl) f L gn W O T K)
    (h0 : L = [] → ∀ (gn' : Int32) (W' O' T' K' : Nat → Int32), J x3 0 (nI n) gn' rk yl bl we ys yg W' O' T' K' yw kp ko)
    (h1 : ∀ (f : List (Nat × Nat)) (M : List (List (Nat × Nat))), L = f :: M → ∀ (gn' : Int32) (W' O' T' K' : Nat → Int32), zy_A n s g (zx_B bl) f M gn' W' O' T' K' →
      J x3 1 (nI n) gn' rk yl bl we ys yg W' O' T' K' yw kp ko) :
    wY_throughBoth_57 post J x1 x2 x3 (nI n) gn rk yl bl we ys yg W O T K yw kp ko := by
  unfold wY_throughBoth_57
  exact zy_next ok hs hA h0 h1
theorem zy_tb31 {post : Int32 → SY → Prop} {n : Nat} {s g : Nat → Nat} (ok : ze_ok n s g) (hs : zx_st n s g ys yg) {a b : Nat} (ha : a < 30) (hb : b < 30) :
    ∀ (L : List (List (Nat × Nat))) (f : List (Nat × Nat)) (x1 gn : Int32) (W O T K : Nat → Int32), zy_A n s g (zx_B bl) f L gn W O T K →
      (∀ (gn' : Int32) (W' O' T' K' : Nat → Int32), post (x1 + ze_sm (fun f => if (ze_has a f && ze_has b f) = true then 1 else 0) (f :: L)) (nI n, gn', rk, yl, bl, we, ys, yg, W', O', T', K', yw, kp, ko)) →
      wY_throughBoth_31 post (nI a) (nI b) (L.length + 2) x1 1 (nI n) gn rk yl bl we ys yg W O T K yw kp ko := by
  intro L
  induction L with
  | nil =>
    intro f x1 gn W O T K hA H
    have key : ∀ z : Int32, z = x1 + (if (ze_has a f && ze_has b f) = true then 1 else 0) → wY_throughBoth_57 post (wY_throughBoth_31 post (nI a) (nI b) 1) (nI a) (nI b) z (nI n) gn rk yl bl we ys yg W O T K yw kp ko := by
      intro z hz
      refine zy_tb57 ok hs hA (fun _ gn' W' O' T' K' => br_t rfl ?_) (fun f' M e => by cases e)
      rw [show z = x1 + ze_sm (fun f => if (ze_has a f && ze_has b f) = true then 1 else 0) [f] by
        rw [hz]; show _ = x1 + (_ + 0); grind]
      exact H gn' W' O' T' K'
    have hK := (zy_A_f ok.2.1 hA).2.2.2.2
    refine br_f (by decide) ⟨vp_in_nI ha (by decide), ?_⟩
    rw [nI_clamp (show a < 2 ^ 31 by omega), nI_clamp (show b < 2 ^ 31 by omega), hK a ha, hK b hb]
    by_cases h1 : ze_has a f = true
    · rw [if_pos h1]
      refine br_f (by decide) ⟨vp_in_nI hb (by decide), ?_⟩
      by_cases h2 : ze_has b f = true
      · rw [if_pos h2]
        exact br_f (by decide) (nm_e (key _ (by rw [if_pos (by rw [h1, h2]; rfl)])))
      · rw [if_neg h2]
        exact br_t rfl (key _ (by rw [if_neg (by rw [h1]; simpa using h2)]; grind))
    · rw [if_neg h1]
      exact br_t rfl (key _ (by rw [if_neg (by simp [h1])]; grind))
  | cons f' L ih =>
    intro f x1 gn W O T K hA H
    have key : ∀ z : Int32, z = x1 + (if (ze_has a f && ze_has b f) = true then 1 else 0) → wY_throughBoth_57 post (wY_throughBoth_31 post (nI a) (nI b) (L.length + 2)) (nI a) (nI b) z (nI n) gn rk yl bl we ys yg W O T K yw kp ko := by
      intro z hz
      refine zy_tb57 ok hs hA (fun e => by cases e) (fun f'' M e gn' W' O' T' K' hA' => ?_)
      cases e
      refine ih f' z gn' W' O' T' K' hA' (fun gn' W' O' T' K' => ?_)
      rw [show z + ze_sm (fun f => if (ze_has a f && ze_has b f) = true then 1 else 0) (f' :: L) = x1 + ze_sm (fun f => if (ze_has a f && ze_has b f) = true then 1 else 0) (f :: f' :: L) by
        rw [hz]; show _ = x1 + (_ + ze_sm _ (f' :: L)); grind]
      exact H gn' W' O' T' K'
    have hK := (zy_A_f ok.2.1 hA).2.2.2.2
    refine br_f (by decide) ⟨vp_in_nI ha (by decide), ?_⟩
    rw [nI_clamp (show a < 2 ^ 31 by omega), nI_clamp (show b < 2 ^ 31 by omega), hK a ha, hK b hb]
    by_cases h1 : ze_has a f = true
    · rw [if_pos h1]
      refine br_f (by decide) ⟨vp_in_nI hb (by decide), ?_⟩
      by_cases h2 : ze_has b f = true
      · rw [if_pos h2]
        exact br_f (by decide) (nm_e (key _ (by rw [if_pos (by rw [h1, h2]; rfl)])))
      · rw [if_neg h2]
        exact br_t rfl (key _ (by rw [if_neg (by rw [h1]; simpa using h2)]; grind))
    · rw [if_neg h1]
      exact br_t rfl (key _ (by rw [if_neg (by simp [h1])]; grind))
theorem zy_no {post : Int32 → Prop} {p : Int32} (h1 : p < 0 → post 1) (h2 : nI 30 ≤ p → post 1) (h0 : ∀ a, a < 30 → p = nI a → post 0) : wpY_noCell post (cn, gn, rk, yl, bl, we, ys, yg, W, O, T, K, yw, kp, ko) p := by
  unfold wpY_noCell
  dsimp only
  rcases pk_ix p (n := 30) (by decide) with h | h | ⟨j, hj, rfl⟩
  · exact br_t h (h1 h)
  · refine br_f (fun z => ?_) (br_f (fun z => ?_) (h2 h))
    · rw [Int32.lt_iff_toInt_lt] at z; rw [Int32.le_iff_toInt_le] at h
      rw [show (nI 30).toInt = 30 by decide] at h; rw [show (0 : Int32).toInt = 0 by decide] at z; omega
    · rw [Int32.le_iff_toInt_le] at z h
      rw [show (nI 30).toInt = 30 by decide] at h; rw [show (29 : Int32).toInt = 29 by decide] at z; omega
  · exact br_f (nI_pos (by omega)) (br_t (nI_le (b := 29) (by omega) (by decide)) (h0 j hj rfl))
theorem zy_throughBoth {post : Int32 → SY → Prop} {n : Nat} {s g : Nat → Nat} (ok : ze_ok n s g) (hs : zx_st n s g ys yg) {a b : Nat} (ha : a < 30) (hb : b < 30)
    (H : ∀ (gn' : Int32) (W' O' T' K' : Nat → Int32), post (zy_TB n s g bl a b) (nI n, gn', rk, yl, bl, we, ys, yg, W', O', T', K', yw, kp, ko)) :
    wpY_throughBoth post (nI n, gn, rk, yl, bl, we, ys, yg, W, O, T, K, yw, kp, ko) (nI a) (nI b) := by
  unfold wpY_throughBoth
  dsimp only
  refine zy_no (fun z => absurd z (nI_pos (by omega))) (fun z => absurd z (nI_ge ha (by decide))) (fun _ _ _ => br_t rfl ?_)
  refine zy_no (fun z => absurd z (nI_pos (by omega))) (fun z => absurd z (nI_ge hb (by decide))) (fun _ _ _ => br_t rfl ?_)
  refine zy_begin ok hs (fun gn' W' O' T' K' hat => ?_)
  dsimp only
  unfold zy_TB at H
  refine zy_start ok hs hat (fun e gn' W' O' T' K' => ?_) (fun f M e gn' W' O' T' K' hA => ?_)
  · rw [e] at H
    exact ⟨1, br_t rfl (H gn' W' O' T' K')⟩
  · rw [e] at H
    refine ⟨M.length + 2, zy_tb31 ok hs ha hb M f 0 gn' W' O' T' K' hA (fun gn' W' O' T' K' => ?_)⟩
    rw [Int32.zero_add]
    exact H gn' W' O' T' K'
theorem zy_through {post : Int32 → SY → Prop} {n : Nat} {s g : Nat → Nat} (ok : ze_ok n s g) (hs : zx_st n s g ys yg) {a : Nat} (ha : a < 30)
    (H : ∀ (gn' : Int32) (W' O' T' K' : Nat → Int32), post (zy_TB n s g bl a a) (nI n, gn', rk, yl, bl, we, ys, yg, W', O', T', K', yw, kp, ko)) :
    wpY_through post (nI n, gn, rk, yl, bl, we, ys, yg, W, O, T, K, yw, kp, ko) (nI a) := by
  unfold wpY_through
  dsimp only
  exact zy_throughBoth ok hs ha ha H
theorem zy_mu9 {post : Int32 → SY → Prop} {n : Nat} {s g : Nat → Nat} (ok : ze_ok n s g) (hs : zx_st n s g ys yg) {x1 : Int32} (hx : ¬ x1 ≤ 0)
    (H : ∀ (gn' : Int32) (W' O' T' K' : Nat → Int32), post (zx_ms (fun k => decide (zy_TB n s g bl k k = x1)) 30) (nI n, gn', rk, yl, bl, we, ys, yg, W', O', T', K', yw, kp, ko)) :
    ∀ (d k : Nat) (gn : Int32) (W O T K : Nat → Int32), k + d = 30 →
      wY_musts_9 post x1 (d + 1) (zx_ms (fun k => decide (zy_TB n s g bl k k = x1)) k) (nI k) (nI n) gn rk yl bl we ys yg W O T K yw kp ko := by
  intro d
  induction d with
  | zero =>
    intro k gn W O T K hk
    refine br_t (nI_le (a := 30) (by omega) (by omega)) ?_
    rw [show k = 30 by omega]
    exact H gn W O T K
  | succ d ih =>
    intro k gn W O T K hk
    refine br_f (nI_ge (b := 30) (by omega) (by decide)) (br_f hx ?_)
    refine zy_through ok hs (by omega) (fun gn' W' O' T' K' => ?_)
    dsimp only
    have i1 := ih (k + 1) gn' W' O' T' K' (by omega)
    unfold zx_ms at i1
    by_cases e : zy_TB n s g bl k k = x1
    · rw [if_pos (by simp [e])] at i1
      exact br_t e (nm_e (nm_r (nI_1 k) i1))
    · rw [if_neg (by simp [e])] at i1
      exact br_f e (nm_r (nI_1 k) i1)
theorem zy_musts {post : Int32 → SY → Prop} {n : Nat} {s g : Nat → Nat} (ok : ze_ok n s g) (hs : zx_st n s g ys yg)
    (H : ∀ (gn' : Int32) (W' O' T' K' : Nat → Int32), post (if ze_sm (fun _ => 1) (ze_en n s g 40 (zx_B bl) 0 (s 0)) ≤ 0 then 0 else
      zx_ms (fun k => decide (zy_TB n s g bl k k = ze_sm (fun _ => 1) (ze_en n s g 40 (zx_B bl) 0 (s 0)))) 30) (nI n, gn', rk, yl, bl, we, ys, yg, W', O', T', K', yw, kp, ko)) :
    wpY_musts post (nI n, gn, rk, yl, bl, we, ys, yg, W, O, T, K, yw, kp, ko) := by
  unfold wpY_musts
  dsimp only
  refine zy_families ok hs (fun gn' W' O' T' K' => ?_)
  dsimp only
  by_cases h : ze_sm (fun _ => 1) (ze_en n s g 40 (zx_B bl) 0 (s 0)) ≤ 0
  · rw [if_pos h] at H
    exact ⟨1, br_f (by decide) (br_t h (H gn' W' O' T' K'))⟩
  · rw [if_neg h] at H
    exact ⟨31, zy_mu9 ok hs h H 30 0 gn' W' O' T' K' rfl⟩
theorem zy_su21 {post : Int32 → SY → Prop} {J : Int32 → Int32 → Int32 → Int32 → Int32 → Int32 → (Nat → Int32) → (Nat → Int32) → (Nat → Int32) → (Nat → Int32) → (Nat → Int32) → (Nat → Int32) → (Nat → Int32) → (Nat → Int32) → (Nat → Int32) → (Nat → Int32) → (Nat → Int32) → Prop}
    {n : Nat} {s g : Nat → Nat} (ok : ze_ok n s g) (hs : zx_st n s g ys yg) {x1 : Int32} {f : List (Nat × Nat)} {L : List (List (Nat × Nat))} (hA : zy_A n s g (zx_B bl) f L gn W O T K)
    (h0 : L = [] → ∀ (gn' : Int32) (W' O' T' K' : Nat → Int32), J (x1 + ze_wt we f) 0 (nI n) gn' rk yl bl we ys yg W' O' T' K' yw kp ko)
    (h1 : ∀ (f' : List (Nat × Nat)) (M : List (List (Nat × Nat))), L = f' :: M → ∀ (gn' : Int32) (W' O' T' K' : Nat → Int32), zy_A n s g (zx_B bl) f' M gn' W' O' T' K' →
      J (x1 + ze_wt we f) 1 (nI n) gn' rk yl bl we ys yg W' O' T' K' yw kp ko) :
    ∀ (B A : List (Nat × Nat)), f = A ++ B → wY_sum_21 post J x1 (nI n) gn rk yl bl we ys yg W O T K yw kp ko (B.length + 1) (ze_wt we A) (nI A.length) := by
  obtain ⟨hg, h40, _, hkp, _⟩ := zy_A_f ok.2.1 hA
  intro B
  induction B with
  | nil =>
    intro A hAB
    rw [List.append_nil] at hAB
    subst hAB
    exact br_t (by rw [hg]; exact nI_le (Nat.le_refl _) (by omega)) (nm_e (zy_next ok hs hA h0 h1))
  | cons p B ih =>
    intro A hAB
    have hp := hkp A.length p (by rw [hAB]; exact zy_mid A B p)
    have hl : A.length < f.length := by rw [hAB, List.length_append, List.length_cons]; omega
    refine br_f (by rw [hg]; exact nI_ge hl (by omega)) ⟨vp_in_nI (by omega) (by decide), ?_⟩
    rw [nI_clamp (show A.length < 2 ^ 31 by omega), hp.1, nI_clamp (show p.1 < 2 ^ 31 by omega)]
    refine ⟨vp_in_nI hp.2.2.1 (by decide), nm_r (e' := ze_wt we (A ++ [p])) (by rw [ze_wt_app]; show _ = _ * (we p.1 * 1); grind) (nm_r (nI_1 _) ?_)⟩
    have i1 := ih (A ++ [p]) (by rw [hAB, List.append_assoc]; rfl)
    rw [List.length_append] at i1
    exact i1
theorem zy_su12 {post : Int32 → SY → Prop} {n : Nat} {s g : Nat → Nat} (ok : ze_ok n s g) (hs : zx_st n s g ys yg) :
    ∀ (L : List (List (Nat × Nat))) (f : List (Nat × Nat)) (x1 gn : Int32) (W O T K : Nat → Int32), zy_A n s g (zx_B bl) f L gn W O T K →
      (∀ (gn' : Int32) (W' O' T' K' : Nat → Int32), post (x1 + ze_sm (ze_wt we) (f :: L)) (nI n, gn', rk, yl, bl, we, ys, yg, W', O', T', K', yw, kp, ko)) →
      wY_sum_12 post (L.length + 2) x1 1 (nI n) gn rk yl bl we ys yg W O T K yw kp ko := by
  intro L
  induction L with
  | nil =>
    intro f x1 gn W O T K hA H
    refine br_f (by decide) ⟨f.length + 1, zy_su21 ok hs hA (fun _ gn' W' O' T' K' => br_t rfl ?_) (fun f' M e => by cases e) f [] rfl⟩
    rw [show x1 + ze_wt we f = x1 + ze_sm (ze_wt we) [f] by show _ = x1 + (_ + 0); grind]
    exact H gn' W' O' T' K'
  | cons f' L ih =>
    intro f x1 gn W O T K hA H
    refine br_f (by decide) ⟨f.length + 1, zy_su21 ok hs hA (fun e => by cases e) (fun f'' M e gn' W' O' T' K' hA' => ?_) f [] rfl⟩
    cases e
    refine ih f' _ gn' W' O' T' K' hA' (fun gn' W' O' T' K' => ?_)
    rw [show x1 + ze_wt we f + ze_sm (ze_wt we) (f' :: L) = x1 + ze_sm (ze_wt we) (f :: f' :: L) by
      show _ = x1 + (_ + ze_sm _ (f' :: L)); grind]
    exact H gn' W' O' T' K'
theorem zy_sum {post : Int32 → SY → Prop} {n : Nat} {s g : Nat → Nat} (ok : ze_ok n s g) (hs : zx_st n s g ys yg)
    (H : ∀ (gn' : Int32) (W' O' T' K' : Nat → Int32), post (ze_sm (ze_wt we) (ze_en n s g 40 (zx_B bl) 0 (s 0))) (nI n, gn', rk, yl, bl, we, ys, yg, W', O', T', K', yw, kp, ko)) :
    wpY_sum post (nI n, gn, rk, yl, bl, we, ys, yg, W, O, T, K, yw, kp, ko) := by
  unfold wpY_sum
  dsimp only
  refine zy_begin ok hs (fun gn' W' O' T' K' ha => ?_)
  dsimp only
  refine zy_start ok hs ha (fun e gn' W' O' T' K' => ?_) (fun f M e gn' W' O' T' K' hA => ?_)
  · rw [e] at H
    exact ⟨1, br_t rfl (H gn' W' O' T' K')⟩
  · rw [e] at H
    refine ⟨M.length + 2, zy_su12 ok hs M f 0 gn' W' O' T' K' hA (fun gn' W' O' T' K' => ?_)⟩
    rw [Int32.zero_add]
    exact H gn' W' O' T' K'
end
end
section
/-! the reference: load, cell, loadedWeight, paths -/
def zy_ce (i k : Int32) : List (Nat × Nat) → Nat → Int32
  | [], _ => -4
  | p :: f, b => if nI p.2 = i then (if nI b = k then nI p.1 else zy_ce i k f (b + 1)) else zy_ce i k f b
theorem zy_kp_cg {n : Nat} {f : List (Nat × Nat)} {W O kp ko : Nat → Int32} (h : zy_kp n f W O) (k : ∀ j, j < f.length → kp j = W j ∧ ko j = O j) : zy_kp n f kp ko := by
  intro j p e
  obtain ⟨hj, _⟩ := List.getElem?_eq_some_iff.mp e
  have h1 := h j p e
  have h2 := k j hj
  exact ⟨h2.1.trans h1.1, h2.2.trans h1.2.1, h1.2.2⟩
section
variable {cn gn rk yl : Int32} {bl we ys yg W O T K yw kp ko : Nat → Int32}
theorem zy_ld62 {post : Int32 → SY → Prop} {N : Nat} (h40 : N ≤ 40)
    (H : ∀ kp' ko' : Nat → Int32, (∀ j, j < N → kp' j = W j ∧ ko' j = O j) → post 0 (cn, nI N, rk, yl, bl, we, ys, yg, W, O, T, K, yw, kp', ko')) :
    ∀ (d i : Nat) (kp ko : Nat → Int32), i + d = N → (∀ j, j < i → kp j = W j ∧ ko j = O j) → wY_load_62 post cn (nI N) rk yl (d + 1) (nI i) bl we ys yg W O T K yw kp ko := by
  intro d
  induction d with
  | zero =>
    intro i kp ko hi h
    exact br_t (nI_le (by omega) (by omega)) (H kp ko (fun j hj => h j (by omega)))
  | succ d ih =>
    intro i kp ko hi h
    have hin : vp_in (nI i) 40 := vp_in_nI (by omega) (by decide)
    refine br_f (nI_ge (by omega) (by omega)) ?_
    rw [nI_clamp (show i < 2 ^ 31 by omega)]
    refine ⟨hin, hin, nm_e ⟨hin, hin, nm_e (nm_r (nI_1 i) (ih (i + 1) _ _ (by omega) (fun j hj => ?_)))⟩⟩
    by_cases e : j = i
    · rw [e, pk_us, pk_us]; exact ⟨rfl, rfl⟩
    · rw [pk_un e, pk_un e]; exact h j (by omega)
theorem zy_ld19 {post : Int32 → SY → Prop} {n : Nat} {s g : Nat → Nat} (ok : ze_ok n s g) (hs : zx_st n s g ys yg) {m : Nat} (hm : m < 2 ^ 31) :
    ∀ (L : List (List (Nat × Nat))) (f : List (Nat × Nat)) (k : Nat) (gn : Int32) (W O T K : Nat → Int32), k ≤ m → zy_A n s g (zx_B bl) f L gn W O T K →
      ((f :: L)[m - k]? = none → ∀ (gn' : Int32) (W' O' T' K' : Nat → Int32), post (-4) (nI n, gn', rk, yl, bl, we, ys, yg, W', O', T', K', yw, kp, ko)) →
      (∀ f', (f :: L)[m - k]? = some f' → ∀ (gn' : Int32) (W' O' T' K' kp' ko' : Nat → Int32), zy_kp n f' kp' ko' → f'.length ≤ 40 → 0 < f'.length →
        post 0 (nI n, gn', nI m, nI f'.length, bl, we, ys, yg, W', O', T', K', yw, kp', ko')) →
      wY_load_19 post (nI m) (L.length + 2) 1 (nI k) (nI n) gn rk yl bl we ys yg W O T K yw kp ko := by
  intro L
  induction L with
  | nil =>
    intro f k gn W O T K hk hA H0 H1
    obtain ⟨hg, h40, hp, hkp, _⟩ := zy_A_f ok.2.1 hA
    by_cases e : m = k
    · refine br_t (by rw [e]; exact nI_le (Nat.le_refl _) (by omega)) (br_f (by decide) ?_)
      rw [hg]
      refine ⟨f.length + 1, zy_ld62 h40 (fun kp' ko' h => ?_) f.length 0 kp ko (by omega) (fun j hj => by omega)⟩
      exact H1 f (by rw [e, Nat.sub_self]; rfl) _ _ _ _ _ _ _ (zy_kp_cg hkp h) h40 hp
    · refine br_f (nI_ge (by omega) (by omega)) (br_f (by decide) ?_)
      refine zy_next ok hs hA (fun _ gn' W' O' T' K' => nm_r (nI_1 k) ?_) (fun f' M e => by cases e)
      have hN := H0 (List.getElem?_eq_none (by show 1 ≤ m - k; omega)) gn' W' O' T' K'
      exact br_c (fun _ => br_t rfl hN) (fun _ => br_t rfl (br_t rfl hN))
  | cons f2 L ih =>
    intro f k gn W O T K hk hA H0 H1
    obtain ⟨hg, h40, hp, hkp, _⟩ := zy_A_f ok.2.1 hA
    by_cases e : m = k
    · refine br_t (by rw [e]; exact nI_le (Nat.le_refl _) (by omega)) (br_f (by decide) ?_)
      rw [hg]
      refine ⟨f.length + 1, zy_ld62 h40 (fun kp' ko' h => ?_) f.length 0 kp ko (by omega) (fun j hj => by omega)⟩
      exact H1 f (by rw [e, Nat.sub_self]; rfl) _ _ _ _ _ _ _ (zy_kp_cg hkp h) h40 hp
    · refine br_f (nI_ge (by omega) (by omega)) (br_f (by decide) ?_)
      refine zy_next ok hs hA (fun e => by cases e) (fun f' M e gn' W' O' T' K' hA' => nm_r (nI_1 k) ?_)
      cases e
      have es : (f :: f2 :: L)[m - k]? = (f2 :: L)[m - (k + 1)]? := by
        rw [show m - k = (m - (k + 1)) + 1 by omega, List.getElem?_cons_succ]
      rw [es] at H0 H1
      exact ih f2 (k + 1) gn' W' O' T' K' (by omega) hA' H0 H1
theorem zy_load {post : Int32 → SY → Prop} {n : Nat} {s g : Nat → Nat} (ok : ze_ok n s g) (hs : zx_st n s g ys yg) {m : Nat} (hm : m < 2 ^ 31)
    (H0 : (ze_en n s g 40 (zx_B bl) 0 (s 0))[m]? = none → ∀ (gn' : Int32) (W' O' T' K' : Nat → Int32), post (-4) (nI n, gn', rk, yl, bl, we, ys, yg, W', O', T', K', yw, kp, ko))
    (H1 : ∀ f', (ze_en n s g 40 (zx_B bl) 0 (s 0))[m]? = some f' → ∀ (gn' : Int32) (W' O' T' K' kp' ko' : Nat → Int32), zy_kp n f' kp' ko' → f'.length ≤ 40 → 0 < f'.length →
        post 0 (nI n, gn', nI m, nI f'.length, bl, we, ys, yg, W', O', T', K', yw, kp', ko')) :
    wpY_load post (nI n, gn, rk, yl, bl, we, ys, yg, W, O, T, K, yw, kp, ko) (nI m) := by
  unfold wpY_load
  dsimp only
  refine br_t (nI_pos' hm) ?_
  refine zy_begin ok hs (fun gn' W' O' T' K' ha => ?_)
  dsimp only
  refine zy_start ok hs ha (fun e gn' W' O' T' K' => ?_) (fun f M e gn' W' O' T' K' hA => ?_)
  · have hN := H0 (by rw [e]; rfl) gn' W' O' T' K'
    exact ⟨1, br_c (fun _ => br_t rfl hN) (fun _ => br_t rfl (br_t rfl hN))⟩
  · rw [e] at H0 H1
    exact ⟨M.length + 2, zy_ld19 ok hs hm M f 0 gn' W' O' T' K' (Nat.zero_le _) hA H0 H1⟩
theorem zy_ce5 {post : Int32 → Prop} {n : Nat} {f : List (Nat × Nat)} (h40 : f.length ≤ 40) (hk : zy_kp n f kp ko) {i k : Int32} :
    ∀ (B A : List (Nat × Nat)) (b : Nat), f = A ++ B → post (zy_ce i k B b) → wY_cell_5 post i k cn gn rk (nI f.length) bl we ys yg W O T K yw kp ko (B.length + 1) (nI b) (nI A.length) := by
  intro B
  induction B with
  | nil =>
    intro A b hAB H
    rw [List.append_nil] at hAB
    subst hAB
    exact br_t (nI_le (Nat.le_refl _) (by omega)) H
  | cons p B ih =>
    intro A b hAB H
    have hp := hk A.length p (by rw [hAB]; exact zy_mid A B p)
    have hl : A.length < f.length := by rw [hAB, List.length_append, List.length_cons]; omega
    refine br_f (nI_ge hl (by omega)) ⟨vp_in_nI (by omega) (by decide), ?_⟩
    rw [nI_clamp (show A.length < 2 ^ 31 by omega), hp.1, hp.2.1]
    have i1 := fun b => ih (A ++ [p]) b (by rw [hAB, List.append_assoc]; rfl)
    rw [List.length_append] at i1
    unfold zy_ce at H
    by_cases e : nI p.2 = i
    · rw [if_pos e] at H
      refine br_t e ?_
      by_cases e2 : nI b = k
      · rw [if_pos e2] at H
        exact br_t e2 ⟨vp_in_nI (by omega) (by decide), H⟩
      · rw [if_neg e2] at H
        exact br_f e2 (nm_r (nI_1 b) (nm_r (nI_1 A.length) (i1 (b + 1) H)))
    · rw [if_neg e] at H
      exact br_f e (nm_r (nI_1 A.length) (i1 b H))
theorem zy_cell {post : Int32 → Prop} {n : Nat} {f : List (Nat × Nat)} (h40 : f.length ≤ 40) (hk : zy_kp n f kp ko) {i k : Int32} (H : post (zy_ce i k f 0)) :
    wpY_cell post (cn, gn, rk, nI f.length, bl, we, ys, yg, W, O, T, K, yw, kp, ko) i k :=
  ⟨f.length + 1, zy_ce5 h40 hk f [] 0 rfl H⟩
theorem zy_lw13 {post : Int32 → Prop} {n : Nat} {f : List (Nat × Nat)} (h40 : f.length ≤ 40) (hk : zy_kp n f kp ko) (H : post (ze_wt we f)) :
    ∀ (B A : List (Nat × Nat)), f = A ++ B → wY_loadedWeight_13 post cn gn rk (nI f.length) bl we ys yg W O T K yw kp ko (B.length + 1) (ze_wt we A) (nI A.length) := by
  intro B
  induction B with
  | nil =>
    intro A hAB
    rw [List.append_nil] at hAB
    subst hAB
    exact br_t (nI_le (Nat.le_refl _) (by omega)) H
  | cons p B ih =>
    intro A hAB
    have hp := hk A.length p (by rw [hAB]; exact zy_mid A B p)
    have hl : A.length < f.length := by rw [hAB, List.length_append, List.length_cons]; omega
    refine br_f (nI_ge hl (by omega)) ⟨vp_in_nI (by omega) (by decide), ?_⟩
    rw [nI_clamp (show A.length < 2 ^ 31 by omega), hp.1, nI_clamp (show p.1 < 2 ^ 31 by omega)]
    refine ⟨vp_in_nI hp.2.2.1 (by decide), nm_r (e' := ze_wt we (A ++ [p])) (by rw [ze_wt_app]; show _ = _ * (we p.1 * 1); grind) (nm_r (nI_1 _) ?_)⟩
    have i1 := ih (A ++ [p]) (by rw [hAB, List.append_assoc]; rfl)
    rw [List.length_append] at i1
    exact i1
theorem zy_lw {post : Int32 → Prop} {n : Nat} {f : List (Nat × Nat)} (h40 : f.length ≤ 40) (h0 : 0 < f.length) (hk : zy_kp n f kp ko) (H : post (ze_wt we f)) :
    wpY_loadedWeight post (cn, gn, rk, nI f.length, bl, we, ys, yg, W, O, T, K, yw, kp, ko) :=
  br_f (nI_ne0 h0 (by omega)) ⟨f.length + 1, zy_lw13 h40 hk H f [] rfl⟩
theorem zy_wa69 {post : Int32 → SY → Prop} {J : Int32 → (Nat → Int32) → (Nat → Int32) → (Nat → Int32) → (Nat → Int32) → (Nat → Int32) → (Nat → Int32) → (Nat → Int32) → (Nat → Int32) → (Nat → Int32) → (Nat → Int32) → (Nat → Int32) → Prop}
    {x1 x2 : Int32} {j : Nat} (hj : j < 30) (h : ∀ yw' : Nat → Int32, (∀ k, k ≠ j → yw' k = yw k) → yw' j = (if bl j = 0 then yw j else 0) → J (nI (j + 1)) bl we ys yg W O T K yw' kp ko) :
    wY_ways_69 post J x1 x2 (nI j) cn gn rk yl bl we ys yg W O T K yw kp ko := by
  have hin : vp_in (nI j) 30 := vp_in_nI hj (by decide)
  unfold wY_ways_69
  rw [nI_clamp (show j < 2 ^ 31 by omega)]
  refine ⟨hin, ?_⟩
  by_cases e : bl j = 0
  · exact br_t e (nm_r (nI_1 j) (h yw (fun _ _ => rfl) (by rw [if_pos e])))
  · exact br_f e ⟨hin, nm_e (nm_r (nI_1 j) (h _ (fun k hk => pk_un hk) (by rw [if_neg e, pk_us])))⟩
theorem zy_wa46 {post : Int32 → SY → Prop} {J : Int32 → (Nat → Int32) → (Nat → Int32) → (Nat → Int32) → (Nat → Int32) → (Nat → Int32) → (Nat → Int32) → (Nat → Int32) → (Nat → Int32) → (Nat → Int32) → (Nat → Int32) → (Nat → Int32) → Prop}
    {x1 x2 : Int32} {j : Nat} (hj : j < 30) (h : ∀ yw' : Nat → Int32, (∀ k, k ≠ j → yw' k = yw k) → yw' j = (if bl j = 0 then yw j + (if 0 < j % 5 then yw (j - 1) else 0) else 0) → J (nI (j + 1)) bl we ys yg W O T K yw' kp ko) :
    wY_ways_46 post J x1 x2 (nI j) cn gn rk yl bl we ys yg W O T K yw kp ko := by
  have hin : vp_in (nI j) 30 := vp_in_nI hj (by decide)
  unfold wY_ways_46
  rw [show nI j - nI j / 5 * 5 = nI (j % 5) from pk_rem (d := 5) (by omega) (by decide) (by decide), nI_clamp (show j < 2 ^ 31 by omega)]
  refine ⟨by decide, ?_⟩
  by_cases e : 0 < j % 5
  · rw [show nI j - 1 = nI (j - 1) from pk_sub (b := 1) (by omega), nI_clamp (show j - 1 < 2 ^ 31 by omega)]
    refine br_f (nI_nle e (by omega)) ⟨hin, vp_in_nI (by omega) (by decide), hin, nm_e (zy_wa69 hj (fun yw' h1 h2 => h yw' (fun k hk => ?_) ?_))⟩
    · rw [h1 k hk, pk_un hk]
    · rw [h2, pk_us, if_pos e]
  · refine br_t (by rw [show j % 5 = 0 by omega]; decide) (zy_wa69 hj (fun yw' h1 h2 => h yw' h1 ?_))
    rw [h2, if_neg e, Int32.add_zero]
theorem zy_wa23 {post : Int32 → SY → Prop} {J : Int32 → (Nat → Int32) → (Nat → Int32) → (Nat → Int32) → (Nat → Int32) → (Nat → Int32) → (Nat → Int32) → (Nat → Int32) → (Nat → Int32) → (Nat → Int32) → (Nat → Int32) → (Nat → Int32) → Prop}
    {x1 x2 z0 : Int32} {j : Nat} (hj : j < 30) (h : ∀ yw' : Nat → Int32, (∀ k, k ≠ j → yw' k = yw k) →
      yw' j = (if bl j = 0 then z0 + (if 5 ≤ j then yw (j - 5) else 0) + (if 0 < j % 5 then yw (j - 1) else 0) else 0) → J (nI (j + 1)) bl we ys yg W O T K yw' kp ko) :
    wY_ways_23 post J x1 x2 (nI j) z0 (nI j) cn gn rk yl bl we ys yg W O T K yw kp ko := by
  have hin : vp_in (nI j) 30 := vp_in_nI hj (by decide)
  unfold wY_ways_23
  rw [nI_clamp (show j < 2 ^ 31 by omega)]
  refine ⟨hin, nm_e ?_⟩
  by_cases e : 5 ≤ j
  · rw [show nI j - 5 = nI (j - 5) from pk_sub (b := 5) (by omega), nI_clamp (show j - 5 < 2 ^ 31 by omega)]
    refine br_f (nI_nlt (b := 5) e (by omega)) ⟨hin, vp_in_nI (by omega) (by decide), hin, nm_e (zy_wa46 hj (fun yw' h1 h2 => h yw' (fun k hk => ?_) ?_))⟩
    · rw [h1 k hk, pk_un hk, pk_un hk]
    · rw [h2, pk_us, pk_us, pk_un (show j - 5 ≠ j by omega), if_pos e]
      by_cases e1 : 0 < j % 5
      · rw [if_pos e1, if_pos e1, pk_un (show j - 1 ≠ j by omega), pk_un (show j - 1 ≠ j by omega)]
      · rw [if_neg e1, if_neg e1]
  · refine br_t (nI_lt (b := 5) (by omega) (by decide)) (zy_wa46 hj (fun yw' h1 h2 => h yw' (fun k hk => ?_) ?_))
    · rw [h1 k hk, pk_un hk]
    · rw [h2, pk_us, if_neg e, Int32.add_zero]
      by_cases e1 : 0 < j % 5
      · rw [if_pos e1, if_pos e1, pk_un (show j - 1 ≠ j by omega)]
      · rw [if_neg e1, if_neg e1]
theorem zy_wa2 {post : Int32 → SY → Prop} {c t : Nat} (hc : c < 30) (ht : t < 30)
    (H : ∀ yw' : Nat → Int32, post (zw_g (zx_B bl) (fun _ => 1) (zw_d c) t) (cn, gn, rk, yl, bl, we, ys, yg, W, O, T, K, yw', kp, ko)) :
    ∀ (d j : Nat) (yw : Nat → Int32), j + d = 30 → (∀ k, k < j → yw k = zw_g (zx_B bl) (fun _ => 1) (zw_d c) k) →
      wY_ways_2 post (nI c) (nI t) cn gn rk yl (d + 1) (nI j) bl we ys yg W O T K yw kp ko := by
  intro d
  induction d with
  | zero =>
    intro j yw hj h
    refine br_t (nI_le (a := 30) (by omega) (by omega)) ⟨vp_in_nI ht (by decide), ?_⟩
    rw [nI_clamp (show t < 2 ^ 31 by omega), h t (by omega)]
    exact H yw
  | succ d ih =>
    intro j yw hj h
    refine br_f (nI_ge (b := 30) (by omega) (by decide)) ?_
    have key : ∀ z : Int32, z = zw_d c j → wY_ways_23 post (wY_ways_2 post (nI c) (nI t) cn gn rk yl (d + 1)) (nI c) (nI t) (nI j) z (nI j) cn gn rk yl bl we ys yg W O T K yw kp ko := by
      intro z hz
      refine zy_wa23 (by omega) (fun yw' h1 h2 => ih (j + 1) yw' (by omega) (fun k hk => ?_))
      by_cases e : k = j
      · rw [e, h2, zw_eq, hz]
        unfold zw_in
        by_cases eb : bl j = 0
        · rw [if_pos eb, if_neg (show ¬ zx_B bl j = true by simp [zx_B, eb])]
          have a1 : (if 0 < j % 5 then yw (j - 1) else 0) = (if 0 < j % 5 then zw_g (zx_B bl) (fun _ => 1) (zw_d c) (j - 1) else 0) := by
            by_cases e1 : 0 < j % 5
            · rw [if_pos e1, if_pos e1, h _ (by omega)]
            · rw [if_neg e1, if_neg e1]
          have a5 : (if 5 ≤ j then yw (j - 5) else 0) = (if 5 ≤ j then zw_g (zx_B bl) (fun _ => 1) (zw_d c) (j - 5) else 0) := by
            by_cases e1 : 5 ≤ j
            · rw [if_pos e1, if_pos e1, h _ (by omega)]
            · rw [if_neg e1, if_neg e1]
          rw [a1, a5]
          grind
        · rw [if_neg eb, if_pos (show zx_B bl j = true by simp [zx_B, eb])]
      · rw [h1 k e, h k (by omega)]
    exact pk_eq j c (fun e => key 1 (by unfold zw_d; rw [if_pos e])) (fun e => key 0 (by unfold zw_d; rw [if_neg e]))
theorem zy_paths {post : Int32 → SY → Prop} {n : Nat} {s g : Nat → Nat} (ok : ze_ok n s g) (hs : zx_st n s g ys yg) {p0 p1 : Int32}
    (Hb : post (-1) (nI n, gn, rk, yl, bl, we, ys, yg, W, O, T, K, yw, kp, ko)) (i j : Nat)
    (H : p0 = nI i → i < n → p1 = nI j → j < n → ∀ yw' : Nat → Int32, post (zw_g (zx_B bl) (fun _ => 1) (zw_d (s i)) (g j)) (nI n, gn, rk, yl, bl, we, ys, yg, W, O, T, K, yw', kp, ko))
    (h0 : ¬ p0 < 0 → p0 = nI i ∧ i < 2 ^ 31) (h1 : ¬ p1 < 0 → p1 = nI j ∧ j < 2 ^ 31) :
    wpY_paths post (nI n, gn, rk, yl, bl, we, ys, yg, W, O, T, K, yw, kp, ko) p0 p1 := by
  have hn := ok.2.1
  unfold wpY_paths
  dsimp only
  refine br_c (fun _ => Hb) (fun a => ?_)
  obtain ⟨e0, i31⟩ := h0 a
  rw [e0]
  refine pk_le n i (fun _ => Hb) (fun hi => br_c (fun _ => Hb) (fun b => ?_))
  obtain ⟨e1, j31⟩ := h1 b
  rw [e1]
  refine pk_lt j n (fun hj => ?_) (fun _ => Hb)
  have h5 := ok.2.2.1 i hi
  have h9 := ok.2.2.2.2.1 j hj
  rw [nI_clamp i31, nI_clamp j31, (hs i hi).1, (hs j hj).2]
  exact ⟨vp_in_nI (by omega) (by decide), vp_in_nI (by omega) (by decide), 31, zy_wa2 (by omega) h9.2 (fun yw' => H e0 hi e1 hj yw') 30 0 yw rfl (fun k hk => by omega)⟩
end
end
section
/-! the component: findPath, load -/
def zx_ex (n : Nat) (s g : Nat → Nat) (d : Nat) (C : Nat → Bool) (j : Nat) : List (List (Nat × Nat)) :=
  if j < n then ze_en n s g d C j (s j) else [[]]
def zx_flat (P : Nat → List Nat) : Nat → List (Nat × Nat)
  | 0 => []
  | i + 1 => zx_flat P i ++ (P i).map (fun x => (x, i))
def zx_rep (n : Nat) (P : Nat → List Nat) (sz pa : Nat → Int32) : Prop :=
  ∀ i, i < n → sz i = nI (P i).length ∧ (P i).length ≤ 10 ∧ ∀ (m x : Nat), (P i)[m]? = some x → pa (10 * i + m) = nI x ∧ x < 30
/-- a family behind a cell: at a goal, to the right, or down -/
theorem zx_get {n : Nat} {s g : Nat → Nat} {d : Nat} {C : Nat → Bool} {i c lf : Nat} {f : List (Nat × Nat)} (h : (ze_en n s g (d + 1) C i c)[lf]? = some f) :
    C c = false ∧ ∃ f', f = (c, i) :: f' ∧ (c = g i → (zx_ex n s g d (zw_c C c) (i + 1))[lf]? = some f') ∧
      (c ≠ g i → (lf < (if c < 25 then ze_en n s g d (zw_c C c) i (c + 5) else []).length → c < 25 ∧ (ze_en n s g d (zw_c C c) i (c + 5))[lf]? = some f') ∧
        ((if c < 25 then ze_en n s g d (zw_c C c) i (c + 5) else []).length ≤ lf → c % 5 < g i % 5 ∧
          (ze_en n s g d (zw_c C c) i (c + 1))[lf - (if c < 25 then ze_en n s g d (zw_c C c) i (c + 5) else []).length]? = some f')) := by
  unfold ze_en at h
  by_cases hC : C c = true
  · rw [if_pos hC] at h; cases h
  · rw [if_neg hC, List.getElem?_map] at h
    refine ⟨by simpa using hC, ?_⟩
    generalize hX : (if c = g i then (if i + 1 < n then ze_en n s g d (zw_c C c) (i + 1) (s (i + 1)) else [[]])
        else (if c < 25 then ze_en n s g d (zw_c C c) i (c + 5) else []) ++ (if c % 5 < g i % 5 then ze_en n s g d (zw_c C c) i (c + 1) else [])) = X at h
    cases hf : X[lf]? with
    | none => rw [hf] at h; cases h
    | some f' =>
      rw [hf] at h
      refine ⟨f', (Option.some.inj h).symm, fun e => ?_, fun e => ?_⟩
      · rw [if_pos e] at hX
        unfold zx_ex
        rw [hX]; exact hf
      · rw [if_neg e] at hX
        rw [← hX] at hf
        refine ⟨fun hl => ?_, fun hl => ?_⟩
        · rw [List.getElem?_append_left hl] at hf
          by_cases h25 : c < 25
          · rw [if_pos h25] at hf; exact ⟨h25, hf⟩
          · rw [if_neg h25] at hf; cases hf
        · rw [List.getElem?_append_right hl] at hf
          by_cases h5 : c % 5 < g i % 5
          · rw [if_pos h5] at hf; exact ⟨h5, hf⟩
          · rw [if_neg h5] at hf; cases hf
section
variable {mn xl nb : Int32} {bl we st gl cl fr xw ma sz pa : Nat → Int32}
theorem zx_fp117 {post : Int32 → SX → Prop} {J : Int32 → Int32 → Int32 → Int32 → Int32 → Int32 → (Nat → Int32) → (Nat → Int32) → (Nat → Int32) → (Nat → Int32) → (Nat → Int32) → (Nat → Int32) → (Nat → Int32) → (Nat → Int32) → (Nat → Int32) → (Nat → Int32) → Prop}
    {x3 : Int32} {i c k : Nat} (hi : i < 4) (hc : c < 60) (h : J x3 (nI c) (nI (k + 1)) mn xl nb bl we st gl cl (upd fr i (nI c)) xw ma sz pa) : wX_findPath_117 post J (nI i) x3 (nI c) (nI k) mn xl nb bl we st gl cl fr xw ma sz pa := by
  unfold wX_findPath_117
  rw [nI_clamp (show i < 2 ^ 31 by omega), zx_i8 c (by omega), zx_vb (by omega)]
  exact ⟨vp_in_nI hi (by decide), nm_e (nm_r (nI_1 k) h)⟩
theorem zx_fp20 {post : Int32 → SX → Prop} {n : Nat} {s g : Nat → Nat} (ok : ze_ok n s g) (hs : zx_st n s g st gl) {i : Nat} (hi : i < n) :
    ∀ (d N k c lf : Nat) (cl fr xw ma sz pa : Nat → Int32) (f : List (Nat × Nat)), c < 30 → 10 * (n - 1 - i) + 10 ≤ d + c / 5 + c % 5 → k ≤ c / 5 + c % 5 → 10 ≤ N + k →
      ze_inv n s (zx_C bl cl) i c → (∀ a, i < a → a < n → fr a = nI (s a)) → sz i = nI k → (ze_en n s g d (zx_C bl cl) i c)[lf]? = some f →
      (∀ (P : List Nat) (f' : List (Nat × Nat)) (lf' d' : Nat) (cl' fr' xw' ma' sz' pa' : Nat → Int32), f = P.map (fun x => (x, i)) ++ f' → 0 < P.length → k + P.length ≤ 10 →
        (zx_ex n s g d' (zx_C bl cl') (i + 1))[lf']? = some f' → 10 * (n - 1 - i) ≤ d' → (∀ a, i < a → a < n → fr' a = nI (s a)) →
        sz' i = nI (k + P.length) → (∀ a, a ≠ i → sz' a = sz a) → (∀ q, (q < 10 * i + k ∨ 10 * i + 10 ≤ q) → pa' q = pa q) →
        (∀ (m x : Nat), P[m]? = some x → pa' (10 * i + k + m) = nI x ∧ x < 30) →
        post (nI lf') (nI n, xl, nb, bl, we, st, gl, cl', fr', xw', ma', sz', pa')) →
      wX_findPath_20 post (nI i) N (nI lf) (nI c) (nI k) (nI n) xl nb bl we st gl cl fr xw ma sz pa := by
  have hn := ok.2.1
  have hgi := ok.2.2.2.2.1 i hi
  intro d
  induction d with
  | zero => intro N k c lf cl fr xw ma sz pa f hc hd; omega
  | succ d ih =>
    intro N k c lf cl fr xw ma sz pa f hc hd hk hN hI hF hz hf H
    have hlf : lf < 2 ^ 31 := by
      obtain ⟨h, _⟩ := List.getElem?_eq_some_iff.mp hf
      exact Nat.lt_trans h (ze_small ok _ _ hi hc)
    obtain ⟨hC, f1, rfl, hgoal, hon⟩ := zx_get hf
    obtain ⟨N, rfl⟩ : ∃ N', N = N' + 1 := ⟨N - 1, by omega⟩
    have hin : vp_in (nI i) 4 := vp_in_nI (by omega) (by decide)
    refine br_f (nI_ge (b := 10) (by omega) (by decide)) ?_
    rw [show (10 * nI i : Int32) = nI (10 * i) from pk_mul 10 i, nI_add, nI_clamp (show 10 * i + k < 2 ^ 31 by omega), nI_clamp (show i < 2 ^ 31 by omega), hz,
      zx_i8 c (by omega), zx_vb (show c < 64 by omega), nI_1 k, zx_i8 (k + 1) (by omega), zx_vb (show k + 1 < 64 by omega), (hs i hi).2]
    refine ⟨vp_in_nI (by omega) (by decide), nm_e ⟨hin, hin, nm_e ⟨hin, pk_eq c (g i) (fun e => ?_) (fun e => ?_)⟩⟩⟩
    · refine ⟨vp_in_nI hc (by decide), nm_r (e' := upd cl c 1) (by rw [nI_clamp (show c < 2 ^ 31 by omega)]; rfl) ?_⟩
      refine H [c] f1 lf d _ fr xw ma _ _ rfl Nat.one_pos (by show k + 1 ≤ 10; omega) (by rw [zx_C_up]; exact hgoal e) (by omega) hF pk_us (fun a ha => pk_un ha)
        (fun q hq => pk_un (by omega)) (fun m x hm => ?_)
      match m, hm with
      | 0, hm =>
        cases hm
        exact ⟨pk_us, hc⟩
    · have ho := hon e
      refine zx_cr ok hs d i c hi hc hd hI hF (fun cl' fr' xw' ma' hcl hF' => ?_)
      dsimp only
      generalize hR : (if c < 25 then ze_en n s g d (zw_c (zx_C bl cl) c) i (c + 5) else []) = R at ho
      have hRl : R.length < 2 ^ 31 := by
        rw [← hR]
        by_cases h25 : c < 25
        · rw [if_pos h25]; exact ze_small ok _ _ hi (by omega)
        · rw [if_neg h25]; exact Nat.two_pow_pos 31
      have hup : ∀ (N' : Nat) (c' lf' : Nat), c' < 30 → (c' = c + 5 ∨ c' = c + 1) → c' / 5 + c' % 5 = c / 5 + c % 5 + 1 → N' = N → ze_inv n s (zw_c (zx_C bl cl) c) i c' →
          (ze_en n s g d (zw_c (zx_C bl cl) c) i c')[lf']? = some f1 →
          wX_findPath_117 post (wX_findPath_20 post (nI i) N) (nI i) (nI lf') (nI c') (nI k) (nI n) xl nb bl we st gl (upd cl' c 1) fr' xw' ma' (upd sz i (nI (k + 1))) (upd pa (10 * i + k) (nI c)) := by
        intro N' c' lf' hc' hcc hcs hN' hI' hf'
        refine zx_fp117 (by omega) (by omega) ?_
        rw [hcl]
        refine ih N (k + 1) c' lf' _ _ _ _ _ _ f1 hc' (by omega) (by omega) (by omega) (by rw [zx_C_up]; exact hI') (fun a ha hb => by rw [pk_un (by omega)]; exact hF' a ha hb)
          pk_us (by rw [zx_C_up]; exact hf') (fun P f' lf'' d' cl2 fr2 xw2 ma2 sz2 pa2 hP hP0 hPl hex hdd hF2 hsz hsz2 hpa hpa2 => ?_)
        refine H (c :: P) f' lf'' d' cl2 fr2 xw2 ma2 sz2 pa2 (by rw [hP]; rfl) (by rw [List.length_cons]; omega) (by rw [List.length_cons]; omega) hex hdd hF2
          (by rw [hsz, List.length_cons]; exact congrArg nI (by omega)) (fun a ha => by rw [hsz2 a ha, pk_un ha]) (fun q hq => by rw [hpa q (by omega), pk_un (by omega)]) (fun m x hm => ?_)
        match m, hm with
        | 0, hm =>
          cases hm
          refine ⟨?_, hc⟩
          rw [hpa _ (by omega)]
          exact pk_us
        | m + 1, hm =>
          have := hpa2 m x hm
          rw [show 10 * i + k + (m + 1) = 10 * i + (k + 1) + m by omega]
          exact this
      refine ⟨vp_in_nI hc (by decide), nm_r (e' := upd cl' c 1) (by rw [nI_clamp (show c < 2 ^ 31 by omega)]; rfl) (pk_le R.length lf (fun hl => ?_) (fun hl => ?_))⟩
      · obtain ⟨h5, hf'⟩ := ho.2 hl
        refine nm_r (e' := nI (lf - R.length)) (pk_sub hl) (nm_r (nI_1 c) ?_)
        exact hup N (c + 1) (lf - R.length) (by omega) (Or.inr rfl) (by omega) rfl (ze_inv_down ok.2.2.1 (by omega) hI) hf'
      · obtain ⟨h25, hf'⟩ := ho.1 hl
        refine nm_r (e' := nI (c + 5)) (nI_add c 5) ?_
        exact hup N (c + 5) lf (by omega) (Or.inl rfl) (by omega) rfl (ze_inv_right hI) hf'
theorem zx_fp {post : Int32 → SX → Prop} {n : Nat} {s g : Nat → Nat} (ok : ze_ok n s g) (hs : zx_st n s g st gl) {i : Nat} (hi : i < n) {d lf : Nat} {f : List (Nat × Nat)}
    (hd : 10 * (n - 1 - i) + 10 ≤ d) (hF : ∀ a, i < a → a < n → fr a = nI (s a)) (hf : (ze_en n s g d (zx_C bl cl) i (s i))[lf]? = some f)
    (H : ∀ (P : List Nat) (f' : List (Nat × Nat)) (lf' d' : Nat) (cl' fr' xw' ma' sz' pa' : Nat → Int32), f = P.map (fun x => (x, i)) ++ f' → 0 < P.length → P.length ≤ 10 →
        (zx_ex n s g d' (zx_C bl cl') (i + 1))[lf']? = some f' → 10 * (n - 1 - i) ≤ d' → (∀ a, i < a → a < n → fr' a = nI (s a)) →
        sz' i = nI P.length → (∀ a, a ≠ i → sz' a = sz a) → (∀ q, (q < 10 * i ∨ 10 * i + 10 ≤ q) → pa' q = pa q) →
        (∀ (m x : Nat), P[m]? = some x → pa' (10 * i + m) = nI x ∧ x < 30) →
        post (nI lf') (nI n, xl, nb, bl, we, st, gl, cl', fr', xw', ma', sz', pa')) :
    wpX_findPath post (nI n, xl, nb, bl, we, st, gl, cl, fr, xw, ma, sz, pa) (nI i) (nI lf) := by
  have hn := ok.2.1
  have h5 := ok.2.2.1 i hi
  unfold wpX_findPath
  dsimp only
  rw [nI_clamp (show i < 2 ^ 31 by omega)]
  refine ⟨vp_in_nI (by omega) (by decide), nm_r (hs i hi).1 ⟨vp_in_nI (by omega) (by decide), nm_e ⟨10, ?_⟩⟩⟩
  refine zx_fp20 ok hs hi d 10 0 (s i) lf cl fr xw ma _ pa f (by omega) (by omega) (Nat.zero_le _) (Nat.le_refl _) (ze_inv_start ok _ i) hF (by rw [pk_us]; exact zx_vb (k := 0) (by decide)) hf
    (fun P f' lf' d' cl' fr' xw' ma' sz' pa' h1 h2 h3 h4 h5 h6 h7 h8 h9 h10 => ?_)
  rw [Nat.zero_add] at h3 h7
  exact H P f' lf' d' cl' fr' xw' ma' sz' pa' h1 h2 h3 h4 h5 h6 h7 (fun a ha => by rw [h8 a ha, pk_un ha]) h9 h10
theorem zx_flat_cg {P Q : Nat → List Nat} : ∀ i, (∀ a, a < i → P a = Q a) → zx_flat P i = zx_flat Q i := by
  intro i
  induction i with
  | zero => intro _; rfl
  | succ i ih =>
    intro h
    show zx_flat P i ++ (P i).map _ = zx_flat Q i ++ (Q i).map _
    rw [ih (fun a ha => h a (by omega)), h i (Nat.lt_succ_self i)]
theorem zx_ld28 {post : Int32 → SX → Prop} {n : Nat} {s g : Nat → Nat} (ok : ze_ok n s g) (hs : zx_st n s g st gl) {x1 : Int32} (F : List (Nat × Nat))
    (H : ∀ (P : Nat → List Nat) (cl' fr' xw' ma' sz' pa' : Nat → Int32), F = zx_flat P n → zx_rep n P sz' pa' →
      post 0 (nI n, 1, x1, bl, we, st, gl, cl', fr', xw', ma', sz', pa')) :
    ∀ (m i lf d : Nat) (cl fr xw ma sz pa : Nat → Int32) (P : Nat → List Nat) (f : List (Nat × Nat)), i + m = n → F = zx_flat P i ++ f → zx_rep i P sz pa →
      (zx_ex n s g d (zx_C bl cl) i)[lf]? = some f → 10 * (n - i) ≤ d → (∀ a, i ≤ a → a < n → fr a = nI (s a)) →
      wX_load_28 post x1 (m + 1) (nI lf) (nI i) (nI n) xl nb bl we st gl cl fr xw ma sz pa := by
  have hn := ok.2.1
  intro m
  induction m with
  | zero =>
    intro i lf d cl fr xw ma sz pa P f hi hF hR hf hd hfr
    have ei : i = n := by omega
    subst ei
    refine br_t (nI_le (Nat.le_refl _) (by omega)) ?_
    unfold zx_ex at hf
    rw [if_neg (by omega)] at hf
    have hf0 : f = [] := by
      match lf, hf with
      | 0, hf => cases hf; rfl
    rw [hf0, List.append_nil] at hF
    exact H P cl fr xw ma sz pa hF hR
  | succ m ih =>
    intro i lf d cl fr xw ma sz pa P f hi hF hR hf hd hfr
    refine br_f (nI_ge (by omega) (by omega)) ?_
    unfold zx_ex at hf
    rw [if_pos (by omega)] at hf
    refine zx_fp ok hs (show i < n by omega) (d := d) (by omega) (fun a ha hb => hfr a (by omega) hb) hf
      (fun Q f' lf' d' cl' fr' xw' ma' sz' pa' h1 h2 h3 h4 h5 h6 h7 h8 h9 h10 => ?_)
    refine nm_r (nI_1 i) ?_
    refine ih (i + 1) lf' d' cl' fr' xw' ma' sz' pa' (fun a => if a = i then Q else P a) f' (by omega) ?_ (fun a ha => ?_) h4 (by omega) (fun a ha hb => h6 a (by omega) hb)
    · rw [hF, h1, ← List.append_assoc]
      show _ = zx_flat _ i ++ (if i = i then Q else P i).map _ ++ f'
      rw [if_pos rfl, zx_flat_cg (P := fun a => if a = i then Q else P a) (Q := P) i (fun a ha => if_neg (by omega))]
    · by_cases e : a = i
      · dsimp only
        rw [if_pos e, e]
        exact ⟨h7, h3, h10⟩
      · dsimp only
        rw [if_neg e, h8 a e]
        have hr := hR a (by omega)
        refine ⟨hr.1, hr.2.1, fun m x hm => ?_⟩
        have hm10 : m < 10 := by
          obtain ⟨h, _⟩ := List.getElem?_eq_some_iff.mp hm
          omega
        rw [h9 _ (by omega)]
        exact hr.2.2 m x hm
theorem zx_load {post : Int32 → SX → Prop} {n : Nat} {s g : Nat → Nat} (ok : ze_ok n s g) (hs : zx_st n s g st gl) {m : Nat} (hm : m < 2 ^ 31)
    (H0 : (ze_en n s g 40 (zx_B bl) 0 (s 0))[m]? = none → ∀ cl' fr' xw' ma' : Nat → Int32, post (-4) (nI n, xl, nb, bl, we, st, gl, cl', fr', xw', ma', sz, pa))
    (H1 : ∀ F, (ze_en n s g 40 (zx_B bl) 0 (s 0))[m]? = some F → ∀ (P : Nat → List Nat) (cl' fr' xw' ma' sz' pa' : Nat → Int32), F = zx_flat P n → zx_rep n P sz' pa' →
      post 0 (nI n, 1, nI m, bl, we, st, gl, cl', fr', xw', ma', sz', pa')) :
    wpX_load post (nI n, xl, nb, bl, we, st, gl, cl, fr, xw, ma, sz, pa) (nI m) := by
  have h1 := ok.1
  have hn := ok.2.1
  have h5 := ok.2.2.1 0 (by omega)
  unfold wpX_load
  dsimp only
  refine zx_cw ok hs none none (fun a h => by cases h) (fun a h => by cases h) (fun cl' fr' xw' ma' => ?_)
  dsimp only
  have eN : zx_N n s g bl none none = nI (ze_en n s g 40 (zx_B bl) 0 (s 0)).length := ze_sm_1 _
  have hsm : (ze_en n s g 40 (zx_B bl) 0 (s 0)).length < 2 ^ 31 := ze_small ok _ _ (by omega) (by omega)
  rw [eN]
  refine br_f (nI_pos hm) (pk_lt m _ (fun hl => ?_) (fun hl => ?_) rfl rfl hm hsm)
  · refine zx_ro ok hs (fun cl2 fr2 hc hf => ?_)
    dsimp only
    obtain ⟨F, hF⟩ : ∃ F, (ze_en n s g 40 (zx_B bl) 0 (s 0))[m]? = some F := ⟨_, List.getElem?_eq_getElem hl⟩
    refine ⟨n + 1, zx_ld28 ok hs F (fun P cl3 fr3 xw3 ma3 sz3 pa3 e hr => H1 F hF P cl3 fr3 xw3 ma3 sz3 pa3 e hr) n 0 m 40 cl2 fr2 _ _ _ _ (fun _ => []) F (by omega) rfl
      (fun i hi => by omega) ?_ (by omega) (fun a _ hb => hf a hb)⟩
    unfold zx_ex
    rw [if_pos (by omega), ze_cg ok 40 _ _ 0 (s 0) (by omega) (by omega) (fun x hx => zx_C_0 (hc x hx))]
    exact hF
  · exact H0 (List.getElem?_eq_none hl) cl' fr' xw' ma'
end
end
section
/-! the component: cell, loadedWeight; the ends -/
theorem zy_ce_skip {v1 v2 : Int32} : ∀ (A B : List (Nat × Nat)) (b : Nat), (∀ p, p ∈ A → nI p.2 ≠ v1) → zy_ce v1 v2 (A ++ B) b = zy_ce v1 v2 B b := by
  intro A
  induction A with
  | nil => intro B b _; rfl
  | cons p A ih =>
    intro B b h
    show (if nI p.2 = v1 then _ else zy_ce v1 v2 (A ++ B) b) = _
    rw [if_neg (h p (List.mem_cons_self ..)), ih B b (fun q hq => h q (List.mem_cons_of_mem _ hq))]
theorem zy_ce_hit {v1 v2 : Int32} {j : Nat} (hj : nI j = v1) : ∀ (A : List Nat) (B : List (Nat × Nat)) (b m x : Nat), A[m]? = some x → b + A.length < 2 ^ 31 → nI (b + m) = v2 →
    zy_ce v1 v2 (A.map (fun x => (x, j)) ++ B) b = nI x := by
  intro A
  induction A with
  | nil => intro B b m x h; cases h
  | cons y A ih =>
    intro B b m x h hb hv
    rw [List.length_cons] at hb
    show (if nI j = v1 then (if nI b = v2 then nI y else zy_ce v1 v2 (A.map (fun x => (x, j)) ++ B) (b + 1)) else _) = _
    rw [if_pos hj]
    match m, h, hv with
    | 0, h, hv =>
      cases h
      exact if_pos hv
    | m + 1, h, hv =>
      have hm : m < A.length := by
        rw [List.getElem?_cons_succ] at h
        obtain ⟨hm, _⟩ := List.getElem?_eq_some_iff.mp h
        exact hm
      rw [if_neg (fun e => by rw [← hv] at e; have := (nI_eq (by omega) (by omega)).mp e; omega)]
      exact ih B (b + 1) m x h (by omega) (by rw [← hv]; exact congrArg nI (by omega))
theorem zy_ce_miss {v1 v2 : Int32} {j : Nat} (hj : nI j = v1) : ∀ (A : List Nat) (B : List (Nat × Nat)) (b : Nat), (∀ m, m < A.length → nI (b + m) ≠ v2) →
    zy_ce v1 v2 (A.map (fun x => (x, j)) ++ B) b = zy_ce v1 v2 B (b + A.length) := by
  intro A
  induction A with
  | nil => intro B b _; rfl
  | cons y A ih =>
    intro B b h
    show (if nI j = v1 then (if nI b = v2 then nI y else zy_ce v1 v2 (A.map (fun x => (x, j)) ++ B) (b + 1)) else _) = _
    rw [if_pos hj, if_neg (show ¬ nI b = v2 from h 0 (by rw [List.length_cons]; omega)), ih B (b + 1) (fun m hm => by
      have := h (m + 1) (by rw [List.length_cons]; omega)
      rw [show b + 1 + m = b + (m + 1) by omega]; exact this), List.length_cons, show b + 1 + A.length = b + (A.length + 1) by omega]
theorem zx_flat_own {P : Nat → List Nat} : ∀ i, ∀ p, p ∈ zx_flat P i → p.2 < i := by
  intro i
  induction i with
  | zero => intro p h; cases h
  | succ i ih =>
    intro p h
    rcases List.mem_append.mp h with h | h
    · have := ih p h; omega
    · obtain ⟨x, _, rfl⟩ := List.mem_map.mp h
      exact Nat.lt_succ_self i
theorem zx_flat_sp (P : Nat → List Nat) (i : Nat) : ∀ d, ∃ Q, zx_flat P (i + 1 + d) = zx_flat P i ++ ((P i).map (fun x => (x, i)) ++ Q) ∧ ∀ p, p ∈ Q → i < p.2 := by
  intro d
  induction d with
  | zero => exact ⟨[], by rw [List.append_nil]; rfl, fun p h => by cases h⟩
  | succ d ih =>
    obtain ⟨Q, e, h⟩ := ih
    refine ⟨Q ++ (P (i + 1 + d)).map (fun x => (x, i + 1 + d)), ?_, fun p hp => ?_⟩
    · show zx_flat P (i + 1 + d) ++ _ = _
      rw [e, List.append_assoc, List.append_assoc]
      rfl
    · rcases List.mem_append.mp hp with hp | hp
      · exact h p hp
      · obtain ⟨x, _, rfl⟩ := List.mem_map.mp hp
        show i < i + 1 + d
        omega
theorem zy_ce_none {v1 v2 : Int32} {A : List (Nat × Nat)} {b : Nat} (h : ∀ p, p ∈ A → nI p.2 ≠ v1) : zy_ce v1 v2 A b = -4 := by
  have := zy_ce_skip (v1 := v1) (v2 := v2) A [] b h
  rw [List.append_nil] at this
  exact this
theorem zx_ce_i {P : Nat → List Nat} {n i : Nat} (hn : n ≤ 4) (hi : i < n) (v2 : Int32) :
    (∀ k x, (P i)[k]? = some x → (P i).length ≤ 10 → v2 = nI k → zy_ce (nI i) v2 (zx_flat P n) 0 = nI x) ∧
    ((∀ m, m < (P i).length → nI m ≠ v2) → zy_ce (nI i) v2 (zx_flat P n) 0 = -4) := by
  obtain ⟨Q, e, h⟩ := zx_flat_sp P i (n - (i + 1))
  rw [show i + 1 + (n - (i + 1)) = n by omega] at e
  have hown := zx_flat_own (P := P) i
  have hown2 := zx_flat_own (P := P) n
  rw [e] at hown2 ⊢
  have s1 : ∀ p, p ∈ zx_flat P i → nI p.2 ≠ nI i := fun p hp z => by
    have := hown p hp
    have := (nI_eq (by omega) (by omega)).mp z
    omega
  have s2 : ∀ p, p ∈ Q → nI p.2 ≠ nI i := fun p hp z => by
    have := h p hp
    have := hown2 p (List.mem_append.mpr (Or.inr (List.mem_append.mpr (Or.inr hp))))
    have := (nI_eq (by omega) (by omega)).mp z
    omega
  rw [zy_ce_skip _ _ _ s1]
  refine ⟨fun k x hx hl hv => ?_, fun hm => ?_⟩
  · exact zy_ce_hit rfl (P i) Q 0 k x hx (by omega) (by rw [Nat.zero_add, hv])
  · rw [zy_ce_miss rfl (P i) Q 0 (fun m h => by rw [Nat.zero_add]; exact hm m h), zy_ce_none s2]
def zx_val (we : Nat → Int32) (P : Nat → List Nat) (q : Nat) : Int32 := ze_wt we (zx_flat P (q / 10) ++ ((P (q / 10)).take (q % 10)).map (fun x => (x, q / 10)))
theorem zx_val_1 {we : Nat → Int32} {P : Nat → List Nat} {q : Nat} (hl : (P (q / 10)).length ≤ 10) :
    zx_val we P (q + 1) = ze_wt we (zx_flat P (q / 10) ++ ((P (q / 10)).take (q % 10 + 1)).map (fun x => (x, q / 10))) := by
  unfold zx_val
  by_cases e : q % 10 = 9
  · rw [show (q + 1) / 10 = q / 10 + 1 by omega, show (q + 1) % 10 = 0 by omega, e, List.take_of_length_le hl]
    show ze_wt we (zx_flat P (q / 10 + 1) ++ []) = _
    rw [List.append_nil]
    rfl
  · rw [show (q + 1) / 10 = q / 10 by omega, show (q + 1) % 10 = q % 10 + 1 by omega]
theorem zx_val_s {we : Nat → Int32} {P : Nat → List Nat} {q : Nat} (hl : (P (q / 10)).length ≤ 10) (h : (P (q / 10)).length ≤ q % 10) : zx_val we P (q + 1) = zx_val we P q := by
  rw [zx_val_1 hl]
  unfold zx_val
  rw [List.take_of_length_le h, List.take_of_length_le (by omega)]
theorem zx_val_m {we : Nat → Int32} {P : Nat → List Nat} {q x : Nat} (hl : (P (q / 10)).length ≤ 10) (h : (P (q / 10))[q % 10]? = some x) : zx_val we P (q + 1) = zx_val we P q * we x := by
  rw [zx_val_1 hl]
  unfold zx_val
  rw [List.take_add_one, h, List.map_append, ← List.append_assoc, ze_wt_app]
  show _ * (we x * 1) = _
  grind
section
variable {mn xl nb : Int32} {bl we st gl cl fr xw ma sz pa : Nat → Int32}
theorem zx_cell {post : Int32 → Prop} {n : Nat} {P : Nat → List Nat} (hn : n ≤ 4) (hr : zx_rep n P sz pa) {p0 p1 : Int32} (H : post (zy_ce p0 p1 (zx_flat P n) 0)) :
    wpX_cell post (nI n, 1, nb, bl, we, st, gl, cl, fr, xw, ma, sz, pa) p0 p1 := by
  unfold wpX_cell
  dsimp only
  have hown := zx_flat_own (P := P) n
  refine br_f (by decide) ?_
  rcases pk_ix p0 (n := n) (by omega) with h | h | ⟨i, hi, rfl⟩
  · rw [zy_ce_none (fun p hp z => by rw [← z] at h; have := hown p hp; exact nI_pos (by omega) h)] at H
    exact br_t h H
  · rw [zy_ce_none (fun p hp z => by rw [← z] at h; have := hown p hp; exact nI_ge this (by omega) h)] at H
    exact br_c (fun _ => H) (fun _ => br_t h H)
  · have hri := hr i hi
    obtain ⟨c1, c2⟩ := zx_ce_i (P := P) hn hi p1
    refine br_f (nI_pos (by omega)) (br_f (nI_ge hi (by omega)) ?_)
    rw [nI_clamp (show i < 2 ^ 31 by omega), hri.1]
    by_cases hp : p1 < 0
    · rw [c2 (fun m hm z => by rw [← z] at hp; exact nI_pos (by omega) hp)] at H
      exact br_t hp H
    · obtain ⟨k, hk, rfl⟩ := nI_of hp
      refine br_f hp ⟨vp_in_nI (by omega) (by decide), pk_lt k (P i).length (fun hl => ?_) (fun hl => ?_)⟩
      · have hx := List.getElem?_eq_getElem hl
        rw [c1 k _ hx hri.2.1 rfl] at H
        rw [show (10 * nI i : Int32) = nI (10 * i) from pk_mul 10 i, nI_add, nI_clamp (show 10 * i + k < 2 ^ 31 by omega), (hri.2.2 k _ hx).1]
        exact ⟨vp_in_nI (by omega) (by decide), H⟩
      · rw [c2 (fun m hm z => by have := (nI_eq (by omega) (by omega)).mp z; omega)] at H
        exact H
theorem zx_lw13 {post : Int32 → Prop} {n : Nat} {P : Nat → List Nat} (hn : n ≤ 4) (hr : zx_rep n P sz pa) (H : post (ze_wt we (zx_flat P n))) :
    ∀ (d q : Nat), q + d = 10 * n → wX_loadedWeight_13 post (nI n) xl nb bl we st gl cl fr xw ma sz pa (d + 1) (zx_val we P q) (nI q) := by
  intro d
  induction d with
  | zero =>
    intro q hq
    refine br_t ?_ ?_
    · rw [show (10 * nI n : Int32) = nI (10 * n) from pk_mul 10 n]
      exact nI_le (by omega) (by omega)
    · have e : zx_val we P q = ze_wt we (zx_flat P n) := by
        unfold zx_val
        rw [show q / 10 = n by omega, show q % 10 = 0 by omega]
        show ze_wt we (zx_flat P n ++ []) = _
        rw [List.append_nil]
      rw [e]; exact H
  | succ d ih =>
    intro q hq
    have hri := hr (q / 10) (by omega)
    refine br_f (by rw [show (10 * nI n : Int32) = nI (10 * n) from pk_mul 10 n]; exact nI_ge (by omega) (by omega)) ⟨by decide, by decide, ?_⟩
    rw [show nI q - nI q / 10 * 10 = nI (q % 10) from pk_rem (d := 10) (by omega) (by decide) (by decide),
      show nI q / 10 = nI (q / 10) from pk_div (d := 10) (by omega) (by decide) (by decide), nI_clamp (show q / 10 < 2 ^ 31 by omega), hri.1, nI_clamp (show q < 2 ^ 31 by omega)]
    refine ⟨vp_in_nI (by omega) (by decide), pk_le (P (q / 10)).length (q % 10) (fun hl => ?_) (fun hl => ?_)⟩
    · refine nm_r (nI_1 q) ?_
      rw [← zx_val_s (we := we) hri.2.1 hl]
      exact ih (q + 1) (by omega)
    · have hx := List.getElem?_eq_getElem hl
      have hp := hri.2.2 _ _ hx
      rw [show 10 * (q / 10) + q % 10 = q by omega] at hp
      rw [hp.1, nI_clamp (show (P (q / 10))[q % 10] < 2 ^ 31 by omega)]
      refine ⟨vp_in_nI (by omega) (by decide), vp_in_nI hp.2 (by decide), nm_r (zx_val_m (we := we) hri.2.1 hx).symm (nm_r (nI_1 q) ?_)⟩
      exact ih (q + 1) (by omega)
theorem zx_lw {post : Int32 → Prop} {n : Nat} {P : Nat → List Nat} (hn : n ≤ 4) (hr : zx_rep n P sz pa) (H : post (ze_wt we (zx_flat P n))) :
    wpX_loadedWeight post (nI n, 1, nb, bl, we, st, gl, cl, fr, xw, ma, sz, pa) :=
  br_f (by decide) ⟨10 * n + 1, zx_lw13 hn hr H (10 * n) 0 (by omega)⟩
end
/-! the ends: bits of a set of rows -/
def zn_b (p : Int32) (r : Nat) : Nat := (p >>> (nI r &&& 31)).toBitVec.toNat % 2
theorem zn_b_e (p : Int32) (r : Nat) : (p >>> (nI r &&& 31)) &&& 1 = nI (zn_b p r) := pk_and _ 1 (by decide)
theorem zn_b_2 (p : Int32) (r : Nat) : zn_b p r < 2 := Nat.mod_lt _ (by decide)
def zn_c (p : Int32) : Nat → Nat
  | 0 => 0
  | r + 1 => zn_c p r + zn_b p r
theorem zn_cs (p : Int32) (r : Nat) : zn_c p (r + 1) = zn_c p r + zn_b p r := rfl
def zn_s (p : Int32) : Nat → Nat → Nat
  | 0, _ => 0
  | r + 1, k => if zn_b p r = 1 then (if k = zn_c p r then r else zn_s p r k) else zn_s p r k
theorem zn_c_le (p : Int32) : ∀ r, r ≤ 5 → zn_c p r ≤ zn_c p 5 := by
  intro r hr
  rcases (show r = 0 ∨ r = 1 ∨ r = 2 ∨ r = 3 ∨ r = 4 ∨ r = 5 by omega) with rfl | rfl | rfl | rfl | rfl | rfl <;> simp only [zn_c] <;> omega
theorem zn_c_1 : ∀ j, j < 32 → 1 ≤ j → 1 ≤ zn_c (nI j) 5 := by decide +kernel
theorem zn_s_lt (p : Int32) : ∀ r k, k < zn_c p r → zn_s p r k < r := by
  intro r
  induction r with
  | zero => intro k h; exact absurd h (Nat.not_lt_zero k)
  | succ r ih =>
    intro k h
    have hb := zn_b_2 p r
    unfold zn_c at h
    unfold zn_s
    by_cases e : zn_b p r = 1
    · rw [if_pos e]
      by_cases ek : k = zn_c p r
      · rw [if_pos ek]; omega
      · rw [if_neg ek]; have := ih k (by omega); omega
    · rw [if_neg e]; have := ih k (by omega); omega
theorem zn_s_mono (p : Int32) : ∀ r a b, a < b → b < zn_c p r → zn_s p r a < zn_s p r b := by
  intro r
  induction r with
  | zero => intro a b _ h; exact absurd h (Nat.not_lt_zero b)
  | succ r ih =>
    intro a b hab h
    have hb := zn_b_2 p r
    unfold zn_c at h
    unfold zn_s
    by_cases e : zn_b p r = 1
    · rw [if_pos e, if_pos e, if_neg (show ¬ a = zn_c p r by omega)]
      by_cases ek : b = zn_c p r
      · rw [if_pos ek]; exact zn_s_lt p r a (by omega)
      · rw [if_neg ek]; exact ih a b hab (by omega)
    · rw [if_neg e, if_neg e]; exact ih a b hab (by omega)
theorem zn_ok {p q : Int32} (h : zn_c q 5 = zn_c p 5) (h1 : 1 ≤ zn_c p 5) (h4 : zn_c p 5 ≤ 4) : ze_ok (zn_c p 5) (zn_s p 5) (fun k => 25 + zn_s q 5 k) := by
  refine ⟨h1, h4, fun i hi => zn_s_lt p 5 i hi, fun i j hij hj => zn_s_mono p 5 i j hij hj, fun i hi => ?_, fun i j hij hj => ?_⟩
  · have := zn_s_lt q 5 i (by omega)
    dsimp only
    omega
  · have := zn_s_mono q 5 i j hij (by omega)
    dsimp only
    omega
section
variable {mn xl nb : Int32} {bl we st gl cl fr xw ma sz pa : Nat → Int32}
theorem zx_so4 {post : Int32 → Prop} {p : Int32} (H : post (nI (zn_c p 5))) : ∀ d r, r + d = 5 → wX_sizeOf_4 post p mn xl nb bl we st gl cl fr xw ma sz pa (d + 1) (nI (zn_c p r)) (nI r) := by
  intro d
  induction d with
  | zero =>
    intro r hr
    refine br_t (nI_le (a := 5) (by omega) (by omega)) ?_
    rw [show r = 5 by omega]; exact H
  | succ d ih =>
    intro r hr
    refine br_f (nI_ge (b := 5) (by omega) (by decide)) (nm_r (e' := nI (zn_c p (r + 1))) (by rw [zn_b_e, nI_add]; rfl) (nm_r (nI_1 r) (ih (r + 1) (by omega))))
theorem zx_so {post : Int32 → Prop} {p : Int32} (H : post (nI (zn_c p 5))) : wpX_sizeOf post (mn, xl, nb, bl, we, st, gl, cl, fr, xw, ma, sz, pa) p := ⟨6, zx_so4 H 5 0 rfl⟩
theorem zx_en59 {post : Int32 → SX → Prop} {p q x3 : Int32} (hp : zn_c p 5 ≤ 4) (hq : zn_c q 5 ≤ 4)
    (H : ∀ st' gl' : Nat → Int32, (∀ k, k < zn_c p 5 → st' k = nI (zn_s p 5 k)) → (∀ k, k < zn_c q 5 → gl' k = nI (25 + zn_s q 5 k)) → post x3 (x3, 0, nb, bl, we, st', gl', cl, fr, xw, ma, sz, pa)) :
    ∀ (d r : Nat) (st gl : Nat → Int32), r + d = 5 → (∀ k, k < zn_c p r → st k = nI (zn_s p r k)) → (∀ k, k < zn_c q r → gl k = nI (25 + zn_s q r k)) →
      wX_ends_59 post p q x3 mn xl nb (d + 1) (nI (zn_c p r)) (nI (zn_c q r)) (nI r) bl we st gl cl fr xw ma sz pa := by
  intro d
  induction d with
  | zero =>
    intro r st gl hr h1 h2
    have e : r = 5 := by omega
    subst e
    exact br_t (by decide) (H st gl h1 h2)
  | succ d ih =>
    intro r st gl hr h1 h2
    refine br_f (nI_ge (b := 5) (by omega) (by decide)) ?_
    have cp := zn_c_le p (r + 1) (by omega)
    have cq := zn_c_le q (r + 1) (by omega)
    have bp := zn_b_2 p r
    have bq := zn_b_2 q r
    rw [zn_cs p r] at cp
    rw [zn_cs q r] at cq
    have key : ∀ st' : Nat → Int32, (∀ k, k < zn_c p (r + 1) → st' k = nI (zn_s p (r + 1) k)) →
        wX_ends_88 post (wX_ends_59 post p q x3 mn xl nb (d + 1)) p q x3 (nI (zn_c p (r + 1))) (nI (zn_c q r)) (nI r) mn xl nb bl we st' gl cl fr xw ma sz pa := by
      intro st' h1'
      unfold wX_ends_88
      rw [zn_b_e]
      by_cases e : zn_b q r = 1
      · refine br_t (by rw [e]; rfl) ⟨vp_in_nI (by omega) (by decide), ?_⟩
        rw [show (25 + nI r : Int32) = nI (25 + r) from nI_add 25 r, zx_i8 (25 + r) (by omega), zx_vb (show 25 + r < 64 by omega), nI_clamp (show zn_c q r < 2 ^ 31 by omega)]
        refine nm_e (nm_r (e' := nI (zn_c q (r + 1))) (by rw [nI_1]; rw [zn_cs, e]) (nm_r (nI_1 r) (ih (r + 1) _ _ (by omega) h1' (fun k hk => ?_))))
        unfold zn_s
        rw [if_pos e]
        rw [zn_cs] at hk
        by_cases ek : k = zn_c q r
        · rw [if_pos ek, ek, pk_us]
        · rw [if_neg ek, pk_un ek, h2 k (by omega)]
      · have e0 : zn_b q r = 0 := by omega
        refine br_f (by rw [e0]; decide) (nm_r (nI_1 r) ?_)
        have i1 := ih (r + 1) st' gl (by omega) h1' (fun k hk => by
          unfold zn_s
          rw [if_neg e]
          rw [zn_cs] at hk
          exact h2 k (by omega))
        rw [show zn_c q (r + 1) = zn_c q r by rw [zn_cs, e0, Nat.add_zero]] at i1
        exact i1
    rw [zn_b_e]
    by_cases e : zn_b p r = 1
    · refine br_t (by rw [e]; rfl) ⟨vp_in_nI (by omega) (by decide), ?_⟩
      rw [zx_i8 r (by omega), zx_vb (show r < 64 by omega), nI_clamp (show zn_c p r < 2 ^ 31 by omega)]
      refine nm_e (nm_r (e' := nI (zn_c p (r + 1))) (by rw [nI_1]; rw [zn_cs, e]) (key _ (fun k hk => ?_)))
      unfold zn_s
      rw [if_pos e]
      rw [zn_cs] at hk
      by_cases ek : k = zn_c p r
      · rw [if_pos ek, ek, pk_us]
      · rw [if_neg ek, pk_un ek, h1 k (by omega)]
    · have e0 : zn_b p r = 0 := by omega
      refine br_f (by rw [e0]; decide) ?_
      have i1 := key st (fun k hk => by
        unfold zn_s
        rw [if_neg e]
        rw [zn_cs] at hk
        exact h1 k (by omega))
      rw [show zn_c p (r + 1) = zn_c p r by rw [zn_cs, e0, Nat.add_zero]] at i1
      exact i1
end
section
variable {cn gn rk yl : Int32} {bl we ys yg W O T K yw kp ko : Nat → Int32}
theorem zy_so4 {post : Int32 → Prop} {p : Int32} (H : post (nI (zn_c p 5))) : ∀ d r, r + d = 5 → wY_size_4 post p cn gn rk yl bl we ys yg W O T K yw kp ko (d + 1) (nI (zn_c p r)) (nI r) := by
  intro d
  induction d with
  | zero =>
    intro r hr
    refine br_t (nI_le (a := 5) (by omega) (by omega)) ?_
    rw [show r = 5 by omega]; exact H
  | succ d ih =>
    intro r hr
    refine br_f (nI_ge (b := 5) (by omega) (by decide)) (nm_r (e' := nI (zn_c p (r + 1))) (by rw [zn_b_e, nI_add]; rfl) (nm_r (nI_1 r) (ih (r + 1) (by omega))))
theorem zy_so {post : Int32 → Prop} {p : Int32} (H : post (nI (zn_c p 5))) : wpY_size post (cn, gn, rk, yl, bl, we, ys, yg, W, O, T, K, yw, kp, ko) p := ⟨6, zy_so4 H 5 0 rfl⟩
theorem zy_en60 {post : Int32 → SY → Prop} {p q x3 : Int32} (hp : zn_c p 5 ≤ 4) (hq : zn_c q 5 ≤ 4)
    (H : ∀ st' gl' : Nat → Int32, (∀ k, k < zn_c p 5 → st' k = nI (zn_s p 5 k)) → (∀ k, k < zn_c q 5 → gl' k = nI (25 + zn_s q 5 k)) → post x3 (cn, gn, -4, 0, bl, we, st', gl', W, O, T, K, yw, kp, ko)) :
    ∀ (d r : Nat) (ys yg : Nat → Int32), r + d = 5 → (∀ k, k < zn_c p r → ys k = nI (zn_s p r k)) → (∀ k, k < zn_c q r → yg k = nI (25 + zn_s q r k)) →
      wY_ends_60 post p q x3 cn gn rk yl (d + 1) (nI (zn_c p r)) (nI (zn_c q r)) (nI r) bl we ys yg W O T K yw kp ko := by
  intro d
  induction d with
  | zero =>
    intro r st gl hr h1 h2
    have e : r = 5 := by omega
    subst e
    exact br_t (by decide) (H st gl h1 h2)
  | succ d ih =>
    intro r st gl hr h1 h2
    refine br_f (nI_ge (b := 5) (by omega) (by decide)) ?_
    have cp := zn_c_le p (r + 1) (by omega)
    have cq := zn_c_le q (r + 1) (by omega)
    have bp := zn_b_2 p r
    have bq := zn_b_2 q r
    rw [zn_cs p r] at cp
    rw [zn_cs q r] at cq
    have key : ∀ st' : Nat → Int32, (∀ k, k < zn_c p (r + 1) → st' k = nI (zn_s p (r + 1) k)) →
        wY_ends_88 post (wY_ends_60 post p q x3 cn gn rk yl (d + 1)) p q x3 (nI (zn_c p (r + 1))) (nI (zn_c q r)) (nI r) cn gn rk yl bl we st' gl W O T K yw kp ko := by
      intro st' h1'
      unfold wY_ends_88
      rw [zn_b_e]
      by_cases e : zn_b q r = 1
      · refine br_t (by rw [e]; rfl) ⟨vp_in_nI (by omega) (by decide), ?_⟩
        rw [show (25 + nI r : Int32) = nI (25 + r) from nI_add 25 r, nI_clamp (show zn_c q r < 2 ^ 31 by omega)]
        refine nm_e (nm_r (e' := nI (zn_c q (r + 1))) (by rw [nI_1]; rw [zn_cs, e]) (nm_r (nI_1 r) (ih (r + 1) _ _ (by omega) h1' (fun k hk => ?_))))
        unfold zn_s
        rw [if_pos e]
        rw [zn_cs] at hk
        by_cases ek : k = zn_c q r
        · rw [if_pos ek, ek, pk_us]
        · rw [if_neg ek, pk_un ek, h2 k (by omega)]
      · have e0 : zn_b q r = 0 := by omega
        refine br_f (by rw [e0]; decide) (nm_r (nI_1 r) ?_)
        have i1 := ih (r + 1) st' gl (by omega) h1' (fun k hk => by
          unfold zn_s
          rw [if_neg e]
          rw [zn_cs] at hk
          exact h2 k (by omega))
        rw [show zn_c q (r + 1) = zn_c q r by rw [zn_cs, e0, Nat.add_zero]] at i1
        exact i1
    rw [zn_b_e]
    by_cases e : zn_b p r = 1
    · refine br_t (by rw [e]; rfl) ⟨vp_in_nI (by omega) (by decide), ?_⟩
      rw [nI_clamp (show zn_c p r < 2 ^ 31 by omega)]
      refine nm_e (nm_r (e' := nI (zn_c p (r + 1))) (by rw [nI_1]; rw [zn_cs, e]) (key _ (fun k hk => ?_)))
      unfold zn_s
      rw [if_pos e]
      rw [zn_cs] at hk
      by_cases ek : k = zn_c p r
      · rw [if_pos ek, ek, pk_us]
      · rw [if_neg ek, pk_un ek, h1 k (by omega)]
    · have e0 : zn_b p r = 0 := by omega
      refine br_f (by rw [e0]; decide) ?_
      have i1 := key st (fun k hk => by
        unfold zn_s
        rw [if_neg e]
        rw [zn_cs] at hk
        exact h1 k (by omega))
      rw [show zn_c p (r + 1) = zn_c p r by rw [zn_cs, e0, Nat.add_zero]] at i1
      exact i1
end
end
section
/-! the relation; sums over families by inclusion and exclusion -/
theorem zr_ie (a b : Nat) (L : List (List (Nat × Nat))) :
    ze_sm (fun _ => 1) L - ze_sm (fun f => if ze_has a f = true then 0 else 1) L - ze_sm (fun f => if ze_has b f = true then 0 else 1) L
      + ze_sm (fun f => if ze_has a f = true then 0 else if ze_has b f = true then 0 else 1) L
      = ze_sm (fun f => if (ze_has a f && ze_has b f) = true then 1 else 0) L := by
  induction L with
  | nil => show (0 : Int32) - 0 - 0 + 0 = 0; decide
  | cons f L ih =>
    show (1 + ze_sm (fun _ => 1) L) - ((if ze_has a f = true then 0 else 1) + ze_sm (fun f => if ze_has a f = true then 0 else 1) L)
      - ((if ze_has b f = true then 0 else 1) + ze_sm (fun f => if ze_has b f = true then 0 else 1) L)
      + ((if ze_has a f = true then 0 else if ze_has b f = true then 0 else 1) + ze_sm (fun f => if ze_has a f = true then 0 else if ze_has b f = true then 0 else 1) L)
      = (if (ze_has a f && ze_has b f) = true then 1 else 0) + ze_sm (fun f => if (ze_has a f && ze_has b f) = true then 1 else 0) L
    rw [← ih]
    cases ze_has a f <;> cases ze_has b f <;> simp only [Bool.and_true, Bool.and_false, if_true, if_false, reduceCtorEq] <;> grind
theorem zr_N1 (n : Nat) (s g : Nat → Nat) (bl : Nat → Int32) (a : Nat) :
    zx_N n s g bl (some a) none = ze_sm (fun f => if ze_has a f = true then 0 else 1) (ze_en n s g 40 (zx_B bl) 0 (s 0)) := ze_av a 40 _ _ _ _
theorem zr_N2 (n : Nat) (s g : Nat → Nat) (bl : Nat → Int32) (a b : Nat) :
    zx_N n s g bl (some a) (some b) = ze_sm (fun f => if ze_has a f = true then 0 else if ze_has b f = true then 0 else 1) (ze_en n s g 40 (zx_B bl) 0 (s 0)) :=
  (ze_av b 40 _ _ _ _).trans (ze_av a 40 _ _ _ _)
theorem zr_tb (n : Nat) (s g : Nat → Nat) (bl : Nat → Int32) (a b : Nat) :
    zx_N n s g bl none none - zx_N n s g bl (some a) none - zx_N n s g bl (some b) none + zx_N n s g bl (some a) (some b) = zy_TB n s g bl a b := by
  rw [zr_N1, zr_N1, zr_N2]
  exact zr_ie a b _
theorem zr_th (n : Nat) (s g : Nat → Nat) (bl : Nat → Int32) (a : Nat) :
    zx_N n s g bl none none - zx_N n s g bl (some a) none = zy_TB n s g bl a a := by
  rw [← zr_tb, zr_N2, zr_N1]
  rw [ze_sm_cg (φ := fun f => if ze_has a f = true then 0 else if ze_has a f = true then 0 else 1) (ψ := fun f => if ze_has a f = true then 0 else 1)
    (fun f => by by_cases h : ze_has a f = true <;> simp [h])]
  grind
theorem zr_mu (n : Nat) (s g : Nat → Nat) (bl : Nat → Int32) :
    (fun k => decide (zx_N n s g bl (some k) none = 0)) = (fun k => decide (zy_TB n s g bl k k = ze_sm (fun _ => 1) (ze_en n s g 40 (zx_B bl) 0 (s 0)))) := by
  funext k
  have e := zr_th n s g bl k
  have e0 : zx_N n s g bl none none = ze_sm (fun _ => 1) (ze_en n s g 40 (zx_B bl) 0 (s 0)) := rfl
  rw [e0] at e
  rw [← e]
  generalize ze_sm (fun _ => 1) (ze_en n s g 40 (zx_B bl) 0 (s 0)) = x
  generalize zx_N n s g bl (some k) none = y
  refine decide_eq_decide.mpr ⟨fun h => ?_, fun h => ?_⟩
  · rw [h]; grind
  · grind
def zr_L (n : Nat) (xl nb : Int32) (sz pa : Nat → Int32) (rk yl : Int32) (kp ko : Nat → Int32) : Prop :=
  (xl = 0 ∧ rk = -4 ∧ yl = 0) ∨ (xl = 1 ∧ rk = nb ∧ ∃ P : Nat → List Nat, zx_rep n P sz pa ∧ zy_kp n (zx_flat P n) kp ko ∧ (zx_flat P n).length ≤ 40 ∧
    0 < (zx_flat P n).length ∧ yl = nI (zx_flat P n).length)
def zr_R (mn xl nb : Int32) (bl we st gl sz pa : Nat → Int32) (cn rk yl : Int32) (bm wm ys yg kp ko : Nat → Int32) : Prop :=
  bm = bl ∧ wm = we ∧ ∃ (n : Nat) (s g : Nat → Nat), ze_ok n s g ∧ mn = nI n ∧ cn = nI n ∧ zx_st n s g st gl ∧ zx_st n s g ys yg ∧ zr_L n xl nb sz pa rk yl kp ko
def i_Rel (k : Nat) (u : SX) (v : SY) : Prop := match u, v with
  | (mn, xl, nb, bl, we, st, gl, cl, fr, xw, ma, sz, pa), (cn, gn, rk, yl, bm, wm, ys, yg, W, O, T, K, yw, kp, ko) => zr_R mn xl nb bl we st gl sz pa cn rk yl bm wm ys yg kp ko
theorem i_up {k : Nat} {u : SX} {v : SY} (h : i_Rel k u v) : i_Rel (k + 3) u v := h
theorem zr_el {k : Nat} {u : SX} {v : SY} {Q : SX → SY → Prop} (I : i_Rel k u v)
    (h : ∀ (n : Nat) (s g : Nat → Nat) (xl nb gn rk yl : Int32) (bl we st gl cl fr xw ma sz pa ys yg W O T K yw kp ko : Nat → Int32),
      ze_ok n s g → zx_st n s g st gl → zx_st n s g ys yg → zr_L n xl nb sz pa rk yl kp ko → Q (nI n, xl, nb, bl, we, st, gl, cl, fr, xw, ma, sz, pa) (nI n, gn, rk, yl, bl, we, ys, yg, W, O, T, K, yw, kp, ko)) : Q u v := by
  obtain ⟨mn, xl, nb, bl, we, st, gl, cl, fr, xw, ma, sz, pa⟩ := u
  obtain ⟨cn, gn, rk, yl, bm, wm, ys, yg, W, O, T, K, yw, kp, ko⟩ := v
  obtain ⟨e1, e2, n, s, g, ok, e3, e4, h1, h2, h3⟩ := I
  subst e1 e2 e3 e4
  exact h n s g xl nb gn rk yl bm wm st gl cl fr xw ma sz pa ys yg W O T K yw kp ko ok h1 h2 h3
theorem zr_in {k n : Nat} {s g : Nat → Nat} {xl nb gn rk yl : Int32} {bl we st gl cl fr xw ma sz pa ys yg W O T K yw kp ko : Nat → Int32}
    (ok : ze_ok n s g) (h1 : zx_st n s g st gl) (h2 : zx_st n s g ys yg) (h3 : zr_L n xl nb sz pa rk yl kp ko) : i_Rel k (nI n, xl, nb, bl, we, st, gl, cl, fr, xw, ma, sz, pa) (nI n, gn, rk, yl, bl, we, ys, yg, W, O, T, K, yw, kp, ko) :=
  ⟨rfl, rfl, n, s, g, ok, rfl, rfl, h1, h2, h3⟩
theorem zr_L0 {n : Nat} {nb : Int32} {sz pa kp ko : Nat → Int32} : zr_L n 0 nb sz pa (-4) 0 kp ko := Or.inl ⟨rfl, rfl, rfl⟩
/-! the constructors -/
def zr_w : Nat → Nat → Int32
  | 0 => fun _ => 0
  | j + 1 => upd (zr_w j) j 1
theorem zr_xi {post : SX → Prop}
    (H : post (1, 0, 0, (fun _ => 0), zr_w 30, upd (fun _ => 0) 0 (vp_nar .byte 0), upd (fun _ => 0) 0 (vp_nar .byte 29), (fun _ => 0), (fun _ => 0), (fun _ => 0), (fun _ => 0), (fun _ => 0), (fun _ => 0))) :
    ∀ d j, j + d = 30 → wX_init_82 post 0 0 0 (d + 1) (nI j) (fun _ => 0) (zr_w j) (fun _ => 0) (fun _ => 0) (fun _ => 0) (fun _ => 0) (fun _ => 0) (fun _ => 0) (fun _ => 0) (fun _ => 0) := by
  intro d
  induction d with
  | zero =>
    intro j hj
    have e : j = 30 := by omega
    subst e
    exact br_t (by decide) (nm_e (nm_e H))
  | succ d ih =>
    intro j hj
    refine br_f (nI_ge (b := 30) (by omega) (by decide)) ⟨vp_in_nI (by omega) (by decide), nm_r (e' := zr_w (j + 1)) (by rw [nI_clamp (show j < 2 ^ 31 by omega)]; rfl) (nm_r (nI_1 j) ?_)⟩
    exact ih (j + 1) (by omega)
theorem zr_yi {post : SY → Prop}
    (H : post (1, 0, -4, 0, (fun _ => 0), zr_w 30, upd (fun _ => 0) 0 0, upd (fun _ => 0) 0 29, (fun _ => 0), (fun _ => 0), (fun _ => 0), (fun _ => 0), (fun _ => 0), (fun _ => 0), (fun _ => 0))) :
    ∀ d j, j + d = 30 → wY_init_92 post 0 0 0 0 (d + 1) (nI j) (fun _ => 0) (zr_w j) (fun _ => 0) (fun _ => 0) (fun _ => 0) (fun _ => 0) (fun _ => 0) (fun _ => 0) (fun _ => 0) (fun _ => 0) (fun _ => 0) := by
  intro d
  induction d with
  | zero =>
    intro j hj
    have e : j = 30 := by omega
    subst e
    exact br_t (by decide) (nm_e (nm_e H))
  | succ d ih =>
    intro j hj
    refine br_f (nI_ge (b := 30) (by omega) (by decide)) ⟨vp_in_nI (by omega) (by decide), nm_r (e' := zr_w (j + 1)) (by rw [nI_clamp (show j < 2 ^ 31 by omega)]; rfl) (nm_r (nI_1 j) ?_)⟩
    exact ih (j + 1) (by omega)
theorem i_vc0 : wpX_init (fun u => wpY_init (fun v => i_Rel 0 u v)) := by
  refine ⟨31, zr_xi ?_ 30 0 rfl⟩
  refine ⟨31, zr_yi ?_ 30 0 rfl⟩
  refine zr_in (n := 1) (s := fun _ => 0) (g := fun _ => 29) ⟨by decide, by decide, fun i _ => show 0 < 5 by decide, fun i j _ _ => by omega, fun i _ => show 25 ≤ 29 ∧ 29 < 30 by decide, fun i j _ _ => by omega⟩ ?_ ?_ zr_L0
  · intro i hi
    have e : i = 0 := by omega
    subst e
    exact ⟨zx_vb (k := 0) (by decide), zx_vb (k := 29) (by decide)⟩
  · intro i hi
    have e : i = 0 := by omega
    subst e
    exact ⟨rfl, rfl⟩
end
section
/-! what is owed, one a method -/
theorem zn_c_5 (p : Int32) : zn_c p 5 ≤ 5 := by
  have := zn_b_2 p 0
  have := zn_b_2 p 1
  have := zn_b_2 p 2
  have := zn_b_2 p 3
  have := zn_b_2 p 4
  simp only [zn_c]
  omega
theorem i_vc_ends {k : Nat} {u : SX} {v : SY} (I : i_Rel k u v) (hk : k + 3 ≤ 1536) (v1 : Int32) (v2 : Int32) : wpX_ends (fun r u' => wpY_ends (fun r' v' => r' = r ∧ i_Rel (k + 3) u' v') v v1 v2) u v1 v2 := by
  refine zr_el (Q := fun u v => wpX_ends (fun r u' => wpY_ends (fun r' v' => r' = r ∧ i_Rel (k + 3) u' v') v v1 v2) u v1 v2) I ?_
  intro n s g xl nb gn rk yl bl we st gl cl fr xw ma sz pa ys yg W O T K yw kp ko ok h1 h2 h3
  have hR : i_Rel (k + 3) (nI n, xl, nb, bl, we, st, gl, cl, fr, xw, ma, sz, pa) (nI n, gn, rk, yl, bl, we, ys, yg, W, O, T, K, yw, kp, ko) := zr_in ok h1 h2 h3
  unfold wpX_ends
  dsimp only
  by_cases a1 : v1 < 1
  · exact br_t a1 (br_t a1 ⟨rfl, hR⟩)
  refine br_f a1 ?_
  by_cases a2 : 31 < v1
  · exact br_t a2 (br_f a1 (br_t a2 ⟨rfl, hR⟩))
  refine br_f a2 ?_
  by_cases a3 : v2 < 1
  · exact br_t a3 (br_f a1 (br_f a2 (br_t a3 ⟨rfl, hR⟩)))
  refine br_f a3 ?_
  by_cases a4 : v2 ≤ 31
  · have hp1 : 1 ≤ zn_c v1 5 := by
      obtain ⟨j, hj, rfl⟩ := nI_of (x := v1) (fun z => a1 (Int32.lt_trans z (by decide)))
      have b1 : ¬ j < 1 := fun z => a1 (nI_lt (b := 1) z (by decide))
      have b2 : ¬ 31 < j := fun z => a2 (nI_lt (a := 31) z hj)
      exact zn_c_1 j (by omega) (by omega)
    have c1 := zn_c_5 v1
    have c2 := zn_c_5 v2
    refine br_t a4 (zx_so (zx_so ?_))
    by_cases e : zn_c v1 5 = zn_c v2 5
    · refine br_t (by rw [e]) ?_
      by_cases h4 : zn_c v1 5 ≤ 4
      · refine br_t (nI_le (b := 4) h4 (by decide)) ⟨6, zx_en59 h4 (by omega) (fun st' gl' hst hgl => ?_) 5 0 st gl rfl (fun k hk => absurd hk (Nat.not_lt_zero k)) (fun k hk => absurd hk (Nat.not_lt_zero k))⟩
        refine br_f a1 (br_f a2 (br_f a3 (br_t a4 (zy_so (zy_so ?_)))))
        refine br_t (by rw [e]) (br_t (nI_le (b := 4) h4 (by decide)) ⟨6, zy_en60 h4 (by omega) (fun ys' yg' hys hyg => ?_) 5 0 ys yg rfl (fun k hk => absurd hk (Nat.not_lt_zero k)) (fun k hk => absurd hk (Nat.not_lt_zero k))⟩)
        refine ⟨rfl, zr_in (zn_ok e.symm hp1 h4) (fun i hi => ⟨hst i hi, hgl i (by omega)⟩) (fun i hi => ⟨hys i hi, hyg i (by omega)⟩) zr_L0⟩
      · have h4' : ¬ nI (zn_c v1 5) ≤ 4 := nI_ge (a := 4) (by omega) (by omega)
        refine br_f h4' ?_
        refine br_f a1 (br_f a2 (br_f a3 (br_t a4 (zy_so (zy_so ?_)))))
        exact br_t (by rw [e]) (br_f h4' ⟨rfl, hR⟩)
    · have e' : ¬ nI (zn_c v1 5) = nI (zn_c v2 5) := fun z => e ((nI_eq (by omega) (by omega)).mp z)
      refine br_f e' ?_
      refine br_f a1 (br_f a2 (br_f a3 (br_t a4 (zy_so (zy_so ?_)))))
      exact br_f e' ⟨rfl, hR⟩
  · exact br_f a4 (br_f a1 (br_f a2 (br_f a3 (br_f a4 ⟨rfl, hR⟩))))
theorem i_vc_block {k : Nat} {u : SX} {v : SY} (I : i_Rel k u v) (hk : k + 3 ≤ 1536) (v1 : Int32) (v2 : Int32) : wpX_block (fun r u' => wpY_block (fun r' v' => r' = r ∧ i_Rel (k + 3) u' v') v v1 v2) u v1 v2 := by
  refine zr_el (Q := fun u v => wpX_block (fun r u' => wpY_block (fun r' v' => r' = r ∧ i_Rel (k + 3) u' v') v v1 v2) u v1 v2) I ?_
  intro n s g xl nb gn rk yl bl we st gl cl fr xw ma sz pa ys yg W O T K yw kp ko ok h1 h2 h3
  have hR : i_Rel (k + 3) (nI n, xl, nb, bl, we, st, gl, cl, fr, xw, ma, sz, pa) (nI n, gn, rk, yl, bl, we, ys, yg, W, O, T, K, yw, kp, ko) := zr_in ok h1 h2 h3
  unfold wpX_block
  dsimp only
  refine zx_bad (fun z => br_f (by decide) ?_) (fun z => br_f (by decide) ?_) (fun a ha ea => br_t rfl ?_)
  · unfold wpY_block
    dsimp only
    exact zy_no (fun _ => br_f (by decide) ⟨rfl, hR⟩) (fun _ => br_f (by decide) ⟨rfl, hR⟩) (fun b hb eb => absurd z (by rw [eb]; exact nI_pos (by omega)))
  · unfold wpY_block
    dsimp only
    exact zy_no (fun _ => br_f (by decide) ⟨rfl, hR⟩) (fun _ => br_f (by decide) ⟨rfl, hR⟩) (fun b hb eb => absurd z (by rw [eb]; exact nI_ge hb (by decide)))
  · subst ea
    have hin : vp_in (nI a) 30 := vp_in_nI ha (by decide)
    refine ⟨hin, ?_⟩
    have key : ∀ z0 : Int32, (z0 = 0 ∧ bl (nI a).toNatClampNeg = 0 ∨ z0 = 1 ∧ ¬ bl (nI a).toNatClampNeg = 0) →
        wX_block_24 (fun r u' => wpY_block (fun r' v' => r' = r ∧ i_Rel (k + 3) u' v') (nI n, gn, rk, yl, bl, we, ys, yg, W, O, T, K, yw, kp, ko) (nI a) v2) (nI a) v2 z0 (nI n) xl nb bl we st gl cl fr xw ma sz pa := by
      intro z0 hz
      have ky : ∀ w : Int32, (v2 = 0 ∧ w = 0 ∨ ¬ v2 = 0 ∧ w = 1) → wpY_block (fun r' v' => r' = z0 ∧ i_Rel (k + 3) (nI n, 0, nb, upd bl (nI a).toNatClampNeg (vp_nar .boolean w), we, st, gl, cl, fr, xw, ma, sz, pa) v') (nI n, gn, rk, yl, bl, we, ys, yg, W, O, T, K, yw, kp, ko) (nI a) v2 := by
        intro w hw
        unfold wpY_block
        dsimp only
        refine zy_no (fun z => absurd z (nI_pos (by omega))) (fun z => absurd z (nI_ge ha (by decide))) (fun _ _ _ => br_t rfl ⟨hin, ?_⟩)
        have k39 : ∀ q : Int32, q = z0 → wY_block_24 (fun r' v' => r' = z0 ∧ i_Rel (k + 3) (nI n, 0, nb, upd bl (nI a).toNatClampNeg (vp_nar .boolean w), we, st, gl, cl, fr, xw, ma, sz, pa) v') (nI a) v2 q (nI n) gn rk yl bl we ys yg W O T K yw kp ko := by
          intro q hq
          unfold wY_block_24 wY_block_39 wpY_unload
          dsimp only
          rcases hw with ⟨e, rfl⟩ | ⟨e, rfl⟩
          · exact br_t e ⟨hin, nm_e ⟨hq, zr_in ok h1 h2 zr_L0⟩⟩
          · exact br_f e ⟨hin, nm_e ⟨hq, zr_in ok h1 h2 zr_L0⟩⟩
        rcases hz with ⟨rfl, hb⟩ | ⟨rfl, hb⟩
        · exact br_t hb (k39 0 rfl)
        · exact br_f hb (k39 1 rfl)
      unfold wX_block_24
      by_cases e : v2 = 0
      · exact br_t e ⟨hin, nm_e (ky 0 (Or.inl ⟨e, rfl⟩))⟩
      · exact br_f e ⟨hin, nm_e (ky 1 (Or.inr ⟨e, rfl⟩))⟩
    exact br_c (fun hb => key 0 (Or.inl ⟨rfl, hb⟩)) (fun hb => key 1 (Or.inr ⟨rfl, hb⟩))
theorem i_vc_weight {k : Nat} {u : SX} {v : SY} (I : i_Rel k u v) (hk : k + 3 ≤ 1536) (v1 : Int32) (v2 : Int32) : wpX_weight (fun r u' => wpY_weight (fun r' v' => r' = r ∧ i_Rel (k + 3) u' v') v v1 v2) u v1 v2 := by
  refine zr_el (Q := fun u v => wpX_weight (fun r u' => wpY_weight (fun r' v' => r' = r ∧ i_Rel (k + 3) u' v') v v1 v2) u v1 v2) I ?_
  intro n s g xl nb gn rk yl bl we st gl cl fr xw ma sz pa ys yg W O T K yw kp ko ok h1 h2 h3
  have hR : i_Rel (k + 3) (nI n, xl, nb, bl, we, st, gl, cl, fr, xw, ma, sz, pa) (nI n, gn, rk, yl, bl, we, ys, yg, W, O, T, K, yw, kp, ko) := zr_in ok h1 h2 h3
  unfold wpX_weight
  dsimp only
  refine zx_bad (fun z => br_f (by decide) ?_) (fun z => br_f (by decide) ?_) (fun a ha ea => br_t rfl ?_)
  · unfold wpY_weight
    dsimp only
    exact zy_no (fun _ => br_f (by decide) ⟨rfl, hR⟩) (fun _ => br_f (by decide) ⟨rfl, hR⟩) (fun b hb eb => absurd z (by rw [eb]; exact nI_pos (by omega)))
  · unfold wpY_weight
    dsimp only
    exact zy_no (fun _ => br_f (by decide) ⟨rfl, hR⟩) (fun _ => br_f (by decide) ⟨rfl, hR⟩) (fun b hb eb => absurd z (by rw [eb]; exact nI_ge hb (by decide)))
  · subst ea
    have hin : vp_in (nI a) 30 := vp_in_nI ha (by decide)
    refine ⟨hin, nm_e ?_⟩
    unfold wpY_weight
    dsimp only
    exact zy_no (fun z => absurd z (nI_pos (by omega))) (fun z => absurd z (nI_ge ha (by decide))) (fun _ _ _ => br_t rfl ⟨hin, nm_e ⟨rfl, zr_in ok h1 h2 h3⟩⟩)
section
variable {mn xl nb : Int32} {bl we st gl cl fr xw ma sz pa : Nat → Int32}
theorem zx_pg {post : Int32 → SX → Prop} {n : Nat} {s g : Nat → Nat} (ok : ze_ok n s g) (hs : zx_st n s g st gl) {i j : Nat} (hi : i < n) (hj : j < n)
    (H : ∀ cl' fr' xw' : Nat → Int32, post (zw_g (zx_B bl) (fun _ => 1) (zw_d (s i)) (g j)) (nI n, xl, nb, bl, we, st, gl, cl', fr', xw', ma, sz, pa)) :
    wpX_paths post (nI n, xl, nb, bl, we, st, gl, cl, fr, xw, ma, sz, pa) (nI i) (nI j) := by
  have hn := ok.2.1
  have h5 := ok.2.2.1 i hi
  have h9 := ok.2.2.2.2.1 j hj
  unfold wpX_paths
  dsimp only
  refine br_f (nI_pos (by omega)) (br_f (nI_ge hi (by omega)) (br_f (nI_pos (by omega)) (br_t (nI_lt hj (by omega)) ?_)))
  refine zx_ro ok hs (fun cl' fr' hc hf => ?_)
  dsimp only
  rw [nI_clamp (show i < 2 ^ 31 by omega), nI_clamp (show j < 2 ^ 31 by omega), (hs i hi).1]
  refine ⟨vp_in_nI (by omega) (by decide), zx_fw (by omega) (fun xw' hx => ?_)⟩
  dsimp only
  rw [(hs j hj).2, nI_clamp (by omega), hx _ h9.2, zw_cg (C' := zx_B bl) (g j) (fun y hy => zx_C_0 (hc y (by omega)))]
  exact ⟨vp_in_nI (by omega) (by decide), vp_in_nI (by omega) (by decide), H cl' fr' xw'⟩
end
section
variable {cn gn rk yl : Int32} {bl we ys yg W O T K yw kp ko : Nat → Int32}
theorem zy_pg {post : Int32 → SY → Prop} {n : Nat} {s g : Nat → Nat} (ok : ze_ok n s g) (hs : zx_st n s g ys yg) {i j : Nat} (hi : i < n) (hj : j < n)
    (H : ∀ yw' : Nat → Int32, post (zw_g (zx_B bl) (fun _ => 1) (zw_d (s i)) (g j)) (nI n, gn, rk, yl, bl, we, ys, yg, W, O, T, K, yw', kp, ko)) :
    wpY_paths post (nI n, gn, rk, yl, bl, we, ys, yg, W, O, T, K, yw, kp, ko) (nI i) (nI j) := by
  have hn := ok.2.1
  have h5 := ok.2.2.1 i hi
  have h9 := ok.2.2.2.2.1 j hj
  unfold wpY_paths
  dsimp only
  refine br_f (nI_pos (by omega)) (br_f (nI_ge hi (by omega)) (br_f (nI_pos (by omega)) (br_t (nI_lt hj (by omega)) ?_)))
  rw [nI_clamp (show i < 2 ^ 31 by omega), nI_clamp (show j < 2 ^ 31 by omega), (hs i hi).1, (hs j hj).2]
  exact ⟨vp_in_nI (by omega) (by decide), vp_in_nI (by omega) (by decide), 31, zy_wa2 (by omega) h9.2 H 30 0 yw rfl (fun k hk => by omega)⟩
end
theorem i_vc_paths {k : Nat} {u : SX} {v : SY} (I : i_Rel k u v) (hk : k + 3 ≤ 1536) (v1 : Int32) (v2 : Int32) : wpX_paths (fun r u' => wpY_paths (fun r' v' => r' = r ∧ i_Rel (k + 3) u' v') v v1 v2) u v1 v2 := by
  refine zr_el (Q := fun u v => wpX_paths (fun r u' => wpY_paths (fun r' v' => r' = r ∧ i_Rel (k + 3) u' v') v v1 v2) u v1 v2) I ?_
  intro n s g xl nb gn rk yl bl we st gl cl fr xw ma sz pa ys yg W O T K yw kp ko ok h1 h2 h3
  have hR : i_Rel (k + 3) (nI n, xl, nb, bl, we, st, gl, cl, fr, xw, ma, sz, pa) (nI n, gn, rk, yl, bl, we, ys, yg, W, O, T, K, yw, kp, ko) := zr_in ok h1 h2 h3
  have hn := ok.2.1
  by_cases a1 : v1 < 0
  · exact br_t a1 (br_t a1 ⟨rfl, hR⟩)
  obtain ⟨i, hi, rfl⟩ := nI_of a1
  by_cases a2 : n ≤ i
  · have a2' : nI n ≤ nI i := nI_le a2 hi
    exact br_f a1 (br_t a2' (br_f a1 (br_t a2' ⟨rfl, hR⟩)))
  have a2' : ¬ nI n ≤ nI i := nI_ge (by omega) (by omega)
  by_cases a3 : v2 < 0
  · exact br_f a1 (br_f a2' (br_t a3 (br_f a1 (br_f a2' (br_t a3 ⟨rfl, hR⟩)))))
  obtain ⟨j, hj, rfl⟩ := nI_of a3
  by_cases a4 : j < n
  · refine zx_pg ok h1 (by omega) a4 (fun cl' fr' xw' => ?_)
    refine zy_pg ok h2 (by omega) a4 (fun yw' => ?_)
    exact ⟨rfl, zr_in ok h1 h2 h3⟩
  · have a4' : ¬ nI j < nI n := nI_nlt (by omega) (by omega)
    exact br_f a1 (br_f a2' (br_f a3 (br_f a4' (br_f a1 (br_f a2' (br_f a3 (br_f a4' ⟨rfl, hR⟩)))))))
theorem i_vc_families {k : Nat} {u : SX} {v : SY} (I : i_Rel k u v) (hk : k + 3 ≤ 1536) : wpX_families (fun r u' => wpY_families (fun r' v' => r' = r ∧ i_Rel (k + 3) u' v') v) u := by
  refine zr_el (Q := fun u v => wpX_families (fun r u' => wpY_families (fun r' v' => r' = r ∧ i_Rel (k + 3) u' v') v) u) I ?_
  intro n s g xl nb gn rk yl bl we st gl cl fr xw ma sz pa ys yg W O T K yw kp ko ok h1 h2 h3
  refine zx_families ok h1 (fun cl' fr' xw' ma' => ?_)
  refine zy_families ok h2 (fun gn' W' O' T' K' => ?_)
  exact ⟨rfl, zr_in ok h1 h2 h3⟩
theorem i_vc_sum {k : Nat} {u : SX} {v : SY} (I : i_Rel k u v) (hk : k + 3 ≤ 1536) : wpX_sum (fun r u' => wpY_sum (fun r' v' => r' = r ∧ i_Rel (k + 3) u' v') v) u := by
  refine zr_el (Q := fun u v => wpX_sum (fun r u' => wpY_sum (fun r' v' => r' = r ∧ i_Rel (k + 3) u' v') v) u) I ?_
  intro n s g xl nb gn rk yl bl we st gl cl fr xw ma sz pa ys yg W O T K yw kp ko ok h1 h2 h3
  refine zx_sum ok h1 (fun cl' fr' xw' ma' => ?_)
  refine zy_sum ok h2 (fun gn' W' O' T' K' => ?_)
  exact ⟨rfl, zr_in ok h1 h2 h3⟩
theorem zr_bad {x : Int32} (h : x < 0 ∨ nI 30 ≤ x) {a : Nat} (ha : a < 30) (e : x = nI a) : False := by
  rcases h with h | h
  · rw [e] at h; exact nI_pos (by omega) h
  · rw [e] at h; exact nI_ge ha (by decide) h
theorem i_vc_through {k : Nat} {u : SX} {v : SY} (I : i_Rel k u v) (hk : k + 3 ≤ 1536) (v1 : Int32) : wpX_through (fun r u' => wpY_through (fun r' v' => r' = r ∧ i_Rel (k + 3) u' v') v v1) u v1 := by
  refine zr_el (Q := fun u v => wpX_through (fun r u' => wpY_through (fun r' v' => r' = r ∧ i_Rel (k + 3) u' v') v v1) u v1) I ?_
  intro n s g xl nb gn rk yl bl we st gl cl fr xw ma sz pa ys yg W O T K yw kp ko ok h1 h2 h3
  have hR : i_Rel (k + 3) (nI n, xl, nb, bl, we, st, gl, cl, fr, xw, ma, sz, pa) (nI n, gn, rk, yl, bl, we, ys, yg, W, O, T, K, yw, kp, ko) := zr_in ok h1 h2 h3
  have hbd : (v1 < 0 ∨ nI 30 ≤ v1) → wpX_through (fun r u' => wpY_through (fun r' v' => r' = r ∧ i_Rel (k + 3) u' v') (nI n, gn, rk, yl, bl, we, ys, yg, W, O, T, K, yw, kp, ko) v1) (nI n, xl, nb, bl, we, st, gl, cl, fr, xw, ma, sz, pa) v1 := by
    intro hb
    have hy : wpY_through (fun r' v' => r' = -1 ∧ i_Rel (k + 3) (nI n, xl, nb, bl, we, st, gl, cl, fr, xw, ma, sz, pa) v') (nI n, gn, rk, yl, bl, we, ys, yg, W, O, T, K, yw, kp, ko) v1 := by
      unfold wpY_through wpY_throughBoth
      dsimp only
      exact zy_no (fun _ => br_f (by decide) ⟨rfl, hR⟩) (fun _ => br_f (by decide) ⟨rfl, hR⟩) (fun a ha e => (zr_bad hb ha e).elim)
    unfold wpX_through
    dsimp only
    exact zx_bad (fun _ => br_f (by decide) hy) (fun _ => br_f (by decide) hy) (fun a ha e => (zr_bad hb ha e).elim)
  rcases pk_ix v1 (n := 30) (by decide) with h | h | ⟨a, ha, rfl⟩
  · exact hbd (Or.inl h)
  · exact hbd (Or.inr h)
  · refine zx_through ok h1 ha (fun cl' fr' xw' ma' => ?_)
    refine zy_through ok h2 ha (fun gn' W' O' T' K' => ?_)
    exact ⟨(zr_th n s g bl a).symm, zr_in ok h1 h2 h3⟩
theorem i_vc_throughBoth {k : Nat} {u : SX} {v : SY} (I : i_Rel k u v) (hk : k + 3 ≤ 1536) (v1 : Int32) (v2 : Int32) : wpX_throughBoth (fun r u' => wpY_throughBoth (fun r' v' => r' = r ∧ i_Rel (k + 3) u' v') v v1 v2) u v1 v2 := by
  refine zr_el (Q := fun u v => wpX_throughBoth (fun r u' => wpY_throughBoth (fun r' v' => r' = r ∧ i_Rel (k + 3) u' v') v v1 v2) u v1 v2) I ?_
  intro n s g xl nb gn rk yl bl we st gl cl fr xw ma sz pa ys yg W O T K yw kp ko ok h1 h2 h3
  have hR : i_Rel (k + 3) (nI n, xl, nb, bl, we, st, gl, cl, fr, xw, ma, sz, pa) (nI n, gn, rk, yl, bl, we, ys, yg, W, O, T, K, yw, kp, ko) := zr_in ok h1 h2 h3
  have hbd : ((v1 < 0 ∨ nI 30 ≤ v1) ∨ (v2 < 0 ∨ nI 30 ≤ v2)) → wpX_throughBoth (fun r u' => wpY_throughBoth (fun r' v' => r' = r ∧ i_Rel (k + 3) u' v') (nI n, gn, rk, yl, bl, we, ys, yg, W, O, T, K, yw, kp, ko) v1 v2) (nI n, xl, nb, bl, we, st, gl, cl, fr, xw, ma, sz, pa) v1 v2 := by
    intro hb
    have hy : wpY_throughBoth (fun r' v' => r' = -1 ∧ i_Rel (k + 3) (nI n, xl, nb, bl, we, st, gl, cl, fr, xw, ma, sz, pa) v') (nI n, gn, rk, yl, bl, we, ys, yg, W, O, T, K, yw, kp, ko) v1 v2 := by
      unfold wpY_throughBoth
      dsimp only
      refine zy_no (fun _ => br_f (by decide) ⟨rfl, hR⟩) (fun _ => br_f (by decide) ⟨rfl, hR⟩) (fun a ha e => br_t rfl ?_)
      exact zy_no (fun _ => br_f (by decide) ⟨rfl, hR⟩) (fun _ => br_f (by decide) ⟨rfl, hR⟩) (fun b hb' e' => (hb.elim (fun h => zr_bad h ha e) (fun h => zr_bad h hb' e')).elim)
    unfold wpX_throughBoth
    dsimp only
    refine zx_bad (fun _ => br_f (by decide) hy) (fun _ => br_f (by decide) hy) (fun a ha e => br_t rfl ?_)
    exact zx_bad (fun _ => br_f (by decide) hy) (fun _ => br_f (by decide) hy) (fun b hb' e' => (hb.elim (fun h => zr_bad h ha e) (fun h => zr_bad h hb' e')).elim)
  rcases pk_ix v1 (n := 30) (by decide) with h | h | ⟨a, ha, rfl⟩
  · exact hbd (Or.inl (Or.inl h))
  · exact hbd (Or.inl (Or.inr h))
  · rcases pk_ix v2 (n := 30) (by decide) with h | h | ⟨b, hb, rfl⟩
    · exact hbd (Or.inr (Or.inl h))
    · exact hbd (Or.inr (Or.inr h))
    · refine zx_throughBoth ok h1 ha hb (fun cl' fr' xw' ma' => ?_)
      refine zy_throughBoth ok h2 ha hb (fun gn' W' O' T' K' => ?_)
      exact ⟨(zr_tb n s g bl a b).symm, zr_in ok h1 h2 h3⟩
theorem i_vc_musts {k : Nat} {u : SX} {v : SY} (I : i_Rel k u v) (hk : k + 3 ≤ 1536) : wpX_musts (fun r u' => wpY_musts (fun r' v' => r' = r ∧ i_Rel (k + 3) u' v') v) u := by
  refine zr_el (Q := fun u v => wpX_musts (fun r u' => wpY_musts (fun r' v' => r' = r ∧ i_Rel (k + 3) u' v') v) u) I ?_
  intro n s g xl nb gn rk yl bl we st gl cl fr xw ma sz pa ys yg W O T K yw kp ko ok h1 h2 h3
  refine zx_musts ok h1 (fun cl' fr' xw' ma' => ?_)
  refine zy_musts ok h2 (fun gn' W' O' T' K' => ?_)
  rw [zr_mu]
  exact ⟨rfl, zr_in ok h1 h2 h3⟩
theorem i_vc_load {k : Nat} {u : SX} {v : SY} (I : i_Rel k u v) (hk : k + 3 ≤ 1536) (v1 : Int32) : wpX_load (fun r u' => wpY_load (fun r' v' => r' = r ∧ i_Rel (k + 3) u' v') v v1) u v1 := by
  refine zr_el (Q := fun u v => wpX_load (fun r u' => wpY_load (fun r' v' => r' = r ∧ i_Rel (k + 3) u' v') v v1) u v1) I ?_
  intro n s g xl nb gn rk yl bl we st gl cl fr xw ma sz pa ys yg W O T K yw kp ko ok h1 h2 h3
  by_cases a1 : v1 < 0
  · unfold wpX_load
    dsimp only
    refine zx_cw ok h1 none none (fun a h => by cases h) (fun a h => by cases h) (fun cl' fr' xw' ma' => ?_)
    refine br_t a1 ?_
    exact br_f (fun z => Int32.not_lt.mpr z a1) ⟨rfl, zr_in ok h1 h2 h3⟩
  · obtain ⟨m, hm, rfl⟩ := nI_of a1
    refine zx_load ok h1 hm (fun e cl' fr' xw' ma' => ?_) (fun F e P cl' fr' xw' ma' sz' pa' hF hrep => ?_)
    · refine zy_load ok h2 hm (fun _ gn' W' O' T' K' => ⟨rfl, zr_in ok h1 h2 h3⟩) (fun f' e' => ?_)
      rw [e] at e'; cases e'
    · refine zy_load ok h2 hm (fun e' => ?_) (fun f' e' gn' W' O' T' K' kp' ko' hk' h40 h0 => ?_)
      · rw [e] at e'; cases e'
      · rw [e] at e'
        cases e'
        subst hF
        exact ⟨rfl, zr_in ok h1 h2 (Or.inr ⟨rfl, rfl, P, hrep, hk', h40, h0, rfl⟩)⟩
theorem i_vc_cell {k : Nat} {u : SX} {v : SY} (I : i_Rel k u v) (hk : k + 3 ≤ 1536) (v1 : Int32) (v2 : Int32) : wpX_cell (fun r => wpY_cell (fun r' => r' = r ∧ i_Rel (k + 3) u v) v v1 v2) u v1 v2 := by
  refine zr_el (Q := fun u v => wpX_cell (fun r => wpY_cell (fun r' => r' = r ∧ i_Rel (k + 3) u v) v v1 v2) u v1 v2) I ?_
  intro n s g xl nb gn rk yl bl we st gl cl fr xw ma sz pa ys yg W O T K yw kp ko ok h1 h2 h3
  have hR : i_Rel (k + 3) (nI n, xl, nb, bl, we, st, gl, cl, fr, xw, ma, sz, pa) (nI n, gn, rk, yl, bl, we, ys, yg, W, O, T, K, yw, kp, ko) := zr_in ok h1 h2 h3
  rcases h3 with ⟨rfl, rfl, rfl⟩ | ⟨rfl, rfl, P, hrep, hkp, h40, h0, rfl⟩
  · exact br_t rfl ⟨1, br_t (by decide) ⟨rfl, hR⟩⟩
  · refine zx_cell ok.2.1 hrep ?_
    exact zy_cell h40 hkp ⟨rfl, hR⟩
theorem i_vc_loadedWeight {k : Nat} {u : SX} {v : SY} (I : i_Rel k u v) (hk : k + 3 ≤ 1536) : wpX_loadedWeight (fun r => wpY_loadedWeight (fun r' => r' = r ∧ i_Rel (k + 3) u v) v) u := by
  refine zr_el (Q := fun u v => wpX_loadedWeight (fun r => wpY_loadedWeight (fun r' => r' = r ∧ i_Rel (k + 3) u v) v) u) I ?_
  intro n s g xl nb gn rk yl bl we st gl cl fr xw ma sz pa ys yg W O T K yw kp ko ok h1 h2 h3
  have hR : i_Rel (k + 3) (nI n, xl, nb, bl, we, st, gl, cl, fr, xw, ma, sz, pa) (nI n, gn, rk, yl, bl, we, ys, yg, W, O, T, K, yw, kp, ko) := zr_in ok h1 h2 h3
  rcases h3 with ⟨rfl, rfl, rfl⟩ | ⟨rfl, rfl, P, hrep, hkp, h40, h0, rfl⟩
  · exact br_t rfl (br_t rfl ⟨rfl, hR⟩)
  · refine zx_lw ok.2.1 hrep ?_
    exact zy_lw h40 h0 hkp ⟨rfl, hR⟩
theorem i_vc_rank {k : Nat} {u : SX} {v : SY} (I : i_Rel k u v) (hk : k + 3 ≤ 1536) : wpX_rank (fun r => wpY_rank (fun r' => r' = r ∧ i_Rel (k + 3) u v) v) u := by
  refine zr_el (Q := fun u v => wpX_rank (fun r => wpY_rank (fun r' => r' = r ∧ i_Rel (k + 3) u v) v) u) I ?_
  intro n s g xl nb gn rk yl bl we st gl cl fr xw ma sz pa ys yg W O T K yw kp ko ok h1 h2 h3
  have hR : i_Rel (k + 3) (nI n, xl, nb, bl, we, st, gl, cl, fr, xw, ma, sz, pa) (nI n, gn, rk, yl, bl, we, ys, yg, W, O, T, K, yw, kp, ko) := zr_in ok h1 h2 h3
  rcases h3 with ⟨rfl, rfl, rfl⟩ | ⟨rfl, rfl, P, hrep, hkp, h40, h0, rfl⟩
  · exact br_t rfl ⟨rfl, hR⟩
  · exact br_f (by decide) ⟨rfl, hR⟩
end
