section
/-! rows taken from kit/rows (starting texts) -/
theorem pk_us {f : Nat → Int32} {k : Nat} {x : Int32} : upd f k x k = x := if_pos rfl
theorem pk_un {f : Nat → Int32} {k j : Nat} {x : Int32} (h : j ≠ k) : upd f k x j = f j := if_neg h
theorem pk_sub {a b : Nat} (h : b ≤ a) : nI a - nI b = nI (a - b) := by
  obtain ⟨c, rfl⟩ : ∃ c, a = c + b := ⟨a - b, by omega⟩
  rw [← nI_add, Int32.add_sub_cancel, Nat.add_sub_cancel]
theorem pk_m1 (n : Nat) : nI (n + 1) + (-1) = nI n := by
  rw [← nI_1, Int32.add_assoc, show (1 : Int32) + (-1) = 0 from rfl, Int32.add_zero]
theorem pk_mul (a b : Nat) : nI a * nI b = nI (a * b) := (Int32.ofNat_mul a b).symm
theorem pk_div {a d : Nat} (ha : a < 2 ^ 31) (h0 : 0 < d) (hd : d < 2 ^ 31) : nI a / nI d = nI (a / d) := by
  apply Int32.toInt_inj.mp
  rw [lg_idiv_nonneg (by rw [nI_toInt ha]; omega) (by rw [nI_toInt hd]; omega), nI_toInt ha, nI_toInt hd, nI_toInt (Nat.lt_of_le_of_lt (Nat.div_le_self a d) ha)]
  first | rfl | exact (Int.natCast_ediv _ _).symm
theorem pk_rem {a d : Nat} (ha : a < 2 ^ 31) (h0 : 0 < d) (hd : d < 2 ^ 31) : nI a - nI a / nI d * nI d = nI (a % d) := by
  rw [pk_div ha h0 hd, pk_mul, pk_sub (Nat.div_mul_le_self a d)]
  exact congrArg nI (by have := Nat.div_add_mod' a d; omega)
theorem pk_ix (x : Int32) {n : Nat} (hn : n < 2 ^ 31) : x < 0 ∨ nI n ≤ x ∨ ∃ j : Nat, j < n ∧ x = nI j := by
  by_cases h : x < 0
  · exact Or.inl h
  · obtain ⟨j, hj, rfl⟩ := nI_of h
    by_cases h2 : j < n
    · exact Or.inr (Or.inr ⟨j, h2, rfl⟩)
    · exact Or.inr (Or.inl (nI_le (by omega) hj))
theorem pk_le {x y : Int32} {A B : Prop} (a b : Nat) (f : a ≤ b → A) (g : b < a → B) (hx : x = nI a := by rfl) (hy : y = nI b := by rfl) (ha : a < 2 ^ 31 := by omega) (hb : b < 2 ^ 31 := by omega) : (x ≤ y → A) ∧ (¬ x ≤ y → B) := by
  subst hx hy
  rw [nI_leI ha hb]
  exact ⟨f, fun z => g (by omega)⟩
theorem pk_lt {x y : Int32} {A B : Prop} (a b : Nat) (f : a < b → A) (g : b ≤ a → B) (hx : x = nI a := by rfl) (hy : y = nI b := by rfl) (ha : a < 2 ^ 31 := by omega) (hb : b < 2 ^ 31 := by omega) : (x < y → A) ∧ (¬ x < y → B) := by
  subst hx hy
  rw [nI_ltI ha hb]
  exact ⟨f, fun z => g (by omega)⟩
theorem pk_eq {x y : Int32} {A B : Prop} (a b : Nat) (f : a = b → A) (g : a ≠ b → B) (hx : x = nI a := by rfl) (hy : y = nI b := by rfl) (ha : a < 2 ^ 31 := by omega) (hb : b < 2 ^ 31 := by omega) : (x = y → A) ∧ (¬ x = y → B) := by
  subst hx hy
  rw [nI_eq ha hb]
  exact ⟨f, g⟩
theorem pk_in {x : Int32} (n N : Nat) (h : n < N) (hx : x = nI n := by rfl) (hN : N < 2 ^ 31 := by omega) : vp_in x N := by
  subst hx
  exact vp_in_nI h hN
theorem pk_cl {x : Int32} (n : Nat) (hx : x = nI n := by rfl) (h : n < 2 ^ 31 := by omega) : x.toNatClampNeg = n := by
  subst hx
  exact nI_clamp h
theorem pk_tn {n : Nat} (h : n < 2 ^ 32) : (nI n).toBitVec.toNat = n := Nat.mod_eq_of_lt h
theorem pk_and (x : Int32) {m : Int32} (k : Nat) (hm : m.toBitVec.toNat = 2 ^ k - 1) : x &&& m = nI (x.toBitVec.toNat % 2 ^ k) := by
  apply Int32.toBitVec_inj.mp
  apply BitVec.eq_of_toNat_eq
  rw [Int32.toBitVec_and, BitVec.toNat_and, hm, Nat.and_two_pow_sub_one_eq_mod]
  show _ = (BitVec.ofNat 32 _).toNat
  rw [BitVec.toNat_ofNat]
  exact (Nat.mod_eq_of_lt (Nat.lt_of_le_of_lt (Nat.mod_le _ _) x.toBitVec.isLt)).symm
theorem pk_andN {n : Nat} (h : n < 2 ^ 32) {m : Int32} (k : Nat) (hm : m.toBitVec.toNat = 2 ^ k - 1) : nI n &&& m = nI (n % 2 ^ k) := by
  rw [pk_and _ k hm, pk_tn h]
theorem pk_shl (a s : Int32) (k : Nat) (hs : (s.toBitVec.smod 32).toNat = k) : (a <<< s).toBitVec.toNat = a.toBitVec.toNat * 2 ^ k % 2 ^ 32 := by
  show (a.toBitVec <<< (s.toBitVec.smod 32).toNat).toNat = _
  rw [hs, BitVec.toNat_shiftLeft, Nat.shiftLeft_eq]
theorem pk_shlN {n : Nat} (s : Int32) (k : Nat) (hs : (s.toBitVec.smod 32).toNat = k) (h : n * 2 ^ k < 2 ^ 32) : nI n <<< s = nI (n * 2 ^ k) := by
  apply Int32.toBitVec_inj.mp
  apply BitVec.eq_of_toNat_eq
  have hn : n < 2 ^ 32 := Nat.lt_of_le_of_lt (Nat.le_mul_of_pos_right n (Nat.two_pow_pos k)) h
  rw [pk_shl _ _ k hs, pk_tn hn, pk_tn h, Nat.mod_eq_of_lt h]
theorem pk_shr (a s : Int32) (k : Nat) (hs : (s.toBitVec.smod 32).toNat = k) : (a >>> s).toInt = a.toInt >>> k := by
  show (a.toBitVec.sshiftRight (s.toBitVec.smod 32).toNat).toInt = _
  rw [hs, BitVec.toInt_sshiftRight]
  rfl
theorem pk_shrN {n : Nat} (h : n < 2 ^ 31) (s : Int32) (k : Nat) (hs : (s.toBitVec.smod 32).toNat = k) : nI n >>> s = nI (n / 2 ^ k) := by
  apply Int32.toInt_inj.mp
  have h2 : n / 2 ^ k ≤ n := Nat.div_le_self _ _
  rw [pk_shr _ _ k hs, nI_toInt h, nI_toInt (by omega), Int.shiftRight_eq_div_pow]
  rfl
def bt (x : Int32) (i : Nat) : Bool := x.toBitVec.getLsbD i
theorem b_ext {x y : Int32} (h : ∀ i, i < 32 → bt x i = bt y i) : x = y := Int32.toBitVec_inj.mp (BitVec.eq_of_getLsbD_eq (fun i hi => h i hi))
theorem b_or (x y : Int32) (i : Nat) : bt (x ||| y) i = (bt x i || bt y i) := by unfold bt; rw [Int32.toBitVec_or, BitVec.getLsbD_or]
theorem b_and (x y : Int32) (i : Nat) : bt (x &&& y) i = (bt x i && bt y i) := by unfold bt; rw [Int32.toBitVec_and, BitVec.getLsbD_and]
theorem b_big {x : Int32} {i : Nat} (h : 32 ≤ i) : bt x i = false := BitVec.getLsbD_of_ge _ _ h
theorem b_0 (i : Nat) : bt 0 i = false := BitVec.getLsbD_zero
theorem s_l : ∀ n, n < 32 → ((nI n &&& 31).toBitVec.smod 32).toNat = n := by decide +kernel
theorem b_shl (n : Nat) (hn : n < 32) (x : Int32) {i : Nat} (hi : i < 32) : bt (x <<< (nI n &&& 31)) i = (decide (n ≤ i) && bt x (i - n)) := by
  unfold bt
  rw [Int32.toBitVec_shiftLeft]
  show (x.toBitVec <<< ((nI n &&& 31).toBitVec.smod 32).toNat).getLsbD i = _
  rw [s_l n hn, BitVec.getLsbD_shiftLeft]
  rcases Nat.lt_or_ge i n with h | h
  · simp [h, Nat.not_le.mpr h]
  · simp [hi, h, Nat.not_lt.mpr h]
theorem b_sshr (n : Nat) (hn : n < 32) (x : Int32) {i : Nat} (hi : i < 32) : bt (x >>> (nI n &&& 31)) i = if n + i < 32 then bt x (n + i) else bt x 31 := by
  unfold bt
  rw [Int32.toBitVec_shiftRight]
  show (x.toBitVec.sshiftRight ((nI n &&& 31).toBitVec.smod 32).toNat).getLsbD i = _
  rw [s_l n hn, BitVec.getLsbD_sshiftRight, BitVec.msb_eq_getLsbD_last]
  simp [hi]
end
section
/-! the plain part: graphs of a division, walks, and the law that X's test is Y's over all heaps -/
abbrev HG : Type := Nat → Option (Nat × Bool)
def hl_fr (r : Nat → Nat) (w : Nat) : Nat := r (w % 36 / 6)
def hl_to (r : Nat → Nat) (w : Nat) : Nat := r (w % 6)
def hl_Row (r : Nat → Nat) : Prop := ∀ t, t < 6 → r t < 6
theorem hl_fr_lt {r : Nat → Nat} (h : hl_Row r) (w : Nat) : hl_fr r w < 6 := h _ (by omega)
theorem hl_to_lt {r : Nat → Nat} (h : hl_Row r) (w : Nat) : hl_to r w < 6 := h _ (by omega)
def hl_put (F : HG) (g : Nat) (t : Nat) (l : Bool) : HG := fun x => if x = g then some (t, l) else F x
theorem hl_put_s (F : HG) (g t : Nat) (l : Bool) : hl_put F g t l g = some (t, l) := if_pos rfl
theorem hl_put_n (F : HG) {g x : Nat} (t : Nat) (l : Bool) (h : x ≠ g) : hl_put F g t l x = F x := if_neg h
def hl_stp (r : Nat → Nat) (w : Nat) (F : HG) : Option HG :=
  if 36 ≤ w ∧ hl_fr r w = hl_to r w then some F
  else if F (hl_fr r w) = none ∧ hl_fr r w ≠ r 5 then some (hl_put F (hl_fr r w) (hl_to r w) (decide (36 ≤ w)))
  else none
def hl_bd (r : Nat → Nat) (w : Nat → Nat) (F : HG) : Nat → Option HG
  | 0 => some F
  | n + 1 => (hl_bd r w F n).bind (hl_stp r (w n))
def hl_cd (r : Nat → Nat) (w : Nat → Nat) : Nat → Bool
  | 0 => true
  | n + 1 => hl_cd r w n && (decide (hl_fr r (w n) = hl_to r (w n)) == decide (w n < 36))
def hl_E : HG := fun _ => none
def hl_lay (r : Nat → Nat) (nc np : Nat) (cw pw : Nat → Nat) : Option HG := if hl_cd r cw nc = true then hl_bd r pw hl_E np else none
theorem hl_stp_e {r : Nat → Nat} {w : Nat} {F : HG} (h1 : 36 ≤ w) (h2 : hl_fr r w = hl_to r w) : hl_stp r w F = some F := if_pos ⟨h1, h2⟩
theorem hl_stp_p {r : Nat → Nat} {w : Nat} {F : HG} (h : ¬ (36 ≤ w ∧ hl_fr r w = hl_to r w)) (h1 : F (hl_fr r w) = none) (h2 : hl_fr r w ≠ r 5) : hl_stp r w F = some (hl_put F (hl_fr r w) (hl_to r w) (decide (36 ≤ w))) := by
  unfold hl_stp
  rw [if_neg h, if_pos ⟨h1, h2⟩]
theorem hl_stp_n {r : Nat → Nat} {w : Nat} {F : HG} (h : ¬ (36 ≤ w ∧ hl_fr r w = hl_to r w)) (h1 : ¬ (F (hl_fr r w) = none ∧ hl_fr r w ≠ r 5)) : hl_stp r w F = none := by
  unfold hl_stp
  rw [if_neg h, if_neg h1]
theorem hl_stp_c {r : Nat → Nat} {w : Nat} {F F' : HG} (h : hl_stp r w F = some F') : (36 ≤ w ∧ hl_fr r w = hl_to r w ∧ F' = F) ∨ (¬ (36 ≤ w ∧ hl_fr r w = hl_to r w) ∧ F (hl_fr r w) = none ∧ hl_fr r w ≠ r 5 ∧ F' = hl_put F (hl_fr r w) (hl_to r w) (decide (36 ≤ w))) := by
  unfold hl_stp at h
  by_cases h1 : 36 ≤ w ∧ hl_fr r w = hl_to r w
  · rw [if_pos h1] at h
    exact Or.inl ⟨h1.1, h1.2, (Option.some.inj h).symm⟩
  · rw [if_neg h1] at h
    by_cases h2 : F (hl_fr r w) = none ∧ hl_fr r w ≠ r 5
    · rw [if_pos h2] at h
      exact Or.inr ⟨h1, h2.1, h2.2, (Option.some.inj h).symm⟩
    · rw [if_neg h2] at h
      cases h
theorem hl_bd_s {r : Nat → Nat} {w : Nat → Nat} {F F' : HG} {n : Nat} (h : hl_bd r w F n = some F') : hl_bd r w F (n + 1) = hl_stp r (w n) F' := by
  show (hl_bd r w F n).bind _ = _
  rw [h]; rfl
theorem hl_bd_n {r : Nat → Nat} {w : Nat → Nat} {F : HG} {n : Nat} (h : hl_bd r w F n = none) : ∀ m, n ≤ m → hl_bd r w F m = none := by
  intro m
  induction m with
  | zero => intro hm; have e : n = 0 := by omega
            subst e; exact h
  | succ m ih =>
    intro hm
    rcases Nat.lt_or_ge n (m + 1) with z | z
    · show (hl_bd r w F m).bind _ = _
      rw [ih (by omega)]; rfl
    · have e : n = m + 1 := by omega
      subst e; exact h
theorem hl_bd_c {r : Nat → Nat} {w : Nat → Nat} {F F' : HG} {n : Nat} (h : hl_bd r w F (n + 1) = some F') : ∃ F1, hl_bd r w F n = some F1 ∧ hl_stp r (w n) F1 = some F' := by
  cases e : hl_bd r w F n with
  | none => rw [hl_bd_n e (n + 1) (by omega)] at h; cases h
  | some F1 => rw [hl_bd_s e] at h; exact ⟨F1, rfl, h⟩
theorem hl_cd_n {r : Nat → Nat} {w : Nat → Nat} {n : Nat} (h : hl_cd r w n = false) : ∀ m, n ≤ m → hl_cd r w m = false := by
  intro m
  induction m with
  | zero => intro hm; have e : n = 0 := by omega
            subst e; exact h
  | succ m ih =>
    intro hm
    rcases Nat.lt_or_ge n (m + 1) with z | z
    · show (hl_cd r w m && _) = false
      rw [ih (by omega)]; rfl
    · have e : n = m + 1 := by omega
      subst e; exact h
/-- what is known of a graph that was laid from nothing -/
def hl_GF (r : Nat → Nat) (w : Nat → Nat) (n : Nat) (F : HG) : Prop :=
  F (r 5) = none ∧ (∀ g t l, F g = some (t, l) → g < 6 ∧ t < 6 ∧ (l = true → g ≠ t)) ∧
  (∀ g t, F g = some (t, true) ↔ ∃ i, i < n ∧ 36 ≤ w i ∧ hl_fr r (w i) ≠ hl_to r (w i) ∧ hl_fr r (w i) = g ∧ hl_to r (w i) = t)
theorem hl_gf {r : Nat → Nat} (hr : hl_Row r) {w : Nat → Nat} : ∀ {n : Nat} {F : HG}, hl_bd r w hl_E n = some F → hl_GF r w n F := by
  intro n
  induction n with
  | zero =>
    intro F h
    have e : F = hl_E := (Option.some.inj h).symm
    subst e
    refine ⟨rfl, fun g t l z => (by cases z), fun g t => ⟨fun z => (by cases z), fun ⟨i, hi, _⟩ => by omega⟩⟩
  | succ n ih =>
    intro F h
    obtain ⟨F1, h1, h2⟩ := hl_bd_c h
    obtain ⟨a1, a2, a3⟩ := ih h1
    rcases hl_stp_c h2 with ⟨c1, c2, rfl⟩ | ⟨c1, c2, c3, rfl⟩
    · refine ⟨a1, a2, fun g t => ⟨fun z => ?_, fun ⟨i, hi, b1, b2, b3, b4⟩ => ?_⟩⟩
      · obtain ⟨i, hi, q⟩ := (a3 g t).mp z
        exact ⟨i, by omega, q⟩
      · have e : i ≠ n := fun e => by subst e; exact b2 c2
        exact (a3 g t).mpr ⟨i, by omega, b1, b2, b3, b4⟩
    · refine ⟨?_, fun g t l z => ?_, fun g t => ⟨fun z => ?_, fun ⟨i, hi, b1, b2, b3, b4⟩ => ?_⟩⟩
      · rw [hl_put_n _ _ _ (fun z => c3 z.symm)]; exact a1
      · by_cases e : g = hl_fr r (w n)
        · subst e
          rw [hl_put_s] at z
          have z1 := Option.some.inj z
          have z2 : hl_to r (w n) = t := congrArg Prod.fst z1
          have z3 : decide (36 ≤ w n) = l := congrArg Prod.snd z1
          refine ⟨hl_fr_lt hr _, by rw [← z2]; exact hl_to_lt hr _, fun hl => ?_⟩
          rw [hl] at z3
          rw [← z2]
          exact fun q => c1 ⟨of_decide_eq_true z3, q⟩
        · rw [hl_put_n _ _ _ e] at z
          exact a2 g t l z
      · by_cases e : g = hl_fr r (w n)
        · subst e
          rw [hl_put_s] at z
          have z1 := Option.some.inj z
          have z2 : hl_to r (w n) = t := congrArg Prod.fst z1
          have z3 : decide (36 ≤ w n) = true := congrArg Prod.snd z1
          exact ⟨n, by omega, of_decide_eq_true z3, fun q => c1 ⟨of_decide_eq_true z3, q⟩, rfl, z2⟩
        · rw [hl_put_n _ _ _ e] at z
          obtain ⟨i, hi, q⟩ := (a3 g t).mp z
          exact ⟨i, by omega, q⟩
      · by_cases e : i = n
        · subst e
          rw [← b3, ← b4, hl_put_s, decide_eq_true b1]
        · have z := (a3 g t).mpr ⟨i, by omega, b1, b2, b3, b4⟩
          by_cases e2 : g = hl_fr r (w n)
          · rw [e2] at z; rw [z] at c2; cases c2
          · rw [hl_put_n _ _ _ e2]; exact z
/-! two claims together -/
theorem hl_tg1 {r : Nat → Nat} {w : Nat → Nat} {F0 : HG} : ∀ {n : Nat} {F : HG}, hl_bd r w F0 n = some F → ∃ F1, hl_bd r w hl_E n = some F1 ∧ (∀ g, F g = none ↔ F0 g = none ∧ F1 g = none) ∧ (∀ g, F0 g = none ∨ F1 g = none) := by
  intro n
  induction n with
  | zero =>
    intro F h
    have e : F = F0 := (Option.some.inj h).symm
    subst e
    exact ⟨hl_E, rfl, fun g => ⟨fun z => ⟨z, rfl⟩, fun z => z.1⟩, fun g => Or.inr rfl⟩
  | succ n ih =>
    intro F h
    obtain ⟨F2, h1, h2⟩ := hl_bd_c h
    obtain ⟨F1, a1, a2, a3⟩ := ih h1
    rcases hl_stp_c h2 with ⟨c1, c2, rfl⟩ | ⟨c1, c2, c3, rfl⟩
    · exact ⟨F1, by rw [hl_bd_s a1, hl_stp_e c1 c2], a2, a3⟩
    · have d := (a2 _).mp c2
      refine ⟨_, by rw [hl_bd_s a1, hl_stp_p c1 d.2 c3], fun g => ?_, fun g => ?_⟩
      · by_cases e : g = hl_fr r (w n)
        · subst e
          rw [hl_put_s, hl_put_s]
          exact ⟨fun z => (by cases z), fun z => by cases z.2⟩
        · rw [hl_put_n _ _ _ e, hl_put_n _ _ _ e]; exact a2 g
      · by_cases e : g = hl_fr r (w n)
        · subst e; exact Or.inl d.1
        · rw [hl_put_n _ _ _ e]; exact a3 g
theorem hl_tg2 {r : Nat → Nat} {w : Nat → Nat} {F0 : HG} : ∀ {n : Nat} {F1 : HG}, hl_bd r w hl_E n = some F1 → (∀ g, F0 g = none ∨ F1 g = none) → ∃ F, hl_bd r w F0 n = some F ∧ (∀ g, F g = none ↔ F0 g = none ∧ F1 g = none) := by
  intro n
  induction n with
  | zero =>
    intro F1 h _
    have e : F1 = hl_E := (Option.some.inj h).symm
    subst e
    exact ⟨F0, rfl, fun g => ⟨fun z => ⟨z, rfl⟩, fun z => z.1⟩⟩
  | succ n ih =>
    intro F1 h hd
    obtain ⟨F2, h1, h2⟩ := hl_bd_c h
    rcases hl_stp_c h2 with ⟨c1, c2, rfl⟩ | ⟨c1, c2, c3, rfl⟩
    · obtain ⟨F, a1, a2⟩ := ih h1 hd
      exact ⟨F, by rw [hl_bd_s a1, hl_stp_e c1 c2], a2⟩
    · obtain ⟨F, a1, a2⟩ := ih h1 (fun g => by
        by_cases e : g = hl_fr r (w n)
        · subst e; exact Or.inr c2
        · have := hd g; rw [hl_put_n _ _ _ e] at this; exact this)
      have d : F0 (hl_fr r (w n)) = none := by
        rcases hd (hl_fr r (w n)) with z | z
        · exact z
        · rw [hl_put_s] at z; cases z
      refine ⟨_, by rw [hl_bd_s a1, hl_stp_p c1 ((a2 _).mpr ⟨d, c2⟩) c3], fun g => ?_⟩
      by_cases e : g = hl_fr r (w n)
      · subst e
        rw [hl_put_s, hl_put_s]
        exact ⟨fun z => (by cases z), fun z => by cases z.2⟩
      · rw [hl_put_n _ _ _ e, hl_put_n _ _ _ e]; exact a2 g
end
section
/-! walks with marks -/
def hl_set (U : Nat → Bool) (a : Nat) : Nat → Bool := fun g => if g = a then true else U g
theorem hl_set_s (U : Nat → Bool) (a : Nat) : hl_set U a a = true := if_pos rfl
theorem hl_set_n (U : Nat → Bool) {a g : Nat} (h : g ≠ a) : hl_set U a g = U g := if_neg h
theorem hl_set_m {U : Nat → Bool} {a g : Nat} (h : U g = true) : hl_set U a g = true := by
  by_cases e : g = a
  · subst e; exact hl_set_s _ _
  · rw [hl_set_n _ e]; exact h
theorem hl_set_c {U : Nat → Bool} {a g : Nat} (h : hl_set U a g = true) : g = a ∨ U g = true := by
  by_cases e : g = a
  · exact Or.inl e
  · rw [hl_set_n _ e] at h; exact Or.inr h
theorem hl_set_f {U : Nat → Bool} {a g : Nat} (h : hl_set U a g = false) : g ≠ a ∧ U g = false := by
  by_cases e : g = a
  · subst e; rw [hl_set_s] at h; cases h
  · rw [hl_set_n _ e] at h; exact ⟨e, h⟩
theorem hl_nt {b : Bool} (h : ¬ b = true) : b = false := by cases b <;> simp_all
def hl_f (F : HG) : Nat → Option Nat := fun g => (F g).map Prod.fst
theorem hl_f_s {F : HG} {g t : Nat} {l : Bool} (h : F g = some (t, l)) : hl_f F g = some t := by unfold hl_f; rw [h]; rfl
theorem hl_f_n {F : HG} {g : Nat} : hl_f F g = none ↔ F g = none := by
  unfold hl_f
  cases F g with
  | none => exact ⟨fun _ => rfl, fun _ => rfl⟩
  | some p => exact ⟨fun z => (by cases z), fun z => by cases z⟩
theorem hl_f_c {F : HG} {g t : Nat} (h : hl_f F g = some t) : ∃ l, F g = some (t, l) := by
  unfold hl_f at h
  cases e : F g with
  | none => rw [e] at h; cases h
  | some p =>
    rw [e] at h
    have : p.1 = t := Option.some.inj h
    exact ⟨p.2, by rw [← this]⟩
/-- Y's walk along a heap -/
def hl_wk (f : Nat → Option Nat) (e : Nat) (ls : Bool) : Nat → Nat → (Nat → Bool) → Option (Nat → Bool)
  | 0, _, _ => none
  | n + 1, a, U => match f a with
    | none => none
    | some t => if U a = true then none else if t = e then some (hl_set U a) else if ls = true then hl_wk f e ls n t (hl_set U a) else none
theorem hl_wk_c {f : Nat → Option Nat} {e : Nat} {ls : Bool} {n a : Nat} {U U' : Nat → Bool} (h : hl_wk f e ls n a U = some U') : ∃ m t, n = m + 1 ∧ f a = some t ∧ U a = false ∧ ((t = e ∧ U' = hl_set U a) ∨ (t ≠ e ∧ ls = true ∧ hl_wk f e ls m t (hl_set U a) = some U')) := by
  cases n with
  | zero => cases h
  | succ m =>
    unfold hl_wk at h
    cases ea : f a with
    | none => rw [ea] at h; cases h
    | some t =>
      rw [ea] at h
      dsimp only at h
      by_cases hu : U a = true
      · rw [if_pos hu] at h; cases h
      · rw [if_neg hu] at h
        by_cases ht : t = e
        · rw [if_pos ht] at h
          exact ⟨m, t, rfl, rfl, hl_nt hu, Or.inl ⟨ht, (Option.some.inj h).symm⟩⟩
        · rw [if_neg ht] at h
          by_cases hl : ls = true
          · rw [if_pos hl] at h
            exact ⟨m, t, rfl, rfl, hl_nt hu, Or.inr ⟨ht, hl, h⟩⟩
          · rw [if_neg hl] at h; cases h
theorem hl_wk_e {f : Nat → Option Nat} {e : Nat} {ls : Bool} {n a : Nat} {U : Nat → Bool} (h1 : f a = some e) (h2 : U a = false) : hl_wk f e ls (n + 1) a U = some (hl_set U a) := by
  unfold hl_wk
  rw [h1]
  dsimp only
  rw [if_neg (by rw [h2]; decide), if_pos rfl]
theorem hl_wk_t {f : Nat → Option Nat} {e t : Nat} {n a : Nat} {U : Nat → Bool} (h1 : f a = some t) (h2 : U a = false) (h3 : t ≠ e) : hl_wk f e true (n + 1) a U = hl_wk f e true n t (hl_set U a) := by
  rw [hl_wk.eq_2]
  rw [h1]
  dsimp only
  rw [if_neg (by rw [h2]; decide), if_neg h3, if_pos rfl]
theorem hl_wk_m {f : Nat → Option Nat} {e : Nat} {ls : Bool} : ∀ {n a : Nat} {U U' : Nat → Bool} {x : Nat}, hl_wk f e ls n a U = some U' → U x = true → U' x = true := by
  intro n
  induction n with
  | zero => intro a U U' x h; cases h
  | succ n ih =>
    intro a U U' x h hx
    obtain ⟨m, t, em, ea, eu, q⟩ := hl_wk_c h
    have em' : m = n := by omega
    subst em'
    rcases q with ⟨_, rfl⟩ | ⟨_, _, q⟩
    · exact hl_set_m hx
    · exact ih q (hl_set_m hx)
/-- one part of claim 1 -/
def hl_wp (f : Nat → Option Nat) (r : Nat → Nat) (w : Nat) (U : Nat → Bool) : Option (Nat → Bool) :=
  if 36 ≤ w ∧ hl_fr r w = hl_to r w then some U else hl_wk f (hl_to r w) (decide (36 ≤ w)) 16 (hl_fr r w) U
def hl_wf (f : Nat → Option Nat) (r : Nat → Nat) (w : Nat → Nat) : Nat → Option (Nat → Bool)
  | 0 => some (fun _ => false)
  | n + 1 => (hl_wf f r w n).bind (hl_wp f r (w n))
theorem hl_wf_s {f : Nat → Option Nat} {r : Nat → Nat} {w : Nat → Nat} {U : Nat → Bool} {n : Nat} (h : hl_wf f r w n = some U) : hl_wf f r w (n + 1) = hl_wp f r (w n) U := by
  show (hl_wf f r w n).bind _ = _
  rw [h]; rfl
theorem hl_wf_c {f : Nat → Option Nat} {r : Nat → Nat} {w : Nat → Nat} {U' : Nat → Bool} {n : Nat} (h : hl_wf f r w (n + 1) = some U') : ∃ U, hl_wf f r w n = some U ∧ hl_wp f r (w n) U = some U' := by
  cases e : hl_wf f r w n with
  | none =>
    have : hl_wf f r w (n + 1) = none := by
      show (hl_wf f r w n).bind _ = _
      rw [e]; rfl
    rw [this] at h; cases h
  | some U => rw [hl_wf_s e] at h; exact ⟨U, rfl, h⟩
theorem hl_wf_n {f : Nat → Option Nat} {r : Nat → Nat} {w : Nat → Nat} {n : Nat} (h : hl_wf f r w n = none) : ∀ m, n ≤ m → hl_wf f r w m = none := by
  intro m
  induction m with
  | zero => intro hm; have e : n = 0 := by omega
            subst e; exact h
  | succ m ih =>
    intro hm
    rcases Nat.lt_or_ge n (m + 1) with z | z
    · show (hl_wf f r w m).bind _ = _
      rw [ih (by omega)]; rfl
    · have e : n = m + 1 := by omega
      subst e; exact h
theorem hl_wf_p {f : Nat → Option Nat} {r : Nat → Nat} {w : Nat → Nat} {n : Nat} {U' : Nat → Bool} (h : hl_wf f r w n = some U') {i : Nat} (hi : i ≤ n) : ∃ U, hl_wf f r w i = some U := by
  cases e : hl_wf f r w i with
  | none => rw [hl_wf_n e n hi] at h; cases h
  | some U => exact ⟨U, rfl⟩
theorem hl_wp_m {f : Nat → Option Nat} {r : Nat → Nat} {w : Nat} {U U' : Nat → Bool} {x : Nat} (h : hl_wp f r w U = some U') (hx : U x = true) : U' x = true := by
  unfold hl_wp at h
  by_cases c : 36 ≤ w ∧ hl_fr r w = hl_to r w
  · rw [if_pos c] at h; rw [← Option.some.inj h]; exact hx
  · rw [if_neg c] at h; exact hl_wk_m h hx
theorem hl_wf_m {f : Nat → Option Nat} {r : Nat → Nat} {w : Nat → Nat} {i : Nat} {U : Nat → Bool} {x : Nat} (h : hl_wf f r w i = some U) (hx : U x = true) : ∀ {j : Nat} {U' : Nat → Bool}, i ≤ j → hl_wf f r w j = some U' → U' x = true := by
  intro j
  induction j with
  | zero => intro U' hj h'; have e : i = 0 := by omega
            subst e; rw [h] at h'; rw [← Option.some.inj h']; exact hx
  | succ j ih =>
    intro U' hj h'
    rcases Nat.lt_or_ge i (j + 1) with z | z
    · obtain ⟨V, v1, v2⟩ := hl_wf_c h'
      exact hl_wp_m v2 (ih (by omega) v1)
    · have e : i = j + 1 := by omega
      subst e; rw [h] at h'; rw [← Option.some.inj h']; exact hx
def hl_fit (f : Nat → Option Nat) (r : Nat → Nat) (nc np : Nat) (cw pw : Nat → Nat) (ex : Bool) : Prop :=
  hl_cd r cw nc = true ∧ ∃ U, hl_wf f r pw np = some U ∧ (ex = true → ∀ g, g < 7 → f g ≠ none → U g = true)
/-- X's walk along the edges -/
def hl_ul (F : HG) (e : Nat) (out : Bool) : Nat → Nat → (Nat → Bool) → Option (Nat → Bool)
  | 0, a, U => if a = e then some U else none
  | n + 1, a, U => if a = e then some U else match F a with
    | none => none
    | some p => if U a = true then none else if p.1 = e ∨ out = true ∨ p.2 = false then hl_ul F e out n p.1 (hl_set U a) else none
theorem hl_ul_e (F : HG) (e : Nat) (out : Bool) (n : Nat) (U : Nat → Bool) : hl_ul F e out n e U = some U := by
  cases n with
  | zero => rw [hl_ul.eq_1, if_pos rfl]
  | succ n => rw [hl_ul.eq_2, if_pos rfl]
theorem hl_ul_c {F : HG} {e : Nat} {out : Bool} {n a : Nat} {U U' : Nat → Bool} (h : hl_ul F e out n a U = some U') (ha : a ≠ e) : ∃ m t l, n = m + 1 ∧ F a = some (t, l) ∧ U a = false ∧ (t = e ∨ out = true ∨ l = false) ∧ hl_ul F e out m t (hl_set U a) = some U' := by
  cases n with
  | zero => rw [hl_ul.eq_1, if_neg ha] at h; cases h
  | succ m =>
    rw [hl_ul.eq_2, if_neg ha] at h
    cases ea : F a with
    | none => rw [ea] at h; cases h
    | some p =>
      rw [ea] at h
      dsimp only at h
      by_cases hu : U a = true
      · rw [if_pos hu] at h; cases h
      · rw [if_neg hu] at h
        by_cases hc : p.1 = e ∨ out = true ∨ p.2 = false
        · rw [if_pos hc] at h
          exact ⟨m, p.1, p.2, rfl, rfl, hl_nt hu, hc, h⟩
        · rw [if_neg hc] at h; cases h
theorem hl_ul_t {F : HG} {e t : Nat} {l out : Bool} {n a : Nat} {U : Nat → Bool} (ha : a ≠ e) (h1 : F a = some (t, l)) (h2 : U a = false) (h3 : t = e ∨ out = true ∨ l = false) : hl_ul F e out (n + 1) a U = hl_ul F e out n t (hl_set U a) := by
  rw [hl_ul.eq_2, if_neg ha, h1]
  dsimp only
  rw [if_neg (by rw [h2]; decide), if_pos h3]
theorem hl_ul_m {F : HG} {e : Nat} {out : Bool} : ∀ {n a : Nat} {U U' : Nat → Bool} {x : Nat}, hl_ul F e out n a U = some U' → U x = true → U' x = true := by
  intro n
  induction n with
  | zero =>
    intro a U U' x h hx
    by_cases ha : a = e
    · subst ha; rw [hl_ul_e] at h; rw [← Option.some.inj h]; exact hx
    · obtain ⟨m, t, l, em, _⟩ := hl_ul_c h ha; omega
  | succ n ih =>
    intro a U U' x h hx
    by_cases ha : a = e
    · subst ha; rw [hl_ul_e] at h; rw [← Option.some.inj h]; exact hx
    · obtain ⟨m, t, l, em, _, _, _, q⟩ := hl_ul_c h ha
      have em' : m = n := by omega
      subst em'
      exact ih q (hl_set_m hx)
def hl_uc (F : HG) (b a : Nat) (U : Nat → Bool) : Option (Nat → Bool) := if F a = some (b, false) ∧ U a = false then some (hl_set U a) else none
def hl_out (F : HG) (r : Nat → Nat) (ex : Bool) (w : Nat) : Bool := !ex || decide (hl_to r w = r 5) || (F (hl_to r w)).isSome
def hl_up (F : HG) (r : Nat → Nat) (ex : Bool) (w : Nat) (U : Nat → Bool) : Option (Nat → Bool) :=
  if 36 ≤ w then hl_ul F (hl_to r w) (hl_out F r ex w) 6 (hl_fr r w) U else hl_uc F (hl_to r w) (hl_fr r w) U
def hl_uf (F : HG) (r : Nat → Nat) (ex : Bool) (w : Nat → Nat) : Nat → Option (Nat → Bool)
  | 0 => some (fun _ => false)
  | n + 1 => (hl_uf F r ex w n).bind (hl_up F r ex (w n))
theorem hl_uf_s {F : HG} {r : Nat → Nat} {ex : Bool} {w : Nat → Nat} {U : Nat → Bool} {n : Nat} (h : hl_uf F r ex w n = some U) : hl_uf F r ex w (n + 1) = hl_up F r ex (w n) U := by
  show (hl_uf F r ex w n).bind _ = _
  rw [h]; rfl
theorem hl_uf_c {F : HG} {r : Nat → Nat} {ex : Bool} {w : Nat → Nat} {U' : Nat → Bool} {n : Nat} (h : hl_uf F r ex w (n + 1) = some U') : ∃ U, hl_uf F r ex w n = some U ∧ hl_up F r ex (w n) U = some U' := by
  cases e : hl_uf F r ex w n with
  | none =>
    have : hl_uf F r ex w (n + 1) = none := by
      show (hl_uf F r ex w n).bind _ = _
      rw [e]; rfl
    rw [this] at h; cases h
  | some U => rw [hl_uf_s e] at h; exact ⟨U, rfl, h⟩
theorem hl_uf_n {F : HG} {r : Nat → Nat} {ex : Bool} {w : Nat → Nat} {n : Nat} (h : hl_uf F r ex w n = none) : ∀ m, n ≤ m → hl_uf F r ex w m = none := by
  intro m
  induction m with
  | zero => intro hm; have e : n = 0 := by omega
            subst e; exact h
  | succ m ih =>
    intro hm
    rcases Nat.lt_or_ge n (m + 1) with z | z
    · show (hl_uf F r ex w m).bind _ = _
      rw [ih (by omega)]; rfl
    · have e : n = m + 1 := by omega
      subst e; exact h
def hl_xfit (F : HG) (r : Nat → Nat) (nc np : Nat) (cw pw : Nat → Nat) (ex : Bool) : Prop :=
  hl_cd r cw nc = true ∧ ∃ U, hl_uf F r ex pw np = some U ∧ (ex = true → ∀ g, g < 6 → F g ≠ none → U g = true)
end
section
/-! X's test against Y's heaps -/
def hl_ext (f : Nat → Option Nat) (g m e : Nat) : Nat → Option Nat := fun x => if x = m then some e else if x = g then some m else f x
theorem hl_ext_m (f : Nat → Option Nat) (g m e : Nat) : hl_ext f g m e m = some e := if_pos rfl
theorem hl_ext_g (f : Nat → Option Nat) {g m : Nat} (e : Nat) (h : g ≠ m) : hl_ext f g m e g = some m := by
  unfold hl_ext; rw [if_neg h, if_pos rfl]
theorem hl_ext_o (f : Nat → Option Nat) {g m x : Nat} (e : Nat) (h1 : x ≠ m) (h2 : x ≠ g) : hl_ext f g m e x = f x := by
  unfold hl_ext; rw [if_neg h1, if_neg h2]
theorem hl_A {F : HG} {e : Nat} {out : Bool} : ∀ {n m a : Nat} {U U' : Nat → Bool}, hl_ul F e out n a U = some U' → a ≠ e → n ≤ m → hl_wk (hl_f F) e true m a U = some U' := by
  intro n
  induction n with
  | zero => intro m a U U' h ha; obtain ⟨_, _, _, em, _⟩ := hl_ul_c h ha; omega
  | succ n ih =>
    intro m a U U' h ha hm
    obtain ⟨n', t, l, en, eF, eu, _, q⟩ := hl_ul_c h ha
    have en' : n' = n := by omega
    subst en'
    obtain ⟨m', rfl⟩ : ∃ m', m = m' + 1 := ⟨m - 1, by omega⟩
    by_cases ht : t = e
    · subst ht
      rw [hl_ul_e] at q
      rw [hl_wk_e (hl_f_s eF) eu]; exact q
    · rw [hl_wk_t (hl_f_s eF) eu ht]
      exact ih q ht (by omega)
def hl_Inv (ex : Bool) (g m : Nat) (U V : Nat → Bool) : Prop :=
  (∀ h, h ≠ m → V h = true → U h = true) ∧ (V m = true → U g = true) ∧ (ex = true → (∀ h, h ≠ m → U h = true → V h = true) ∧ (U g = true → V m = true))
theorem hl_Inv1 {ex : Bool} {g m a : Nat} {U V : Nat → Bool} (h1 : a ≠ m) (h2 : a ≠ g) (I : hl_Inv ex g m U V) : hl_Inv ex g m (hl_set U a) (hl_set V a) := by
  obtain ⟨i1, i2, i3⟩ := I
  refine ⟨fun h hm hv => ?_, fun hv => ?_, fun he => ⟨fun h hm hu => ?_, fun hu => ?_⟩⟩
  · rcases hl_set_c hv with rfl | z
    · exact hl_set_s _ _
    · exact hl_set_m (i1 h hm z)
  · rw [hl_set_n _ (fun z => h1 z.symm)] at hv
    exact hl_set_m (i2 hv)
  · rcases hl_set_c hu with rfl | z
    · exact hl_set_s _ _
    · exact hl_set_m ((i3 he).1 h hm z)
  · rw [hl_set_n _ (fun z => h2 z.symm)] at hu
    exact hl_set_m ((i3 he).2 hu)
theorem hl_Inv2 {ex : Bool} {g m : Nat} {U V : Nat → Bool} (I : hl_Inv ex g m U V) : hl_Inv ex g m (hl_set U g) (hl_set (hl_set V g) m) := by
  obtain ⟨i1, i2, i3⟩ := I
  refine ⟨fun h hm hv => ?_, fun _ => hl_set_s _ _, fun he => ⟨fun h hm hu => ?_, fun _ => hl_set_s _ _⟩⟩
  · rw [hl_set_n _ hm] at hv
    rcases hl_set_c hv with rfl | z
    · exact hl_set_s _ _
    · exact hl_set_m (i1 h hm z)
  · rw [hl_set_n _ hm]
    rcases hl_set_c hu with rfl | z
    · exact hl_set_s _ _
    · exact hl_set_m ((i3 he).1 h hm z)
theorem hl_Inv_f {ex : Bool} {g m a : Nat} {U V : Nat → Bool} (h1 : a ≠ m) (I : hl_Inv ex g m U V) (hu : U a = false) : V a = false := by
  cases e : V a with
  | false => rfl
  | true => rw [I.1 a h1 e] at hu; cases hu
theorem hl_B {F : HG} {e e0 g m : Nat} {ex out : Bool} (hg : F g = some (e0, true)) (hm : F m = none) (hme : m ≠ e0) (ho : ex = true → m = e → out = false) :
    ∀ {n k a : Nat} {U U' V : Nat → Bool}, hl_Inv ex g m U V → hl_ul F e out n a U = some U' → a ≠ e → 2 * n ≤ k → ∃ V', hl_wk (hl_ext (hl_f F) g m e0) e true k a V = some V' ∧ hl_Inv ex g m U' V' := by
  have hgm : g ≠ m := fun z => by rw [z, hm] at hg; cases hg
  intro n
  induction n with
  | zero => intro k a U U' V _ h ha; obtain ⟨_, _, _, em, _⟩ := hl_ul_c h ha; omega
  | succ n ih =>
    intro k a U U' V I h ha hk
    obtain ⟨n', t, l, en, eF, eu, hc, q⟩ := hl_ul_c h ha
    have en' : n' = n := by omega
    subst en'
    obtain ⟨k', rfl⟩ : ∃ k', k = k' + 1 + 1 := ⟨k - 2, by omega⟩
    have ham : a ≠ m := fun z => by rw [z, hm] at eF; cases eF
    have va : V a = false := hl_Inv_f ham I eu
    by_cases hag : a = g
    · subst hag
      rw [hg] at eF
      have z1 := Option.some.inj eF
      have z2 : e0 = t := congrArg Prod.fst z1
      have z3 : true = l := congrArg Prod.snd z1
      subst z2 z3
      have vm : V m = false := by
        cases e : V m with
        | false => rfl
        | true => rw [I.2.1 e] at eu; cases eu
      by_cases hmE : m = e
      · have hex : ¬ ex = true := fun hx => by
          have o := ho hx hmE
          rcases hc with c | c | c
          · exact hme (hmE.trans c.symm)
          · rw [o] at c; cases c
          · cases c
        refine ⟨_, hl_wk_e (by rw [hl_ext_g _ _ hgm, hmE]) va, fun h hh hv => ?_, fun hv => ?_, fun hx => absurd hx hex⟩
        · rcases hl_set_c hv with rfl | z
          · exact hl_ul_m q (hl_set_s _ _)
          · exact hl_ul_m q (hl_set_m (I.1 h hh z))
        · rw [hl_set_n _ (fun z => ham z.symm), vm] at hv; cases hv
      · rw [hl_wk_t (hl_ext_g _ _ hgm) va hmE]
        have vm1 : hl_set V a m = false := by rw [hl_set_n _ (fun z => ham z.symm)]; exact vm
        by_cases het : e0 = e
        · subst het
          rw [hl_ul_e] at q
          rw [← Option.some.inj q]
          exact ⟨_, hl_wk_e (hl_ext_m _ _ _ _) vm1, hl_Inv2 I⟩
        · rw [hl_wk_t (hl_ext_m _ _ _ _) vm1 het]
          exact ih (hl_Inv2 I) q het (by omega)
    · have ex' : hl_ext (hl_f F) g m e0 a = some t := by rw [hl_ext_o _ _ ham hag]; exact hl_f_s eF
      by_cases ht : t = e
      · subst ht
        rw [hl_ul_e] at q
        rw [← Option.some.inj q]
        exact ⟨_, hl_wk_e ex' va, hl_Inv1 ham hag I⟩
      · rw [hl_wk_t ex' va ht]
        exact ih (hl_Inv1 ham hag I) q ht (by omega)
theorem hl_uc_c {F : HG} {b a : Nat} {U U' : Nat → Bool} (h : hl_uc F b a U = some U') : F a = some (b, false) ∧ U a = false ∧ U' = hl_set U a := by
  unfold hl_uc at h
  by_cases c : F a = some (b, false) ∧ U a = false
  · rw [if_pos c] at h; exact ⟨c.1, c.2, (Option.some.inj h).symm⟩
  · rw [if_neg c] at h; cases h
/-- a part used by X is walked by Y in the least heap -/
theorem hl_P1 {F : HG} {r : Nat → Nat} {ex : Bool} {w : Nat} {U U' : Nat → Bool} (h : hl_up F r ex w U = some U') : hl_wp (hl_f F) r w U = some U' := by
  unfold hl_up at h
  unfold hl_wp
  by_cases hw : 36 ≤ w
  · rw [if_pos hw] at h
    by_cases he : hl_fr r w = hl_to r w
    · rw [if_pos ⟨hw, he⟩]; rw [he, hl_ul_e] at h; exact h
    · rw [if_neg (fun z => he z.2), decide_eq_true hw]
      exact hl_A h he (by omega)
  · rw [if_neg hw] at h
    obtain ⟨a1, a2, rfl⟩ := hl_uc_c h
    rw [if_neg (fun z => hw z.1)]
    exact hl_wk_e (hl_f_s a1) a2
theorem hl_P2 {F : HG} {r : Nat → Nat} {ex : Bool} {w : Nat} {g m e0 : Nat} {U U' V : Nat → Bool} (hg : F g = some (e0, true)) (hm : F m = none) (hme : m ≠ e0) (hm5 : m ≠ r 5) (I : hl_Inv ex g m U V) (h : hl_up F r ex w U = some U') :
    ∃ V', hl_wp (hl_ext (hl_f F) g m e0) r w V = some V' ∧ hl_Inv ex g m U' V' := by
  unfold hl_up at h
  unfold hl_wp
  by_cases hw : 36 ≤ w
  · rw [if_pos hw] at h
    by_cases he : hl_fr r w = hl_to r w
    · rw [if_pos ⟨hw, he⟩]; rw [he, hl_ul_e] at h
      rw [← Option.some.inj h]
      exact ⟨V, rfl, I⟩
    · rw [if_neg (fun z => he z.2), decide_eq_true hw]
      refine hl_B hg hm hme (fun hx hmE => ?_) I h he (by omega)
      unfold hl_out
      rw [← hmE, hx, hm, decide_eq_false hm5]
      rfl
  · rw [if_neg hw] at h
    obtain ⟨a1, a2, rfl⟩ := hl_uc_c h
    rw [if_neg (fun z => hw z.1)]
    have n1 : hl_fr r w ≠ m := fun z => by rw [z, hm] at a1; cases a1
    have n2 : hl_fr r w ≠ g := fun z => by
      rw [z, hg] at a1
      cases (congrArg Prod.snd (Option.some.inj a1))
    exact ⟨_, hl_wk_e (by rw [hl_ext_o _ _ n1 n2]; exact hl_f_s a1) (hl_Inv_f n1 I a2), hl_Inv1 n1 n2 I⟩
/-- number of places below n that aren't used -/
def hl_cn (U : Nat → Bool) : Nat → Nat
  | 0 => 0
  | n + 1 => hl_cn U n + if U n = true then 0 else 1
theorem hl_cn_le (U : Nat → Bool) : ∀ n, hl_cn U n ≤ n
  | 0 => Nat.le_refl _
  | n + 1 => by
    have := hl_cn_le U n
    show hl_cn U n + (if U n = true then 0 else 1) ≤ n + 1
    split <;> omega
theorem hl_cn_o {U : Nat → Bool} {a : Nat} : ∀ {n : Nat}, n ≤ a → hl_cn (hl_set U a) n = hl_cn U n
  | 0, _ => rfl
  | n + 1, h => by
    show hl_cn (hl_set U a) n + (if hl_set U a n = true then 0 else 1) = hl_cn U n + (if U n = true then 0 else 1)
    rw [hl_cn_o (by omega), hl_set_n _ (by omega)]
theorem hl_cn_s {U : Nat → Bool} {a : Nat} (hu : U a = false) : ∀ {n : Nat}, a < n → hl_cn (hl_set U a) n + 1 = hl_cn U n
  | 0, h => by omega
  | n + 1, h => by
    show hl_cn (hl_set U a) n + (if hl_set U a n = true then 0 else 1) + 1 = hl_cn U n + (if U n = true then 0 else 1)
    rcases Nat.lt_or_ge a n with z | z
    · have := hl_cn_s hu z
      rw [hl_set_n _ (show n ≠ a by omega)]
      omega
    · have e : a = n := by omega
      subst e
      rw [hl_cn_o (Nat.le_refl _), hl_set_s, hu, if_pos rfl, if_neg (by decide)]
theorem hl_C {F : HG} {e : Nat} {out : Bool} (h6 : ∀ g t l, F g = some (t, l) → g < 6) :
    ∀ {k n a : Nat} {U U' : Nat → Bool}, hl_wk (hl_f F) e true k a U = some U' → a ≠ e → (∀ x t, U x = false → U' x = true → F x = some (t, true) → t = e ∨ out = true) → hl_cn U 6 ≤ n → hl_ul F e out n a U = some U' := by
  intro k
  induction k with
  | zero => intro n a U U' h; cases h
  | succ k ih =>
    intro n a U U' h ha hx hn
    obtain ⟨k', t, ek, ef, eu, q⟩ := hl_wk_c h
    have ek' : k' = k := by omega
    subst ek'
    obtain ⟨l, eF⟩ := hl_f_c ef
    have hc := hl_cn_s eu (h6 _ _ _ eF)
    obtain ⟨n', rfl⟩ : ∃ n', n = n' + 1 := ⟨n - 1, by omega⟩
    have ua : U' a = true := by
      rcases q with ⟨_, rfl⟩ | ⟨_, _, q⟩
      · exact hl_set_s _ _
      · exact hl_wk_m q (hl_set_s _ _)
    have hcond : t = e ∨ out = true ∨ l = false := by
      cases l with
      | false => exact Or.inr (Or.inr rfl)
      | true =>
        rcases hx a t eu ua eF with z | z
        · exact Or.inl z
        · exact Or.inr (Or.inl z)
    rw [hl_ul_t ha eF eu hcond]
    rcases q with ⟨rfl, rfl⟩ | ⟨ht, _, q⟩
    · exact hl_ul_e _ _ _ _ _
    · exact ih q ht (fun x t' hu hu' hF => hx x t' (hl_set_f hu).2 hu' hF) (by omega)
theorem hl_D {f : Nat → Option Nat} {e b g t0 : Nat} {ls : Bool} (hb : f b = none) (hgb : g ≠ b) :
    ∀ {n n' a : Nat} {U1 U1' U2 U2' : Nat → Bool}, (e = b ∨ ¬ (U1 g = false ∧ U1' g = true)) → hl_wk f e ls n a U1 = some U1' → U2 b = false → hl_wk (hl_ext f g b t0) e ls n' a U2 = some U2' → U2' b = false := by
  intro n
  induction n with
  | zero => intro n' a U1 U1' U2 U2' _ h; cases h
  | succ n ih =>
    intro n' a U1 U1' U2 U2' hh h h2 h'
    obtain ⟨n0, t, en, ef, eu, q⟩ := hl_wk_c h
    have en' : n0 = n := by omega
    subst en'
    obtain ⟨m, t', em, ef', eu', q'⟩ := hl_wk_c h'
    have hab : a ≠ b := fun z => by rw [z, hb] at ef; cases ef
    have hs : hl_set U2 a b = false := by rw [hl_set_n _ (fun z => hab z.symm)]; exact h2
    have ua : U1' a = true := by
      rcases q with ⟨_, rfl⟩ | ⟨_, _, q⟩
      · exact hl_set_s _ _
      · exact hl_wk_m q (hl_set_s _ _)
    rcases q' with ⟨_, rfl⟩ | ⟨ht', hls, q'⟩
    · exact hs
    · by_cases hag : a = g
      · subst hag
        rw [hl_ext_g _ _ hgb] at ef'
        have z := Option.some.inj ef'
        rcases hh with hh | hh
        · exact absurd (z.symm.trans hh.symm) ht'
        · exact absurd ⟨eu, ua⟩ hh
      · rw [hl_ext_o _ _ hab hag, ef] at ef'
        have z := Option.some.inj ef'
        subst z
        rcases q with ⟨ht, _⟩ | ⟨_, _, q⟩
        · exact absurd ht ht'
        · refine ih (hh.imp id (fun hn hp => hn ⟨?_, hp.2⟩)) q hs q'
          exact (hl_set_f hp.1).2
theorem hl_xf {F : HG} {r : Nat → Nat} {ex : Bool} {w : Nat → Nat} : ∀ {n : Nat} {U : Nat → Bool}, hl_uf F r ex w n = some U → hl_wf (hl_f F) r w n = some U := by
  intro n
  induction n with
  | zero => intro U h; exact h
  | succ n ih =>
    intro U h
    obtain ⟨V, v1, v2⟩ := hl_uf_c h
    rw [hl_wf_s (ih v1)]
    exact hl_P1 v2
theorem hl_xe {F : HG} {r : Nat → Nat} {ex : Bool} {w : Nat → Nat} {g m e0 : Nat} (hg : F g = some (e0, true)) (hm : F m = none) (hme : m ≠ e0) (hm5 : m ≠ r 5) : ∀ {n : Nat} {U : Nat → Bool}, hl_uf F r ex w n = some U → ∃ V, hl_wf (hl_ext (hl_f F) g m e0) r w n = some V ∧ hl_Inv ex g m U V := by
  intro n
  induction n with
  | zero =>
    intro U h
    refine ⟨fun _ => false, rfl, ?_⟩
    rw [← Option.some.inj h]
    exact ⟨fun _ _ z => z, fun z => z, fun _ => ⟨fun _ _ z => z, fun z => z⟩⟩
  | succ n ih =>
    intro U h
    obtain ⟨U1, v1, v2⟩ := hl_uf_c h
    obtain ⟨V1, a1, a2⟩ := ih v1
    rw [hl_wf_s a1]
    exact hl_P2 hg hm hme hm5 a2 v2
/-- all heaps with one list one cell longer fit -/
def hl_long (F : HG) (r : Nat → Nat) (n0 : Nat) (w0 : Nat → Nat) (Q : (Nat → Option Nat) → Prop) : Prop :=
  ∀ i, i < n0 → 36 ≤ w0 i → hl_fr r (w0 i) ≠ hl_to r (w0 i) → ∀ m, m < 7 → (m = 6 ∨ ∃ t, t < 6 ∧ r t = m) → m ≠ r 5 → m ≠ hl_to r (w0 i) → F m = none → Q (hl_ext (hl_f F) (hl_fr r (w0 i)) m (hl_to r (w0 i)))
theorem hl_main1 {r : Nat → Nat} (hr : hl_Row r) {n0 : Nat} {w0 : Nat → Nat} {F : HG} (hF : hl_bd r w0 hl_E n0 = some F) {nc np : Nat} {cw pw : Nat → Nat} {ex : Bool} (h : hl_xfit F r nc np cw pw ex) :
    hl_fit (hl_f F) r nc np cw pw ex ∧ hl_long F r n0 w0 (fun f => hl_fit f r nc np cw pw ex) := by
  obtain ⟨g1, g2, g3⟩ := hl_gf hr hF
  obtain ⟨hc, U, hU, hu⟩ := h
  have h6 : ∀ g, F g ≠ none → g < 6 := fun g z => by
    cases e : F g with
    | none => exact absurd e z
    | some p => exact (g2 g p.1 p.2 e).1
  refine ⟨⟨hc, U, hl_xf hU, fun he g _ hg => ?_⟩, fun i hi h36 hne m hm7 hm hm5 hmt hFm => ?_⟩
  · have z : F g ≠ none := fun z => hg (hl_f_n.mpr z)
    exact hu he g (h6 g z) z
  · have hg := (g3 _ _).mpr ⟨i, hi, h36, hne, rfl, rfl⟩
    obtain ⟨V, v1, v2⟩ := hl_xe hg hFm hmt hm5 hU
    refine ⟨hc, V, v1, fun he g _ hgn => ?_⟩
    by_cases e1 : g = m
    · subst e1
      exact (v2.2.2 he).2 (hu he _ (g2 _ _ _ hg).1 (by rw [hg]; intro z; cases z))
    · have z : F g ≠ none := fun z => by
        by_cases e2 : g = hl_fr r (w0 i)
        · rw [e2, hg] at z; cases z
        · rw [hl_ext_o _ _ e1 e2] at hgn
          exact hgn (hl_f_n.mpr z)
      exact (v2.2.2 he).1 g e1 (hu he g (h6 g z) z)
theorem hl_main2 {r : Nat → Nat} (hr : hl_Row r) {n0 : Nat} {w0 : Nat → Nat} {F : HG} (hF : hl_bd r w0 hl_E n0 = some F) {nc np : Nat} {cw pw : Nat → Nat} {ex : Bool}
    (h : hl_fit (hl_f F) r nc np cw pw ex) (hl : hl_long F r n0 w0 (fun f => hl_fit f r nc np cw pw ex)) : hl_xfit F r nc np cw pw ex := by
  obtain ⟨g1, g2, g3⟩ := hl_gf hr hF
  obtain ⟨hc, U, hU, hu⟩ := h
  have key : ∀ j, j ≤ np → ∀ Uj, hl_wf (hl_f F) r pw j = some Uj → hl_uf F r ex pw j = some Uj := by
    intro j
    induction j with
    | zero => intro _ Uj h; exact h
    | succ j ih =>
      intro hj Uj h
      obtain ⟨V, v1, v2⟩ := hl_wf_c h
      rw [hl_uf_s (ih (by omega) V v1)]
      unfold hl_up
      have v2' := v2
      unfold hl_wp at v2
      by_cases hw : 36 ≤ pw j
      · rw [if_pos hw]
        by_cases he : hl_fr r (pw j) = hl_to r (pw j)
        · rw [if_pos ⟨hw, he⟩] at v2
          rw [he, hl_ul_e]; exact v2
        · rw [if_neg (fun z => he z.2), decide_eq_true hw] at v2
          refine hl_C (fun g t l z => (g2 g t l z).1) v2 he (fun x t hx hx' hFx => ?_) (hl_cn_le _ 6)
          by_cases ht : t = hl_to r (pw j)
          · exact Or.inl ht
          · refine Or.inr ?_
            cases eo : hl_out F r ex (pw j) with
            | true => rfl
            | false =>
              exfalso
              unfold hl_out at eo
              have o1 : (!ex || decide (hl_to r (pw j) = r 5)) = false ∧ (F (hl_to r (pw j))).isSome = false := by
                revert eo
                generalize (!ex || decide (hl_to r (pw j) = r 5)) = p
                generalize (F (hl_to r (pw j))).isSome = q
                intro eo
                cases p <;> cases q <;> simp_all
              have o2 : ex = true ∧ ¬ hl_to r (pw j) = r 5 := by
                have o3 := o1.1
                revert o3
                cases ex <;> simp
              have hb : F (hl_to r (pw j)) = none := by
                have o3 := o1.2
                cases eb : F (hl_to r (pw j)) with
                | none => rfl
                | some p => rw [eb] at o3; cases o3
              obtain ⟨i, hi, b1, b2, b3, b4⟩ := (g3 x t).mp hFx
              have hxb : x ≠ hl_to r (pw j) := fun z => by rw [z, hb] at hFx; cases hFx
              have fit := hl i hi b1 b2 (hl_to r (pw j)) (by have := hl_to_lt hr (pw j); omega) (Or.inr ⟨pw j % 6, by omega, rfl⟩) o2.2 (by rw [b4]; exact fun z => ht z.symm) hb
              rw [b3, b4] at fit
              obtain ⟨_, V', w1, w2⟩ := fit
              have hf : hl_f F (hl_to r (pw j)) = none := hl_f_n.mpr hb
              have hav : ∀ i, i ≤ np → ∀ Vi, hl_wf (hl_ext (hl_f F) x (hl_to r (pw j)) t) r pw i = some Vi → Vi (hl_to r (pw j)) = false := by
                intro i
                induction i with
                | zero => intro _ Vi z; rw [← Option.some.inj z]
                | succ i ihi =>
                  intro hi' Vi z
                  obtain ⟨Vi0, z1, z2⟩ := hl_wf_c z
                  have y1 := ihi (by omega) Vi0 z1
                  obtain ⟨Ui1, y2⟩ := hl_wf_p hU hi'
                  obtain ⟨Ui, y3, y4⟩ := hl_wf_c y2
                  unfold hl_wp at z2 y4
                  by_cases hz : 36 ≤ pw i ∧ hl_fr r (pw i) = hl_to r (pw i)
                  · rw [if_pos hz] at z2
                    rw [← Option.some.inj z2]; exact y1
                  · rw [if_neg hz] at z2 y4
                    refine hl_D hf hxb ?_ y4 y1 z2
                    by_cases hij : i = j
                    · subst hij; exact Or.inl rfl
                    · refine Or.inr (fun ⟨p1, p2⟩ => ?_)
                      rcases Nat.lt_or_ge i j with c | c
                      · rw [hl_wf_m y2 p2 (by omega) v1] at hx; cases hx
                      · rw [hl_wf_m h hx' (by omega) y3] at p1; cases p1
              have y := hav np (Nat.le_refl _) V' w1
              rw [w2 o2.1 _ (by have := hl_to_lt hr (pw j); omega) (by rw [hl_ext_m]; intro z; cases z)] at y
              cases y
      · rw [if_neg hw]
        rw [if_neg (fun z => hw z.1), decide_eq_false hw] at v2
        obtain ⟨k', t, _, ef, eu, q⟩ := hl_wk_c v2
        rcases q with ⟨rfl, rfl⟩ | ⟨_, z, _⟩
        · obtain ⟨l, eF⟩ := hl_f_c ef
          cases l with
          | false => unfold hl_uc; rw [if_pos ⟨eF, eu⟩]
          | true =>
            exfalso
            obtain ⟨i, hi, b1, b2, b3, b4⟩ := (g3 _ _).mp eF
            have lt1 := hl_fr_lt hr (pw j)
            have lt2 := hl_to_lt hr (pw j)
            have lt3 := hr 5 (by omega)
            have hF6 : F 6 = none := by
              cases e : F 6 with
              | none => rfl
              | some p => have := (g2 6 p.1 p.2 e).1; omega
            have fit := hl i hi b1 b2 6 (by omega) (Or.inl rfl) (by omega) (by rw [b4]; omega) hF6
            rw [b3, b4] at fit
            obtain ⟨_, V', w1, w2⟩ := fit
            obtain ⟨W1, y2⟩ := hl_wf_p w1 hj
            obtain ⟨W0, y3, y4⟩ := hl_wf_c y2
            unfold hl_wp at y4
            rw [if_neg (fun z => hw z.1), decide_eq_false hw] at y4
            obtain ⟨k2, t2, _, ef2, _, q2⟩ := hl_wk_c y4
            rw [hl_ext_g _ _ (by omega)] at ef2
            have z := Option.some.inj ef2
            rcases q2 with ⟨q2, _⟩ | ⟨_, q2, _⟩
            · omega
            · cases q2
        · cases z
  refine ⟨hc, U, key np (Nat.le_refl _) U hU, fun he g hg hn => hu he g (by omega) (fun z => hn (hl_f_n.mp z))⟩
end
section
/-! the divisions: X's rows in X's order (three bits a group), Y's numbers in Y's order, and where Y's stand in X's order (printed by src/tables.py) -/
def hl_tab : List Nat := [
  0, 32768, 4096, 36864, 69632, 512, 33280, 66048, 4608, 37376, 70144, 8704, 41472, 74240, 107008, 64, 32832, 65600, 4160, 36928,
  69696, 8256, 41024, 73792, 106560, 576, 33344, 66112, 4672, 37440, 70208, 8768, 41536, 74304, 107072, 1088, 33856, 66624, 99392, 5184,
  37952, 70720, 103488, 9280, 42048, 74816, 107584, 13376, 46144, 78912, 111680, 144448, 8, 32776, 65544, 4104, 36872, 69640, 8200, 40968,
  73736, 106504, 520, 33288, 66056, 4616, 37384, 70152, 8712, 41480, 74248, 107016, 1032, 33800, 66568, 99336, 5128, 37896, 70664, 103432,
  9224, 41992, 74760, 107528, 13320, 46088, 78856, 111624, 144392, 72, 32840, 65608, 4168, 36936, 69704, 8264, 41032, 73800, 106568, 584,
  33352, 66120, 4680, 37448, 70216, 8776, 41544, 74312, 107080, 1096, 33864, 66632, 99400, 5192, 37960, 70728, 103496, 9288, 42056, 74824,
  107592, 13384, 46152, 78920, 111688, 144456, 136, 32904, 65672, 98440, 4232, 37000, 69768, 102536, 8328, 41096, 73864, 106632, 12424, 45192,
  77960, 110728, 143496, 648, 33416, 66184, 98952, 4744, 37512, 70280, 103048, 8840, 41608, 74376, 107144, 12936, 45704, 78472, 111240, 144008,
  1160, 33928, 66696, 99464, 5256, 38024, 70792, 103560, 9352, 42120, 74888, 107656, 13448, 46216, 78984, 111752, 144520, 1672, 34440, 67208,
  99976, 132744, 5768, 38536, 71304, 104072, 136840, 9864, 42632, 75400, 108168, 140936, 13960, 46728, 79496, 112264, 145032, 18056, 50824, 83592,
  116360, 149128, 181896]
def hl_ynl : List Nat := [
  0, 6, 36, 42, 78, 216, 222, 252, 258, 294, 438, 468, 474, 510, 726, 1296, 1302, 1332, 1338, 1374,
  1512, 1518, 1548, 1554, 1590, 1734, 1764, 1770, 1806, 2022, 2598, 2628, 2634, 2670, 2808, 2814, 2844, 2850, 2886, 3030,
  3060, 3066, 3102, 3318, 3966, 4182, 4326, 4356, 4362, 4398, 4614, 5910, 7776, 7782, 7812, 7818, 7854, 7992, 7998, 8028,
  8034, 8070, 8214, 8244, 8250, 8286, 8502, 9072, 9078, 9108, 9114, 9150, 9288, 9294, 9324, 9330, 9366, 9510, 9540, 9546,
  9582, 9798, 10374, 10404, 10410, 10446, 10584, 10590, 10620, 10626, 10662, 10806, 10836, 10842, 10878, 11094, 11742, 11958, 12102, 12132,
  12138, 12174, 12390, 13686, 15558, 15588, 15594, 15630, 15768, 15774, 15804, 15810, 15846, 15990, 16020, 16026, 16062, 16278, 16848, 16854,
  16884, 16890, 16926, 17064, 17070, 17100, 17106, 17142, 17286, 17316, 17322, 17358, 17574, 18150, 18180, 18186, 18222, 18360, 18366, 18396,
  18402, 18438, 18582, 18612, 18618, 18654, 18870, 19518, 19734, 19878, 19908, 19914, 19950, 20166, 21462, 23406, 23622, 23766, 23796, 23802,
  23838, 24054, 24702, 24918, 25062, 25092, 25098, 25134, 25350, 25926, 25956, 25962, 25998, 26136, 26142, 26172, 26178, 26214, 26358, 26388,
  26394, 26430, 26646, 27294, 27510, 27654, 27684, 27690, 27726, 27942, 29238, 31830, 33126, 34422, 35070, 35286, 35430, 35460, 35466, 35502,
  35718, 37014, 44790]
def hl_pil : List Nat := [
  0, 52, 15, 89, 126, 5, 62, 25, 99, 143, 72, 35, 109, 160, 177, 2, 55, 18, 92, 130,
  8, 65, 28, 102, 147, 76, 39, 113, 164, 182, 58, 21, 95, 134, 11, 68, 31, 105, 151, 80,
  43, 117, 168, 187, 138, 155, 84, 47, 121, 172, 192, 197, 1, 53, 16, 90, 127, 6, 63, 26,
  100, 144, 73, 36, 110, 161, 178, 3, 56, 19, 93, 131, 9, 66, 29, 103, 148, 77, 40, 114,
  165, 183, 59, 22, 96, 135, 12, 69, 32, 106, 152, 81, 44, 118, 169, 188, 139, 156, 85, 48,
  122, 173, 193, 198, 54, 17, 91, 128, 7, 64, 27, 101, 145, 74, 37, 111, 162, 179, 4, 57,
  20, 94, 132, 10, 67, 30, 104, 149, 78, 41, 115, 166, 184, 60, 23, 97, 136, 13, 70, 33,
  107, 153, 82, 45, 119, 170, 189, 140, 157, 86, 49, 123, 174, 194, 199, 129, 146, 75, 38, 112,
  163, 180, 133, 150, 79, 42, 116, 167, 185, 61, 24, 98, 137, 14, 71, 34, 108, 154, 83, 46,
  120, 171, 190, 141, 158, 87, 50, 124, 175, 195, 200, 181, 186, 191, 142, 159, 88, 51, 125, 176,
  196, 201, 202]
def hl_G (k t : Nat) : Nat := hl_tab.getD k 0 / 8 ^ t % 8
def hl_yn (d : Nat) : Nat := hl_ynl.getD d 0
def hl_p (d : Nat) : Nat := hl_pil.getD d 0
theorem hl_G6 : ∀ k, k < 203 → ∀ t, t < 6 → hl_G k t < 6 := by decide +kernel
theorem hl_p203 : ∀ d, d < 203 → hl_p d < 203 := by decide +kernel
theorem hl_pperm : ((List.range 203).map hl_p).Perm (List.range 203) := List.isPerm_iff.mp (by decide +kernel)
theorem hl_psur {k : Nat} (h : k < 203) : ∃ d, d < 203 ∧ hl_p d = k := by
  have z : k ∈ (List.range 203).map hl_p := hl_pperm.mem_iff.mpr (List.mem_range.mpr h)
  obtain ⟨d, h1, h2⟩ := List.mem_map.mp z
  exact ⟨d, List.mem_range.mp h1, h2⟩
theorem hl_pall {P : Nat → Prop} : (∀ d, d < 203 → P (hl_p d)) ↔ ∀ k, k < 203 → P k := by
  refine ⟨fun h k hk => ?_, fun h d hd => h _ (hl_p203 d hd)⟩
  obtain ⟨d, hd, rfl⟩ := hl_psur hk
  exact h d hd
theorem hl_pex {P : Nat → Prop} : (∃ d, d < 203 ∧ P (hl_p d)) ↔ ∃ k, k < 203 ∧ P k := by
  refine ⟨fun ⟨d, hd, h⟩ => ⟨_, hl_p203 d hd, h⟩, fun ⟨k, hk, h⟩ => ?_⟩
  obtain ⟨d, hd, rfl⟩ := hl_psur hk
  exact ⟨d, hd, h⟩
/-! counting -/
def hl_kn (p : Nat → Bool) : Nat → Nat
  | 0 => 0
  | n + 1 => hl_kn p n + if p n = true then 1 else 0
theorem hl_kn_le (p : Nat → Bool) : ∀ n, hl_kn p n ≤ n
  | 0 => Nat.le_refl _
  | n + 1 => by
    have := hl_kn_le p n
    show hl_kn p n + (if p n = true then 1 else 0) ≤ n + 1
    split <;> omega
theorem hl_kn_mono {p q : Nat → Bool} : ∀ {n : Nat}, (∀ x, x < n → p x = true → q x = true) → hl_kn p n ≤ hl_kn q n
  | 0, _ => Nat.le_refl _
  | n + 1, h => by
    have a := hl_kn_mono (p := p) (q := q) (n := n) (fun x hx => h x (by omega))
    show hl_kn p n + (if p n = true then 1 else 0) ≤ hl_kn q n + (if q n = true then 1 else 0)
    by_cases c : p n = true
    · rw [if_pos c, if_pos (h n (by omega) c)]; omega
    · rw [if_neg c]; omega
theorem hl_kn_lt {p q : Nat → Bool} {a : Nat} (hp : p a = false) (hq : q a = true) : ∀ {n : Nat}, (∀ x, x < n → p x = true → q x = true) → a < n → hl_kn p n + 1 ≤ hl_kn q n
  | 0, _, h => by omega
  | n + 1, h, ha => by
    show hl_kn p n + (if p n = true then 1 else 0) + 1 ≤ hl_kn q n + (if q n = true then 1 else 0)
    rcases Nat.lt_or_ge a n with z | z
    · have x := hl_kn_lt hp hq (n := n) (fun k hk => h k (by omega)) z
      by_cases c : p n = true
      · rw [if_pos c, if_pos (h n (by omega) c)]; omega
      · rw [if_neg c]; omega
    · have e : a = n := by omega
      subst e
      have x := hl_kn_mono (p := p) (q := q) (n := a) (fun k hk => h k (by omega))
      rw [hp, hq, if_pos rfl, if_neg (by decide)]; omega
theorem hl_kn_cp (p : Nat → Bool) : ∀ n, hl_kn p n = (List.range n).countP p
  | 0 => rfl
  | n + 1 => by
    rw [List.range_succ, List.countP_append, ← hl_kn_cp p n]
    show hl_kn p n + (if p n = true then 1 else 0) = _
    simp [List.countP_cons]
theorem hl_kn_p (p : Nat → Bool) : hl_kn (fun d => p (hl_p d)) 203 = hl_kn p 203 := by
  rw [hl_kn_cp, hl_kn_cp, ← hl_pperm.countP_eq p, List.countP_map]
  rfl
/-! coming to a place -/
def hl_cy (f : Nat → Option Nat) (e : Nat) : Nat → Nat → Bool
  | 0, _ => false
  | n + 1, a => if a = e then true else match f a with
    | none => false
    | some t => hl_cy f e n t
theorem hl_cy_e (f : Nat → Option Nat) (e n : Nat) : hl_cy f e (n + 1) e = true := by rw [hl_cy.eq_2, if_pos rfl]
theorem hl_cy_n {f : Nat → Option Nat} {e n a : Nat} (h : a ≠ e) (hf : f a = none) : hl_cy f e (n + 1) a = false := by
  rw [hl_cy.eq_2, if_neg h, hf]
theorem hl_cy_t {f : Nat → Option Nat} {e n a t : Nat} (h : a ≠ e) (hf : f a = some t) : hl_cy f e (n + 1) a = hl_cy f e n t := by
  rw [hl_cy.eq_2, if_neg h, hf]
theorem hl_cy_m {f : Nat → Option Nat} {e : Nat} : ∀ {n a : Nat}, hl_cy f e n a = true → hl_cy f e (n + 1) a = true := by
  intro n
  induction n with
  | zero => intro a h; cases h
  | succ n ih =>
    intro a h
    by_cases ha : a = e
    · subst ha; exact hl_cy_e _ _ _
    · cases ef : f a with
      | none => rw [hl_cy_n ha ef] at h; cases h
      | some t => rw [hl_cy_t ha ef] at h ⊢; exact ih h
theorem hl_cy_k {f : Nat → Option Nat} {e : Nat} (h6 : ∀ g t, f g = some t → t < 6) : ∀ {n a : Nat}, a < 6 → hl_cy f e (n + 1) a = true → hl_cy f e n a = false → n + 1 ≤ hl_kn (hl_cy f e (n + 1)) 6 := by
  intro n
  induction n with
  | zero =>
    intro a ha h1 h0
    have z := hl_kn_lt (p := hl_cy f e 0) (q := hl_cy f e 1) (a := a) h0 h1 (n := 6) (fun x _ hx => hl_cy_m hx) ha
    show 0 + 1 ≤ hl_kn (hl_cy f e 1) 6
    omega
  | succ n ih =>
    intro a ha h1 h0
    have z := hl_kn_lt (p := hl_cy f e (n + 1)) (q := hl_cy f e (n + 2)) (a := a) h0 h1 (n := 6) (fun x _ hx => hl_cy_m hx) ha
    have hae : a ≠ e := fun q => by subst q; rw [hl_cy_e] at h0; cases h0
    cases ef : f a with
    | none => rw [hl_cy_n hae ef] at h1; cases h1
    | some t =>
      rw [hl_cy_t hae ef] at h1 h0
      have := ih (h6 _ _ ef) h1 h0
      show n + 1 + 1 ≤ hl_kn (hl_cy f e (n + 2)) 6
      omega
theorem hl_cy_87 {f : Nat → Option Nat} {e a : Nat} (h6 : ∀ g t, f g = some t → t < 6) (ha : a < 6) : hl_cy f e 8 a = hl_cy f e 7 a := by
  cases h7 : hl_cy f e 7 a with
  | true => exact hl_cy_m h7
  | false =>
    cases h8 : hl_cy f e 8 a with
    | false => rfl
    | true =>
      have a1 : 8 ≤ hl_kn (hl_cy f e 8) 6 := hl_cy_k h6 ha h8 h7
      have a2 := hl_kn_le (hl_cy f e 8) 6
      omega
/-! answers -/
def hl_is (r : Int32) (Q : Prop) : Prop := (Q → r = 1) ∧ (¬ Q → r = 0)
theorem hl_is_t {Q : Prop} (h : Q) : hl_is 1 Q := ⟨fun _ => rfl, fun z => absurd h z⟩
theorem hl_is_f {Q : Prop} (h : ¬ Q) : hl_is 0 Q := ⟨fun z => absurd z h, fun _ => rfl⟩
theorem hl_is_u {r r' : Int32} {Q Q' : Prop} (h : hl_is r Q) (h' : hl_is r' Q') (e : Q ↔ Q') : r' = r := by
  rcases Classical.em Q with q | q
  · rw [h.1 q, h'.1 (e.mp q)]
  · rw [h.2 q, h'.2 (fun z => q (e.mpr z))]
/-- the least of the counts that there are, B if there is none -/
def hl_mi (B N : Nat) (c : Nat → Option Nat) (b : Nat) : Prop :=
  (b = B ∧ ∀ j, j < N → c j = none) ∨ (b < 8 ∧ (∃ j, j < N ∧ c j = some b) ∧ ∀ j m, j < N → c j = some m → b ≤ m)
theorem hl_mi_0 (B : Nat) (c : Nat → Option Nat) : hl_mi B 0 c B := Or.inl ⟨rfl, fun j h => by omega⟩
theorem hl_mi_n {B N : Nat} {c : Nat → Option Nat} {b : Nat} (h : hl_mi B N c b) (hn : c N = none) : hl_mi B (N + 1) c b := by
  rcases h with ⟨rfl, h⟩ | ⟨h8, ⟨j, hj, hb⟩, h⟩
  · refine Or.inl ⟨rfl, fun j hj => ?_⟩
    by_cases e : j = N
    · subst e; exact hn
    · exact h j (by omega)
  · refine Or.inr ⟨h8, ⟨j, by omega, hb⟩, fun j m hj hm => ?_⟩
    by_cases e : j = N
    · subst e; rw [hn] at hm; cases hm
    · exact h j m (by omega) hm
theorem hl_mi_k {B N : Nat} {c : Nat → Option Nat} {b m : Nat} (h : hl_mi B N c b) (hB : 8 ≤ B) (hm : c N = some m) (hm8 : m < 8) (hbm : b ≤ m) : hl_mi B (N + 1) c b := by
  rcases h with ⟨rfl, h⟩ | ⟨h8, ⟨j, hj, hb⟩, h⟩
  · omega
  · refine Or.inr ⟨h8, ⟨j, by omega, hb⟩, fun j m' hj hm' => ?_⟩
    by_cases e : j = N
    · subst e; rw [hm] at hm'; rw [← Option.some.inj hm']; exact hbm
    · exact h j m' (by omega) hm'
theorem hl_mi_s {B N : Nat} {c : Nat → Option Nat} {b m : Nat} (h : hl_mi B N c b) (hm : c N = some m) (hm8 : m < 8) (hbm : m < b) : hl_mi B (N + 1) c m := by
  refine Or.inr ⟨hm8, ⟨N, by omega, hm⟩, fun j m' hj hm' => ?_⟩
  by_cases e : j = N
  · subst e; rw [hm] at hm'; rw [← Option.some.inj hm']; exact Nat.le_refl _
  · rcases h with ⟨_, h⟩ | ⟨_, _, h⟩
    · rw [h j (by omega)] at hm'; cases hm'
    · have := h j m' (by omega) hm'; omega
def hl_mnr (N : Nat) (c : Nat → Option Nat) (r : Int32) : Prop :=
  (r = -3 ∧ ∀ j, j < N → c j = none) ∨ ∃ b, r = nI b ∧ (∃ j, j < N ∧ c j = some b) ∧ ∀ j m, j < N → c j = some m → b ≤ m
theorem hl_mnr_u {c : Nat → Option Nat} {r r' : Int32} (h : hl_mnr 203 c r) (h' : hl_mnr 203 (fun d => c (hl_p d)) r') : r' = r := by
  rcases h with ⟨rfl, h⟩ | ⟨b, rfl, ⟨j, hj, hb⟩, h⟩ <;> rcases h' with ⟨rfl, h'⟩ | ⟨b', rfl, ⟨j', hj', hb'⟩, h'⟩
  · rfl
  · have z : c (hl_p j') = some b' := hb'
    rw [h _ (hl_p203 _ hj')] at z; cases z
  · obtain ⟨d, hd, rfl⟩ := hl_psur hj
    have z : c (hl_p d) = none := h' d hd
    rw [z] at hb; cases hb
  · obtain ⟨d, hd, rfl⟩ := hl_psur hj
    have a1 := h _ _ (hl_p203 _ hj') hb'
    have a2 := h' d _ hd hb
    exact congrArg nI (by omega)
/-- the greatest of the counts that there are, -3 if there is none -/
def hl_ma (N : Nat) (c : Nat → Option Nat) (x : Int32) : Prop :=
  (x = -3 ∧ ∀ j, j < N → c j = none) ∨ ∃ b, b < 8 ∧ x = nI b ∧ (∃ j, j < N ∧ c j = some b) ∧ ∀ j m, j < N → c j = some m → m ≤ b
theorem hl_ma_0 (c : Nat → Option Nat) : hl_ma 0 c (-3) := Or.inl ⟨rfl, fun j h => by omega⟩
theorem hl_ma_n {N : Nat} {c : Nat → Option Nat} {x : Int32} (h : hl_ma N c x) (hn : c N = none) : hl_ma (N + 1) c x := by
  rcases h with ⟨rfl, h⟩ | ⟨b, h8, rfl, ⟨j, hj, hb⟩, h⟩
  · refine Or.inl ⟨rfl, fun j hj => ?_⟩
    by_cases e : j = N
    · subst e; exact hn
    · exact h j (by omega)
  · refine Or.inr ⟨b, h8, rfl, ⟨j, by omega, hb⟩, fun j m hj hm => ?_⟩
    by_cases e : j = N
    · subst e; rw [hn] at hm; cases hm
    · exact h j m (by omega) hm
theorem hl_m3 : ∀ m, m < 8 → ¬ nI m ≤ (-3 : Int32) := by decide +kernel
theorem hl_m3' : ∀ m, m < 8 → (-3 : Int32) ≤ nI m := by decide +kernel
theorem hl_ma_k {N : Nat} {c : Nat → Option Nat} {x : Int32} {m : Nat} (h : hl_ma N c x) (hm : c N = some m) (hm8 : m < 8) (hx : nI m ≤ x) : hl_ma (N + 1) c x := by
  rcases h with ⟨rfl, h⟩ | ⟨b, h8, rfl, ⟨j, hj, hb⟩, h⟩
  · exact absurd hx (hl_m3 m hm8)
  · rw [nI_leI (by omega) (by omega)] at hx
    refine Or.inr ⟨b, h8, rfl, ⟨j, by omega, hb⟩, fun j m' hj hm' => ?_⟩
    by_cases e : j = N
    · subst e; rw [hm] at hm'; rw [← Option.some.inj hm']; exact hx
    · exact h j m' (by omega) hm'
theorem hl_ma_s {N : Nat} {c : Nat → Option Nat} {x : Int32} {m : Nat} (h : hl_ma N c x) (hm : c N = some m) (hm8 : m < 8) (hx : ¬ nI m ≤ x) : hl_ma (N + 1) c (nI m) := by
  refine Or.inr ⟨m, hm8, rfl, ⟨N, by omega, hm⟩, fun j m' hj hm' => ?_⟩
  by_cases e : j = N
  · subst e; rw [hm] at hm'; rw [← Option.some.inj hm']; exact Nat.le_refl _
  · rcases h with ⟨_, h⟩ | ⟨b, h8, rfl, _, h⟩
    · rw [h j (by omega)] at hm'; cases hm'
    · rw [nI_leI (by omega) (by omega)] at hx
      have := h j m' (by omega) hm'; omega
theorem hl_ma_u {c : Nat → Option Nat} {r r' : Int32} (h : hl_ma 203 c r) (h' : hl_ma 203 (fun d => c (hl_p d)) r') : r' = r := by
  rcases h with ⟨rfl, h⟩ | ⟨b, _, rfl, ⟨j, hj, hb⟩, h⟩ <;> rcases h' with ⟨rfl, h'⟩ | ⟨b', _, rfl, ⟨j', hj', hb'⟩, h'⟩
  · rfl
  · have z : c (hl_p j') = some b' := hb'
    rw [h _ (hl_p203 _ hj')] at z; cases z
  · obtain ⟨d, hd, rfl⟩ := hl_psur hj
    have z : c (hl_p d) = none := h' d hd
    rw [z] at hb; cases hb
  · obtain ⟨d, hd, rfl⟩ := hl_psur hj
    have a1 := h _ _ (hl_p203 _ hj') hb'
    have a2 := h' d _ hd hb
    exact congrArg nI (by omega)
end
section
/-! numbers, booleans, what X's and Y's arrays say -/
def hl_bI (b : Bool) : Int32 := match b with
  | true => 1
  | false => 0
def hl_oI (o : Option Nat) : Int32 := match o with
  | none => -1
  | some t => nI t
theorem hl_bI_n (b : Bool) : narrow .boolean (.int (hl_bI b)) = .int (hl_bI b) := by cases b <;> rfl
theorem hl_vb0 : vp_nar .boolean 0 = 0 := rfl
theorem hl_vb1 : vp_nar .boolean 1 = 1 := rfl
theorem hl_vb (b : Bool) : vp_nar .boolean (hl_bI b) = hl_bI b := by cases b <;> rfl
theorem hl_10 : ¬ (1 : Int32) = 0 := by decide
theorem hl_01 : ¬ (0 : Int32) = 1 := by decide
theorem hl_b0 {b : Bool} (h : b = false) : hl_bI b = 0 := by rw [h]; rfl
theorem hl_b1 {b : Bool} (h : b = true) : hl_bI b = 1 := by rw [h]; rfl
theorem hl_b1n {b : Bool} (h : b = true) : ¬ hl_bI b = 0 := by rw [h]; exact hl_10
theorem hl_br {b : Bool} {A B : Prop} (h0 : b = false → A) (h1 : b = true → B) : (hl_bI b = 0 → A) ∧ (¬ hl_bI b = 0 → B) := by
  cases b with
  | false => exact br_t rfl (h0 rfl)
  | true => exact br_f hl_10 (h1 rfl)
theorem hl_nm1 : ∀ t, t < 8 → ¬ nI t = (-1 : Int32) := by decide +kernel
theorem hl_nn0 : ∀ t, t < 8 → ¬ nI t < (0 : Int32) := by decide +kernel
theorem hl_nl0 : ∀ t, t < 8 → (0 : Int32) ≤ nI t := by decide +kernel
theorem hl_m1l : (-1 : Int32) < 0 := by decide
theorem hl_m1n : ¬ (0 : Int32) ≤ -1 := by decide
theorem hl_i6 (k t : Nat) : (6 : Int32) * nI k + nI t = nI (6 * k + t) := by
  rw [show (6 : Int32) = nI 6 from rfl, pk_mul, nI_add]
theorem hl_i8 (k t : Nat) : (8 : Int32) * nI k + nI t = nI (8 * k + t) := by
  rw [show (8 : Int32) = nI 8 from rfl, pk_mul, nI_add]
theorem hl_m6 (k : Nat) : (6 : Int32) * nI k = nI (6 * k) := by
  rw [show (6 : Int32) = nI 6 from rfl, pk_mul]
theorem hl_m8 (k : Nat) : (8 : Int32) * nI k = nI (8 * k) := by
  rw [show (8 : Int32) = nI 8 from rfl, pk_mul]
theorem hl_a6 (t : Nat) : (6 : Int32) + nI t = nI (6 + t) := by
  rw [show (6 : Int32) = nI 6 from rfl, nI_add]
theorem hl_a8 (t : Nat) : (8 : Int32) + nI t = nI (8 + t) := by
  rw [show (8 : Int32) = nI 8 from rfl, nI_add]
theorem hl_c2 {s : Nat} (h : s < 2) : (nI s).toNatClampNeg = s := nI_clamp (by omega)
theorem hl_in2 {s : Nat} (h : s < 2) : vp_in (nI s) 2 := vp_in_nI h (by decide)
/-- an argument that is a claim, or none -/
theorem hl_cl (v : Int32) : (∃ s, s < 2 ∧ v = nI s) ∨ (¬ v = 0 ∧ ¬ v = 1 ∧ (v < 0 ∨ (¬ v < 0 ∧ ¬ v ≤ 1))) := by
  rcases pk_ix v (n := 2) (by decide) with h | h | h
  · refine Or.inr ⟨fun z => ?_, fun z => ?_, Or.inl h⟩
    · rw [z] at h; exact absurd h (by decide)
    · rw [z] at h; exact absurd h (by decide)
  · have h1 : ¬ v ≤ 1 := fun z => absurd (Int32.le_trans h z) (by decide)
    refine Or.inr ⟨fun z => ?_, fun z => ?_, Or.inr ⟨fun z => ?_, h1⟩⟩
    · rw [z] at h; exact absurd h (by decide)
    · rw [z] at h; exact absurd h (by decide)
    · exact h1 (Int32.le_trans (Int32.le_of_lt z) (by decide))
  · exact Or.inl h
theorem hl_nm (v : Int32) : (∃ t, t < 6 ∧ v = nI t) ∨ v < 0 ∨ (¬ v < 0 ∧ ¬ v < 6 ∧ 5 < v) := by
  rcases pk_ix v (n := 6) (by decide) with h | h | h
  · exact Or.inr (Or.inl h)
  · have h6 : (6 : Int32) ≤ v := h
    refine Or.inr (Or.inr ⟨fun z => ?_, fun z => ?_, ?_⟩)
    · exact absurd (Int32.lt_of_le_of_lt h6 z) (by decide)
    · exact absurd (Int32.lt_of_le_of_lt h6 z) (by decide)
    · exact Int32.lt_of_lt_of_le (by decide) h6
  · exact Or.inl h
def hl_X (nc np : Nat → Nat) (cw pw : Nat → Nat → Nat) (cc cA cB sm pc pA pB iL dv : Nat → Int32) : Prop :=
  (∀ s, s < 2 → nc s ≤ 8 ∧ np s ≤ 6 ∧ cc s = nI (nc s) ∧ pc s = nI (np s)) ∧
  (∀ s i, s < 2 → i < nc s → cw s i < 72 ∧ cA (8 * s + i) = nI (cw s i % 36 / 6) ∧ cB (8 * s + i) = nI (cw s i % 6) ∧ sm (8 * s + i) = hl_bI (decide (cw s i < 36))) ∧
  (∀ s i, s < 2 → i < np s → pw s i < 72 ∧ pA (6 * s + i) = nI (pw s i % 36 / 6) ∧ pB (6 * s + i) = nI (pw s i % 6) ∧ iL (6 * s + i) = hl_bI (decide (36 ≤ pw s i))) ∧
  (∀ k t, k < 203 → t < 6 → dv (6 * k + t) = nI (hl_G k t))
def hl_Y (nc np : Nat → Nat) (cw pw : Nat → Nat → Nat) (cd ct pt pn dg : Nat → Int32) : Prop :=
  (∀ s, s < 2 → nc s ≤ 8 ∧ np s ≤ 6 ∧ ct s = nI (nc s) ∧ pn s = nI (np s)) ∧
  (∀ s i, s < 2 → i < nc s → cw s i < 72 ∧ cd (8 * s + i) = nI (cw s i)) ∧
  (∀ s i, s < 2 → i < np s → pw s i < 72 ∧ pt (6 * s + i) = nI (pw s i)) ∧
  (∀ d t, d < 203 → t < 6 → ((dg d) >>> (((3 : Int32) * nI t) &&& 31)) &&& 7 = nI (hl_G (hl_p d) t))
def hl_EX (F : HG) (lt lg : Nat → Int32) : Prop :=
  (∀ g, g < 6 → lt g = hl_oI (hl_f F g)) ∧ (∀ g t l, F g = some (t, l) → g < 6 ∧ t < 6 ∧ lg g = hl_bI l)
def hl_UX (n : Nat) (U : Nat → Bool) (us : Nat → Int32) : Prop := ∀ g, g < n → us g = hl_bI (U g)
/-- a heap in Y's array -/
def hl_EY (f : Nat → Option Nat) (ho : Nat → Int32) : Prop :=
  (∀ g, g < 7 → ho g = hl_oI (f g)) ∧ (∀ g t, f g = some t → g < 7 ∧ t < 7)
def hl_L (nc np : Nat → Nat) (cw pw : Nat → Nat → Nat) (s k : Nat) : Option HG := hl_lay (hl_G k) (nc s) (np s) (cw s) (pw s)
theorem hl_Grow {k : Nat} (hk : k < 203) : hl_Row (hl_G k) := fun t ht => hl_G6 k hk t ht
theorem hl_EX_lt {F : HG} {lt lg : Nat → Int32} (h : hl_EX F lt lg) {g : Nat} (hg : g < 6) {A B : Prop} (h0 : F g = none → A) (h1 : ∀ t l, F g = some (t, l) → B) : (lt g = -1 → A) ∧ (¬ lt g = -1 → B) := by
  have e := h.1 g hg
  cases eF : F g with
  | none =>
    rw [hl_f_n.mpr eF] at e
    exact br_t e (h0 eF)
  | some p =>
    rw [hl_f_s (t := p.1) (l := p.2) eF] at e
    refine br_f ?_ (h1 p.1 p.2 eF)
    rw [e]
    exact hl_nm1 _ (by have := (h.2 g p.1 p.2 eF).2.1; omega)
theorem hl_EX_n {F : HG} {lt lg : Nat → Int32} (h : hl_EX F lt lg) {g : Nat} (hg : g < 6) (hF : F g = none) : lt g = -1 := by
  rw [h.1 g hg, hl_f_n.mpr hF]; rfl
theorem hl_EX_s {F : HG} {lt lg : Nat → Int32} (h : hl_EX F lt lg) {g t : Nat} {l : Bool} (hF : F g = some (t, l)) : lt g = nI t ∧ lg g = hl_bI l ∧ g < 6 ∧ t < 6 := by
  obtain ⟨a, b, c⟩ := h.2 g t l hF
  exact ⟨by rw [h.1 g a, hl_f_s hF]; rfl, c, a, b⟩
theorem hl_EX_0 {lt lg : Nat → Int32} (h : ∀ g, g < 6 → lt g = -1) : hl_EX hl_E lt lg := ⟨fun g hg => h g hg, fun g t l z => by cases z⟩
theorem hl_EX_put {F : HG} {lt lg : Nat → Int32} (h : hl_EX F lt lg) {g t : Nat} (l : Bool) (hg : g < 6) (ht : t < 6) : hl_EX (hl_put F g t l) (upd lt g (nI t)) (upd lg g (hl_bI l)) := by
  refine ⟨fun x hx => ?_, fun x t' l' z => ?_⟩
  · by_cases e : x = g
    · subst e
      rw [pk_us, hl_f_s (hl_put_s F x t l)]; rfl
    · rw [pk_un e]
      unfold hl_f
      rw [hl_put_n _ _ _ e]
      exact h.1 x hx
  · by_cases e : x = g
    · subst e
      rw [hl_put_s] at z
      have z1 := Option.some.inj z
      have z2 : t = t' := congrArg Prod.fst z1
      have z3 : l = l' := congrArg Prod.snd z1
      subst z2 z3
      exact ⟨hg, ht, by rw [pk_us]⟩
    · rw [hl_put_n _ _ _ e] at z
      rw [pk_un e]
      exact h.2 x t' l' z
theorem hl_UX_set {n : Nat} {U : Nat → Bool} {us : Nat → Int32} (h : hl_UX n U us) (g : Nat) : hl_UX n (hl_set U g) (upd us g 1) := by
  intro x hx
  by_cases e : x = g
  · subst e; rw [pk_us, hl_set_s]; rfl
  · rw [pk_un e, hl_set_n _ e]; exact h x hx
/-- a count up to n -/
def hl_ec (F : HG) (n : Nat) : Nat := hl_kn (fun g => (F g).isSome) n
end
section
/-! X: claims' arguments, groups, conditions, edges, lay -/
section
variable {cc cA cB sm pc pA pB iL dv lt lg ep us : Nat → Int32} {nc np : Nat → Nat} {cw pw : Nat → Nat → Nat}
theorem hx_bc {post : Int32 → Prop} {u : SX} {s : Nat} (hs : s < 2) (h : post 0) : wpX_badClaim post u (nI s) := by
  unfold wpX_badClaim
  dsimp only
  exact br_f (nI_pos (by omega)) (br_t (nI_le (b := 1) (by omega) (by decide)) h)
theorem hx_bc1 {post : Int32 → Prop} {u : SX} {v : Int32} (hv : v < 0 ∨ (¬ v < 0 ∧ ¬ v ≤ 1)) (h : post 1) : wpX_badClaim post u v := by
  unfold wpX_badClaim
  dsimp only
  rcases hv with z | ⟨z1, z2⟩
  · exact br_t z h
  · exact br_f z1 (br_f z2 h)
theorem hx_bt {post : Int32 → Prop} {u : SX} {s : Nat} (hs : s < 6) (h : post 0) : wpX_badTerm post u (nI s) := by
  unfold wpX_badTerm
  dsimp only
  exact br_f (nI_pos (by omega)) (br_t (nI_lt (b := 6) (by omega) (by decide)) h)
theorem hx_bt1 {post : Int32 → Prop} {u : SX} {v : Int32} (hv : v < 0 ∨ (¬ v < 0 ∧ ¬ v < 6 ∧ 5 < v)) (h : post 1) : wpX_badTerm post u v := by
  unfold wpX_badTerm
  dsimp only
  rcases hv with z | ⟨z1, z2, _⟩
  · exact br_t z h
  · exact br_f z1 (br_f z2 h)
theorem hx_ba {post : Int32 → Prop} {s a b : Nat} (hs : s < 2) (ha : a < 6) (hb : b < 6) (h : post 0) : wpX_badAsk post (cc, cA, cB, sm, pc, pA, pB, iL, dv, lt, lg, ep, us) (nI s) (nI a) (nI b) := by
  unfold wpX_badAsk
  dsimp only
  exact hx_bc hs (br_t rfl (hx_bt ha (br_t rfl (hx_bt hb (br_t rfl h)))))
/-- arguments that X refuses -/
def hl_bad (v1 v2 v3 : Int32) : Prop :=
  (v1 < 0 ∨ (¬ v1 < 0 ∧ ¬ v1 ≤ 1)) ∨ (∃ s, s < 2 ∧ v1 = nI s ∧ ((v2 < 0 ∨ (¬ v2 < 0 ∧ ¬ v2 < 6 ∧ 5 < v2)) ∨ ∃ a, a < 6 ∧ v2 = nI a ∧ (v3 < 0 ∨ (¬ v3 < 0 ∧ ¬ v3 < 6 ∧ 5 < v3))))
theorem hx_ba1 {post : Int32 → Prop} {v1 v2 v3 : Int32} (hv : hl_bad v1 v2 v3) (h : post 1) : wpX_badAsk post (cc, cA, cB, sm, pc, pA, pB, iL, dv, lt, lg, ep, us) v1 v2 v3 := by
  unfold wpX_badAsk
  dsimp only
  rcases hv with z | ⟨s, hs, rfl, z | ⟨a, ha, rfl, z⟩⟩
  · exact hx_bc1 z (br_f hl_10 h)
  · exact hx_bc hs (br_t rfl (hx_bt1 z (br_f hl_10 h)))
  · exact hx_bc hs (br_t rfl (hx_bt ha (br_t rfl (hx_bt1 z (br_f hl_10 h)))))
theorem hx_g {post : Int32 → Prop} (H : hl_X nc np cw pw cc cA cB sm pc pA pB iL dv) {k t : Nat} (hk : k < 203) (ht : t < 6) (h : post (nI (hl_G k t))) : wpX_group post (cc, cA, cB, sm, pc, pA, pB, iL, dv, lt, lg, ep, us) (nI k) (nI t) := by
  unfold wpX_group
  dsimp only
  rw [hl_i6, nI_clamp (by omega), H.2.2.2 k t hk ht]
  exact ⟨vp_in_nI (by omega) (by decide), h⟩
theorem hx_cd56 {post : Int32 → Prop} {J : Int32 → Int32 → Prop} {x1 x2 : Int32} {c q p : Bool} {j : Nat} (hj : j < 16) (hp : sm j = hl_bI p) (h : J (hl_bI (c && (q == p))) (nI (j + 1))) : wX_conditionsHold_56 post J x1 x2 (hl_bI c) (nI j) (hl_bI q) cc cA cB sm pc pA pB iL dv lt lg ep us := by
  unfold wX_conditionsHold_56
  rw [nI_clamp (by omega), hp]
  cases c with
  | false => exact br_t rfl (nm_r (nI_1 j) h)
  | true =>
    refine br_f hl_10 ⟨vp_in_nI hj (by decide), ?_⟩
    cases q <;> cases p
    · exact br_t rfl (nm_r (nI_1 j) h)
    · exact br_f hl_01 (nm_r (nI_1 j) h)
    · exact br_f hl_10 (nm_r (nI_1 j) h)
    · exact br_t rfl (nm_r (nI_1 j) h)
theorem hx_cdl {post : Int32 → Prop} (H : hl_X nc np cw pw cc cA cB sm pc pA pB iL dv) {s k : Nat} (hs : s < 2) (hk : k < 203) (K : post (hl_bI (hl_cd (hl_G k) (cw s) (nc s)))) :
    ∀ m i, i ≤ nc s → nc s - i < m → wX_conditionsHold_8 post (nI s) (nI k) cc cA cB sm pc pA pB iL dv lt lg ep us m (hl_bI (hl_cd (hl_G k) (cw s) i)) (nI (8 * s + i)) := by
  obtain ⟨h8, h6, ec, _⟩ := H.1 s hs
  intro m
  induction m with
  | zero => intro i _ h; omega
  | succ m ih =>
    intro i hi hm
    rw [wX_conditionsHold_8]
    dsimp only
    rw [hl_c2 hs, ec, hl_i8]
    refine ⟨hl_in2 hs, ?_⟩
    by_cases e : i = nc s
    · subst e
      exact br_t (nI_le (by omega) (by omega)) ⟨hl_bI_n _, K⟩
    · obtain ⟨w72, eA, eB, eS⟩ := H.2.1 s i hs (by omega)
      refine br_f (nI_ge (by omega) (by omega)) ⟨vp_in_nI (by omega) (by decide), ?_⟩
      rw [nI_clamp (by omega), eA, eB]
      have l1 := hl_G6 k hk (cw s i % 36 / 6) (by omega)
      have l2 := hl_G6 k hk (cw s i % 6) (by omega)
      have nx : wX_conditionsHold_8 post (nI s) (nI k) cc cA cB sm pc pA pB iL dv lt lg ep us m (hl_bI (hl_cd (hl_G k) (cw s) (i + 1))) (nI (8 * s + i + 1)) := ih (i + 1) (by omega) (by omega)
      refine hx_g H hk (by omega) ⟨vp_in_nI (by omega) (by decide), hx_g H hk (by omega) ?_⟩
      refine pk_eq (hl_G k (cw s i % 36 / 6)) (hl_G k (cw s i % 6)) (fun z => ?_) (fun z => ?_)
      · refine hx_cd56 (q := true) (by omega) eS ?_
        have e2 : hl_cd (hl_G k) (cw s) (i + 1) = (hl_cd (hl_G k) (cw s) i && (true == decide (cw s i < 36))) := by
          show (_ && (decide (hl_fr (hl_G k) (cw s i) = hl_to (hl_G k) (cw s i)) == _)) = _
          rw [decide_eq_true (show hl_fr (hl_G k) (cw s i) = hl_to (hl_G k) (cw s i) from z)]
        rw [← e2]; exact nx
      · refine hx_cd56 (q := false) (by omega) eS ?_
        have e2 : hl_cd (hl_G k) (cw s) (i + 1) = (hl_cd (hl_G k) (cw s) i && (false == decide (cw s i < 36))) := by
          show (_ && (decide (hl_fr (hl_G k) (cw s i) = hl_to (hl_G k) (cw s i)) == _)) = _
          rw [decide_eq_false (show ¬ hl_fr (hl_G k) (cw s i) = hl_to (hl_G k) (cw s i) from z)]
        rw [← e2]; exact nx
theorem hx_cd {post : Int32 → Prop} (H : hl_X nc np cw pw cc cA cB sm pc pA pB iL dv) {s k : Nat} (hs : s < 2) (hk : k < 203) (K : post (hl_bI (hl_cd (hl_G k) (cw s) (nc s)))) : wpX_conditionsHold post (cc, cA, cB, sm, pc, pA, pB, iL, dv, lt, lg, ep, us) (nI s) (nI k) := by
  unfold wpX_conditionsHold
  dsimp only
  have z := hx_cdl (lt := lt) (lg := lg) (ep := ep) (us := us) H hs hk K (nc s + 1) 0 (by omega) (by omega)
  exact nm_r (hl_m8 s) ⟨_, z⟩
theorem hx_cel {post : SX → Prop} (K : ∀ lt ep us : Nat → Int32, (∀ g, g < 6 → lt g = -1) → hl_UX 6 (fun _ => false) us → post (cc, cA, cB, sm, pc, pA, pB, iL, dv, lt, lg, ep, us)) :
    ∀ m g (lt ep us : Nat → Int32), g ≤ 6 → 6 - g < m → (∀ x, x < g → lt x = -1) → hl_UX g (fun _ => false) us → wX_clearEdges_2 post m (nI g) cc cA cB sm pc pA pB iL dv lt lg ep us := by
  intro m
  induction m with
  | zero => intro g lt ep us _ h; omega
  | succ m ih =>
    intro g lt ep us hg hm h1 h2
    rw [wX_clearEdges_2]
    dsimp only
    by_cases e : g = 6
    · subst e
      exact br_t (nI_le (a := 6) (b := 6) (by omega) (by decide)) (K lt ep us h1 h2)
    · refine br_f (nI_ge (b := 6) (by omega) (by decide)) ?_
      have hin : vp_in (nI g) 6 := vp_in_nI (by omega) (by decide)
      rw [nI_clamp (by omega), hl_vb0]
      refine ⟨hin, nm_e ⟨hin, nm_e ⟨hin, nm_e (nm_r (nI_1 g) (ih (g + 1) _ _ _ (by omega) (by omega) ?_ ?_))⟩⟩⟩
      · intro x hx
        by_cases ex : x = g
        · subst ex; exact pk_us
        · rw [pk_un ex]; exact h1 x (by omega)
      · intro x hx
        by_cases ex : x = g
        · subst ex; exact pk_us
        · rw [pk_un ex]; exact h2 x (by omega)
theorem hx_ae0 {post : Int32 → SX → Prop} {x1 x2 x3 x4 : Int32} (h : post 0 (cc, cA, cB, sm, pc, pA, pB, iL, dv, lt, lg, ep, us)) : wX_addEdge_39 post x1 x2 x3 x4 cc cA cB sm pc pA pB iL dv lt lg ep us := by
  unfold wX_addEdge_39 wX_addEdge_40
  exact br_t rfl ⟨narrow_b0, h⟩
theorem hx_ae {post : Int32 → SX → Prop} (H : hl_X nc np cw pw cc cA cB sm pc pA pB iL dv) {s k i : Nat} (hs : s < 2) (hk : k < 203) (hi : i < np s) {F : HG} (hE : hl_EX F lt lg) (hne : ¬ (36 ≤ pw s i ∧ hl_fr (hl_G k) (pw s i) = hl_to (hl_G k) (pw s i)))
    (K0 : hl_stp (hl_G k) (pw s i) F = none → post 0 (cc, cA, cB, sm, pc, pA, pB, iL, dv, lt, lg, ep, us)) (K1 : ∀ F', hl_stp (hl_G k) (pw s i) F = some F' → ∀ lt lg ep : Nat → Int32, hl_EX F' lt lg → post 1 (cc, cA, cB, sm, pc, pA, pB, iL, dv, lt, lg, ep, us)) : wpX_addEdge post (cc, cA, cB, sm, pc, pA, pB, iL, dv, lt, lg, ep, us) (nI k) (nI (6 * s + i)) (hl_bI (decide (36 ≤ pw s i))) := by
  obtain ⟨h8, h6, _, _⟩ := H.1 s hs
  obtain ⟨w72, eA, eB, eL⟩ := H.2.2.1 s i hs hi
  have l1 : hl_fr (hl_G k) (pw s i) < 6 := hl_G6 k hk (pw s i % 36 / 6) (by omega)
  have l2 : hl_to (hl_G k) (pw s i) < 6 := hl_G6 k hk (pw s i % 6) (by omega)
  have l3 := hl_G6 k hk 5 (by omega)
  have hin : vp_in (nI (6 * s + i)) 12 := vp_in_nI (by omega) (by decide)
  have hif : vp_in (nI (hl_fr (hl_G k) (pw s i))) 6 := vp_in_nI l1 (by decide)
  unfold wpX_addEdge
  dsimp only
  rw [nI_clamp (show 6 * s + i < 2 ^ 31 by omega), eA]
  refine ⟨hin, hx_g H hk (by omega) ?_⟩
  show vp_in (nI (hl_fr (hl_G k) (pw s i))) 6 ∧ _
  refine ⟨hif, ?_⟩
  have ecl : (nI (hl_G k (pw s i % 36 / 6))).toNatClampNeg = hl_fr (hl_G k) (pw s i) := nI_clamp (show hl_fr (hl_G k) (pw s i) < 2 ^ 31 by omega)
  rw [ecl]
  refine hl_EX_lt hE l1 (fun e => ?_) (fun t l e => ?_)
  · refine hx_g (t := 5) H hk (by omega) ?_
    refine pk_eq (hl_fr (hl_G k) (pw s i)) (hl_G k 5) (fun z => ?_) (fun z => ?_)
    · exact hx_ae0 (K0 (hl_stp_n hne (fun q => q.2 z)))
    · unfold wX_addEdge_40
      refine br_f hl_10 ⟨hin, ?_⟩
      rw [nI_clamp (show 6 * s + i < 2 ^ 31 by omega), eB, ecl, hl_vb]
      refine hx_g H hk (by omega) ⟨hif, nm_e ⟨hif, nm_e ⟨hif, nm_e ⟨narrow_b1, ?_⟩⟩⟩⟩
      exact K1 _ (hl_stp_p hne e z) _ _ _ (hl_EX_put hE _ l1 l2)
  · exact hx_ae0 (K0 (hl_stp_n hne (fun q => by rw [q.1] at e; cases e)))
theorem hx_aes0 {post : Int32 → SX → Prop} {s k : Nat} (hs : s < 2) {m : Nat} (hm : 1 ≤ m) {x : Int32} (h : post 0 (cc, cA, cB, sm, pc, pA, pB, iL, dv, lt, lg, ep, us)) : wX_addEdges_8 post (nI s) (nI k) m 0 x cc cA cB sm pc pA pB iL dv lt lg ep us := by
  obtain ⟨m', rfl⟩ : ∃ m', m = m' + 1 := ⟨m - 1, by omega⟩
  rw [wX_addEdges_8]
  dsimp only
  exact ⟨hl_in2 hs, br_c (fun _ => ⟨narrow_b0, h⟩) (fun _ => br_t rfl ⟨narrow_b0, h⟩)⟩
theorem hx_aesl {post : Int32 → SX → Prop} (H : hl_X nc np cw pw cc cA cB sm pc pA pB iL dv) {s k : Nat} (hs : s < 2) (hk : k < 203) {F0 : HG}
    (K0 : hl_bd (hl_G k) (pw s) F0 (np s) = none → ∀ lt lg ep : Nat → Int32, post 0 (cc, cA, cB, sm, pc, pA, pB, iL, dv, lt, lg, ep, us)) (K1 : ∀ F', hl_bd (hl_G k) (pw s) F0 (np s) = some F' → ∀ lt lg ep : Nat → Int32, hl_EX F' lt lg → post 1 (cc, cA, cB, sm, pc, pA, pB, iL, dv, lt, lg, ep, us)) :
    ∀ m i (lt lg ep : Nat → Int32) (F : HG), i ≤ np s → np s - i < m → hl_bd (hl_G k) (pw s) F0 i = some F → hl_EX F lt lg → wX_addEdges_8 post (nI s) (nI k) m 1 (nI (6 * s + i)) cc cA cB sm pc pA pB iL dv lt lg ep us := by
  obtain ⟨h8, h6, _, ec⟩ := H.1 s hs
  intro m
  induction m with
  | zero => intro i lt lg ep F _ h; omega
  | succ m ih =>
    intro i lt lg ep F hi hm hb hE
    rw [wX_addEdges_8]
    dsimp only
    rw [hl_c2 hs, ec, hl_i6]
    refine ⟨hl_in2 hs, ?_⟩
    by_cases e : i = np s
    · subst e
      exact br_t (nI_le (by omega) (by omega)) ⟨narrow_b1, K1 F hb _ _ _ hE⟩
    · have hi' : i < np s := by omega
      obtain ⟨w72, eA, eB, eL⟩ := H.2.2.1 s i hs hi'
      have hin : vp_in (nI (6 * s + i)) 12 := vp_in_nI (by omega) (by decide)
      have l1 : hl_fr (hl_G k) (pw s i) < 6 := hl_G6 k hk (pw s i % 36 / 6) (by omega)
      have l2 : hl_to (hl_G k) (pw s i) < 6 := hl_G6 k hk (pw s i % 6) (by omega)
      refine br_f (nI_ge (by omega) (by omega)) (br_f hl_10 ⟨hin, ?_⟩)
      have ne : ¬ (36 ≤ pw s i ∧ hl_fr (hl_G k) (pw s i) = hl_to (hl_G k) (pw s i)) → wX_addEdges_69 post (wX_addEdges_8 post (nI s) (nI k) m) (nI s) (nI k) (nI (6 * s + i)) cc cA cB sm pc pA pB iL dv lt lg ep us := by
        intro hne
        unfold wX_addEdges_69 wX_addEdges_70
        refine br_t rfl ⟨hin, ?_⟩
        rw [nI_clamp (show 6 * s + i < 2 ^ 31 by omega), eL]
        refine hx_ae H hs hk hi' hE hne (fun z => ?_) (fun F' z lt' lg' ep' hE' => ?_)
        · exact br_t rfl (nm_r (nI_1 _) (hx_aes0 hs (by omega) (K0 (hl_bd_n (by rw [hl_bd_s hb]; exact z) _ (show i + 1 ≤ np s by omega)) _ _ _)))
        · exact br_f hl_10 (nm_r (nI_1 _) (ih (i + 1) lt' lg' ep' F' (by omega) (by omega) (by rw [hl_bd_s hb]; exact z) hE'))
      rw [nI_clamp (show 6 * s + i < 2 ^ 31 by omega), eL]
      refine hl_br (fun z => ne (fun q => of_decide_eq_false z q.1)) (fun z => ⟨hin, ?_⟩)
      rw [eA, eB]
      refine hx_g H hk (by omega) ⟨hin, hx_g H hk (by omega) ?_⟩
      refine pk_eq (hl_fr (hl_G k) (pw s i)) (hl_to (hl_G k) (pw s i)) (fun q => ?_) (fun q => ?_)
      · unfold wX_addEdges_70
        exact br_f hl_10 (nm_r (nI_1 _) (ih (i + 1) lt lg ep F (by omega) (by omega) (by rw [hl_bd_s hb]; exact hl_stp_e (of_decide_eq_true z) q) hE))
      · exact ne (fun y => q y.2)
theorem hx_aes {post : Int32 → SX → Prop} (H : hl_X nc np cw pw cc cA cB sm pc pA pB iL dv) {s k : Nat} (hs : s < 2) (hk : k < 203) {F0 : HG} (hE : hl_EX F0 lt lg)
    (K0 : hl_bd (hl_G k) (pw s) F0 (np s) = none → ∀ lt lg ep : Nat → Int32, post 0 (cc, cA, cB, sm, pc, pA, pB, iL, dv, lt, lg, ep, us)) (K1 : ∀ F', hl_bd (hl_G k) (pw s) F0 (np s) = some F' → ∀ lt lg ep : Nat → Int32, hl_EX F' lt lg → post 1 (cc, cA, cB, sm, pc, pA, pB, iL, dv, lt, lg, ep, us)) : wpX_addEdges post (cc, cA, cB, sm, pc, pA, pB, iL, dv, lt, lg, ep, us) (nI s) (nI k) := by
  unfold wpX_addEdges
  dsimp only
  have z := hx_aesl H hs hk K0 K1 (np s + 1) 0 lt lg ep F0 (by omega) (by omega) rfl hE
  exact nm_r (hl_m6 s) ⟨_, z⟩
theorem hx_lay {post : Int32 → SX → Prop} (H : hl_X nc np cw pw cc cA cB sm pc pA pB iL dv) {s k : Nat} (hs : s < 2) (hk : k < 203)
    (K0 : hl_L nc np cw pw s k = none → ∀ lt lg ep us : Nat → Int32, post 0 (cc, cA, cB, sm, pc, pA, pB, iL, dv, lt, lg, ep, us)) (K1 : ∀ F, hl_L nc np cw pw s k = some F → ∀ lt lg ep us : Nat → Int32, hl_EX F lt lg → hl_UX 6 (fun _ => false) us → post 1 (cc, cA, cB, sm, pc, pA, pB, iL, dv, lt, lg, ep, us)) : wpX_lay post (cc, cA, cB, sm, pc, pA, pB, iL, dv, lt, lg, ep, us) (nI s) (nI k) := by
  unfold wpX_lay
  dsimp only
  unfold wpX_clearEdges
  dsimp only
  refine ⟨7, hx_cel ?_ 7 0 lt ep us (by omega) (by omega) (fun x hx => by omega) (fun x hx => by omega)⟩
  intro lt ep us h1 h2
  refine hx_cd H hs hk ?_
  unfold hl_L hl_lay at K0 K1
  refine hl_br (fun z => ?_) (fun z => ?_)
  · rw [if_neg (by rw [z]; decide)] at K0
    exact K0 rfl _ _ _ _
  · rw [if_pos z] at K0 K1
    refine hx_aes H hs hk (hl_EX_0 h1) (fun y lt lg ep => ?_) (fun F y lt lg ep hE => ?_)
    · exact br_t rfl (K0 y _ _ _ _)
    · exact br_f hl_10 (K1 F y _ _ _ _ hE h2)
end
end
section
/-! X: possible, divisions, alwaysSame, neverSame, held, reaches, least, most, together -/
theorem hl_kn_t {p : Nat → Bool} {n : Nat} (h : p n = true) : hl_kn p (n + 1) = hl_kn p n + 1 := by
  show hl_kn p n + (if p n = true then 1 else 0) = _
  rw [if_pos h]
theorem hl_kn_f {p : Nat → Bool} {n : Nat} (h : p n = false) : hl_kn p (n + 1) = hl_kn p n := by
  show hl_kn p n + (if p n = true then 1 else 0) = _
  rw [h, if_neg (by decide)]; rfl
theorem hl_lt_s {P : Nat → Prop} {k : Nat} (h : ∀ j, j < k → P j) (hk : P k) : ∀ j, j < k + 1 → P j := by
  intro j hj
  by_cases e : j = k
  · subst e; exact hk
  · exact h j (by omega)
theorem hl_203 {k : Nat} (h : k < 203) : ¬ (203 : Int32) ≤ nI k := nI_ge (b := 203) h (by decide)
theorem hl_203' : (203 : Int32) ≤ nI 203 := by decide
theorem hl_6n {k : Nat} (h : k < 6) : ¬ (6 : Int32) ≤ nI k := nI_ge (b := 6) h (by decide)
theorem hl_6y : (6 : Int32) ≤ nI 6 := by decide
theorem hl_7n {k : Nat} (h : k < 7) : ¬ (7 : Int32) ≤ nI k := nI_ge (b := 7) h (by decide)
theorem hl_7y : (7 : Int32) ≤ nI 7 := by decide
section
variable {cc cA cB sm pc pA pB iL dv lt lg ep us : Nat → Int32} {nc np : Nat → Nat} {cw pw : Nat → Nat → Nat}
theorem hx_pos1 {post : Int32 → SX → Prop} {s : Nat} (hs : s < 2) {m : Nat} (hm : 1 ≤ m) {x : Int32} (h : post 1 (cc, cA, cB, sm, pc, pA, pB, iL, dv, lt, lg, ep, us)) : wX_possible_4 post (nI s) m 1 x cc cA cB sm pc pA pB iL dv lt lg ep us := by
  obtain ⟨m', rfl⟩ : ∃ m', m = m' + 1 := ⟨m - 1, by omega⟩
  rw [wX_possible_4]
  dsimp only
  exact br_c (fun _ => ⟨narrow_b1, h⟩) (fun _ => hx_bc hs (br_t rfl (br_f hl_10 ⟨narrow_b1, h⟩)))
theorem hx_posl {post : Int32 → SX → Prop} (H : hl_X nc np cw pw cc cA cB sm pc pA pB iL dv) {s : Nat} (hs : s < 2) (K : ∀ r, hl_is r (∃ k, k < 203 ∧ hl_L nc np cw pw s k ≠ none) → ∀ lt lg ep us : Nat → Int32, post r (cc, cA, cB, sm, pc, pA, pB, iL, dv, lt, lg, ep, us)) :
    ∀ m k (lt lg ep us : Nat → Int32), k ≤ 203 → 203 - k < m → (∀ j, j < k → hl_L nc np cw pw s j = none) → wX_possible_4 post (nI s) m 0 (nI k) cc cA cB sm pc pA pB iL dv lt lg ep us := by
  intro m
  induction m with
  | zero => intro k lt lg ep us _ h; omega
  | succ m ih =>
    intro k lt lg ep us hk hm h
    rw [wX_possible_4]
    dsimp only
    by_cases e : k = 203
    · subst e
      exact br_t hl_203' ⟨narrow_b0, K 0 (hl_is_f (fun ⟨j, hj, z⟩ => z (h j hj))) _ _ _ _⟩
    · have hk' : k < 203 := by omega
      refine br_f (hl_203 hk') (hx_bc hs (br_t rfl (br_t rfl (hx_lay H hs hk' (fun z lt lg ep us => ?_) (fun F z lt lg ep us _ _ => ?_)))))
      · exact nm_r (nI_1 k) (ih (k + 1) _ _ _ _ (by omega) (by omega) (hl_lt_s h z))
      · exact nm_r (nI_1 k) (hx_pos1 hs (by omega) (K 1 (hl_is_t ⟨k, hk', by rw [z]; intro q; cases q⟩) _ _ _ _))
theorem hx_pos {post : Int32 → SX → Prop} (H : hl_X nc np cw pw cc cA cB sm pc pA pB iL dv) {s : Nat} (hs : s < 2) (K : ∀ r, hl_is r (∃ k, k < 203 ∧ hl_L nc np cw pw s k ≠ none) → ∀ lt lg ep us : Nat → Int32, post r (cc, cA, cB, sm, pc, pA, pB, iL, dv, lt, lg, ep, us)) : wpX_possible post (cc, cA, cB, sm, pc, pA, pB, iL, dv, lt, lg, ep, us) (nI s) := by
  unfold wpX_possible
  dsimp only
  exact ⟨204, hx_posl H hs K 204 0 _ _ _ _ (by omega) (by omega) (fun j hj => by omega)⟩
theorem hx_posB {post : Int32 → SX → Prop} {v : Int32} (hv : v < 0 ∨ (¬ v < 0 ∧ ¬ v ≤ 1)) (h : post 0 (cc, cA, cB, sm, pc, pA, pB, iL, dv, lt, lg, ep, us)) : wpX_possible post (cc, cA, cB, sm, pc, pA, pB, iL, dv, lt, lg, ep, us) v := by
  unfold wpX_possible
  dsimp only
  refine ⟨1, ?_⟩
  rw [wX_possible_4]
  dsimp only
  exact br_f (hl_203 (k := 0) (by omega)) (hx_bc1 hv (br_f hl_10 ⟨narrow_b0, h⟩))
theorem hx_divl {post : Int32 → SX → Prop} (H : hl_X nc np cw pw cc cA cB sm pc pA pB iL dv) {s : Nat} (hs : s < 2) (K : ∀ lt lg ep us : Nat → Int32, post (nI (hl_kn (fun k => (hl_L nc np cw pw s k).isSome) 203)) (cc, cA, cB, sm, pc, pA, pB, iL, dv, lt, lg, ep, us)) :
    ∀ m k (lt lg ep us : Nat → Int32), k ≤ 203 → 203 - k < m → wX_divisions_14 post (nI s) m (nI (hl_kn (fun k => (hl_L nc np cw pw s k).isSome) k)) (nI k) cc cA cB sm pc pA pB iL dv lt lg ep us := by
  intro m
  induction m with
  | zero => intro k lt lg ep us _ h; omega
  | succ m ih =>
    intro k lt lg ep us hk hm
    rw [wX_divisions_14]
    dsimp only
    by_cases e : k = 203
    · subst e
      exact br_t hl_203' (K _ _ _ _)
    · have hk' : k < 203 := by omega
      refine br_f (hl_203 hk') (hx_lay H hs hk' (fun z lt lg ep us => ?_) (fun F z lt lg ep us _ _ => ?_))
      · have nx := ih (k + 1) lt lg ep us (by omega) (by omega)
        rw [hl_kn_f (p := fun k => (hl_L nc np cw pw s k).isSome) (n := k) (by show (hl_L nc np cw pw s k).isSome = false; rw [z]; rfl)] at nx
        exact br_t rfl (nm_r (nI_1 k) nx)
      · have nx := ih (k + 1) lt lg ep us (by omega) (by omega)
        rw [hl_kn_t (p := fun k => (hl_L nc np cw pw s k).isSome) (n := k) (by show (hl_L nc np cw pw s k).isSome = true; rw [z]; rfl)] at nx
        exact br_f hl_10 (nm_r (nI_1 _) (nm_r (nI_1 k) nx))
theorem hx_div {post : Int32 → SX → Prop} (H : hl_X nc np cw pw cc cA cB sm pc pA pB iL dv) {s : Nat} (hs : s < 2) (K : ∀ lt lg ep us : Nat → Int32, post (nI (hl_kn (fun k => (hl_L nc np cw pw s k).isSome) 203)) (cc, cA, cB, sm, pc, pA, pB, iL, dv, lt, lg, ep, us)) : wpX_divisions post (cc, cA, cB, sm, pc, pA, pB, iL, dv, lt, lg, ep, us) (nI s) := by
  unfold wpX_divisions
  dsimp only
  exact hx_bc hs (br_t rfl ⟨204, hx_divl H hs K 204 0 _ _ _ _ (by omega) (by omega)⟩)
theorem hx_as0 {post : Int32 → SX → Prop} {x1 x2 x3 : Int32} {m : Nat} (hm : 1 ≤ m) {x : Int32} (h : post 0 (cc, cA, cB, sm, pc, pA, pB, iL, dv, lt, lg, ep, us)) : wX_alwaysSame_18 post x1 x2 x3 m 0 x cc cA cB sm pc pA pB iL dv lt lg ep us := by
  obtain ⟨m', rfl⟩ : ∃ m', m = m' + 1 := ⟨m - 1, by omega⟩
  rw [wX_alwaysSame_18]
  dsimp only
  exact br_c (fun _ => ⟨narrow_b0, h⟩) (fun _ => br_t rfl ⟨narrow_b0, h⟩)
theorem hx_asl {post : Int32 → SX → Prop} (H : hl_X nc np cw pw cc cA cB sm pc pA pB iL dv) {s a b : Nat} (hs : s < 2) (ha : a < 6) (hb : b < 6) (K : ∀ r, hl_is r (∀ k, k < 203 → hl_G k a = hl_G k b ∨ hl_L nc np cw pw s k = none) → ∀ lt lg ep us : Nat → Int32, post r (cc, cA, cB, sm, pc, pA, pB, iL, dv, lt, lg, ep, us)) :
    ∀ m k (lt lg ep us : Nat → Int32), k ≤ 203 → 203 - k < m → (∀ j, j < k → hl_G j a = hl_G j b ∨ hl_L nc np cw pw s j = none) → wX_alwaysSame_18 post (nI s) (nI a) (nI b) m 1 (nI k) cc cA cB sm pc pA pB iL dv lt lg ep us := by
  intro m
  induction m with
  | zero => intro k lt lg ep us _ h; omega
  | succ m ih =>
    intro k lt lg ep us hk hm h
    rw [wX_alwaysSame_18]
    dsimp only
    by_cases e : k = 203
    · subst e
      exact br_t hl_203' ⟨narrow_b1, K 1 (hl_is_t h) _ _ _ _⟩
    · have hk' : k < 203 := by omega
      have l1 := hl_G6 k hk' a ha
      have l2 := hl_G6 k hk' b hb
      refine br_f (hl_203 hk') (br_f hl_10 (hx_g H hk' ha (hx_g H hk' hb (pk_eq (hl_G k a) (hl_G k b) (fun z => ?_) (fun z => ?_)))))
      · exact nm_r (nI_1 k) (ih (k + 1) _ _ _ _ (by omega) (by omega) (hl_lt_s h (Or.inl z)))
      · refine hx_lay H hs hk' (fun y lt lg ep us => ?_) (fun F y lt lg ep us _ _ => ?_)
        · exact br_t rfl (nm_r (nI_1 k) (ih (k + 1) _ _ _ _ (by omega) (by omega) (hl_lt_s h (Or.inr y))))
        · refine br_f hl_10 (nm_r (nI_1 k) (hx_as0 (by omega) (K 0 (hl_is_f (fun q => ?_)) _ _ _ _)))
          rcases q k hk' with q | q
          · exact z q
          · rw [y] at q; cases q
theorem hx_as {post : Int32 → SX → Prop} (H : hl_X nc np cw pw cc cA cB sm pc pA pB iL dv) {s a b : Nat} (hs : s < 2) (ha : a < 6) (hb : b < 6) (K : ∀ r, hl_is r (∀ k, k < 203 → hl_G k a = hl_G k b ∨ hl_L nc np cw pw s k = none) → ∀ lt lg ep us : Nat → Int32, post r (cc, cA, cB, sm, pc, pA, pB, iL, dv, lt, lg, ep, us)) : wpX_alwaysSame post (cc, cA, cB, sm, pc, pA, pB, iL, dv, lt, lg, ep, us) (nI s) (nI a) (nI b) := by
  unfold wpX_alwaysSame
  dsimp only
  exact hx_ba hs ha hb (br_t rfl ⟨204, hx_asl H hs ha hb K 204 0 _ _ _ _ (by omega) (by omega) (fun j hj => by omega)⟩)
theorem hx_ns0 {post : Int32 → SX → Prop} {x1 x2 x3 : Int32} {m : Nat} (hm : 1 ≤ m) {x : Int32} (h : post 0 (cc, cA, cB, sm, pc, pA, pB, iL, dv, lt, lg, ep, us)) : wX_neverSame_18 post x1 x2 x3 m 0 x cc cA cB sm pc pA pB iL dv lt lg ep us := by
  obtain ⟨m', rfl⟩ : ∃ m', m = m' + 1 := ⟨m - 1, by omega⟩
  rw [wX_neverSame_18]
  dsimp only
  exact br_c (fun _ => ⟨narrow_b0, h⟩) (fun _ => br_t rfl ⟨narrow_b0, h⟩)
theorem hx_nsl {post : Int32 → SX → Prop} (H : hl_X nc np cw pw cc cA cB sm pc pA pB iL dv) {s a b : Nat} (hs : s < 2) (ha : a < 6) (hb : b < 6) (K : ∀ r, hl_is r (∀ k, k < 203 → hl_G k a ≠ hl_G k b ∨ hl_L nc np cw pw s k = none) → ∀ lt lg ep us : Nat → Int32, post r (cc, cA, cB, sm, pc, pA, pB, iL, dv, lt, lg, ep, us)) :
    ∀ m k (lt lg ep us : Nat → Int32), k ≤ 203 → 203 - k < m → (∀ j, j < k → hl_G j a ≠ hl_G j b ∨ hl_L nc np cw pw s j = none) → wX_neverSame_18 post (nI s) (nI a) (nI b) m 1 (nI k) cc cA cB sm pc pA pB iL dv lt lg ep us := by
  intro m
  induction m with
  | zero => intro k lt lg ep us _ h; omega
  | succ m ih =>
    intro k lt lg ep us hk hm h
    rw [wX_neverSame_18]
    dsimp only
    by_cases e : k = 203
    · subst e
      exact br_t hl_203' ⟨narrow_b1, K 1 (hl_is_t h) _ _ _ _⟩
    · have hk' : k < 203 := by omega
      have l1 := hl_G6 k hk' a ha
      have l2 := hl_G6 k hk' b hb
      refine br_f (hl_203 hk') (br_f hl_10 (hx_g H hk' ha (hx_g H hk' hb (pk_eq (hl_G k a) (hl_G k b) (fun z => ?_) (fun z => ?_)))))
      · refine hx_lay H hs hk' (fun y lt lg ep us => ?_) (fun F y lt lg ep us _ _ => ?_)
        · exact br_t rfl (nm_r (nI_1 k) (ih (k + 1) _ _ _ _ (by omega) (by omega) (hl_lt_s h (Or.inr y))))
        · refine br_f hl_10 (nm_r (nI_1 k) (hx_ns0 (by omega) (K 0 (hl_is_f (fun q => ?_)) _ _ _ _)))
          rcases q k hk' with q | q
          · exact q z
          · rw [y] at q; cases q
      · exact nm_r (nI_1 k) (ih (k + 1) _ _ _ _ (by omega) (by omega) (hl_lt_s h (Or.inl z)))
theorem hx_ns {post : Int32 → SX → Prop} (H : hl_X nc np cw pw cc cA cB sm pc pA pB iL dv) {s a b : Nat} (hs : s < 2) (ha : a < 6) (hb : b < 6) (K : ∀ r, hl_is r (∀ k, k < 203 → hl_G k a ≠ hl_G k b ∨ hl_L nc np cw pw s k = none) → ∀ lt lg ep us : Nat → Int32, post r (cc, cA, cB, sm, pc, pA, pB, iL, dv, lt, lg, ep, us)) : wpX_neverSame post (cc, cA, cB, sm, pc, pA, pB, iL, dv, lt, lg, ep, us) (nI s) (nI a) (nI b) := by
  unfold wpX_neverSame
  dsimp only
  exact hx_ba hs ha hb (br_t rfl ⟨204, hx_nsl H hs ha hb K 204 0 _ _ _ _ (by omega) (by omega) (fun j hj => by omega)⟩)
theorem hx_he0 {post : Int32 → SX → Prop} {x1 x2 : Int32} {m : Nat} (hm : 1 ≤ m) {x : Int32} (h : post 0 (cc, cA, cB, sm, pc, pA, pB, iL, dv, lt, lg, ep, us)) : wX_held_17 post x1 x2 m 0 x cc cA cB sm pc pA pB iL dv lt lg ep us := by
  obtain ⟨m', rfl⟩ : ∃ m', m = m' + 1 := ⟨m - 1, by omega⟩
  rw [wX_held_17]
  dsimp only
  exact br_c (fun _ => ⟨narrow_b0, h⟩) (fun _ => br_t rfl ⟨narrow_b0, h⟩)
theorem hx_hel {post : Int32 → SX → Prop} (H : hl_X nc np cw pw cc cA cB sm pc pA pB iL dv) {s a : Nat} (hs : s < 2) (ha : a < 6) (K : ∀ r, hl_is r (∀ k, k < 203 → ∀ F, hl_L nc np cw pw s k = some F → F (hl_G k a) ≠ none) → ∀ lt lg ep us : Nat → Int32, post r (cc, cA, cB, sm, pc, pA, pB, iL, dv, lt, lg, ep, us)) :
    ∀ m k (lt lg ep us : Nat → Int32), k ≤ 203 → 203 - k < m → (∀ j, j < k → ∀ F, hl_L nc np cw pw s j = some F → F (hl_G j a) ≠ none) → wX_held_17 post (nI s) (nI a) m 1 (nI k) cc cA cB sm pc pA pB iL dv lt lg ep us := by
  intro m
  induction m with
  | zero => intro k lt lg ep us _ h; omega
  | succ m ih =>
    intro k lt lg ep us hk hm h
    rw [wX_held_17]
    dsimp only
    by_cases e : k = 203
    · subst e
      exact br_t hl_203' ⟨narrow_b1, K 1 (hl_is_t h) _ _ _ _⟩
    · have hk' : k < 203 := by omega
      have l1 := hl_G6 k hk' a ha
      refine br_f (hl_203 hk') (br_f hl_10 (hx_lay H hs hk' (fun y lt lg ep us => ?_) (fun F y lt lg ep us hE _ => ?_)))
      · exact br_t rfl (nm_r (nI_1 k) (ih (k + 1) _ _ _ _ (by omega) (by omega) (hl_lt_s h (fun F z => by rw [y] at z; cases z))))
      · refine br_f hl_10 (hx_g H hk' ha ⟨vp_in_nI l1 (by decide), ?_⟩)
        rw [nI_clamp (show hl_G k a < 2 ^ 31 by omega)]
        refine hl_EX_lt hE l1 (fun z => ?_) (fun t l z => ?_)
        · exact nm_r (nI_1 k) (hx_he0 (by omega) (K 0 (hl_is_f (fun q => q k hk' F y z)) _ _ _ _))
        · refine nm_r (nI_1 k) (ih (k + 1) _ _ _ _ (by omega) (by omega) (hl_lt_s h (fun F' z' => ?_)))
          rw [y] at z'
          rw [← Option.some.inj z', z]; intro q; cases q
theorem hx_he {post : Int32 → SX → Prop} (H : hl_X nc np cw pw cc cA cB sm pc pA pB iL dv) {s a : Nat} (hs : s < 2) (ha : a < 6) (K : ∀ r, hl_is r (∀ k, k < 203 → ∀ F, hl_L nc np cw pw s k = some F → F (hl_G k a) ≠ none) → ∀ lt lg ep us : Nat → Int32, post r (cc, cA, cB, sm, pc, pA, pB, iL, dv, lt, lg, ep, us)) : wpX_held post (cc, cA, cB, sm, pc, pA, pB, iL, dv, lt, lg, ep, us) (nI s) (nI a) := by
  unfold wpX_held
  dsimp only
  exact hx_ba (b := 0) hs ha (by omega) (br_t rfl ⟨204, hx_hel H hs ha K 204 0 _ _ _ _ (by omega) (by omega) (fun j hj => by omega)⟩)
/-! coming to a place -/
def hl_co (f : Nat → Option Nat) (b j : Nat) (o : Option Nat) : Bool := match o with
  | none => false
  | some a => hl_cy f b (j + 1) a
theorem hl_co_s {f : Nat → Option Nat} {b j a : Nat} (h : a ≠ b) : hl_co f b (j + 1) (some a) = hl_co f b j (f a) := by
  show hl_cy f b (j + 1 + 1) a = _
  cases e : f a with
  | none => rw [hl_cy_n h e]; rfl
  | some t => rw [hl_cy_t h e]; rfl
theorem hl_co_0 {f : Nat → Option Nat} {b a : Nat} (h : a ≠ b) : hl_co f b 0 (some a) = false := by
  show hl_cy f b (0 + 1) a = _
  cases e : f a with
  | none => rw [hl_cy_n h e]
  | some t => rw [hl_cy_t h e]; rfl
theorem hx_ctl {post : Int32 → Prop} {F : HG} (hE : hl_EX F lt lg) {b : Nat} (hb : b < 6) :
    ∀ j m i o, i + j = 6 → j < m → (∀ a, o = some a → a < 6) → post (hl_bI (hl_co (hl_f F) b j o)) → wX_comesTo_5 post (nI b) cc cA cB sm pc pA pB iL dv lt lg ep us m (hl_oI o) (nI i) := by
  intro j
  induction j with
  | zero =>
    intro m i o hi hm ho hp
    obtain ⟨m', rfl⟩ : ∃ m', m = m' + 1 := ⟨m - 1, by omega⟩
    have e : i = 6 := by omega
    subst e
    rw [wX_comesTo_5]
    dsimp only
    refine br_t hl_6y ?_
    unfold wX_comesTo_35
    cases o with
    | none => exact br_f (fun z => hl_nm1 b (by omega) z.symm) hp
    | some a =>
      have := ho a rfl
      refine pk_eq a b (fun z => ?_) (fun z => ?_)
      · subst z
        have q : hl_co (hl_f F) a 0 (some a) = true := hl_cy_e _ _ _
        rw [q] at hp; exact hp
      · rw [hl_co_0 z] at hp; exact hp
  | succ j ih =>
    intro m i o hi hm ho hp
    obtain ⟨m', rfl⟩ : ∃ m', m = m' + 1 := ⟨m - 1, by omega⟩
    rw [wX_comesTo_5]
    dsimp only
    refine br_f (hl_6n (by omega)) ?_
    cases o with
    | none =>
      refine br_t rfl ?_
      unfold wX_comesTo_35
      exact br_f (fun z => hl_nm1 b (by omega) z.symm) hp
    | some a =>
      have ha := ho a rfl
      refine br_f (hl_nm1 a (by omega)) (pk_eq a b (fun z => ?_) (fun z => ?_))
      · subst z
        unfold wX_comesTo_35
        have q : hl_co (hl_f F) a (j + 1) (some a) = true := hl_cy_e _ _ _
        rw [q] at hp
        exact br_t rfl hp
      · rw [hl_co_s z] at hp
        have ecl : (hl_oI (some a)).toNatClampNeg = a := nI_clamp (show a < 2 ^ 31 by omega)
        rw [ecl, hE.1 a ha]
        refine ⟨vp_in_nI ha (by decide), nm_e (nm_r (nI_1 i) (ih m' (i + 1) (hl_f F a) (by omega) (by omega) (fun t ht => ?_) hp))⟩
        obtain ⟨l, hl⟩ := hl_f_c ht
        exact (hE.2 a t l hl).2.1
theorem hx_ct {post : Int32 → Prop} {F : HG} (hE : hl_EX F lt lg) {a b : Nat} (ha : a < 6) (hb : b < 6) (hp : post (hl_bI (hl_cy (hl_f F) b 7 a))) : wpX_comesTo post (cc, cA, cB, sm, pc, pA, pB, iL, dv, lt, lg, ep, us) (nI a) (nI b) := by
  unfold wpX_comesTo
  dsimp only
  exact ⟨7, hx_ctl hE hb 6 7 0 (some a) rfl (by omega) (fun x hx => by rw [← Option.some.inj hx]; exact ha) hp⟩
theorem hx_re0 {post : Int32 → SX → Prop} {x1 x2 x3 : Int32} {m : Nat} (hm : 1 ≤ m) {x : Int32} (h : post 0 (cc, cA, cB, sm, pc, pA, pB, iL, dv, lt, lg, ep, us)) : wX_reaches_18 post x1 x2 x3 m 0 x cc cA cB sm pc pA pB iL dv lt lg ep us := by
  obtain ⟨m', rfl⟩ : ∃ m', m = m' + 1 := ⟨m - 1, by omega⟩
  rw [wX_reaches_18]
  dsimp only
  exact br_c (fun _ => ⟨narrow_b0, h⟩) (fun _ => br_t rfl ⟨narrow_b0, h⟩)
theorem hx_rel {post : Int32 → SX → Prop} (H : hl_X nc np cw pw cc cA cB sm pc pA pB iL dv) {s a b : Nat} (hs : s < 2) (ha : a < 6) (hb : b < 6) (K : ∀ r, hl_is r (∀ k, k < 203 → ∀ F, hl_L nc np cw pw s k = some F → hl_cy (hl_f F) (hl_G k b) 7 (hl_G k a) = true) → ∀ lt lg ep us : Nat → Int32, post r (cc, cA, cB, sm, pc, pA, pB, iL, dv, lt, lg, ep, us)) :
    ∀ m k (lt lg ep us : Nat → Int32), k ≤ 203 → 203 - k < m → (∀ j, j < k → ∀ F, hl_L nc np cw pw s j = some F → hl_cy (hl_f F) (hl_G j b) 7 (hl_G j a) = true) → wX_reaches_18 post (nI s) (nI a) (nI b) m 1 (nI k) cc cA cB sm pc pA pB iL dv lt lg ep us := by
  intro m
  induction m with
  | zero => intro k lt lg ep us _ h; omega
  | succ m ih =>
    intro k lt lg ep us hk hm h
    rw [wX_reaches_18]
    dsimp only
    by_cases e : k = 203
    · subst e
      exact br_t hl_203' ⟨narrow_b1, K 1 (hl_is_t h) _ _ _ _⟩
    · have hk' : k < 203 := by omega
      have l1 := hl_G6 k hk' a ha
      have l2 := hl_G6 k hk' b hb
      refine br_f (hl_203 hk') (br_f hl_10 (hx_lay H hs hk' (fun y lt lg ep us => ?_) (fun F y lt lg ep us hE _ => ?_)))
      · exact br_t rfl (nm_r (nI_1 k) (ih (k + 1) _ _ _ _ (by omega) (by omega) (hl_lt_s h (fun F z => by rw [y] at z; cases z))))
      · refine br_f hl_10 (hx_g H hk' ha (hx_g H hk' hb (hx_ct hE l1 l2 (hl_br (fun z => ?_) (fun z => ?_)))))
        · refine nm_r (nI_1 k) (hx_re0 (by omega) (K 0 (hl_is_f (fun q => ?_)) _ _ _ _))
          rw [q k hk' F y] at z; cases z
        · refine nm_r (nI_1 k) (ih (k + 1) _ _ _ _ (by omega) (by omega) (hl_lt_s h (fun F' z' => ?_)))
          rw [y] at z'
          rw [← Option.some.inj z']; exact z
theorem hx_re {post : Int32 → SX → Prop} (H : hl_X nc np cw pw cc cA cB sm pc pA pB iL dv) {s a b : Nat} (hs : s < 2) (ha : a < 6) (hb : b < 6) (K : ∀ r, hl_is r (∀ k, k < 203 → ∀ F, hl_L nc np cw pw s k = some F → hl_cy (hl_f F) (hl_G k b) 7 (hl_G k a) = true) → ∀ lt lg ep us : Nat → Int32, post r (cc, cA, cB, sm, pc, pA, pB, iL, dv, lt, lg, ep, us)) : wpX_reaches post (cc, cA, cB, sm, pc, pA, pB, iL, dv, lt, lg, ep, us) (nI s) (nI a) (nI b) := by
  unfold wpX_reaches
  dsimp only
  exact hx_ba hs ha hb (br_t rfl ⟨204, hx_rel H hs ha hb K 204 0 _ _ _ _ (by omega) (by omega) (fun j hj => by omega)⟩)
/-! counting edges, any long one -/
theorem hx_edl {post : Int32 → Prop} {F : HG} (hE : hl_EX F lt lg) (K : post (nI (hl_ec F 6))) : ∀ m g, g ≤ 6 → 6 - g < m → wX_edges_4 post cc cA cB sm pc pA pB iL dv lt lg ep us m (nI (hl_ec F g)) (nI g) := by
  intro m
  induction m with
  | zero => intro g _ h; omega
  | succ m ih =>
    intro g hg hm
    rw [wX_edges_4]
    dsimp only
    by_cases e : g = 6
    · subst e; exact br_t hl_6y K
    · have hg' : g < 6 := by omega
      have nx := ih (g + 1) (by omega) (by omega)
      refine br_f (hl_6n hg') ⟨vp_in_nI hg' (by decide), ?_⟩
      rw [nI_clamp (show g < 2 ^ 31 by omega)]
      unfold hl_ec at nx ⊢
      refine hl_EX_lt hE hg' (fun z => ?_) (fun t l z => ?_)
      · rw [hl_kn_f (p := fun g => (F g).isSome) (n := g) (by show (F g).isSome = false; rw [z]; rfl)] at nx
        exact nm_r (nI_1 g) nx
      · rw [hl_kn_t (p := fun g => (F g).isSome) (n := g) (by show (F g).isSome = true; rw [z]; rfl)] at nx
        exact nm_r (nI_1 _) (nm_r (nI_1 g) nx)
theorem hx_ed {post : Int32 → Prop} {F : HG} (hE : hl_EX F lt lg) (K : post (nI (hl_ec F 6))) : wpX_edges post (cc, cA, cB, sm, pc, pA, pB, iL, dv, lt, lg, ep, us) := by
  unfold wpX_edges
  dsimp only
  exact ⟨7, hx_edl hE K 7 0 (by omega) (by omega)⟩
def hl_anyL (F : HG) : Prop := ∃ g, g < 6 ∧ ∃ t, F g = some (t, true)
theorem hx_al1 {post : Int32 → Prop} (K : post 1) : ∀ m g, g ≤ 6 → 6 - g < m → wX_anyLong_4 post cc cA cB sm pc pA pB iL dv lt lg ep us m 1 (nI g) := by
  intro m
  induction m with
  | zero => intro g _ h; omega
  | succ m ih =>
    intro g hg hm
    rw [wX_anyLong_4]
    dsimp only
    by_cases e : g = 6
    · subst e; exact br_t hl_6y ⟨narrow_b1, K⟩
    · exact br_f (hl_6n (by omega)) (br_f hl_10 (nm_r (nI_1 g) (ih (g + 1) (by omega) (by omega))))
theorem hx_all {post : Int32 → Prop} {F : HG} (hE : hl_EX F lt lg) (K : ∀ r, hl_is r (hl_anyL F) → post r) : ∀ m g, g ≤ 6 → 6 - g < m → (∀ x, x < g → ¬ ∃ t, F x = some (t, true)) → wX_anyLong_4 post cc cA cB sm pc pA pB iL dv lt lg ep us m 0 (nI g) := by
  intro m
  induction m with
  | zero => intro g _ h; omega
  | succ m ih =>
    intro g hg hm h
    rw [wX_anyLong_4]
    dsimp only
    by_cases e : g = 6
    · subst e; exact br_t hl_6y ⟨narrow_b0, K 0 (hl_is_f (fun ⟨x, hx, q⟩ => h x hx q))⟩
    · have hg' : g < 6 := by omega
      have hin : vp_in (nI g) 6 := vp_in_nI hg' (by decide)
      refine br_f (hl_6n hg') (br_t rfl ⟨hin, ?_⟩)
      rw [nI_clamp (show g < 2 ^ 31 by omega)]
      refine hl_EX_lt hE hg' (fun z => ?_) (fun t l z => ?_)
      · exact nm_r (nI_1 g) (ih (g + 1) (by omega) (by omega) (hl_lt_s h (fun ⟨t, q⟩ => by rw [z] at q; cases q)))
      · refine ⟨hin, ?_⟩
        rw [(hl_EX_s hE z).2.1]
        refine hl_br (fun y => ?_) (fun y => ?_)
        · refine nm_r (nI_1 g) (ih (g + 1) (by omega) (by omega) (hl_lt_s h (fun ⟨t', q⟩ => ?_)))
          rw [z, y] at q
          cases (congrArg Prod.snd (Option.some.inj q))
        · refine nm_r (nI_1 g) (hx_al1 (K 1 (hl_is_t ⟨g, hg', t, ?_⟩)) m (g + 1) (by omega) (by omega))
          rw [z, y]
theorem hx_al {post : Int32 → Prop} {F : HG} (hE : hl_EX F lt lg) (K : ∀ r, hl_is r (hl_anyL F) → post r) : wpX_anyLong post (cc, cA, cB, sm, pc, pA, pB, iL, dv, lt, lg, ep, us) := by
  unfold wpX_anyLong
  dsimp only
  exact ⟨7, hx_all hE K 7 0 (by omega) (by omega) (fun x hx => by omega)⟩
theorem hl_ec_8 (F : HG) : hl_ec F 6 < 8 := Nat.lt_of_le_of_lt (hl_kn_le _ 6) (by decide)
def hl_cnt (nc np : Nat → Nat) (cw pw : Nat → Nat → Nat) (s k : Nat) : Option Nat := (hl_L nc np cw pw s k).map (fun F => hl_ec F 6)
theorem hl_cnt_n {s k : Nat} (h : hl_L nc np cw pw s k = none) : hl_cnt nc np cw pw s k = none := by unfold hl_cnt; rw [h]; rfl
theorem hl_cnt_s {s k : Nat} {F : HG} (h : hl_L nc np cw pw s k = some F) : hl_cnt nc np cw pw s k = some (hl_ec F 6) := by unfold hl_cnt; rw [h]; rfl
theorem hl_mi_b {B N : Nat} {c : Nat → Option Nat} {b : Nat} (h : hl_mi B N c b) (hB : 8 ≤ B) : b ≤ B := by
  rcases h with ⟨rfl, _⟩ | ⟨h, _⟩ <;> omega
theorem hl_mi_r {B N : Nat} {c : Nat → Option Nat} {b : Nat} (h : hl_mi B N c b) (hB : 8 ≤ B) (hB2 : B < 2 ^ 31) {P : Int32 → Prop} (K : ∀ r, hl_mnr N c r → P r) : (nI b = nI B → P (-3)) ∧ (¬ nI b = nI B → P (nI b)) := by
  rcases h with ⟨rfl, h⟩ | ⟨h8, hb, h⟩
  · exact br_t rfl (K _ (Or.inl ⟨rfl, h⟩))
  · refine br_f (fun z => ?_) (K _ (Or.inr ⟨b, rfl, hb, h⟩))
    rw [nI_eq (by omega) hB2] at z; omega
theorem hx_lel {post : Int32 → SX → Prop} (H : hl_X nc np cw pw cc cA cB sm pc pA pB iL dv) {s : Nat} (hs : s < 2) (K : ∀ r, hl_mnr 203 (hl_cnt nc np cw pw s) r → ∀ lt lg ep us : Nat → Int32, post r (cc, cA, cB, sm, pc, pA, pB, iL, dv, lt, lg, ep, us)) :
    ∀ m k b (lt lg ep us : Nat → Int32), k ≤ 203 → 203 - k < m → hl_mi 1000 k (hl_cnt nc np cw pw s) b → wX_least_16 post (nI s) m (nI b) (nI k) cc cA cB sm pc pA pB iL dv lt lg ep us := by
  intro m
  induction m with
  | zero => intro k b lt lg ep us _ h; omega
  | succ m ih =>
    intro k b lt lg ep us hk hm h
    have hb := hl_mi_b h (by omega)
    rw [wX_least_16]
    dsimp only
    by_cases e : k = 203
    · subst e
      exact br_t hl_203' (hl_mi_r h (by omega) (by omega) (P := fun r => post r (cc, cA, cB, sm, pc, pA, pB, iL, dv, lt, lg, ep, us)) (fun r hr => K r hr _ _ _ _))
    · have hk' : k < 203 := by omega
      refine br_f (hl_203 hk') (hx_lay H hs hk' (fun z lt lg ep us => ?_) (fun F z lt lg ep us hE _ => ?_))
      · refine br_t rfl ?_
        unfold wX_least_46
        exact br_t (nI_le (b := 1000) hb (by decide)) (nm_r (nI_1 k) (ih (k + 1) b _ _ _ _ (by omega) (by omega) (hl_mi_n h (hl_cnt_n z))))
      · refine br_f hl_10 (hx_ed hE ?_)
        unfold wX_least_46
        have l8 := hl_ec_8 F
        refine pk_le b (hl_ec F 6) (fun y => ?_) (fun y => ?_)
        · exact nm_r (nI_1 k) (ih (k + 1) b _ _ _ _ (by omega) (by omega) (hl_mi_k h (by omega) (hl_cnt_s z) l8 y))
        · exact nm_r (nI_1 k) (ih (k + 1) _ _ _ _ _ (by omega) (by omega) (hl_mi_s h (hl_cnt_s z) l8 y))
theorem hx_le {post : Int32 → SX → Prop} (H : hl_X nc np cw pw cc cA cB sm pc pA pB iL dv) {s : Nat} (hs : s < 2) (K : ∀ r, hl_mnr 203 (hl_cnt nc np cw pw s) r → ∀ lt lg ep us : Nat → Int32, post r (cc, cA, cB, sm, pc, pA, pB, iL, dv, lt, lg, ep, us)) : wpX_least post (cc, cA, cB, sm, pc, pA, pB, iL, dv, lt, lg, ep, us) (nI s) := by
  unfold wpX_least
  dsimp only
  exact hx_bc hs (br_t rfl ⟨204, hx_lel H hs K 204 0 1000 _ _ _ _ (by omega) (by omega) (hl_mi_0 _ _)⟩)
/-! most -/
def hl_lgk (nc np : Nat → Nat) (cw pw : Nat → Nat → Nat) (s k : Nat) : Prop := ∃ F, hl_L nc np cw pw s k = some F ∧ hl_anyL F
theorem hl_ma_m3 {N : Nat} {c : Nat → Option Nat} {x : Int32} (h : hl_ma N c x) : (-3 : Int32) ≤ x := by
  rcases h with ⟨rfl, _⟩ | ⟨b, h8, rfl, _⟩
  · decide
  · exact hl_m3' b h8
theorem hx_m560 {post : Int32 → SX → Prop} {J : Int32 → Int32 → Int32 → (Nat → Int32) → (Nat → Int32) → (Nat → Int32) → (Nat → Int32) → (Nat → Int32) → (Nat → Int32) → (Nat → Int32) → (Nat → Int32) → (Nat → Int32) → (Nat → Int32) → (Nat → Int32) → (Nat → Int32) → (Nat → Int32) → Prop} {x1 x z : Int32} {k : Nat} {c : Nat → Option Nat} (h : hl_ma k c x) (hn : c k = none)
    (hJ : ∀ x', hl_ma (k + 1) c x' → J x' z (nI (k + 1)) cc cA cB sm pc pA pB iL dv lt lg ep us) : wX_most_56 post J x1 x (nI k) 0 z cc cA cB sm pc pA pB iL dv lt lg ep us := by
  unfold wX_most_56 wX_most_71
  exact br_t rfl (br_t (hl_ma_m3 h) (nm_r (nI_1 k) (hJ _ (hl_ma_n h hn))))
theorem hx_m561 {post : Int32 → SX → Prop} {J : Int32 → Int32 → Int32 → (Nat → Int32) → (Nat → Int32) → (Nat → Int32) → (Nat → Int32) → (Nat → Int32) → (Nat → Int32) → (Nat → Int32) → (Nat → Int32) → (Nat → Int32) → (Nat → Int32) → (Nat → Int32) → (Nat → Int32) → (Nat → Int32) → Prop} {x1 x z : Int32} {k : Nat} {c : Nat → Option Nat} {F : HG} (hE : hl_EX F lt lg) (h : hl_ma k c x) (hn : c k = some (hl_ec F 6))
    (hJ : ∀ x', hl_ma (k + 1) c x' → J x' z (nI (k + 1)) cc cA cB sm pc pA pB iL dv lt lg ep us) : wX_most_56 post J x1 x (nI k) 1 z cc cA cB sm pc pA pB iL dv lt lg ep us := by
  unfold wX_most_56
  refine br_f hl_10 (hx_ed hE ?_)
  unfold wX_most_71
  exact br_c (fun y => nm_r (nI_1 k) (hJ _ (hl_ma_k h hn (hl_ec_8 F) y))) (fun y => nm_r (nI_1 k) (hJ _ (hl_ma_s h hn (hl_ec_8 F) y)))
theorem hx_mol {post : Int32 → SX → Prop} (H : hl_X nc np cw pw cc cA cB sm pc pA pB iL dv) {s : Nat} (hs : s < 2) (K : ∀ r, ((∃ k, k < 203 ∧ hl_lgk nc np cw pw s k) → r = -3) → ((¬ ∃ k, k < 203 ∧ hl_lgk nc np cw pw s k) → hl_ma 203 (hl_cnt nc np cw pw s) r) → ∀ lt lg ep us : Nat → Int32, post r (cc, cA, cB, sm, pc, pA, pB, iL, dv, lt, lg, ep, us)) :
    ∀ m k x z (lt lg ep us : Nat → Int32), k ≤ 203 → 203 - k < m → hl_ma k (hl_cnt nc np cw pw s) x → hl_is z (∃ j, j < k ∧ hl_lgk nc np cw pw s j) → wX_most_18 post (nI s) m x z (nI k) cc cA cB sm pc pA pB iL dv lt lg ep us := by
  intro m
  induction m with
  | zero => intro k x z lt lg ep us _ h; omega
  | succ m ih =>
    intro k x z lt lg ep us hk hm h hz
    rw [wX_most_18]
    dsimp only
    by_cases e : k = 203
    · subst e
      refine br_t hl_203' ?_
      rcases Classical.em (∃ j, j < 203 ∧ hl_lgk nc np cw pw s j) with q | q
      · rw [hz.1 q]; exact br_f hl_10 (K _ (fun _ => rfl) (fun y => absurd q y) _ _ _ _)
      · rw [hz.2 q]; exact br_t rfl (K _ (fun y => absurd y q) (fun _ => h) _ _ _ _)
    · have hk' : k < 203 := by omega
      refine br_f (hl_203 hk') (hx_lay H hs hk' (fun y lt lg ep us => ?_) (fun F y lt lg ep us hE _ => ?_))
      · have nl : ¬ hl_lgk nc np cw pw s k := fun ⟨F, q, _⟩ => by rw [y] at q; cases q
        rcases Classical.em (∃ j, j < k ∧ hl_lgk nc np cw pw s j) with q | q
        · have ez := hz.1 q
          subst ez
          refine br_f hl_10 ?_
          unfold wX_most_51
          obtain ⟨j, hj, q⟩ := q
          exact hx_m560 h (hl_cnt_n y) (fun x' hx' => ih (k + 1) x' 1 _ _ _ _ (by omega) (by omega) hx' (hl_is_t ⟨j, by omega, q⟩))
        · have ez := hz.2 q
          subst ez
          refine br_t rfl (br_t rfl ?_)
          unfold wX_most_55
          refine hx_m560 h (hl_cnt_n y) (fun x' hx' => ih (k + 1) x' 0 _ _ _ _ (by omega) (by omega) hx' (hl_is_f (fun ⟨j, hj, q'⟩ => ?_)))
          by_cases ej : j = k
          · subst ej; exact nl q'
          · exact q ⟨j, by omega, q'⟩
      · rcases Classical.em (∃ j, j < k ∧ hl_lgk nc np cw pw s j) with q | q
        · have ez := hz.1 q
          subst ez
          refine br_f hl_10 ?_
          unfold wX_most_51
          obtain ⟨j, hj, q⟩ := q
          exact hx_m561 hE h (hl_cnt_s y) (fun x' hx' => ih (k + 1) x' 1 _ _ _ _ (by omega) (by omega) hx' (hl_is_t ⟨j, by omega, q⟩))
        · have ez := hz.2 q
          subst ez
          refine br_t rfl (br_f hl_10 (hx_al hE (fun r hr => ?_)))
          rcases Classical.em (hl_anyL F) with q' | q'
          · rw [hr.1 q']
            refine br_f hl_10 ?_
            unfold wX_most_51
            exact hx_m561 hE h (hl_cnt_s y) (fun x' hx' => ih (k + 1) x' 1 _ _ _ _ (by omega) (by omega) hx' (hl_is_t ⟨k, by omega, F, y, q'⟩))
          · rw [hr.2 q']
            refine br_t rfl ?_
            unfold wX_most_55
            refine hx_m561 hE h (hl_cnt_s y) (fun x' hx' => ih (k + 1) x' 0 _ _ _ _ (by omega) (by omega) hx' (hl_is_f (fun ⟨j, hj, q2⟩ => ?_)))
            by_cases ej : j = k
            · subst ej
              obtain ⟨F', y', q3⟩ := q2
              rw [y] at y'
              rw [← Option.some.inj y'] at q3
              exact q' q3
            · exact q ⟨j, by omega, q2⟩
theorem hx_mo {post : Int32 → SX → Prop} (H : hl_X nc np cw pw cc cA cB sm pc pA pB iL dv) {s : Nat} (hs : s < 2) (K : ∀ r, ((∃ k, k < 203 ∧ hl_lgk nc np cw pw s k) → r = -3) → ((¬ ∃ k, k < 203 ∧ hl_lgk nc np cw pw s k) → hl_ma 203 (hl_cnt nc np cw pw s) r) → ∀ lt lg ep us : Nat → Int32, post r (cc, cA, cB, sm, pc, pA, pB, iL, dv, lt, lg, ep, us)) : wpX_most post (cc, cA, cB, sm, pc, pA, pB, iL, dv, lt, lg, ep, us) (nI s) := by
  unfold wpX_most
  dsimp only
  exact hx_bc hs (br_t rfl ⟨204, hx_mol H hs K 204 0 _ _ _ _ _ _ (by omega) (by omega) (hl_ma_0 _) (hl_is_f (fun ⟨j, hj, _⟩ => by omega))⟩)
/-! together -/
def hl_tg (nc np : Nat → Nat) (cw pw : Nat → Nat → Nat) (k : Nat) : Prop := ∃ F, hl_L nc np cw pw 0 k = some F ∧ hl_cd (hl_G k) (cw 1) (nc 1) = true ∧ hl_bd (hl_G k) (pw 1) F (np 1) ≠ none
theorem hx_tg1 {post : Int32 → SX → Prop} {m : Nat} (hm : 1 ≤ m) {x : Int32} (h : post 1 (cc, cA, cB, sm, pc, pA, pB, iL, dv, lt, lg, ep, us)) : wX_together_4 post m 1 x cc cA cB sm pc pA pB iL dv lt lg ep us := by
  obtain ⟨m', rfl⟩ : ∃ m', m = m' + 1 := ⟨m - 1, by omega⟩
  rw [wX_together_4]
  dsimp only
  exact br_c (fun _ => ⟨narrow_b1, h⟩) (fun _ => br_f hl_10 ⟨narrow_b1, h⟩)
theorem hx_tgl {post : Int32 → SX → Prop} (H : hl_X nc np cw pw cc cA cB sm pc pA pB iL dv) (K : ∀ r, hl_is r (∃ k, k < 203 ∧ hl_tg nc np cw pw k) → ∀ lt lg ep us : Nat → Int32, post r (cc, cA, cB, sm, pc, pA, pB, iL, dv, lt, lg, ep, us)) :
    ∀ m k (lt lg ep us : Nat → Int32), k ≤ 203 → 203 - k < m → (∀ j, j < k → ¬ hl_tg nc np cw pw j) → wX_together_4 post m 0 (nI k) cc cA cB sm pc pA pB iL dv lt lg ep us := by
  intro m
  induction m with
  | zero => intro k lt lg ep us _ h; omega
  | succ m ih =>
    intro k lt lg ep us hk hm h
    rw [wX_together_4]
    dsimp only
    by_cases e : k = 203
    · subst e
      exact br_t hl_203' ⟨narrow_b0, K 0 (hl_is_f (fun ⟨j, hj, z⟩ => h j hj z)) _ _ _ _⟩
    · have hk' : k < 203 := by omega
      refine br_f (hl_203 hk') (br_t rfl (hx_lay (s := 0) H (by omega) hk' (fun z lt lg ep us => ?_) (fun F z lt lg ep us hE _ => ?_)))
      · exact br_t rfl (nm_r (nI_1 k) (ih (k + 1) _ _ _ _ (by omega) (by omega) (hl_lt_s h (fun ⟨F, q, _⟩ => by rw [z] at q; cases q))))
      · refine br_f hl_10 (hx_cd (s := 1) H (by omega) hk' (hl_br (fun y => ?_) (fun y => ?_)))
        · exact nm_r (nI_1 k) (ih (k + 1) _ _ _ _ (by omega) (by omega) (hl_lt_s h (fun ⟨F, _, q, _⟩ => by rw [y] at q; cases q)))
        · refine hx_aes (s := 1) H (by omega) hk' hE (fun q lt lg ep => ?_) (fun F' q lt lg ep _ => ?_)
          · refine br_t rfl (nm_r (nI_1 k) (ih (k + 1) _ _ _ _ (by omega) (by omega) (hl_lt_s h (fun ⟨F2, q1, _, q2⟩ => ?_))))
            rw [z] at q1
            rw [← Option.some.inj q1] at q2
            exact q2 q
          · exact br_f hl_10 (nm_r (nI_1 k) (hx_tg1 (by omega) (K 1 (hl_is_t ⟨k, hk', F, z, y, by rw [q]; intro w; cases w⟩) _ _ _ _)))
theorem hx_tg {post : Int32 → SX → Prop} (H : hl_X nc np cw pw cc cA cB sm pc pA pB iL dv) (K : ∀ r, hl_is r (∃ k, k < 203 ∧ hl_tg nc np cw pw k) → ∀ lt lg ep us : Nat → Int32, post r (cc, cA, cB, sm, pc, pA, pB, iL, dv, lt, lg, ep, us)) : wpX_together post (cc, cA, cB, sm, pc, pA, pB, iL, dv, lt, lg, ep, us) := by
  unfold wpX_together
  dsimp only
  exact ⟨204, hx_tgl H K 204 0 _ _ _ _ (by omega) (by omega) (fun j hj => by omega)⟩
end
end
section
/-! X: follows, contains -/
section
variable {cc cA cB sm pc pA pB iL dv lt lg ep us : Nat → Int32} {nc np : Nat → Nat} {cw pw : Nat → Nat → Nat}
theorem hx_uc0 {post : Int32 → SX → Prop} {g : Nat} (hg : g < 6) (K : ∀ us : Nat → Int32, post 0 (cc, cA, cB, sm, pc, pA, pB, iL, dv, lt, lg, ep, us)) : wX_useCell_54 post (nI g) cc cA cB sm pc pA pB iL dv lt lg ep us := by
  have hin : vp_in (nI g) 6 := vp_in_nI hg (by decide)
  unfold wX_useCell_54 wX_useCell_55
  exact ⟨hin, br_c (fun _ => br_t rfl ⟨hin, nm_e ⟨narrow_b0, K _⟩⟩) (fun _ => ⟨hin, nm_e ⟨narrow_b0, K _⟩⟩)⟩
theorem hx_uc {post : Int32 → SX → Prop} (H : hl_X nc np cw pw cc cA cB sm pc pA pB iL dv) {k i : Nat} (hk : k < 203) (hi : i < np 1) {F : HG} (hE : hl_EX F lt lg) {U : Nat → Bool} (hU : hl_UX 6 U us)
    (K0 : hl_uc F (hl_to (hl_G k) (pw 1 i)) (hl_fr (hl_G k) (pw 1 i)) U = none → ∀ us : Nat → Int32, post 0 (cc, cA, cB, sm, pc, pA, pB, iL, dv, lt, lg, ep, us)) (K1 : ∀ U', hl_uc F (hl_to (hl_G k) (pw 1 i)) (hl_fr (hl_G k) (pw 1 i)) U = some U' → ∀ us : Nat → Int32, hl_UX 6 U' us → post 1 (cc, cA, cB, sm, pc, pA, pB, iL, dv, lt, lg, ep, us)) : wpX_useCell post (cc, cA, cB, sm, pc, pA, pB, iL, dv, lt, lg, ep, us) (nI k) (nI (6 * 1 + i)) := by
  obtain ⟨h8, h6, _, _⟩ := H.1 1 (by omega)
  obtain ⟨w72, eA, eB, eL⟩ := H.2.2.1 1 i (by omega) hi
  have l1 : hl_fr (hl_G k) (pw 1 i) < 6 := hl_G6 k hk (pw 1 i % 36 / 6) (by omega)
  have l2 : hl_to (hl_G k) (pw 1 i) < 6 := hl_G6 k hk (pw 1 i % 6) (by omega)
  have hin : vp_in (nI (6 * 1 + i)) 12 := vp_in_nI (by omega) (by decide)
  have hif : vp_in (nI (hl_fr (hl_G k) (pw 1 i))) 6 := vp_in_nI l1 (by decide)
  have ecl : (nI (hl_G k (pw 1 i % 36 / 6))).toNatClampNeg = hl_fr (hl_G k) (pw 1 i) := nI_clamp (show hl_fr (hl_G k) (pw 1 i) < 2 ^ 31 by omega)
  have f0 : ¬ (F (hl_fr (hl_G k) (pw 1 i)) = some (hl_to (hl_G k) (pw 1 i), false) ∧ U (hl_fr (hl_G k) (pw 1 i)) = false) → wX_useCell_54 post (nI (hl_fr (hl_G k) (pw 1 i))) cc cA cB sm pc pA pB iL dv lt lg ep us := by
    intro q
    refine hx_uc0 l1 (K0 ?_)
    unfold hl_uc
    rw [if_neg q]
  unfold wpX_useCell
  dsimp only
  rw [nI_clamp (show 6 * 1 + i < 2 ^ 31 by omega), eA]
  refine ⟨hin, hx_g H hk (by omega) ⟨hif, hin, ?_⟩⟩
  rw [eB]
  refine hx_g H hk (by omega) ?_
  rw [ecl]
  cases e : F (hl_fr (hl_G k) (pw 1 i)) with
  | none =>
    rw [hl_EX_n hE l1 e]
    refine br_f (fun z => hl_nm1 (hl_to (hl_G k) (pw 1 i)) (by omega) z.symm) (f0 (fun q => ?_))
    rw [e] at q; cases q.1
  | some p =>
    obtain ⟨x1, x2, x3, x4⟩ := hl_EX_s hE (t := p.1) (l := p.2) e
    rw [x1, x2, hU _ l1]
    refine pk_eq p.1 (hl_to (hl_G k) (pw 1 i)) (fun z => ⟨hif, hl_br (fun y => ⟨hif, hl_br (fun v => ?_) (fun v => ?_)⟩) (fun y => ?_)⟩) (fun z => ?_)
    · unfold wX_useCell_55
      rw [show (nI (hl_G k (pw 1 i % 36 / 6))).toNatClampNeg = hl_fr (hl_G k) (pw 1 i) from ecl, hU _ l1, hl_vb1]
      refine ⟨hif, br_t (hl_b0 v) (br_f hl_10 ⟨hif, nm_e ⟨narrow_b1, K1 _ ?_ _ (hl_UX_set hU _)⟩⟩)⟩
      unfold hl_uc
      rw [if_pos ⟨by rw [e, ← z, ← y], v⟩]
    · refine f0 (fun q => ?_)
      rw [v] at q; cases q.2
    · refine f0 (fun q => ?_)
      rw [e] at q
      have z1 : p.2 = false := congrArg Prod.snd (Option.some.inj q.1)
      rw [y] at z1; cases z1
    · refine f0 (fun q => ?_)
      rw [e] at q
      exact z (congrArg Prod.fst (Option.some.inj q.1))
theorem hx_io {post : Int32 → Prop} (H : hl_X nc np cw pw cc cA cB sm pc pA pB iL dv) {k g : Nat} (hk : k < 203) (hg : g < 6) {F : HG} (hE : hl_EX F lt lg) (K : post (hl_bI (decide (g = hl_G k 5) || (F g).isSome))) : wpX_isOutside post (cc, cA, cB, sm, pc, pA, pB, iL, dv, lt, lg, ep, us) (nI k) (nI g) := by
  have l5 := hl_G6 k hk 5 (by omega)
  unfold wpX_isOutside
  dsimp only
  refine hx_g (t := 5) H hk (by omega) (pk_eq g (hl_G k 5) (fun z => ?_) (fun z => ⟨vp_in_nI hg (by decide), ?_⟩))
  · rw [decide_eq_true z] at K; exact K
  · rw [decide_eq_false z] at K
    rw [nI_clamp (show g < 2 ^ 31 by omega)]
    refine hl_EX_lt hE hg (fun e => ?_) (fun t l e => ?_)
    · rw [e] at K; exact K
    · rw [e] at K; exact K
theorem hx_ul0 {post : Int32 → SX → Prop} {x5 x6 x4 x8 : Int32} {m : Nat} (hm : 1 ≤ m) (h : post 0 (cc, cA, cB, sm, pc, pA, pB, iL, dv, lt, lg, ep, us)) : wX_useList_53 post x5 x6 m x4 0 x8 cc cA cB sm pc pA pB iL dv lt lg ep us := by
  obtain ⟨m', rfl⟩ : ∃ m', m = m' + 1 := ⟨m - 1, by omega⟩
  have z : wX_useList_173 post x4 x5 0 cc cA cB sm pc pA pB iL dv lt lg ep us := by
    unfold wX_useList_173
    exact br_t rfl h
  rw [wX_useList_53]
  dsimp only
  exact br_c (fun _ => z) (fun _ => br_t rfl z)
theorem hx_ul123 {post : Int32 → SX → Prop} {x5 x6 x8 x9 : Int32} {m g : Nat} (hg : g < 6) (hm : 1 ≤ m) (K : ∀ us : Nat → Int32, post 0 (cc, cA, cB, sm, pc, pA, pB, iL, dv, lt, lg, ep, us)) : wX_useList_123 post (wX_useList_53 post x5 x6 m) (nI g) x5 x6 x8 x9 cc cA cB sm pc pA pB iL dv lt lg ep us := by
  have hin : vp_in (nI g) 6 := vp_in_nI hg (by decide)
  unfold wX_useList_123 wX_useList_124
  refine ⟨hin, br_c (fun _ => br_t rfl ?_) (fun _ => ?_)⟩
  · unfold wX_useList_152
    exact ⟨hin, nm_e (br_t rfl (nm_e (hx_ul0 hm (K _))))⟩
  · unfold wX_useList_147 wX_useList_152
    exact ⟨hin, nm_e (br_t rfl (nm_e (hx_ul0 hm (K _))))⟩
theorem hx_ul119 {post : Int32 → SX → Prop} {J : Int32 → Int32 → Int32 → (Nat → Int32) → (Nat → Int32) → (Nat → Int32) → (Nat → Int32) → (Nat → Int32) → (Nat → Int32) → (Nat → Int32) → (Nat → Int32) → (Nat → Int32) → (Nat → Int32) → (Nat → Int32) → (Nat → Int32) → (Nat → Int32) → Prop} {x5 x6 x9 : Int32} {g i : Nat} (hg : g < 6) (hJ : J x9 1 (nI (i + 1)) cc cA cB sm pc pA pB iL dv lt lg ep (upd us g 1)) : wX_useList_119 post J (nI g) x5 x6 (nI i) x9 cc cA cB sm pc pA pB iL dv lt lg ep us := by
  have hin : vp_in (nI g) 6 := vp_in_nI hg (by decide)
  have z : wX_useList_147 post J (nI g) x5 x6 1 (nI i) x9 (nI g) cc cA cB sm pc pA pB iL dv lt lg ep us := by
    unfold wX_useList_147 wX_useList_152
    rw [nI_clamp (show g < 2 ^ 31 by omega), hl_vb1]
    exact ⟨hin, nm_e (br_f hl_10 (nm_r (nI_1 i) hJ))⟩
  unfold wX_useList_119 wX_useList_124
  exact ⟨hin, br_c (fun _ => br_f hl_10 z) (fun _ => z)⟩
theorem hx_ull {post : Int32 → SX → Prop} {F : HG} (hE : hl_EX F lt lg) {e : Nat} (he : e < 6) (out : Bool) :
    ∀ j m i g U (us : Nat → Int32), i + j = 6 → j < m → g < 6 → hl_UX 6 U us → (hl_ul F e out j g U = none → ∀ us : Nat → Int32, post 0 (cc, cA, cB, sm, pc, pA, pB, iL, dv, lt, lg, ep, us)) → (∀ U', hl_ul F e out j g U = some U' → ∀ us : Nat → Int32, hl_UX 6 U' us → post 1 (cc, cA, cB, sm, pc, pA, pB, iL, dv, lt, lg, ep, us)) →
      wX_useList_53 post (nI e) (hl_bI out) m (nI g) 1 (nI i) cc cA cB sm pc pA pB iL dv lt lg ep us := by
  intro j
  induction j with
  | zero =>
    intro m i g U us hi hm hg hU K0 K1
    obtain ⟨m', rfl⟩ : ∃ m', m = m' + 1 := ⟨m - 1, by omega⟩
    have ei : i = 6 := by omega
    subst ei
    rw [wX_useList_53]
    dsimp only
    refine br_t hl_6y ?_
    unfold wX_useList_173
    rw [hl_ul.eq_1] at K0 K1
    refine br_f hl_10 (pk_eq g e (fun z => ?_) (fun z => ?_))
    · rw [if_pos z] at K1; exact K1 U rfl us hU
    · rw [if_neg z] at K0; exact K0 rfl us
  | succ j ih =>
    intro m i g U us hi hm hg hU K0 K1
    obtain ⟨m', rfl⟩ : ∃ m', m = m' + 1 := ⟨m - 1, by omega⟩
    have hin : vp_in (nI g) 6 := vp_in_nI hg (by decide)
    rw [wX_useList_53]
    dsimp only
    refine br_f (hl_6n (by omega)) (br_f hl_10 (pk_eq g e (fun z => ?_) (fun z => ⟨hin, ?_⟩)))
    · subst z
      unfold wX_useList_173
      exact br_f hl_10 (br_t rfl (K1 U (hl_ul_e _ _ _ _ _) us hU))
    · rw [nI_clamp (show g < 2 ^ 31 by omega)]
      cases eF : F g with
      | none =>
        rw [hl_EX_n hE hg eF]
        refine nm_e (br_t rfl (hx_ul123 hg (by omega) (K0 ?_)))
        rw [hl_ul.eq_2, if_neg z, eF]
      | some p =>
        obtain ⟨x1, x2, _, x4⟩ := hl_EX_s hE (t := p.1) (l := p.2) eF
        rw [x1, x2, hU g hg]
        have good : U g = false → (p.1 = e ∨ out = true ∨ p.2 = false) → wX_useList_119 post (wX_useList_53 post (nI e) (hl_bI out) m') (nI g) (nI e) (hl_bI out) (nI i) (nI p.1) cc cA cB sm pc pA pB iL dv lt lg ep us := by
          intro hu hc
          rw [hl_ul_t (t := p.1) (l := p.2) z eF hu hc] at K0 K1
          exact hx_ul119 hg (ih m' (i + 1) p.1 (hl_set U g) (upd us g 1) (by omega) (by omega) x4 (hl_UX_set hU g) K0 K1)
        have bad : (U g = true ∨ ¬ (p.1 = e ∨ out = true ∨ p.2 = false)) → wX_useList_123 post (wX_useList_53 post (nI e) (hl_bI out) m') (nI g) (nI e) (hl_bI out) (nI i) (nI p.1) cc cA cB sm pc pA pB iL dv lt lg ep us := by
          intro hc
          refine hx_ul123 hg (by omega) (K0 ?_)
          rw [hl_ul.eq_2, if_neg z, eF]
          dsimp only
          by_cases hu : U g = true
          · rw [if_pos hu]
          · rw [if_neg hu, if_neg (hc.resolve_left hu)]
        refine nm_e (br_f (hl_nm1 p.1 (by omega)) ⟨hin, hl_br (fun hu => pk_eq p.1 e (fun y => ?_) (fun y => hl_br (fun ho => ⟨hin, hl_br (fun hl => ?_) (fun hl => ?_)⟩) (fun ho => ?_))) (fun hu => ?_)⟩)
        · exact good hu (Or.inl y)
        · exact good hu (Or.inr (Or.inr hl))
        · refine bad (Or.inr (fun q => ?_))
          rcases q with q | q | q
          · exact y q
          · rw [ho] at q; cases q
          · rw [hl] at q; cases q
        · exact good hu (Or.inr (Or.inl ho))
        · exact bad (Or.inl hu)
theorem hx_ul {post : Int32 → SX → Prop} (H : hl_X nc np cw pw cc cA cB sm pc pA pB iL dv) {k i : Nat} (hk : k < 203) (hi : i < np 1) {F : HG} (hE : hl_EX F lt lg) {U : Nat → Bool} (hU : hl_UX 6 U us) (ex : Bool)
    (K0 : hl_ul F (hl_to (hl_G k) (pw 1 i)) (hl_out F (hl_G k) ex (pw 1 i)) 6 (hl_fr (hl_G k) (pw 1 i)) U = none → ∀ us : Nat → Int32, post 0 (cc, cA, cB, sm, pc, pA, pB, iL, dv, lt, lg, ep, us)) (K1 : ∀ U', hl_ul F (hl_to (hl_G k) (pw 1 i)) (hl_out F (hl_G k) ex (pw 1 i)) 6 (hl_fr (hl_G k) (pw 1 i)) U = some U' → ∀ us : Nat → Int32, hl_UX 6 U' us → post 1 (cc, cA, cB, sm, pc, pA, pB, iL, dv, lt, lg, ep, us)) : wpX_useList post (cc, cA, cB, sm, pc, pA, pB, iL, dv, lt, lg, ep, us) (nI k) (nI (6 * 1 + i)) (hl_bI ex) := by
  obtain ⟨h8, h6, _, _⟩ := H.1 1 (by omega)
  obtain ⟨w72, eA, eB, eL⟩ := H.2.2.1 1 i (by omega) hi
  have l1 : hl_fr (hl_G k) (pw 1 i) < 6 := hl_G6 k hk (pw 1 i % 36 / 6) (by omega)
  have l2 : hl_to (hl_G k) (pw 1 i) < 6 := hl_G6 k hk (pw 1 i % 6) (by omega)
  have hin : vp_in (nI (6 * 1 + i)) 12 := vp_in_nI (by omega) (by decide)
  have go : ∀ o, hl_out F (hl_G k) ex (pw 1 i) = o → wX_useList_53 post (nI (hl_to (hl_G k) (pw 1 i))) (hl_bI o) 7 (nI (hl_fr (hl_G k) (pw 1 i))) 1 (nI 0) cc cA cB sm pc pA pB iL dv lt lg ep us := by
    intro o ho
    rw [ho] at K0 K1
    exact hx_ull hE l2 o 6 7 0 _ U us (by omega) (by omega) l1 hU K0 K1
  unfold wpX_useList
  dsimp only
  rw [nI_clamp (show 6 * 1 + i < 2 ^ 31 by omega), eA]
  refine ⟨hin, hx_g H hk (by omega) ⟨hin, ?_⟩⟩
  rw [eB]
  refine hx_g H hk (by omega) (hl_br (fun z => ?_) (fun z => ?_))
  · exact ⟨7, go true (by unfold hl_out; rw [z]; rfl)⟩
  · refine hx_io (g := hl_to (hl_G k) (pw 1 i)) H hk l2 hE (hl_br (fun y => ?_) (fun y => ?_))
    · exact ⟨7, go false (by unfold hl_out; rw [z]; exact y)⟩
    · exact ⟨7, go true (by unfold hl_out; rw [z]; exact y)⟩
theorem hx_up0 {post : Int32 → SX → Prop} {x1 x2 x4 : Int32} {m : Nat} (hm : 1 ≤ m) (h : post 0 (cc, cA, cB, sm, pc, pA, pB, iL, dv, lt, lg, ep, us)) : wX_useParts_6 post x1 x2 m 0 x4 cc cA cB sm pc pA pB iL dv lt lg ep us := by
  obtain ⟨m', rfl⟩ : ∃ m', m = m' + 1 := ⟨m - 1, by omega⟩
  rw [wX_useParts_6]
  dsimp only
  exact br_c (fun _ => ⟨narrow_b0, h⟩) (fun _ => br_t rfl ⟨narrow_b0, h⟩)
theorem hx_upl {post : Int32 → SX → Prop} (H : hl_X nc np cw pw cc cA cB sm pc pA pB iL dv) {k : Nat} (hk : k < 203) {F : HG} (hE : hl_EX F lt lg) (ex : Bool)
    (K0 : hl_uf F (hl_G k) ex (pw 1) (np 1) = none → ∀ us : Nat → Int32, post 0 (cc, cA, cB, sm, pc, pA, pB, iL, dv, lt, lg, ep, us)) (K1 : ∀ U', hl_uf F (hl_G k) ex (pw 1) (np 1) = some U' → ∀ us : Nat → Int32, hl_UX 6 U' us → post 1 (cc, cA, cB, sm, pc, pA, pB, iL, dv, lt, lg, ep, us)) :
    ∀ m i U (us : Nat → Int32), i ≤ np 1 → np 1 - i < m → hl_uf F (hl_G k) ex (pw 1) i = some U → hl_UX 6 U us → wX_useParts_6 post (nI k) (hl_bI ex) m 1 (nI (6 * 1 + i)) cc cA cB sm pc pA pB iL dv lt lg ep us := by
  obtain ⟨h8, h6, _, ec⟩ := H.1 1 (by omega)
  intro m
  induction m with
  | zero => intro i U us _ h; omega
  | succ m ih =>
    intro i U us hi hm hu hU
    rw [wX_useParts_6]
    dsimp only
    rw [ec, hl_a6]
    by_cases e : i = np 1
    · subst e
      exact br_t (nI_le (by omega) (by omega)) ⟨narrow_b1, K1 U hu _ hU⟩
    · have hi' : i < np 1 := by omega
      obtain ⟨w72, eA, eB, eL⟩ := H.2.2.1 1 i (by omega) hi'
      have fin : hl_uf F (hl_G k) ex (pw 1) (i + 1) = hl_up F (hl_G k) ex (pw 1 i) U := hl_uf_s hu
      refine br_f (nI_ge (by omega) (by omega)) (br_f hl_10 ⟨vp_in_nI (by omega) (by decide), ?_⟩)
      rw [nI_clamp (show 6 * 1 + i < 2 ^ 31 by omega), eL]
      unfold hl_up at fin
      refine hl_br (fun z => ?_) (fun z => ?_)
      · rw [if_neg (of_decide_eq_false z)] at fin
        refine hx_uc H hk hi' hE hU (fun y us => ?_) (fun U' y us hU' => ?_)
        · exact nm_r (nI_1 _) (hx_up0 (by omega) (K0 (hl_uf_n (fin.trans y) _ (by omega)) _))
        · exact nm_r (nI_1 _) (ih (i + 1) U' us (by omega) (by omega) (fin.trans y) hU')
      · rw [if_pos (of_decide_eq_true z)] at fin
        refine hx_ul H hk hi' hE hU ex (fun y us => ?_) (fun U' y us hU' => ?_)
        · exact nm_r (nI_1 _) (hx_up0 (by omega) (K0 (hl_uf_n (fin.trans y) _ (by omega)) _))
        · exact nm_r (nI_1 _) (ih (i + 1) U' us (by omega) (by omega) (fin.trans y) hU')
theorem hx_up {post : Int32 → SX → Prop} (H : hl_X nc np cw pw cc cA cB sm pc pA pB iL dv) {k : Nat} (hk : k < 203) {F : HG} (hE : hl_EX F lt lg) (hU : hl_UX 6 (fun _ => false) us) (ex : Bool)
    (K0 : hl_uf F (hl_G k) ex (pw 1) (np 1) = none → ∀ us : Nat → Int32, post 0 (cc, cA, cB, sm, pc, pA, pB, iL, dv, lt, lg, ep, us)) (K1 : ∀ U', hl_uf F (hl_G k) ex (pw 1) (np 1) = some U' → ∀ us : Nat → Int32, hl_UX 6 U' us → post 1 (cc, cA, cB, sm, pc, pA, pB, iL, dv, lt, lg, ep, us)) : wpX_useParts post (cc, cA, cB, sm, pc, pA, pB, iL, dv, lt, lg, ep, us) (nI k) (hl_bI ex) := by
  unfold wpX_useParts
  dsimp only
  exact ⟨np 1 + 1, hx_upl H hk hE ex K0 K1 (np 1 + 1) 0 _ us (by omega) (by omega) rfl hU⟩
theorem hx_au0 {post : Int32 → Prop} (K : post 0) : ∀ m g, g ≤ 6 → 6 - g < m → wX_allUsed_4 post cc cA cB sm pc pA pB iL dv lt lg ep us m 0 (nI g) := by
  intro m
  induction m with
  | zero => intro g _ h; omega
  | succ m ih =>
    intro g hg hm
    rw [wX_allUsed_4]
    dsimp only
    by_cases e : g = 6
    · subst e; exact br_t hl_6y ⟨narrow_b0, K⟩
    · exact br_f (hl_6n (by omega)) (br_t rfl (nm_r (nI_1 g) (ih (g + 1) (by omega) (by omega))))
theorem hx_aul {post : Int32 → Prop} {F : HG} (hE : hl_EX F lt lg) {U : Nat → Bool} (hU : hl_UX 6 U us) (K : ∀ r, hl_is r (∀ g, g < 6 → F g ≠ none → U g = true) → post r) :
    ∀ m g, g ≤ 6 → 6 - g < m → (∀ x, x < g → F x ≠ none → U x = true) → wX_allUsed_4 post cc cA cB sm pc pA pB iL dv lt lg ep us m 1 (nI g) := by
  intro m
  induction m with
  | zero => intro g _ h; omega
  | succ m ih =>
    intro g hg hm h
    rw [wX_allUsed_4]
    dsimp only
    by_cases e : g = 6
    · subst e; exact br_t hl_6y ⟨narrow_b1, K 1 (hl_is_t h)⟩
    · have hg' : g < 6 := by omega
      have hin : vp_in (nI g) 6 := vp_in_nI hg' (by decide)
      refine br_f (hl_6n hg') (br_f hl_10 ⟨hin, ?_⟩)
      rw [nI_clamp (show g < 2 ^ 31 by omega)]
      refine hl_EX_lt hE hg' (fun z => ?_) (fun t l z => ⟨hin, ?_⟩)
      · exact nm_r (nI_1 g) (ih (g + 1) (by omega) (by omega) (hl_lt_s h (fun q => absurd z q)))
      · rw [hU g hg']
        refine hl_br (fun y => ?_) (fun y => ?_)
        · refine nm_r (nI_1 g) (hx_au0 (K 0 (hl_is_f (fun q => ?_))) m (g + 1) (by omega) (by omega))
          rw [q g hg' (by rw [z]; intro w; cases w)] at y; cases y
        · exact nm_r (nI_1 g) (ih (g + 1) (by omega) (by omega) (hl_lt_s h (fun _ => y)))
theorem hx_au {post : Int32 → Prop} {F : HG} (hE : hl_EX F lt lg) {U : Nat → Bool} (hU : hl_UX 6 U us) (K : ∀ r, hl_is r (∀ g, g < 6 → F g ≠ none → U g = true) → post r) : wpX_allUsed post (cc, cA, cB, sm, pc, pA, pB, iL, dv, lt, lg, ep, us) := by
  unfold wpX_allUsed
  dsimp only
  exact ⟨7, hx_aul hE hU K 7 0 (by omega) (by omega) (fun x hx => by omega)⟩
/-- what X asks of a division -/
def hl_xk (nc np : Nat → Nat) (cw pw : Nat → Nat → Nat) (ex : Bool) (k : Nat) : Prop := ∀ F, hl_L nc np cw pw 0 k = some F → hl_xfit F (hl_G k) (nc 1) (np 1) (cw 1) (pw 1) ex
theorem hx_fo0 {post : Int32 → SX → Prop} {m : Nat} (hm : 1 ≤ m) {x : Int32} (h : post 0 (cc, cA, cB, sm, pc, pA, pB, iL, dv, lt, lg, ep, us)) : wX_follows_4 post m 0 x cc cA cB sm pc pA pB iL dv lt lg ep us := by
  obtain ⟨m', rfl⟩ : ∃ m', m = m' + 1 := ⟨m - 1, by omega⟩
  rw [wX_follows_4]
  dsimp only
  exact br_c (fun _ => ⟨narrow_b0, h⟩) (fun _ => br_t rfl ⟨narrow_b0, h⟩)
theorem hx_fol {post : Int32 → SX → Prop} (H : hl_X nc np cw pw cc cA cB sm pc pA pB iL dv) (K : ∀ r, hl_is r (∀ k, k < 203 → hl_xk nc np cw pw true k) → ∀ lt lg ep us : Nat → Int32, post r (cc, cA, cB, sm, pc, pA, pB, iL, dv, lt, lg, ep, us)) :
    ∀ m k (lt lg ep us : Nat → Int32), k ≤ 203 → 203 - k < m → (∀ j, j < k → hl_xk nc np cw pw true j) → wX_follows_4 post m 1 (nI k) cc cA cB sm pc pA pB iL dv lt lg ep us := by
  intro m
  induction m with
  | zero => intro k lt lg ep us _ h; omega
  | succ m ih =>
    intro k lt lg ep us hk hm h
    rw [wX_follows_4]
    dsimp only
    by_cases e : k = 203
    · subst e
      exact br_t hl_203' ⟨narrow_b1, K 1 (hl_is_t h) _ _ _ _⟩
    · have hk' : k < 203 := by omega
      have yes : hl_xk nc np cw pw true k → ∀ lt lg ep us : Nat → Int32, wX_follows_4 post m 1 (nI (k + 1)) cc cA cB sm pc pA pB iL dv lt lg ep us := fun q lt lg ep us => ih (k + 1) _ _ _ _ (by omega) (by omega) (hl_lt_s h q)
      have no : ¬ hl_xk nc np cw pw true k → ∀ lt lg ep us : Nat → Int32, wX_follows_4 post m 0 (nI (k + 1)) cc cA cB sm pc pA pB iL dv lt lg ep us := fun q lt lg ep us => hx_fo0 (by omega) (K 0 (hl_is_f (fun y => q (y k hk'))) _ _ _ _)
      refine br_f (hl_203 hk') (br_f hl_10 (hx_lay (s := 0) H (by omega) hk' (fun z lt lg ep us => ?_) (fun F z lt lg ep us hE hU => ?_)))
      · exact br_t rfl (nm_r (nI_1 k) (yes (fun F q => by rw [z] at q; cases q) _ _ _ _))
      · refine br_f hl_10 (hx_cd (s := 1) H (by omega) hk' (hl_br (fun y => ?_) (fun y => ?_)))
        · refine nm_r (nI_1 k) (no (fun q => ?_) _ _ _ _)
          rw [(q F z).1] at y; cases y
        · refine hx_up H hk' hE hU true (fun q us => ?_) (fun U q us hU => ?_)
          · refine br_t rfl (nm_r (nI_1 k) (no (fun w => ?_) _ _ _ _))
            obtain ⟨_, U, w1, _⟩ := w F z
            rw [q] at w1; cases w1
          · refine br_f hl_10 (hx_au hE hU (fun r hr => ?_))
            rcases Classical.em (∀ g, g < 6 → F g ≠ none → U g = true) with w | w
            · rw [hr.1 w]
              refine br_f hl_10 (nm_r (nI_1 k) (yes (fun F' z' => ?_) _ _ _ _))
              rw [z] at z'
              rw [← Option.some.inj z']
              exact ⟨y, U, q, fun _ => w⟩
            · rw [hr.2 w]
              refine br_t rfl (nm_r (nI_1 k) (no (fun v => ?_) _ _ _ _))
              obtain ⟨_, U', v1, v2⟩ := v F z
              rw [q] at v1
              rw [← Option.some.inj v1] at v2
              exact w (v2 rfl)
theorem hx_fo {post : Int32 → SX → Prop} (H : hl_X nc np cw pw cc cA cB sm pc pA pB iL dv) (K : ∀ r, hl_is r (∀ k, k < 203 → hl_xk nc np cw pw true k) → ∀ lt lg ep us : Nat → Int32, post r (cc, cA, cB, sm, pc, pA, pB, iL, dv, lt, lg, ep, us)) : wpX_follows post (cc, cA, cB, sm, pc, pA, pB, iL, dv, lt, lg, ep, us) := by
  unfold wpX_follows
  dsimp only
  exact ⟨204, hx_fol H K 204 0 _ _ _ _ (by omega) (by omega) (fun j hj => by omega)⟩
theorem hx_cn0 {post : Int32 → SX → Prop} {m : Nat} (hm : 1 ≤ m) {x : Int32} (h : post 0 (cc, cA, cB, sm, pc, pA, pB, iL, dv, lt, lg, ep, us)) : wX_contains_4 post m 0 x cc cA cB sm pc pA pB iL dv lt lg ep us := by
  obtain ⟨m', rfl⟩ : ∃ m', m = m' + 1 := ⟨m - 1, by omega⟩
  rw [wX_contains_4]
  dsimp only
  exact br_c (fun _ => ⟨narrow_b0, h⟩) (fun _ => br_t rfl ⟨narrow_b0, h⟩)
theorem hx_cnl {post : Int32 → SX → Prop} (H : hl_X nc np cw pw cc cA cB sm pc pA pB iL dv) (K : ∀ r, hl_is r (∀ k, k < 203 → hl_xk nc np cw pw false k) → ∀ lt lg ep us : Nat → Int32, post r (cc, cA, cB, sm, pc, pA, pB, iL, dv, lt, lg, ep, us)) :
    ∀ m k (lt lg ep us : Nat → Int32), k ≤ 203 → 203 - k < m → (∀ j, j < k → hl_xk nc np cw pw false j) → wX_contains_4 post m 1 (nI k) cc cA cB sm pc pA pB iL dv lt lg ep us := by
  intro m
  induction m with
  | zero => intro k lt lg ep us _ h; omega
  | succ m ih =>
    intro k lt lg ep us hk hm h
    rw [wX_contains_4]
    dsimp only
    by_cases e : k = 203
    · subst e
      exact br_t hl_203' ⟨narrow_b1, K 1 (hl_is_t h) _ _ _ _⟩
    · have hk' : k < 203 := by omega
      have yes : hl_xk nc np cw pw false k → ∀ lt lg ep us : Nat → Int32, wX_contains_4 post m 1 (nI (k + 1)) cc cA cB sm pc pA pB iL dv lt lg ep us := fun q lt lg ep us => ih (k + 1) _ _ _ _ (by omega) (by omega) (hl_lt_s h q)
      have no : ¬ hl_xk nc np cw pw false k → ∀ lt lg ep us : Nat → Int32, wX_contains_4 post m 0 (nI (k + 1)) cc cA cB sm pc pA pB iL dv lt lg ep us := fun q lt lg ep us => hx_cn0 (by omega) (K 0 (hl_is_f (fun y => q (y k hk'))) _ _ _ _)
      refine br_f (hl_203 hk') (br_f hl_10 (hx_lay (s := 0) H (by omega) hk' (fun z lt lg ep us => ?_) (fun F z lt lg ep us hE hU => ?_)))
      · exact br_t rfl (nm_r (nI_1 k) (yes (fun F q => by rw [z] at q; cases q) _ _ _ _))
      · refine br_f hl_10 (hx_cd (s := 1) H (by omega) hk' (hl_br (fun y => ?_) (fun y => ?_)))
        · refine nm_r (nI_1 k) (no (fun q => ?_) _ _ _ _)
          rw [(q F z).1] at y; cases y
        · refine hx_up H hk' hE hU false (fun q us => ?_) (fun U q us hU => ?_)
          · refine br_t rfl (nm_r (nI_1 k) (no (fun w => ?_) _ _ _ _))
            obtain ⟨_, U, w1, _⟩ := w F z
            rw [q] at w1; cases w1
          · refine br_f hl_10 (nm_r (nI_1 k) (yes (fun F' z' => ?_) _ _ _ _))
            rw [z] at z'
            rw [← Option.some.inj z']
            exact ⟨y, U, q, fun w => by cases w⟩
theorem hx_cn {post : Int32 → SX → Prop} (H : hl_X nc np cw pw cc cA cB sm pc pA pB iL dv) (K : ∀ r, hl_is r (∀ k, k < 203 → hl_xk nc np cw pw false k) → ∀ lt lg ep us : Nat → Int32, post r (cc, cA, cB, sm, pc, pA, pB, iL, dv, lt, lg, ep, us)) : wpX_contains post (cc, cA, cB, sm, pc, pA, pB, iL, dv, lt, lg, ep, us) := by
  unfold wpX_contains
  dsimp only
  exact ⟨204, hx_cnl H K 204 0 _ _ _ _ (by omega) (by omega) (fun j hj => by omega)⟩
end
end
section
/-! X: same, other, cell, list, drop, clear, swap -/
def hl_upN (f : Nat → Nat) (s v : Nat) : Nat → Nat := fun j => if j = s then v else f j
theorem hl_upN_s (f : Nat → Nat) (s v : Nat) : hl_upN f s v s = v := if_pos rfl
theorem hl_upN_n (f : Nat → Nat) {s j : Nat} (v : Nat) (h : j ≠ s) : hl_upN f s v j = f j := if_neg h
def hl_upW (f : Nat → Nat → Nat) (s i v : Nat) : Nat → Nat → Nat := fun j x => if j = s ∧ x = i then v else f j x
theorem hl_upW_s (f : Nat → Nat → Nat) (s i v : Nat) : hl_upW f s i v s i = v := if_pos ⟨rfl, rfl⟩
theorem hl_upW_n (f : Nat → Nat → Nat) {s i j x : Nat} (v : Nat) (h : ¬ (j = s ∧ x = i)) : hl_upW f s i v j x = f j x := if_neg h
def hl_sw (a : Nat → Int32) (w i : Nat) : Nat → Int32 := fun x => if x < i then a (w + x) else if w ≤ x ∧ x < w + i then a (x - w) else a x
def hl_sv (a : Nat → Int32) (w i : Nat) : Nat → Int32 := fun x => if x < i then vp_nar .boolean (a (w + x)) else if w ≤ x ∧ x < w + i then vp_nar .boolean (a (x - w)) else a x
theorem hl_sw_0 (a : Nat → Int32) (w : Nat) : hl_sw a w 0 = a := by
  funext x
  unfold hl_sw
  rw [if_neg (by omega), if_neg (by omega)]
theorem hl_sv_0 (a : Nat → Int32) (w : Nat) : hl_sv a w 0 = a := by
  funext x
  unfold hl_sv
  rw [if_neg (by omega), if_neg (by omega)]
theorem hl_sw_i (a : Nat → Int32) {w i : Nat} (h : i < w) : hl_sw a w i i = a i := by
  unfold hl_sw
  rw [if_neg (by omega), if_neg (by omega)]
theorem hl_sw_w (a : Nat → Int32) {w i : Nat} (h : i < w) : hl_sw a w i (w + i) = a (w + i) := by
  unfold hl_sw
  rw [if_neg (by omega), if_neg (by omega)]
theorem hl_sv_i (a : Nat → Int32) {w i : Nat} (h : i < w) : hl_sv a w i i = a i := by
  unfold hl_sv
  rw [if_neg (by omega), if_neg (by omega)]
theorem hl_sv_w (a : Nat → Int32) {w i : Nat} (h : i < w) : hl_sv a w i (w + i) = a (w + i) := by
  unfold hl_sv
  rw [if_neg (by omega), if_neg (by omega)]
theorem hl_sw_s (a : Nat → Int32) {w i : Nat} (h : i < w) : upd (upd (hl_sw a w i) i (hl_sw a w i (w + i))) (w + i) (hl_sw a w i i) = hl_sw a w (i + 1) := by
  rw [hl_sw_i a h, hl_sw_w a h]
  funext x
  by_cases e1 : x = w + i
  · subst e1
    rw [pk_us]
    unfold hl_sw
    rw [if_neg (by omega), if_pos (by omega), show w + i - w = i by omega]
  · rw [pk_un e1]
    by_cases e2 : x = i
    · subst e2
      rw [pk_us]
      unfold hl_sw
      rw [if_pos (by omega)]
    · rw [pk_un e2]
      unfold hl_sw
      by_cases c1 : x < i
      · rw [if_pos c1, if_pos (by omega)]
      · rw [if_neg c1, if_neg (show ¬ x < i + 1 by omega)]
        by_cases c2 : w ≤ x ∧ x < w + i
        · rw [if_pos c2, if_pos (by omega)]
        · rw [if_neg c2, if_neg (by omega)]
theorem hl_sv_s (a : Nat → Int32) {w i : Nat} (h : i < w) : upd (upd (hl_sv a w i) i (vp_nar .boolean (hl_sv a w i (w + i)))) (w + i) (vp_nar .boolean (hl_sv a w i i)) = hl_sv a w (i + 1) := by
  rw [hl_sv_i a h, hl_sv_w a h]
  funext x
  by_cases e1 : x = w + i
  · subst e1
    rw [pk_us]
    unfold hl_sv
    rw [if_neg (by omega), if_pos (by omega), show w + i - w = i by omega]
  · rw [pk_un e1]
    by_cases e2 : x = i
    · subst e2
      rw [pk_us]
      unfold hl_sv
      rw [if_pos (by omega)]
    · rw [pk_un e2]
      unfold hl_sv
      by_cases c1 : x < i
      · rw [if_pos c1, if_pos (by omega)]
      · rw [if_neg c1, if_neg (show ¬ x < i + 1 by omega)]
        by_cases c2 : w ≤ x ∧ x < w + i
        · rw [if_pos c2, if_pos (by omega)]
        · rw [if_neg c2, if_neg (by omega)]
theorem hl_sw_lo (a : Nat → Int32) {w i : Nat} (h : i < w) : hl_sw a w w i = a (w + i) := by
  unfold hl_sw; rw [if_pos h]
theorem hl_sw_hi (a : Nat → Int32) {w i : Nat} (h : i < w) : hl_sw a w w (w + i) = a i := by
  unfold hl_sw; rw [if_neg (by omega), if_pos (by omega), show w + i - w = i by omega]
theorem hl_sv_lo (a : Nat → Int32) {w i : Nat} (h : i < w) : hl_sv a w w i = vp_nar .boolean (a (w + i)) := by
  unfold hl_sv; rw [if_pos h]
theorem hl_sv_hi (a : Nat → Int32) {w i : Nat} (h : i < w) : hl_sv a w w (w + i) = vp_nar .boolean (a i) := by
  unfold hl_sv; rw [if_neg (by omega), if_pos (by omega), show w + i - w = i by omega]
section
variable {cc cA cB sm pc pA pB iL dv lt lg ep us : Nat → Int32} {nc np : Nat → Nat} {cw pw : Nat → Nat → Nat}
theorem hx_Xc (H : hl_X nc np cw pw cc cA cB sm pc pA pB iL dv) {s w : Nat} (hs : s < 2) (hn : nc s < 8) (hw : w < 72) : hl_X (hl_upN nc s (nc s + 1)) np (hl_upW cw s (nc s) w) pw (upd cc s (nI (nc s + 1))) (upd cA (8 * s + nc s) (nI (w % 36 / 6))) (upd cB (8 * s + nc s) (nI (w % 6))) (upd sm (8 * s + nc s) (hl_bI (decide (w < 36)))) pc pA pB iL dv := by
  obtain ⟨h1, h2, h3, h4⟩ := H
  refine ⟨fun j hj => ?_, fun j x hj hx => ?_, h3, h4⟩
  · obtain ⟨a1, a2, a3, a4⟩ := h1 j hj
    by_cases e : j = s
    · subst e
      rw [hl_upN_s, pk_us]
      exact ⟨by omega, a2, rfl, a4⟩
    · rw [hl_upN_n _ _ e, pk_un e]
      exact ⟨a1, a2, a3, a4⟩
  · obtain ⟨a1, _, _, _⟩ := h1 j hj
    by_cases e : j = s ∧ x = nc s
    · obtain ⟨rfl, rfl⟩ := e
      rw [hl_upW_s, pk_us, pk_us, pk_us]
      exact ⟨hw, rfl, rfl, rfl⟩
    · have hx' : x < nc j := by
        by_cases e2 : j = s
        · subst e2
          rw [hl_upN_s] at hx
          have : x ≠ nc j := fun q => e ⟨rfl, q⟩
          omega
        · rw [hl_upN_n _ _ e2] at hx; exact hx
      have ne : 8 * j + x ≠ 8 * s + nc s := by omega
      rw [hl_upW_n _ _ e, pk_un ne, pk_un ne, pk_un ne]
      exact h2 j x hj hx'
theorem hx_Xp (H : hl_X nc np cw pw cc cA cB sm pc pA pB iL dv) {s w : Nat} (hs : s < 2) (hn : np s < 6) (hw : w < 72) : hl_X nc (hl_upN np s (np s + 1)) cw (hl_upW pw s (np s) w) cc cA cB sm (upd pc s (nI (np s + 1))) (upd pA (6 * s + np s) (nI (w % 36 / 6))) (upd pB (6 * s + np s) (nI (w % 6))) (upd iL (6 * s + np s) (hl_bI (decide (36 ≤ w)))) dv := by
  obtain ⟨h1, h2, h3, h4⟩ := H
  refine ⟨fun j hj => ?_, h2, fun j x hj hx => ?_, h4⟩
  · obtain ⟨a1, a2, a3, a4⟩ := h1 j hj
    by_cases e : j = s
    · subst e
      rw [hl_upN_s, pk_us]
      exact ⟨a1, by omega, a3, rfl⟩
    · rw [hl_upN_n _ _ e, pk_un e]
      exact ⟨a1, a2, a3, a4⟩
  · obtain ⟨_, a1, _, _⟩ := h1 j hj
    by_cases e : j = s ∧ x = np s
    · obtain ⟨rfl, rfl⟩ := e
      rw [hl_upW_s, pk_us, pk_us, pk_us]
      exact ⟨hw, rfl, rfl, rfl⟩
    · have hx' : x < np j := by
        by_cases e2 : j = s
        · subst e2
          rw [hl_upN_s] at hx
          have : x ≠ np j := fun q => e ⟨rfl, q⟩
          omega
        · rw [hl_upN_n _ _ e2] at hx; exact hx
      have ne : 6 * j + x ≠ 6 * s + np s := by omega
      rw [hl_upW_n _ _ e, pk_un ne, pk_un ne, pk_un ne]
      exact h3 j x hj hx'
theorem hx_Xnc (H : hl_X nc np cw pw cc cA cB sm pc pA pB iL dv) {s v : Nat} (hv : v ≤ nc s) : hl_X (hl_upN nc s v) np cw pw (upd cc s (nI v)) cA cB sm pc pA pB iL dv := by
  obtain ⟨h1, h2, h3, h4⟩ := H
  refine ⟨fun j hj => ?_, fun j x hj hx => h2 j x hj ?_, h3, h4⟩
  · obtain ⟨a1, a2, a3, a4⟩ := h1 j hj
    by_cases e : j = s
    · subst e
      rw [hl_upN_s, pk_us]
      exact ⟨by omega, a2, rfl, a4⟩
    · rw [hl_upN_n _ _ e, pk_un e]
      exact ⟨a1, a2, a3, a4⟩
  · by_cases e : j = s
    · subst e; rw [hl_upN_s] at hx; omega
    · rw [hl_upN_n _ _ e] at hx; exact hx
theorem hx_Xnp (H : hl_X nc np cw pw cc cA cB sm pc pA pB iL dv) {s v : Nat} (hv : v ≤ np s) : hl_X nc (hl_upN np s v) cw pw cc cA cB sm (upd pc s (nI v)) pA pB iL dv := by
  obtain ⟨h1, h2, h3, h4⟩ := H
  refine ⟨fun j hj => ?_, h2, fun j x hj hx => h3 j x hj ?_, h4⟩
  · obtain ⟨a1, a2, a3, a4⟩ := h1 j hj
    by_cases e : j = s
    · subst e
      rw [hl_upN_s, pk_us]
      exact ⟨a1, by omega, a3, rfl⟩
    · rw [hl_upN_n _ _ e, pk_un e]
      exact ⟨a1, a2, a3, a4⟩
  · by_cases e : j = s
    · subst e; rw [hl_upN_s] at hx; omega
    · rw [hl_upN_n _ _ e] at hx; exact hx
theorem hx_cond {post : Int32 → SX → Prop} (H : hl_X nc np cw pw cc cA cB sm pc pA pB iL dv) {s w : Nat} (hs : s < 2) (hw : w < 72)
    (K0 : nc s = 8 → post (-2) (cc, cA, cB, sm, pc, pA, pB, iL, dv, lt, lg, ep, us)) (K1 : nc s < 8 → ∀ cc cA cB sm : Nat → Int32, hl_X (hl_upN nc s (nc s + 1)) np (hl_upW cw s (nc s) w) pw cc cA cB sm pc pA pB iL dv → post (nI (nc s + 1)) (cc, cA, cB, sm, pc, pA, pB, iL, dv, lt, lg, ep, us)) : wpX_condition post (cc, cA, cB, sm, pc, pA, pB, iL, dv, lt, lg, ep, us) (nI s) (nI (w % 36 / 6)) (nI (w % 6)) (hl_bI (decide (w < 36))) := by
  obtain ⟨h8, h6, ec, _⟩ := H.1 s hs
  unfold wpX_condition
  dsimp only
  refine hx_ba hs (by omega) (by omega) (br_t rfl ⟨hl_in2 hs, ?_⟩)
  rw [hl_c2 hs, ec]
  refine nm_e (pk_eq (nc s) 8 (fun z => K0 z) (fun z => ?_))
  have hin : vp_in (nI (8 * s + nc s)) 16 := vp_in_nI (by omega) (by decide)
  rw [hl_i8, nI_clamp (show 8 * s + nc s < 2 ^ 31 by omega), hl_vb, nI_1]
  exact ⟨hin, nm_e ⟨hin, nm_e ⟨hin, nm_e ⟨hl_in2 hs, nm_e (K1 (by omega) _ _ _ _ (hx_Xc H hs (by omega) hw))⟩⟩⟩⟩
theorem hx_part {post : Int32 → SX → Prop} (H : hl_X nc np cw pw cc cA cB sm pc pA pB iL dv) {s w : Nat} (hs : s < 2) (hw : w < 72)
    (K0 : np s = 6 → post (-2) (cc, cA, cB, sm, pc, pA, pB, iL, dv, lt, lg, ep, us)) (K1 : np s < 6 → ∀ pc pA pB iL : Nat → Int32, hl_X nc (hl_upN np s (np s + 1)) cw (hl_upW pw s (np s) w) cc cA cB sm pc pA pB iL dv → post (nI (np s + 1)) (cc, cA, cB, sm, pc, pA, pB, iL, dv, lt, lg, ep, us)) : wpX_part post (cc, cA, cB, sm, pc, pA, pB, iL, dv, lt, lg, ep, us) (nI s) (nI (w % 36 / 6)) (nI (w % 6)) (hl_bI (decide (36 ≤ w))) := by
  obtain ⟨h8, h6, _, ec⟩ := H.1 s hs
  unfold wpX_part
  dsimp only
  refine hx_ba hs (by omega) (by omega) (br_t rfl ⟨hl_in2 hs, ?_⟩)
  rw [hl_c2 hs, ec]
  refine nm_e (pk_eq (np s) 6 (fun z => K0 z) (fun z => ?_))
  have hin : vp_in (nI (6 * s + np s)) 12 := vp_in_nI (by omega) (by decide)
  rw [hl_i6, nI_clamp (show 6 * s + np s < 2 ^ 31 by omega), hl_vb, nI_1]
  exact ⟨hin, nm_e ⟨hin, nm_e ⟨hin, nm_e ⟨hl_in2 hs, nm_e (K1 (by omega) _ _ _ _ (hx_Xp H hs (by omega) hw))⟩⟩⟩⟩
theorem hx_condB {post : Int32 → SX → Prop} {v1 v2 v3 p : Int32} (hv : hl_bad v1 v2 v3) (K : post (-1) (cc, cA, cB, sm, pc, pA, pB, iL, dv, lt, lg, ep, us)) : wpX_condition post (cc, cA, cB, sm, pc, pA, pB, iL, dv, lt, lg, ep, us) v1 v2 v3 p := by
  unfold wpX_condition
  dsimp only
  exact hx_ba1 hv (br_f hl_10 K)
theorem hx_partB {post : Int32 → SX → Prop} {v1 v2 v3 p : Int32} (hv : hl_bad v1 v2 v3) (K : post (-1) (cc, cA, cB, sm, pc, pA, pB, iL, dv, lt, lg, ep, us)) : wpX_part post (cc, cA, cB, sm, pc, pA, pB, iL, dv, lt, lg, ep, us) v1 v2 v3 p := by
  unfold wpX_part
  dsimp only
  exact hx_ba1 hv (br_f hl_10 K)
theorem hl_pr {n : Nat} (h : n ≠ 0) : nI n - 1 = nI (n - 1) := by
  obtain ⟨m, rfl⟩ : ∃ m, n = m + 1 := ⟨n - 1, by omega⟩
  exact nI_pred m
theorem hx_drc {post : Int32 → SX → Prop} (H : hl_X nc np cw pw cc cA cB sm pc pA pB iL dv) {s : Nat} (hs : s < 2) (K0 : nc s = 0 → post (-3) (cc, cA, cB, sm, pc, pA, pB, iL, dv, lt, lg, ep, us)) (K1 : nc s ≠ 0 → ∀ cc : Nat → Int32, hl_X (hl_upN nc s (nc s - 1)) np cw pw cc cA cB sm pc pA pB iL dv → post (nI (nc s - 1)) (cc, cA, cB, sm, pc, pA, pB, iL, dv, lt, lg, ep, us)) : wpX_drop post (cc, cA, cB, sm, pc, pA, pB, iL, dv, lt, lg, ep, us) (nI s) (nI 0) := by
  obtain ⟨h8, h6, ec, _⟩ := H.1 s hs
  unfold wpX_drop
  dsimp only
  refine hx_bc hs (br_t rfl (br_f (by decide) (br_t (by decide) (br_t (by decide) ⟨hl_in2 hs, ?_⟩))))
  unfold wX_drop_38
  rw [hl_c2 hs, ec]
  refine pk_eq (nc s) 0 (fun z => K0 z) (fun z => br_t (by decide) ⟨hl_in2 hs, ?_⟩)
  rw [hl_pr z]
  exact nm_e (K1 z _ (hx_Xnc H (by omega)))
theorem hx_drp {post : Int32 → SX → Prop} (H : hl_X nc np cw pw cc cA cB sm pc pA pB iL dv) {s : Nat} (hs : s < 2) (K0 : np s = 0 → post (-3) (cc, cA, cB, sm, pc, pA, pB, iL, dv, lt, lg, ep, us)) (K1 : np s ≠ 0 → ∀ pc : Nat → Int32, hl_X nc (hl_upN np s (np s - 1)) cw pw cc cA cB sm pc pA pB iL dv → post (nI (np s - 1)) (cc, cA, cB, sm, pc, pA, pB, iL, dv, lt, lg, ep, us)) : wpX_drop post (cc, cA, cB, sm, pc, pA, pB, iL, dv, lt, lg, ep, us) (nI s) (nI 1) := by
  obtain ⟨h8, h6, _, ec⟩ := H.1 s hs
  unfold wpX_drop
  dsimp only
  refine hx_bc hs (br_t rfl (br_f (by decide) (br_t (by decide) (br_f (by decide) ⟨hl_in2 hs, ?_⟩))))
  unfold wX_drop_38
  rw [hl_c2 hs, ec]
  refine pk_eq (np s) 0 (fun z => K0 z) (fun z => br_f (by decide) ⟨hl_in2 hs, ?_⟩)
  rw [hl_pr z]
  exact nm_e (K1 z _ (hx_Xnp H (by omega)))
theorem hx_drB {post : Int32 → SX → Prop} {s : Nat} (hs : s < 2) {v : Int32} (hv : v < 0 ∨ (¬ v < 0 ∧ ¬ v ≤ 1)) (K : post (-1) (cc, cA, cB, sm, pc, pA, pB, iL, dv, lt, lg, ep, us)) : wpX_drop post (cc, cA, cB, sm, pc, pA, pB, iL, dv, lt, lg, ep, us) (nI s) v := by
  unfold wpX_drop
  dsimp only
  rcases hv with z | ⟨z1, z2⟩
  · exact hx_bc hs (br_t rfl (br_t z K))
  · exact hx_bc hs (br_t rfl (br_f z1 (br_f z2 K)))
theorem hx_drB1 {post : Int32 → SX → Prop} {v1 v2 : Int32} (hv : v1 < 0 ∨ (¬ v1 < 0 ∧ ¬ v1 ≤ 1)) (K : post (-1) (cc, cA, cB, sm, pc, pA, pB, iL, dv, lt, lg, ep, us)) : wpX_drop post (cc, cA, cB, sm, pc, pA, pB, iL, dv, lt, lg, ep, us) v1 v2 := by
  unfold wpX_drop
  dsimp only
  exact hx_bc1 hv (br_f hl_10 K)
theorem hx_cl {post : Int32 → SX → Prop} (H : hl_X nc np cw pw cc cA cB sm pc pA pB iL dv) {s : Nat} (hs : s < 2) (K : ∀ cc pc : Nat → Int32, hl_X (hl_upN nc s 0) (hl_upN np s 0) cw pw cc cA cB sm pc pA pB iL dv → post (nI (nc s + np s)) (cc, cA, cB, sm, pc, pA, pB, iL, dv, lt, lg, ep, us)) : wpX_clear post (cc, cA, cB, sm, pc, pA, pB, iL, dv, lt, lg, ep, us) (nI s) := by
  obtain ⟨h8, h6, ec, ep'⟩ := H.1 s hs
  unfold wpX_clear
  dsimp only
  refine hx_bc hs (br_t rfl ⟨hl_in2 hs, hl_in2 hs, ?_⟩)
  rw [hl_c2 hs, ec, ep', nI_add]
  exact nm_e ⟨hl_in2 hs, nm_e ⟨hl_in2 hs, nm_e (K _ _ (hx_Xnp (hx_Xnc H (Nat.zero_le _)) (Nat.zero_le _)))⟩⟩
theorem hx_clB {post : Int32 → SX → Prop} {v1 : Int32} (hv : v1 < 0 ∨ (¬ v1 < 0 ∧ ¬ v1 ≤ 1)) (K : post (-1) (cc, cA, cB, sm, pc, pA, pB, iL, dv, lt, lg, ep, us)) : wpX_clear post (cc, cA, cB, sm, pc, pA, pB, iL, dv, lt, lg, ep, us) v1 := by
  unfold wpX_clear
  dsimp only
  exact hx_bc1 hv (br_f hl_10 K)
theorem hx_sw1 {post : SX → Prop} {i : Nat} (hi : i < 8) (K : post (cc, (hl_sw cA 8 (i + 1)), (hl_sw cB 8 (i + 1)), (hl_sv sm 8 (i + 1)), pc, pA, pB, iL, dv, lt, lg, ep, us)) : wpX_swapConditions post (cc, (hl_sw cA 8 i), (hl_sw cB 8 i), (hl_sv sm 8 i), pc, pA, pB, iL, dv, lt, lg, ep, us) (nI i) := by
  have h1 : vp_in (nI i) 16 := vp_in_nI (by omega) (by decide)
  have h2 : vp_in (nI (8 + i)) 16 := vp_in_nI (by omega) (by decide)
  unfold wpX_swapConditions
  dsimp only
  rw [hl_a8, nI_clamp (show i < 2 ^ 31 by omega), nI_clamp (show 8 + i < 2 ^ 31 by omega)]
  refine ⟨h1, nm_e ⟨h1, nm_e ⟨h1, nm_e ⟨h2, h1, nm_e ⟨h2, h1, nm_e ⟨h2, h1, nm_e ⟨h2, nm_e ⟨h2, nm_e ⟨h2, nm_e ?_⟩⟩⟩⟩⟩⟩⟩⟩⟩
  rw [hl_sw_s cA hi, hl_sw_s cB hi, hl_sv_s sm hi]
  exact K
theorem hx_sw2 {post : SX → Prop} {i : Nat} (hi : i < 6) (K : post (cc, cA, cB, sm, pc, (hl_sw pA 6 (i + 1)), (hl_sw pB 6 (i + 1)), (hl_sv iL 6 (i + 1)), dv, lt, lg, ep, us)) : wpX_swapParts post (cc, cA, cB, sm, pc, (hl_sw pA 6 i), (hl_sw pB 6 i), (hl_sv iL 6 i), dv, lt, lg, ep, us) (nI i) := by
  have h1 : vp_in (nI i) 12 := vp_in_nI (by omega) (by decide)
  have h2 : vp_in (nI (6 + i)) 12 := vp_in_nI (by omega) (by decide)
  unfold wpX_swapParts
  dsimp only
  rw [hl_a6, nI_clamp (show i < 2 ^ 31 by omega), nI_clamp (show 6 + i < 2 ^ 31 by omega)]
  refine ⟨h1, nm_e ⟨h1, nm_e ⟨h1, nm_e ⟨h2, h1, nm_e ⟨h2, h1, nm_e ⟨h2, h1, nm_e ⟨h2, nm_e ⟨h2, nm_e ⟨h2, nm_e ?_⟩⟩⟩⟩⟩⟩⟩⟩⟩
  rw [hl_sw_s pA hi, hl_sw_s pB hi, hl_sv_s iL hi]
  exact K
theorem hx_swpl {post : SX → Prop} (K : post ((upd (upd cc 0 (cc 1)) 1 (cc 0)), cA, cB, sm, (upd (upd pc 0 (pc 1)) 1 (pc 0)), (hl_sw pA 6 6), (hl_sw pB 6 6), (hl_sv iL 6 6), dv, lt, lg, ep, us)) :
    ∀ m i, i ≤ 6 → 6 - i < m → wX_swap_21 post m (nI i) cc cA cB sm pc (hl_sw pA 6 i) (hl_sw pB 6 i) (hl_sv iL 6 i) dv lt lg ep us := by
  intro m
  induction m with
  | zero => intro i _ h; omega
  | succ m ih =>
    intro i hi hm
    rw [wX_swap_21]
    dsimp only
    by_cases e : i = 6
    · subst e
      exact br_t hl_6y (nm_e (nm_e (nm_e (nm_e (nm_e (nm_e K))))))
    · exact br_f (hl_6n (by omega)) (hx_sw2 (by omega) (nm_r (nI_1 i) (ih (i + 1) (by omega) (by omega))))
theorem hx_swcl {post : SX → Prop} (K : post ((upd (upd cc 0 (cc 1)) 1 (cc 0)), (hl_sw cA 8 8), (hl_sw cB 8 8), (hl_sv sm 8 8), (upd (upd pc 0 (pc 1)) 1 (pc 0)), (hl_sw pA 6 6), (hl_sw pB 6 6), (hl_sv iL 6 6), dv, lt, lg, ep, us)) :
    ∀ m i, i ≤ 8 → 8 - i < m → wX_swap_2 post m (nI i) cc (hl_sw cA 8 i) (hl_sw cB 8 i) (hl_sv sm 8 i) pc pA pB iL dv lt lg ep us := by
  intro m
  induction m with
  | zero => intro i _ h; omega
  | succ m ih =>
    intro i hi hm
    rw [wX_swap_2]
    dsimp only
    by_cases e : i = 8
    · subst e
      have z := hx_swpl K 7 0 (by omega) (by omega)
      rw [hl_sw_0, hl_sw_0, hl_sv_0] at z
      exact br_t (by decide) ⟨7, z⟩
    · exact br_f (nI_ge (b := 8) (by omega) (by decide)) (hx_sw1 (by omega) (nm_r (nI_1 i) (ih (i + 1) (by omega) (by omega))))
def hl_oth (s : Nat) : Nat := 1 - s
theorem hx_Xs (H : hl_X nc np cw pw cc cA cB sm pc pA pB iL dv) : hl_X (fun s => nc (hl_oth s)) (fun s => np (hl_oth s)) (fun s => cw (hl_oth s)) (fun s => pw (hl_oth s)) (upd (upd cc 0 (cc 1)) 1 (cc 0)) (hl_sw cA 8 8) (hl_sw cB 8 8) (hl_sv sm 8 8) (upd (upd pc 0 (pc 1)) 1 (pc 0)) (hl_sw pA 6 6) (hl_sw pB 6 6) (hl_sv iL 6 6) dv := by
  obtain ⟨h1, h2, h3, h4⟩ := H
  refine ⟨fun j hj => ?_, fun j x hj hx => ?_, fun j x hj hx => ?_, h4⟩
  · have c : j = 0 ∨ j = 1 := by omega
    rcases c with rfl | rfl
    · exact h1 1 (by omega)
    · exact h1 0 (by omega)
  · have c : j = 0 ∨ j = 1 := by omega
    rcases c with rfl | rfl
    · have hx' : x < nc 1 := hx
      obtain ⟨b, _⟩ := h1 1 (by omega)
      obtain ⟨a1, a2, a3, a4⟩ := h2 1 x (by omega) hx'
      rw [show 8 * 0 + x = x by omega, hl_sw_lo _ (by omega), hl_sw_lo _ (by omega), hl_sv_lo _ (by omega)]
      refine ⟨a1, a2, a3, ?_⟩
      show vp_nar .boolean (sm (8 + x)) = _
      rw [show sm (8 + x) = _ from a4, hl_vb]; rfl
    · have hx' : x < nc 0 := hx
      obtain ⟨b, _⟩ := h1 0 (by omega)
      have a := h2 0 x (by omega) hx'
      rw [show 8 * 0 + x = x by omega] at a
      obtain ⟨a1, a2, a3, a4⟩ := a
      rw [show 8 * 1 + x = 8 + x by omega, hl_sw_hi _ (by omega), hl_sw_hi _ (by omega), hl_sv_hi _ (by omega)]
      refine ⟨a1, a2, a3, ?_⟩
      rw [a4, hl_vb]; rfl
  · have c : j = 0 ∨ j = 1 := by omega
    rcases c with rfl | rfl
    · have hx' : x < np 1 := hx
      obtain ⟨_, b, _⟩ := h1 1 (by omega)
      obtain ⟨a1, a2, a3, a4⟩ := h3 1 x (by omega) hx'
      rw [show 6 * 0 + x = x by omega, hl_sw_lo _ (by omega), hl_sw_lo _ (by omega), hl_sv_lo _ (by omega)]
      refine ⟨a1, a2, a3, ?_⟩
      show vp_nar .boolean (iL (6 + x)) = _
      rw [show iL (6 + x) = _ from a4, hl_vb]; rfl
    · have hx' : x < np 0 := hx
      obtain ⟨_, b, _⟩ := h1 0 (by omega)
      have a := h3 0 x (by omega) hx'
      rw [show 6 * 0 + x = x by omega] at a
      obtain ⟨a1, a2, a3, a4⟩ := a
      rw [show 6 * 1 + x = 6 + x by omega, hl_sw_hi _ (by omega), hl_sw_hi _ (by omega), hl_sv_hi _ (by omega)]
      refine ⟨a1, a2, a3, ?_⟩
      rw [a4, hl_vb]; rfl
theorem hx_sw {post : SX → Prop} (H : hl_X nc np cw pw cc cA cB sm pc pA pB iL dv) (K : ∀ cc cA cB sm pc pA pB iL : Nat → Int32, hl_X (fun s => nc (hl_oth s)) (fun s => np (hl_oth s)) (fun s => cw (hl_oth s)) (fun s => pw (hl_oth s)) cc cA cB sm pc pA pB iL dv → post (cc, cA, cB, sm, pc, pA, pB, iL, dv, lt, lg, ep, us)) : wpX_swap post (cc, cA, cB, sm, pc, pA, pB, iL, dv, lt, lg, ep, us) := by
  unfold wpX_swap
  dsimp only
  have z := hx_swcl (lt := lt) (lg := lg) (ep := ep) (us := us) (K _ _ _ _ _ _ _ _ (hx_Xs H)) 9 0 (by omega) (by omega)
  rw [hl_sw_0, hl_sw_0, hl_sv_0] at z
  exact ⟨9, z⟩
end
end
section
/-! Y: arguments, groups, conditions, parts, build -/
theorem hl_w1 {w : Nat} (h : w < 72) : (nI w - nI w / 36 * 36) / 6 = nI (w % 36 / 6) := by
  have e1 : nI w - nI w / 36 * 36 = nI (w % 36) := pk_rem (d := 36) (by omega) (by omega) (by omega)
  rw [e1]
  exact pk_div (d := 6) (by omega) (by omega) (by omega)
theorem hl_w2 {w : Nat} (h : w < 72) : nI w - nI w / 6 * 6 = nI (w % 6) := pk_rem (d := 6) (by omega) (by omega) (by omega)
theorem hl_36 : ¬ (36 : Int32) = 0 := by decide
theorem hl_60 : ¬ (6 : Int32) = 0 := by decide
theorem hl_EY_lt {f : Nat → Option Nat} {ho : Nat → Int32} (h : hl_EY f ho) {g : Nat} (hg : g < 7) {A B : Prop} (h0 : f g = none → A) (h1 : ∀ t, f g = some t → B) : (ho g < 0 → A) ∧ (¬ ho g < 0 → B) := by
  have e := h.1 g hg
  cases ef : f g with
  | none =>
    rw [ef] at e
    rw [e]
    exact br_t hl_m1l (h0 ef)
  | some t =>
    rw [ef] at e
    rw [e]
    exact br_f (hl_nn0 t (by have := (h.2 g t ef).2; omega)) (h1 t ef)
theorem hl_EY_ge {f : Nat → Option Nat} {ho : Nat → Int32} (h : hl_EY f ho) {g : Nat} (hg : g < 7) {A B : Prop} (h0 : f g = none → A) (h1 : ∀ t, f g = some t → B) : (0 ≤ ho g → B) ∧ (¬ 0 ≤ ho g → A) := by
  have e := h.1 g hg
  cases ef : f g with
  | none =>
    rw [ef] at e
    rw [e]
    exact br_f hl_m1n (h0 ef)
  | some t =>
    rw [ef] at e
    rw [e]
    exact br_t (hl_nl0 t (by have := (h.2 g t ef).2; omega)) (h1 t ef)
def hl_putf (f : Nat → Option Nat) (g t : Nat) : Nat → Option Nat := fun x => if x = g then some t else f x
theorem hl_EY_put {f : Nat → Option Nat} {ho : Nat → Int32} (h : hl_EY f ho) {g t : Nat} (hg : g < 7) (ht : t < 7) : hl_EY (hl_putf f g t) (upd ho g (nI t)) := by
  refine ⟨fun x hx => ?_, fun x t' z => ?_⟩
  · by_cases e : x = g
    · subst e
      rw [pk_us]; unfold hl_putf; rw [if_pos rfl]; rfl
    · rw [pk_un e]; unfold hl_putf; rw [if_neg e]; exact h.1 x hx
  · unfold hl_putf at z
    by_cases e : x = g
    · subst e
      rw [if_pos rfl] at z
      rw [← Option.some.inj z]
      exact ⟨hg, ht⟩
    · rw [if_neg e] at z
      exact h.2 x t' z
theorem hl_f_put (F : HG) (g t : Nat) (l : Bool) : hl_f (hl_put F g t l) = hl_putf (hl_f F) g t := by
  funext x
  unfold hl_f hl_put hl_putf
  by_cases e : x = g
  · rw [if_pos e, if_pos e]; rfl
  · rw [if_neg e, if_neg e]
section
variable {nl : Int32} {cd ct pt pn dg ho ud : Nat → Int32} {nc np : Nat → Nat} {cw pw : Nat → Nat → Nat}
theorem hy_ic {post : Int32 → Prop} {u : SY} {s : Nat} (hs : s < 2) (h : post 1) : wpY_isClaim post u (nI s) := by
  unfold wpY_isClaim
  dsimp only
  have c : s = 0 ∨ s = 1 := by omega
  rcases c with rfl | rfl
  · exact br_t rfl h
  · exact br_f (by decide) (br_t rfl h)
theorem hy_ic0 {post : Int32 → Prop} {u : SY} {v : Int32} (h0 : ¬ v = 0) (h1 : ¬ v = 1) (h : post 0) : wpY_isClaim post u v := by
  unfold wpY_isClaim
  dsimp only
  exact br_f h0 (br_f h1 h)
theorem hy_in {post : Int32 → Prop} {u : SY} {t : Nat} (ht : t < 6) (h : post 1) : wpY_isName post u (nI t) := by
  unfold wpY_isName
  dsimp only
  exact br_f (nI_pos (by omega)) (br_f (nI_nlt (b := t) (a := 5) (by omega) (by decide)) h)
theorem hy_in0 {post : Int32 → Prop} {u : SY} {v : Int32} (hv : v < 0 ∨ (¬ v < 0 ∧ ¬ v < 6 ∧ 5 < v)) (h : post 0) : wpY_isName post u v := by
  unfold wpY_isName
  dsimp only
  rcases hv with z | ⟨z1, _, z2⟩
  · exact br_t z h
  · exact br_f z1 (br_t z2 h)
theorem hy_g {post : Int32 → Prop} (H : hl_Y nc np cw pw cd ct pt pn dg) {d t : Nat} (hd : d < 203) (ht : t < 6) (h : post (nI (hl_G (hl_p d) t))) : wpY_group post (nl, cd, ct, pt, pn, dg, ho, ud) (nI d) (nI t) := by
  unfold wpY_group
  dsimp only
  rw [nI_clamp (show d < 2 ^ 31 by omega), H.2.2.2 d t hd ht]
  exact ⟨vp_in_nI hd (by decide), h⟩
theorem hy_fr {post : Int32 → Prop} (H : hl_Y nc np cw pw cd ct pt pn dg) {s d i : Nat} (hs : s < 2) (hd : d < 203) (hi : i < np s) (h : post (nI (hl_fr (hl_G (hl_p d)) (pw s i)))) : wpY_from post (nl, cd, ct, pt, pn, dg, ho, ud) (nI s) (nI d) (nI i) := by
  obtain ⟨h8, h6, _, _⟩ := H.1 s hs
  obtain ⟨w72, ew⟩ := H.2.2.1 s i hs hi
  unfold wpY_from
  dsimp only
  rw [hl_i6, nI_clamp (show 6 * s + i < 2 ^ 31 by omega), ew, hl_w1 w72]
  exact ⟨vp_in_nI (by omega) (by decide), hl_36, hl_60, hy_g H hd (by omega) h⟩
theorem hy_to {post : Int32 → Prop} (H : hl_Y nc np cw pw cd ct pt pn dg) {s d i : Nat} (hs : s < 2) (hd : d < 203) (hi : i < np s) (h : post (nI (hl_to (hl_G (hl_p d)) (pw s i)))) : wpY_to post (nl, cd, ct, pt, pn, dg, ho, ud) (nI s) (nI d) (nI i) := by
  obtain ⟨h8, h6, _, _⟩ := H.1 s hs
  obtain ⟨w72, ew⟩ := H.2.2.1 s i hs hi
  unfold wpY_to
  dsimp only
  rw [hl_i6, nI_clamp (show 6 * s + i < 2 ^ 31 by omega), ew, hl_w2 w72]
  exact ⟨vp_in_nI (by omega) (by decide), hl_60, hy_g H hd (by omega) h⟩
theorem hy_ie {post : Int32 → Prop} (H : hl_Y nc np cw pw cd ct pt pn dg) {s d i : Nat} (hs : s < 2) (hd : d < 203) (hi : i < np s) (h : post (hl_bI (decide (36 ≤ pw s i ∧ hl_fr (hl_G (hl_p d)) (pw s i) = hl_to (hl_G (hl_p d)) (pw s i))))) : wpY_isEmpty post (nl, cd, ct, pt, pn, dg, ho, ud) (nI s) (nI d) (nI i) := by
  obtain ⟨h8, h6, _, _⟩ := H.1 s hs
  obtain ⟨w72, ew⟩ := H.2.2.1 s i hs hi
  have l1 : hl_fr (hl_G (hl_p d)) (pw s i) < 6 := hl_fr_lt (hl_Grow (hl_p203 d hd)) _
  have l2 : hl_to (hl_G (hl_p d)) (pw s i) < 6 := hl_to_lt (hl_Grow (hl_p203 d hd)) _
  unfold wpY_isEmpty
  dsimp only
  rw [hl_i6, nI_clamp (show 6 * s + i < 2 ^ 31 by omega), ew]
  refine ⟨vp_in_nI (by omega) (by decide), pk_lt (pw s i) 36 (fun z => ?_) (fun z => ?_)⟩
  · rw [decide_eq_false (by omega)] at h; exact h
  · refine hy_fr H hs hd hi (hy_to H hs hd hi (pk_eq (hl_fr (hl_G (hl_p d)) (pw s i)) (hl_to (hl_G (hl_p d)) (pw s i)) (fun y => ?_) (fun y => ?_)))
    · rw [decide_eq_true ⟨z, y⟩] at h; exact h
    · rw [decide_eq_false (fun q => y q.2)] at h; exact h
theorem hy_al72 {post : Int32 → Prop} {J : Int32 → Prop} {x1 x2 : Int32} {i : Nat} {a b : Bool} (h0 : a = b → post 0) (h1 : a ≠ b → J (nI (i + 1))) : wY_allows_72 post J x1 x2 (nI i) (hl_bI b) (hl_bI a) nl cd ct pt pn dg ho ud := by
  unfold wY_allows_72
  cases a <;> cases b
  · exact br_t rfl (h0 rfl)
  · exact br_f hl_01 (nm_r (nI_1 i) (h1 (by decide)))
  · exact br_f hl_10 (nm_r (nI_1 i) (h1 (by decide)))
  · exact br_t rfl (h0 rfl)
theorem hy_all {post : Int32 → Prop} (H : hl_Y nc np cw pw cd ct pt pn dg) {s d : Nat} (hs : s < 2) (hd : d < 203) (K : post (hl_bI (hl_cd (hl_G (hl_p d)) (cw s) (nc s)))) :
    ∀ m i, i ≤ nc s → nc s - i < m → hl_cd (hl_G (hl_p d)) (cw s) i = true → wY_allows_2 post (nI s) (nI d) nl cd ct pt pn dg ho ud m (nI i) := by
  obtain ⟨h8, h6, ec, _⟩ := H.1 s hs
  intro m
  induction m with
  | zero => intro i _ h; omega
  | succ m ih =>
    intro i hi hm hc
    rw [wY_allows_2]
    dsimp only
    rw [hl_c2 hs, ec]
    refine ⟨hl_in2 hs, ?_⟩
    by_cases e : i = nc s
    · subst e
      rw [hc] at K
      exact br_t (nI_le (by omega) (by omega)) K
    · obtain ⟨w72, ew⟩ := H.2.1 s i hs (by omega)
      have l1 : hl_fr (hl_G (hl_p d)) (cw s i) < 6 := hl_fr_lt (hl_Grow (hl_p203 d hd)) _
      have l2 : hl_to (hl_G (hl_p d)) (cw s i) < 6 := hl_to_lt (hl_Grow (hl_p203 d hd)) _
      rw [hl_i8, nI_clamp (show 8 * s + i < 2 ^ 31 by omega), ew]
      refine br_f (nI_ge (by omega) (by omega)) ⟨vp_in_nI (by omega) (by decide), nm_e ⟨hl_36, hl_60, ?_⟩⟩
      rw [hl_w1 w72, hl_w2 w72]
      have e2 : hl_cd (hl_G (hl_p d)) (cw s) (i + 1) = (decide (hl_fr (hl_G (hl_p d)) (cw s i) = hl_to (hl_G (hl_p d)) (cw s i)) == decide (cw s i < 36)) := by
        show (hl_cd _ _ i && _) = _
        rw [hc]; rfl
      have go : ∀ a : Bool, decide (hl_fr (hl_G (hl_p d)) (cw s i) = hl_to (hl_G (hl_p d)) (cw s i)) = a → wY_allows_56 post (wY_allows_2 post (nI s) (nI d) nl cd ct pt pn dg ho ud m) (nI s) (nI d) (nI i) (nI (cw s i)) (hl_bI a) nl cd ct pt pn dg ho ud := by
        intro a ha
        rw [ha] at e2
        have fin : ∀ b : Bool, decide (cw s i < 36) = !b → wY_allows_72 post (wY_allows_2 post (nI s) (nI d) nl cd ct pt pn dg ho ud m) (nI s) (nI d) (nI i) (hl_bI b) (hl_bI a) nl cd ct pt pn dg ho ud := by
          intro b hb
          rw [hb] at e2
          refine hy_al72 (fun z => ?_) (fun z => ?_)
          · have e3 : hl_cd (hl_G (hl_p d)) (cw s) (i + 1) = false := by rw [e2, z]; cases b <;> rfl
            rw [hl_cd_n e3 (nc s) (by omega)] at K
            exact K
          · refine ih (i + 1) (by omega) (by omega) ?_
            rw [e2]
            cases a <;> cases b <;> first | rfl | exact absurd rfl z
        unfold wY_allows_56
        exact pk_lt (cw s i) 36 (fun z => fin false (decide_eq_true z)) (fun z => fin true (decide_eq_false (by omega)))
      refine hy_g H hd (by omega) ⟨hl_60, hy_g H hd (by omega) (pk_eq (hl_fr (hl_G (hl_p d)) (cw s i)) (hl_to (hl_G (hl_p d)) (cw s i)) (fun z => ?_) (fun z => ?_))⟩
      · exact go true (decide_eq_true z)
      · exact go false (decide_eq_false z)
theorem hy_al {post : Int32 → Prop} (H : hl_Y nc np cw pw cd ct pt pn dg) {s d : Nat} (hs : s < 2) (hd : d < 203) (K : post (hl_bI (hl_cd (hl_G (hl_p d)) (cw s) (nc s)))) : wpY_allows post (nl, cd, ct, pt, pn, dg, ho, ud) (nI s) (nI d) := by
  unfold wpY_allows
  dsimp only
  exact ⟨nc s + 1, hy_all H hs hd K (nc s + 1) 0 (by omega) (by omega) rfl⟩
theorem hy_b44 {post : Int32 → SY → Prop} (H : hl_Y nc np cw pw cd ct pt pn dg) {s d : Nat} (hs : s < 2) (hd : d < 203)
    (K0 : hl_bd (hl_G (hl_p d)) (pw s) hl_E (np s) = none → ∀ ho : Nat → Int32, post 0 ((nI (hl_G (hl_p d) 5)), cd, ct, pt, pn, dg, ho, ud)) (K1 : ∀ F, hl_bd (hl_G (hl_p d)) (pw s) hl_E (np s) = some F → ∀ ho : Nat → Int32, hl_EY (hl_f F) ho → post 1 ((nI (hl_G (hl_p d) 5)), cd, ct, pt, pn, dg, ho, ud)) :
    ∀ m i F (ho : Nat → Int32), i ≤ np s → np s - i < m → hl_bd (hl_G (hl_p d)) (pw s) hl_E i = some F → hl_EY (hl_f F) ho → wY_build_44 post (nI s) (nI d) (nI (hl_G (hl_p d) 5)) m (nI i) cd ct pt pn dg ho ud := by
  obtain ⟨h8, h6, _, ec⟩ := H.1 s hs
  intro m
  induction m with
  | zero => intro i F ho _ h; omega
  | succ m ih =>
    intro i F ho hi hm hb hE
    rw [wY_build_44]
    dsimp only
    rw [hl_c2 hs, ec]
    refine ⟨hl_in2 hs, ?_⟩
    by_cases e : i = np s
    · subst e
      exact br_t (nI_le (by omega) (by omega)) (K1 F hb _ hE)
    · have hi' : i < np s := by omega
      have l1 : hl_fr (hl_G (hl_p d)) (pw s i) < 6 := hl_fr_lt (hl_Grow (hl_p203 d hd)) _
      have l2 : hl_to (hl_G (hl_p d)) (pw s i) < 6 := hl_to_lt (hl_Grow (hl_p203 d hd)) _
      have l5 := hl_G6 (hl_p d) (hl_p203 d hd) 5 (by omega)
      have hif : vp_in (nI (hl_fr (hl_G (hl_p d)) (pw s i))) 7 := vp_in_nI (by omega) (by decide)
      have st := hl_bd_s hb
      refine br_f (nI_ge (by omega) (by omega)) (hy_fr H hs hd hi' (hy_ie H hs hd hi' (hl_br (fun z => ?_) (fun z => ?_))))
      · have hne := of_decide_eq_false z
        refine pk_eq (hl_fr (hl_G (hl_p d)) (pw s i)) (hl_G (hl_p d) 5) (fun y => ?_) (fun y => ⟨hif, ?_⟩)
        · exact K0 (hl_bd_n (st.trans (hl_stp_n hne (fun q => q.2 y))) _ (by omega)) _
        · rw [nI_clamp (show hl_fr (hl_G (hl_p d)) (pw s i) < 2 ^ 31 by omega)]
          refine hl_EY_lt hE (by omega) (fun q => ?_) (fun t q => ?_)
          · refine hy_to H hs hd hi' ⟨hif, nm_e (nm_r (nI_1 i) (ih (i + 1) _ _ (by omega) (by omega) (st.trans (hl_stp_p hne (hl_f_n.mp q) y)) ?_))⟩
            rw [hl_f_put]
            exact hl_EY_put hE (by omega) (by omega)
          · refine K0 (hl_bd_n (st.trans (hl_stp_n hne (fun w => ?_))) _ (by omega)) _
            rw [hl_f_n.mpr w.1] at q; cases q
      · have he := of_decide_eq_true z
        exact nm_r (nI_1 i) (ih (i + 1) F ho (by omega) (by omega) (st.trans (hl_stp_e he.1 he.2)) hE)
theorem hy_b12 {post : Int32 → SY → Prop} (H : hl_Y nc np cw pw cd ct pt pn dg) {s d : Nat} (hs : s < 2) (hd : d < 203)
    (K0 : hl_L nc np cw pw s (hl_p d) = none → ∀ ho : Nat → Int32, post 0 ((nI (hl_G (hl_p d) 5)), cd, ct, pt, pn, dg, ho, ud)) (K1 : ∀ F, hl_L nc np cw pw s (hl_p d) = some F → ∀ ho : Nat → Int32, hl_EY (hl_f F) ho → post 1 ((nI (hl_G (hl_p d) 5)), cd, ct, pt, pn, dg, ho, ud)) :
    ∀ m g (ho : Nat → Int32), g ≤ 7 → 7 - g < m → (∀ x, x < g → ho x = -1) → wY_build_12 post (nI s) (nI d) (nI (hl_G (hl_p d) 5)) m (nI g) cd ct pt pn dg ho ud := by
  intro m
  induction m with
  | zero => intro g ho _ h; omega
  | succ m ih =>
    intro g ho hg hm h
    rw [wY_build_12]
    dsimp only
    by_cases e : g = 7
    · subst e
      unfold hl_L hl_lay at K0 K1
      refine br_t hl_7y (hy_al H hs hd (hl_br (fun z => ?_) (fun z => ?_)))
      · rw [if_neg (by rw [z]; decide)] at K0
        exact K0 rfl _
      · rw [if_pos z] at K0 K1
        exact ⟨np s + 1, hy_b44 H hs hd K0 K1 (np s + 1) 0 hl_E ho (by omega) (by omega) rfl ⟨fun x hx => h x hx, fun x t q => by cases q⟩⟩
    · refine br_f (hl_7n (by omega)) ⟨vp_in_nI (by omega) (by decide), ?_⟩
      rw [nI_clamp (show g < 2 ^ 31 by omega)]
      refine nm_e (nm_r (nI_1 g) (ih (g + 1) _ (by omega) (by omega) (fun x hx => ?_)))
      by_cases ex : x = g
      · subst ex; exact pk_us
      · rw [pk_un ex]; exact h x (by omega)
theorem hy_b {post : Int32 → SY → Prop} (H : hl_Y nc np cw pw cd ct pt pn dg) {s d : Nat} (hs : s < 2) (hd : d < 203)
    (K0 : hl_L nc np cw pw s (hl_p d) = none → ∀ ho : Nat → Int32, post 0 ((nI (hl_G (hl_p d) 5)), cd, ct, pt, pn, dg, ho, ud)) (K1 : ∀ F, hl_L nc np cw pw s (hl_p d) = some F → ∀ ho : Nat → Int32, hl_EY (hl_f F) ho → post 1 ((nI (hl_G (hl_p d) 5)), cd, ct, pt, pn, dg, ho, ud)) : wpY_build post (nl, cd, ct, pt, pn, dg, ho, ud) (nI s) (nI d) := by
  unfold wpY_build
  dsimp only
  exact hy_g (t := 5) H hd (by omega) ⟨8, hy_b12 H hs hd K0 K1 8 0 ho (by omega) (by omega) (fun x hx => by omega)⟩
end
end
section
/-! Y: possible, divisions, always, held, reaches, least, most, together -/
theorem hl_203c : ¬ (203 : Int32) = 0 := by decide
/-- the set of sources as bits -/
def hl_src (f : Nat → Option Nat) : Nat → Int32
  | 0 => 0
  | n + 1 => if (f n).isSome = true then hl_src f n ||| ((1 : Int32) <<< (nI n &&& 31)) else hl_src f n
theorem hl_bt1 : ∀ j, j < 32 → bt 1 j = decide (j = 0) := by decide +kernel
theorem hl_src_b (f : Nat → Option Nat) : ∀ n, n ≤ 7 → ∀ i, i < 32 → bt (hl_src f n) i = (decide (i < n) && (f i).isSome) := by
  intro n
  induction n with
  | zero => intro _ i _; exact b_0 i
  | succ n ih =>
    intro hn i hi
    have e := ih (by omega) i hi
    have sh : bt ((1 : Int32) <<< (nI n &&& 31)) i = decide (i = n) := by
      rw [b_shl n (by omega) 1 hi]
      by_cases c : n ≤ i
      · rw [decide_eq_true c, hl_bt1 _ (by omega)]
        by_cases c2 : i = n
        · subst c2; simp
        · rw [decide_eq_false c2, decide_eq_false (by omega)]; rfl
      · rw [decide_eq_false c, decide_eq_false (by omega)]; rfl
    show bt (if (f n).isSome = true then _ else _) i = _
    by_cases c : (f n).isSome = true
    · rw [if_pos c, b_or, e, sh]
      by_cases c2 : i = n
      · subst c2; rw [c]; simp
      · rw [decide_eq_false c2]
        by_cases c3 : i < n
        · rw [decide_eq_true c3, decide_eq_true (by omega)]; simp
        · rw [decide_eq_false c3, decide_eq_false (by omega)]; simp
    · rw [if_neg c, e]
      by_cases c2 : i = n
      · subst c2; rw [hl_nt c]; simp
      · by_cases c3 : i < n
        · rw [decide_eq_true c3, decide_eq_true (by omega)]
        · rw [decide_eq_false c3, decide_eq_false (by omega)]
theorem hl_src_n (f : Nat → Option Nat) : ¬ hl_src f 7 < 0 := by
  have h : bt (hl_src f 7) 31 = false := by rw [hl_src_b f 7 (by omega) 31 (by omega)]; rfl
  have m : (hl_src f 7).toBitVec.msb = false := by rw [BitVec.msb_eq_getLsbD_last]; exact h
  rw [BitVec.msb_eq_toInt] at m
  have m2 := of_decide_eq_false m
  intro z
  rw [Int32.lt_iff_toInt_lt] at z
  exact m2 z
theorem hl_src_d (f f' : Nat → Option Nat) : (hl_src f 7 &&& hl_src f' 7) = 0 ↔ ∀ g, g < 7 → f g = none ∨ f' g = none := by
  constructor
  · intro h g hg
    have e : bt (hl_src f 7 &&& hl_src f' 7) g = false := by rw [h]; exact b_0 g
    rw [b_and, hl_src_b f 7 (by omega) g (by omega), hl_src_b f' 7 (by omega) g (by omega), decide_eq_true hg] at e
    cases e1 : f g with
    | none => exact Or.inl rfl
    | some a =>
      cases e2 : f' g with
      | none => exact Or.inr rfl
      | some b => rw [e1, e2] at e; cases e
  · intro h
    refine b_ext (fun i hi => ?_)
    rw [b_and, hl_src_b f 7 (by omega) i hi, hl_src_b f' 7 (by omega) i hi, b_0]
    by_cases c : i < 7
    · rcases h i c with z | z
      · rw [z]; simp
      · rw [z]; simp
    · rw [decide_eq_false c]; rfl
theorem hl_f_is (F : HG) (g : Nat) : (hl_f F g).isSome = (F g).isSome := by
  unfold hl_f
  cases F g <;> rfl
theorem hl_ec7 {F : HG} (h : F 6 = none) : hl_kn (fun g => (hl_f F g).isSome) 7 = hl_ec F 6 := by
  have e : (fun g => (hl_f F g).isSome) = (fun g => (F g).isSome) := by funext g; exact hl_f_is F g
  rw [e]
  exact hl_kn_f (p := fun g => (F g).isSome) (n := 6) (by show (F 6).isSome = false; rw [h]; rfl)
section
variable {nl : Int32} {cd ct pt pn dg ho ud : Nat → Int32} {nc np : Nat → Nat} {cw pw : Nat → Nat → Nat}
theorem hl_Lgf {s k : Nat} (hk : k < 203) {F : HG} (h : hl_L nc np cw pw s k = some F) : hl_GF (hl_G k) (pw s) (np s) F ∧ hl_bd (hl_G k) (pw s) hl_E (np s) = some F ∧ hl_cd (hl_G k) (cw s) (nc s) = true := by
  unfold hl_L hl_lay at h
  by_cases c : hl_cd (hl_G k) (cw s) (nc s) = true
  · rw [if_pos c] at h
    exact ⟨hl_gf (hl_Grow hk) h, h, c⟩
  · rw [if_neg c] at h; cases h
theorem hl_L6 {s k : Nat} (hk : k < 203) {F : HG} (h : hl_L nc np cw pw s k = some F) {g : Nat} (hg : 6 ≤ g) : F g = none := by
  obtain ⟨⟨_, a, _⟩, _⟩ := hl_Lgf hk h
  cases e : F g with
  | none => rfl
  | some p => have := (a g p.1 p.2 e).1; omega
theorem hy_posl {post : Int32 → SY → Prop} (H : hl_Y nc np cw pw cd ct pt pn dg) {s : Nat} (hs : s < 2) (K : ∀ r, hl_is r (∃ d, d < 203 ∧ hl_L nc np cw pw s (hl_p d) ≠ none) → ∀ nl (ho : Nat → Int32), post r (nl, cd, ct, pt, pn, dg, ho, ud)) :
    ∀ m d nl (ho : Nat → Int32), d ≤ 203 → 203 - d < m → (∀ j, j < d → hl_L nc np cw pw s (hl_p j) = none) → wY_possible_12 post (nI s) m (nI d) nl cd ct pt pn dg ho ud := by
  intro m
  induction m with
  | zero => intro d nl ho _ h; omega
  | succ m ih =>
    intro d nl ho hd hm h
    rw [wY_possible_12]
    dsimp only
    by_cases e : d = 203
    · subst e
      exact br_t hl_203' (K 0 (hl_is_f (fun ⟨j, hj, z⟩ => z (h j hj))) _ _)
    · have hd' : d < 203 := by omega
      refine br_f (hl_203 hd') (hy_b H hs hd' (fun z ho => ?_) (fun F z ho _ => ?_))
      · exact br_t rfl (nm_r (nI_1 d) (ih (d + 1) _ _ (by omega) (by omega) (hl_lt_s h z)))
      · exact br_f hl_10 (K 1 (hl_is_t ⟨d, hd', by rw [z]; intro q; cases q⟩) _ _)
theorem hy_pos {post : Int32 → SY → Prop} (H : hl_Y nc np cw pw cd ct pt pn dg) {s : Nat} (hs : s < 2) (K : ∀ r, hl_is r (∃ d, d < 203 ∧ hl_L nc np cw pw s (hl_p d) ≠ none) → ∀ nl (ho : Nat → Int32), post r (nl, cd, ct, pt, pn, dg, ho, ud)) : wpY_possible post (nl, cd, ct, pt, pn, dg, ho, ud) (nI s) := by
  unfold wpY_possible
  dsimp only
  exact hy_ic hs (br_f hl_10 ⟨204, hy_posl H hs K 204 0 _ _ (by omega) (by omega) (fun j hj => by omega)⟩)
theorem hy_divl {post : Int32 → SY → Prop} (H : hl_Y nc np cw pw cd ct pt pn dg) {s : Nat} (hs : s < 2) (K : ∀ nl (ho : Nat → Int32), post (nI (hl_kn (fun d => (hl_L nc np cw pw s (hl_p d)).isSome) 203)) (nl, cd, ct, pt, pn, dg, ho, ud)) :
    ∀ m d nl (ho : Nat → Int32), d ≤ 203 → 203 - d < m → wY_divisions_14 post (nI s) m (nI (hl_kn (fun d => (hl_L nc np cw pw s (hl_p d)).isSome) d)) (nI d) nl cd ct pt pn dg ho ud := by
  intro m
  induction m with
  | zero => intro d nl ho _ h; omega
  | succ m ih =>
    intro d nl ho hd hm
    rw [wY_divisions_14]
    dsimp only
    by_cases e : d = 203
    · subst e
      exact br_t hl_203' (K _ _)
    · have hd' : d < 203 := by omega
      refine br_f (hl_203 hd') (hy_b H hs hd' (fun z ho => ?_) (fun F z ho _ => ?_))
      · have nx := ih (d + 1) (nI (hl_G (hl_p d) 5)) ho (by omega) (by omega)
        rw [hl_kn_f (p := fun d => (hl_L nc np cw pw s (hl_p d)).isSome) (n := d) (by show (hl_L nc np cw pw s (hl_p d)).isSome = false; rw [z]; rfl)] at nx
        exact br_t rfl (nm_r (nI_1 d) nx)
      · have nx := ih (d + 1) (nI (hl_G (hl_p d) 5)) ho (by omega) (by omega)
        rw [hl_kn_t (p := fun d => (hl_L nc np cw pw s (hl_p d)).isSome) (n := d) (by show (hl_L nc np cw pw s (hl_p d)).isSome = true; rw [z]; rfl)] at nx
        exact br_f hl_10 (nm_r (nI_1 _) (nm_r (nI_1 d) nx))
theorem hy_div {post : Int32 → SY → Prop} (H : hl_Y nc np cw pw cd ct pt pn dg) {s : Nat} (hs : s < 2) (K : ∀ nl (ho : Nat → Int32), post (nI (hl_kn (fun d => (hl_L nc np cw pw s (hl_p d)).isSome) 203)) (nl, cd, ct, pt, pn, dg, ho, ud)) : wpY_divisions post (nl, cd, ct, pt, pn, dg, ho, ud) (nI s) := by
  unfold wpY_divisions
  dsimp only
  exact hy_ic hs (br_f hl_10 ⟨204, hy_divl H hs K 204 0 _ _ (by omega) (by omega)⟩)
/-- what always asks of a division -/
def hl_alw (nc np : Nat → Nat) (cw pw : Nat → Nat → Nat) (s a b : Nat) (wn : Bool) (d : Nat) : Prop := decide (hl_G (hl_p d) a = hl_G (hl_p d) b) = wn ∨ hl_L nc np cw pw s (hl_p d) = none
theorem hy_awl {post : Int32 → SY → Prop} (H : hl_Y nc np cw pw cd ct pt pn dg) {s a b : Nat} (hs : s < 2) (ha : a < 6) (hb : b < 6) (wn : Bool) (K : ∀ r, hl_is r (∀ d, d < 203 → hl_alw nc np cw pw s a b wn d) → ∀ nl (ho : Nat → Int32), post r (nl, cd, ct, pt, pn, dg, ho, ud)) :
    ∀ m d nl (ho : Nat → Int32), d ≤ 203 → 203 - d < m → (∀ j, j < d → hl_alw nc np cw pw s a b wn j) → wY_always_3 post (nI s) (nI a) (nI b) (hl_bI wn) m (nI d) nl cd ct pt pn dg ho ud := by
  intro m
  induction m with
  | zero => intro d nl ho _ h; omega
  | succ m ih =>
    intro d nl ho hd hm h
    rw [wY_always_3]
    dsimp only
    by_cases e : d = 203
    · subst e
      exact br_t hl_203' (K 1 (hl_is_t h) _ _)
    · have hd' : d < 203 := by omega
      have l1 := hl_G6 (hl_p d) (hl_p203 d hd') a ha
      have l2 := hl_G6 (hl_p d) (hl_p203 d hd') b hb
      have go : ∀ q : Bool, decide (hl_G (hl_p d) a = hl_G (hl_p d) b) = q → wY_always_33 post (wY_always_3 post (nI s) (nI a) (nI b) (hl_bI wn) m) (nI s) (nI a) (nI b) (hl_bI wn) (nI d) (hl_bI q) nl cd ct pt pn dg ho ud := by
        intro q hq
        unfold wY_always_33
        refine hy_b H hs hd' (fun z ho => ?_) (fun F z ho _ => ?_)
        · exact br_t rfl (nm_r (nI_1 d) (ih (d + 1) _ _ (by omega) (by omega) (hl_lt_s h (Or.inr z))))
        · refine br_f hl_10 ?_
          by_cases c : q = wn
          · subst c
            exact br_t rfl (nm_r (nI_1 d) (ih (d + 1) _ _ (by omega) (by omega) (hl_lt_s h (Or.inl hq))))
          · refine br_f ?_ (K 0 (hl_is_f (fun y => ?_)) _ _)
            · cases q <;> cases wn
              · exact absurd rfl c
              · exact hl_01
              · exact hl_10
              · exact absurd rfl c
            · rcases y d hd' with y | y
              · exact c (hq.symm.trans y)
              · rw [z] at y; cases y
      exact br_f (hl_203 hd') (hy_g H hd' ha (hy_g H hd' hb (pk_eq (hl_G (hl_p d) a) (hl_G (hl_p d) b) (fun z => go true (decide_eq_true z)) (fun z => go false (decide_eq_false z)))))
theorem hy_aw {post : Int32 → SY → Prop} (H : hl_Y nc np cw pw cd ct pt pn dg) {s a b : Nat} (hs : s < 2) (ha : a < 6) (hb : b < 6) (wn : Bool) (K : ∀ r, hl_is r (∀ d, d < 203 → hl_alw nc np cw pw s a b wn d) → ∀ nl (ho : Nat → Int32), post r (nl, cd, ct, pt, pn, dg, ho, ud)) : wpY_always post (nl, cd, ct, pt, pn, dg, ho, ud) (nI s) (nI a) (nI b) (hl_bI wn) := by
  unfold wpY_always
  dsimp only
  exact ⟨204, hy_awl H hs ha hb wn K 204 0 _ _ (by omega) (by omega) (fun j hj => by omega)⟩
theorem hl_is01 {r : Int32} {Q A B : Prop} (h : hl_is r Q) (h0 : ¬ Q → A) (h1 : Q → B) : (r = 0 → A) ∧ (¬ r = 0 → B) := by
  rcases Classical.em Q with q | q
  · rw [h.1 q]; exact br_f hl_10 (h1 q)
  · rw [h.2 q]; exact br_t rfl (h0 q)
theorem hy_as {post : Int32 → SY → Prop} (H : hl_Y nc np cw pw cd ct pt pn dg) {s a b : Nat} (hs : s < 2) (ha : a < 6) (hb : b < 6) (K : ∀ r, hl_is r (∀ d, d < 203 → hl_alw nc np cw pw s a b true d) → ∀ nl (ho : Nat → Int32), post r (nl, cd, ct, pt, pn, dg, ho, ud)) : wpY_alwaysSame post (nl, cd, ct, pt, pn, dg, ho, ud) (nI s) (nI a) (nI b) := by
  unfold wpY_alwaysSame
  dsimp only
  exact hy_ic hs (br_f hl_10 (hy_in ha (br_f hl_10 (hy_in hb (br_f hl_10 (hy_aw H hs ha hb true (fun r hr nl ho => hl_is01 hr (fun z => K 0 (hl_is_f z) _ _) (fun z => K 1 (hl_is_t z) _ _))))))))
theorem hy_ns {post : Int32 → SY → Prop} (H : hl_Y nc np cw pw cd ct pt pn dg) {s a b : Nat} (hs : s < 2) (ha : a < 6) (hb : b < 6) (K : ∀ r, hl_is r (∀ d, d < 203 → hl_alw nc np cw pw s a b false d) → ∀ nl (ho : Nat → Int32), post r (nl, cd, ct, pt, pn, dg, ho, ud)) : wpY_neverSame post (nl, cd, ct, pt, pn, dg, ho, ud) (nI s) (nI a) (nI b) := by
  unfold wpY_neverSame
  dsimp only
  exact hy_ic hs (br_f hl_10 (hy_in ha (br_f hl_10 (hy_in hb (br_f hl_10 (hy_aw H hs ha hb false (fun r hr nl ho => hl_is01 hr (fun z => K 0 (hl_is_f z) _ _) (fun z => K 1 (hl_is_t z) _ _))))))))
theorem hy_hel {post : Int32 → SY → Prop} (H : hl_Y nc np cw pw cd ct pt pn dg) {s a : Nat} (hs : s < 2) (ha : a < 6) (K : ∀ r, hl_is r (∀ d, d < 203 → ∀ F, hl_L nc np cw pw s (hl_p d) = some F → F (hl_G (hl_p d) a) ≠ none) → ∀ nl (ho : Nat → Int32), post r (nl, cd, ct, pt, pn, dg, ho, ud)) :
    ∀ m d nl (ho : Nat → Int32), d ≤ 203 → 203 - d < m → (∀ j, j < d → ∀ F, hl_L nc np cw pw s (hl_p j) = some F → F (hl_G (hl_p j) a) ≠ none) → wY_held_20 post (nI s) (nI a) m (nI d) nl cd ct pt pn dg ho ud := by
  intro m
  induction m with
  | zero => intro d nl ho _ h; omega
  | succ m ih =>
    intro d nl ho hd hm h
    rw [wY_held_20]
    dsimp only
    by_cases e : d = 203
    · subst e
      exact br_t hl_203' (K 1 (hl_is_t h) _ _)
    · have hd' : d < 203 := by omega
      have l1 := hl_G6 (hl_p d) (hl_p203 d hd') a ha
      refine br_f (hl_203 hd') (hy_b H hs hd' (fun z ho => ?_) (fun F z ho hE => ?_))
      · exact br_t rfl (nm_r (nI_1 d) (ih (d + 1) _ _ (by omega) (by omega) (hl_lt_s h (fun F q => by rw [z] at q; cases q))))
      · refine br_f hl_10 (hy_g H hd' ha ⟨vp_in_nI (by omega) (by decide), ?_⟩)
        rw [nI_clamp (show hl_G (hl_p d) a < 2 ^ 31 by omega)]
        refine hl_EY_ge hE (by omega) (fun y => ?_) (fun t y => ?_)
        · exact K 0 (hl_is_f (fun q => q d hd' F z (hl_f_n.mp y))) _ _
        · refine nm_r (nI_1 d) (ih (d + 1) _ _ (by omega) (by omega) (hl_lt_s h (fun F' z' q => ?_)))
          rw [z] at z'
          rw [← Option.some.inj z'] at q
          rw [hl_f_n.mpr q] at y; cases y
theorem hy_he {post : Int32 → SY → Prop} (H : hl_Y nc np cw pw cd ct pt pn dg) {s a : Nat} (hs : s < 2) (ha : a < 6) (K : ∀ r, hl_is r (∀ d, d < 203 → ∀ F, hl_L nc np cw pw s (hl_p d) = some F → F (hl_G (hl_p d) a) ≠ none) → ∀ nl (ho : Nat → Int32), post r (nl, cd, ct, pt, pn, dg, ho, ud)) : wpY_held post (nl, cd, ct, pt, pn, dg, ho, ud) (nI s) (nI a) := by
  unfold wpY_held
  dsimp only
  exact hy_ic hs (br_f hl_10 (hy_in ha (br_f hl_10 ⟨204, hy_hel H hs ha K 204 0 _ _ (by omega) (by omega) (fun j hj => by omega)⟩)))
theorem hy_col {post : Int32 → Prop} {f : Nat → Option Nat} (hE : hl_EY f ho) {e v : Nat} (he : e < 7) (hv : v < 7) (hn : f v = none) :
    ∀ j m i a, i + j = 8 → j < m → a < 7 → post (hl_bI (hl_cy f e j a)) → wY_comes_5 post (nI e) (nI v) cd ct pt pn dg ho ud m (nI a) (nI i) := by
  intro j
  induction j with
  | zero =>
    intro m i a hi hm ha hp
    obtain ⟨m', rfl⟩ : ∃ m', m = m' + 1 := ⟨m - 1, by omega⟩
    have ei : i = 8 := by omega
    subst ei
    rw [wY_comes_5]
    dsimp only
    exact br_t (by decide) hp
  | succ j ih =>
    intro m i a hi hm ha hp
    obtain ⟨m', rfl⟩ : ∃ m', m = m' + 1 := ⟨m - 1, by omega⟩
    have hin : vp_in (nI a) 7 := vp_in_nI ha (by decide)
    rw [wY_comes_5]
    dsimp only
    refine br_f (nI_ge (b := 8) (by omega) (by decide)) (pk_eq a e (fun z => ?_) (fun z => pk_eq a v (fun y => ?_) (fun y => ⟨hin, ?_⟩)))
    · subst z; rw [hl_cy_e] at hp; exact hp
    · subst y; rw [hl_cy_n z hn] at hp; exact hp
    · rw [nI_clamp (show a < 2 ^ 31 by omega)]
      refine hl_EY_ge hE ha (fun q => ?_) (fun t q => ⟨hin, ?_⟩)
      · rw [hl_cy_n z q] at hp; exact hp
      · rw [hl_cy_t z q] at hp
        exact nm_r (show ho a = nI t by rw [hE.1 a ha, q]; rfl) (nm_r (nI_1 i) (ih m' (i + 1) t (by omega) (by omega) (hE.2 a t q).2 hp))
theorem hy_co {post : Int32 → Prop} {f : Nat → Option Nat} (hE : hl_EY f ho) {e v a : Nat} (he : e < 7) (hv : v < 7) (hn : f v = none) (ha : a < 7) (hp : post (hl_bI (hl_cy f e 8 a))) : wpY_comes post ((nI v), cd, ct, pt, pn, dg, ho, ud) (nI a) (nI e) := by
  unfold wpY_comes
  dsimp only
  exact ⟨9, hy_col hE he hv hn 8 9 0 a rfl (by omega) ha hp⟩
theorem hy_rel {post : Int32 → SY → Prop} (H : hl_Y nc np cw pw cd ct pt pn dg) {s a b : Nat} (hs : s < 2) (ha : a < 6) (hb : b < 6) (K : ∀ r, hl_is r (∀ d, d < 203 → ∀ F, hl_L nc np cw pw s (hl_p d) = some F → hl_cy (hl_f F) (hl_G (hl_p d) b) 8 (hl_G (hl_p d) a) = true) → ∀ nl (ho : Nat → Int32), post r (nl, cd, ct, pt, pn, dg, ho, ud)) :
    ∀ m d nl (ho : Nat → Int32), d ≤ 203 → 203 - d < m → (∀ j, j < d → ∀ F, hl_L nc np cw pw s (hl_p j) = some F → hl_cy (hl_f F) (hl_G (hl_p j) b) 8 (hl_G (hl_p j) a) = true) → wY_reaches_29 post (nI s) (nI a) (nI b) m (nI d) nl cd ct pt pn dg ho ud := by
  intro m
  induction m with
  | zero => intro d nl ho _ h; omega
  | succ m ih =>
    intro d nl ho hd hm h
    rw [wY_reaches_29]
    dsimp only
    by_cases e : d = 203
    · subst e
      exact br_t hl_203' (K 1 (hl_is_t h) _ _)
    · have hd' : d < 203 := by omega
      have l1 := hl_G6 (hl_p d) (hl_p203 d hd') a ha
      have l2 := hl_G6 (hl_p d) (hl_p203 d hd') b hb
      have l5 := hl_G6 (hl_p d) (hl_p203 d hd') 5 (by omega)
      refine br_f (hl_203 hd') (hy_b H hs hd' (fun z ho => ?_) (fun F z ho hE => ?_))
      · exact br_t rfl (nm_r (nI_1 d) (ih (d + 1) _ _ (by omega) (by omega) (hl_lt_s h (fun F q => by rw [z] at q; cases q))))
      · have g1 := (hl_Lgf (hl_p203 d hd') z).1.1
        refine br_f hl_10 (hy_g H hd' ha (hy_g H hd' hb (hy_co hE (by omega) (by omega) (hl_f_n.mpr g1) (by omega) (hl_br (fun y => ?_) (fun y => ?_)))))
        · refine K 0 (hl_is_f (fun q => ?_)) _ _
          rw [q d hd' F z] at y; cases y
        · refine nm_r (nI_1 d) (ih (d + 1) _ _ (by omega) (by omega) (hl_lt_s h (fun F' z' => ?_)))
          rw [z] at z'
          rw [← Option.some.inj z']; exact y
theorem hy_re {post : Int32 → SY → Prop} (H : hl_Y nc np cw pw cd ct pt pn dg) {s a b : Nat} (hs : s < 2) (ha : a < 6) (hb : b < 6) (K : ∀ r, hl_is r (∀ d, d < 203 → ∀ F, hl_L nc np cw pw s (hl_p d) = some F → hl_cy (hl_f F) (hl_G (hl_p d) b) 8 (hl_G (hl_p d) a) = true) → ∀ nl (ho : Nat → Int32), post r (nl, cd, ct, pt, pn, dg, ho, ud)) : wpY_reaches post (nl, cd, ct, pt, pn, dg, ho, ud) (nI s) (nI a) (nI b) := by
  unfold wpY_reaches
  dsimp only
  exact hy_ic hs (br_f hl_10 (hy_in ha (br_f hl_10 (hy_in hb (br_f hl_10 ⟨204, hy_rel H hs ha hb K 204 0 _ _ (by omega) (by omega) (fun j hj => by omega)⟩)))))
theorem hy_ceal {post : Int32 → Prop} (K : ∀ r, post r) : ∀ m g x, g ≤ 7 → 7 - g < m → wY_cells_4 post nl cd ct pt pn dg ho ud m x (nI g) := by
  intro m
  induction m with
  | zero => intro g x _ h; omega
  | succ m ih =>
    intro g x hg hm
    rw [wY_cells_4]
    dsimp only
    by_cases e : g = 7
    · subst e; exact br_t hl_7y (K x)
    · exact br_f (hl_7n (by omega)) ⟨vp_in_nI (by omega) (by decide), br_c (fun _ => nm_r (nI_1 g) (ih (g + 1) _ (by omega) (by omega))) (fun _ => nm_e (nm_r (nI_1 g) (ih (g + 1) _ (by omega) (by omega))))⟩
theorem hy_cea {post : Int32 → Prop} (K : ∀ r, post r) : wpY_cells post (nl, cd, ct, pt, pn, dg, ho, ud) := by
  unfold wpY_cells
  dsimp only
  exact ⟨8, hy_ceal K 8 0 0 (by omega) (by omega)⟩
theorem hy_cel {post : Int32 → Prop} {f : Nat → Option Nat} (hE : hl_EY f ho) (K : post (nI (hl_kn (fun g => (f g).isSome) 7))) : ∀ m g, g ≤ 7 → 7 - g < m → wY_cells_4 post nl cd ct pt pn dg ho ud m (nI (hl_kn (fun g => (f g).isSome) g)) (nI g) := by
  intro m
  induction m with
  | zero => intro g _ h; omega
  | succ m ih =>
    intro g hg hm
    rw [wY_cells_4]
    dsimp only
    by_cases e : g = 7
    · subst e; exact br_t hl_7y K
    · have nx := ih (g + 1) (by omega) (by omega)
      refine br_f (hl_7n (by omega)) ⟨vp_in_nI (by omega) (by decide), ?_⟩
      rw [nI_clamp (show g < 2 ^ 31 by omega)]
      refine hl_EY_lt hE (by omega) (fun z => ?_) (fun t z => ?_)
      · rw [hl_kn_f (p := fun g => (f g).isSome) (n := g) (by show (f g).isSome = false; rw [z]; rfl)] at nx
        exact nm_r (nI_1 g) nx
      · rw [hl_kn_t (p := fun g => (f g).isSome) (n := g) (by show (f g).isSome = true; rw [z]; rfl)] at nx
        exact nm_r (nI_1 _) (nm_r (nI_1 g) nx)
theorem hy_ce {post : Int32 → Prop} {F : HG} (h6 : F 6 = none) (hE : hl_EY (hl_f F) ho) (K : post (nI (hl_ec F 6))) : wpY_cells post (nl, cd, ct, pt, pn, dg, ho, ud) := by
  unfold wpY_cells
  dsimp only
  rw [← hl_ec7 h6] at K
  exact ⟨8, hy_cel hE K 8 0 (by omega) (by omega)⟩
theorem hy_lel {post : Int32 → SY → Prop} (H : hl_Y nc np cw pw cd ct pt pn dg) {s : Nat} (hs : s < 2) (K : ∀ r, hl_mnr 203 (fun d => hl_cnt nc np cw pw s (hl_p d)) r → ∀ nl (ho : Nat → Int32), post r (nl, cd, ct, pt, pn, dg, ho, ud)) :
    ∀ m d b nl (ho : Nat → Int32), d ≤ 203 → 203 - d < m → hl_mi 100 d (fun d => hl_cnt nc np cw pw s (hl_p d)) b → wY_least_15 post (nI s) m (nI b) (nI d) nl cd ct pt pn dg ho ud := by
  intro m
  induction m with
  | zero => intro d b nl ho _ h; omega
  | succ m ih =>
    intro d b nl ho hd hm h
    have hb := hl_mi_b h (by omega)
    rw [wY_least_15]
    dsimp only
    by_cases e : d = 203
    · subst e
      exact br_t hl_203' (hl_mi_r h (by omega) (by omega) (P := fun r => post r (nl, cd, ct, pt, pn, dg, ho, ud)) (fun r hr => K r hr _ _))
    · have hd' : d < 203 := by omega
      refine br_f (hl_203 hd') (hy_b H hs hd' (fun z ho => ?_) (fun F z ho hE => ?_))
      · exact hy_cea (fun r => br_t rfl (nm_r (nI_1 d) (ih (d + 1) b _ _ (by omega) (by omega) (hl_mi_n h (hl_cnt_n z)))))
      · refine hy_ce (hl_L6 (hl_p203 d hd') z (by omega)) hE (br_f hl_10 ?_)
        have l8 := hl_ec_8 F
        refine pk_le b (hl_ec F 6) (fun y => ?_) (fun y => ?_)
        · exact nm_r (nI_1 d) (ih (d + 1) b _ _ (by omega) (by omega) (hl_mi_k h (by omega) (hl_cnt_s z) l8 y))
        · exact nm_r (nI_1 d) (ih (d + 1) _ _ _ (by omega) (by omega) (hl_mi_s h (hl_cnt_s z) l8 y))
theorem hy_le {post : Int32 → SY → Prop} (H : hl_Y nc np cw pw cd ct pt pn dg) {s : Nat} (hs : s < 2) (K : ∀ r, hl_mnr 203 (fun d => hl_cnt nc np cw pw s (hl_p d)) r → ∀ nl (ho : Nat → Int32), post r (nl, cd, ct, pt, pn, dg, ho, ud)) : wpY_least post (nl, cd, ct, pt, pn, dg, ho, ud) (nI s) := by
  unfold wpY_least
  dsimp only
  exact hy_ic hs (br_f hl_10 ⟨204, hy_lel H hs K 204 0 100 _ _ (by omega) (by omega) (hl_mi_0 _ _)⟩)
theorem hy_hll {post : Int32 → Prop} (H : hl_Y nc np cw pw cd ct pt pn dg) {s d : Nat} (hs : s < 2) (hd : d < 203) (K : ∀ r, hl_is r (∃ i, i < np s ∧ 36 ≤ pw s i ∧ hl_fr (hl_G (hl_p d)) (pw s i) ≠ hl_to (hl_G (hl_p d)) (pw s i)) → post r) :
    ∀ m i, i ≤ np s → np s - i < m → (∀ j, j < i → ¬ (36 ≤ pw s j ∧ hl_fr (hl_G (hl_p d)) (pw s j) ≠ hl_to (hl_G (hl_p d)) (pw s j))) → wY_hasLists_2 post (nI s) (nI d) nl cd ct pt pn dg ho ud m (nI i) := by
  obtain ⟨h8, h6, _, ec⟩ := H.1 s hs
  intro m
  induction m with
  | zero => intro i _ h; omega
  | succ m ih =>
    intro i hi hm h
    rw [wY_hasLists_2]
    dsimp only
    rw [hl_c2 hs, ec]
    refine ⟨hl_in2 hs, ?_⟩
    by_cases e : i = np s
    · subst e
      exact br_t (nI_le (by omega) (by omega)) (K 0 (hl_is_f (fun ⟨j, hj, q⟩ => h j hj q)))
    · have hi' : i < np s := by omega
      obtain ⟨w72, ew⟩ := H.2.2.1 s i hs hi'
      refine br_f (nI_ge (by omega) (by omega)) ?_
      rw [hl_i6, nI_clamp (show 6 * s + i < 2 ^ 31 by omega), ew]
      refine ⟨vp_in_nI (by omega) (by decide), pk_lt (pw s i) 36 (fun z => ?_) (fun z => ?_)⟩
      · exact nm_r (nI_1 i) (ih (i + 1) (by omega) (by omega) (hl_lt_s h (fun q => by omega)))
      · refine hy_ie H hs hd hi' (hl_br (fun y => ?_) (fun y => ?_))
        · have y' := of_decide_eq_false y
          exact K 1 (hl_is_t ⟨i, hi', z, fun q => y' ⟨z, q⟩⟩)
        · have y' := of_decide_eq_true y
          exact nm_r (nI_1 i) (ih (i + 1) (by omega) (by omega) (hl_lt_s h (fun q => q.2 y'.2)))
theorem hy_hl {post : Int32 → Prop} (H : hl_Y nc np cw pw cd ct pt pn dg) {s d : Nat} (hs : s < 2) (hd : d < 203) {F : HG} (hF : hl_L nc np cw pw s (hl_p d) = some F) (K : ∀ r, hl_is r (hl_anyL F) → post r) : wpY_hasLists post (nl, cd, ct, pt, pn, dg, ho, ud) (nI s) (nI d) := by
  unfold wpY_hasLists
  dsimp only
  refine ⟨np s + 1, hy_hll H hs hd (fun r hr => K r ?_) (np s + 1) 0 (by omega) (by omega) (fun j hj => by omega)⟩
  obtain ⟨⟨g1, g2, g3⟩, _, _⟩ := hl_Lgf (hl_p203 d hd) hF
  have iff : (∃ i, i < np s ∧ 36 ≤ pw s i ∧ hl_fr (hl_G (hl_p d)) (pw s i) ≠ hl_to (hl_G (hl_p d)) (pw s i)) ↔ hl_anyL F := by
    constructor
    · rintro ⟨i, hi, a, b⟩
      have q := (g3 _ _).mpr ⟨i, hi, a, b, rfl, rfl⟩
      exact ⟨_, (g2 _ _ _ q).1, _, q⟩
    · rintro ⟨g, _, t, q⟩
      obtain ⟨i, hi, a, b, _, _⟩ := (g3 g t).mp q
      exact ⟨i, hi, a, b⟩
  exact ⟨fun q => hr.1 (iff.mpr q), fun q => hr.2 (fun w => q (iff.mp w))⟩
theorem hy_mol {post : Int32 → SY → Prop} (H : hl_Y nc np cw pw cd ct pt pn dg) {s : Nat} (hs : s < 2) (K : ∀ r, ((∃ d, d < 203 ∧ hl_lgk nc np cw pw s (hl_p d)) → r = -3) → ((¬ ∃ d, d < 203 ∧ hl_lgk nc np cw pw s (hl_p d)) → hl_ma 203 (fun d => hl_cnt nc np cw pw s (hl_p d)) r) → ∀ nl (ho : Nat → Int32), post r (nl, cd, ct, pt, pn, dg, ho, ud)) :
    ∀ m d x nl (ho : Nat → Int32), d ≤ 203 → 203 - d < m → hl_ma d (fun d => hl_cnt nc np cw pw s (hl_p d)) x → (∀ j, j < d → ¬ hl_lgk nc np cw pw s (hl_p j)) → wY_most_15 post (nI s) m x (nI d) nl cd ct pt pn dg ho ud := by
  intro m
  induction m with
  | zero => intro d x nl ho _ h; omega
  | succ m ih =>
    intro d x nl ho hd hm h hz
    rw [wY_most_15]
    dsimp only
    by_cases e : d = 203
    · subst e
      exact br_t hl_203' (K x (fun ⟨j, hj, q⟩ => absurd q (hz j hj)) (fun _ => h) _ _)
    · have hd' : d < 203 := by omega
      refine br_f (hl_203 hd') (hy_b H hs hd' (fun z ho => ?_) (fun F z ho hE => ?_))
      · exact br_t rfl (nm_r (nI_1 d) (ih (d + 1) x _ _ (by omega) (by omega) (hl_ma_n h (hl_cnt_n z)) (hl_lt_s hz (fun ⟨F, q, _⟩ => by rw [z] at q; cases q))))
      · refine br_f hl_10 (hy_hl H hs hd' z (fun r hr => ?_))
        rcases Classical.em (hl_anyL F) with q | q
        · rw [hr.1 q]
          exact br_f hl_10 (K _ (fun _ => rfl) (fun w => absurd ⟨d, hd', F, z, q⟩ w) _ _)
        · rw [hr.2 q]
          have nl' : ¬ hl_lgk nc np cw pw s (hl_p d) := fun ⟨F', z', q'⟩ => by
            rw [z] at z'
            rw [← Option.some.inj z'] at q'
            exact q q'
          refine br_t rfl (hy_ce (hl_L6 (hl_p203 d hd') z (by omega)) hE ?_)
          have l8 := hl_ec_8 F
          exact br_c (fun y => nm_r (nI_1 d) (ih (d + 1) _ _ _ (by omega) (by omega) (hl_ma_k h (hl_cnt_s z) l8 y) (hl_lt_s hz nl'))) (fun y => nm_r (nI_1 d) (ih (d + 1) _ _ _ (by omega) (by omega) (hl_ma_s h (hl_cnt_s z) l8 y) (hl_lt_s hz nl')))
theorem hy_mo {post : Int32 → SY → Prop} (H : hl_Y nc np cw pw cd ct pt pn dg) {s : Nat} (hs : s < 2) (K : ∀ r, ((∃ d, d < 203 ∧ hl_lgk nc np cw pw s (hl_p d)) → r = -3) → ((¬ ∃ d, d < 203 ∧ hl_lgk nc np cw pw s (hl_p d)) → hl_ma 203 (fun d => hl_cnt nc np cw pw s (hl_p d)) r) → ∀ nl (ho : Nat → Int32), post r (nl, cd, ct, pt, pn, dg, ho, ud)) : wpY_most post (nl, cd, ct, pt, pn, dg, ho, ud) (nI s) := by
  unfold wpY_most
  dsimp only
  exact hy_ic hs (br_f hl_10 ⟨204, hy_mol H hs K 204 0 _ _ _ (by omega) (by omega) (hl_ma_0 _) (fun j hj => by omega)⟩)
/-! together -/
theorem hy_sol {post : Int32 → Prop} {f : Nat → Option Nat} (hE : hl_EY f ho) (K : post (hl_src f 7)) : ∀ m g, g ≤ 7 → 7 - g < m → wY_sources_4 post nl cd ct pt pn dg ho ud m (hl_src f g) (nI g) := by
  intro m
  induction m with
  | zero => intro g _ h; omega
  | succ m ih =>
    intro g hg hm
    rw [wY_sources_4]
    dsimp only
    by_cases e : g = 7
    · subst e; exact br_t hl_7y K
    · have nx := ih (g + 1) (by omega) (by omega)
      refine br_f (hl_7n (by omega)) ⟨vp_in_nI (by omega) (by decide), ?_⟩
      rw [nI_clamp (show g < 2 ^ 31 by omega)]
      refine hl_EY_lt hE (by omega) (fun z => ?_) (fun t z => ?_)
      · have q : hl_src f (g + 1) = hl_src f g := by
          show (if (f g).isSome = true then _ else _) = _
          rw [z]; rfl
        rw [q] at nx
        exact nm_r (nI_1 g) nx
      · have q : hl_src f (g + 1) = hl_src f g ||| ((1 : Int32) <<< (nI g &&& 31)) := by
          show (if (f g).isSome = true then _ else _) = _
          rw [z]; rfl
        rw [q] at nx
        exact nm_e (nm_r (nI_1 g) nx)
theorem hy_so {post : Int32 → Prop} {f : Nat → Option Nat} (hE : hl_EY f ho) (K : post (hl_src f 7)) : wpY_sources post (nl, cd, ct, pt, pn, dg, ho, ud) := by
  unfold wpY_sources
  dsimp only
  exact ⟨8, hy_sol hE K 8 0 (by omega) (by omega)⟩
def hl_tgy (nc np : Nat → Nat) (cw pw : Nat → Nat → Nat) (k : Nat) : Prop := ∃ F0 F1, hl_L nc np cw pw 0 k = some F0 ∧ hl_L nc np cw pw 1 k = some F1 ∧ ∀ g, g < 7 → hl_f F0 g = none ∨ hl_f F1 g = none
theorem hy_tg26 {post : Int32 → SY → Prop} (H : hl_Y nc np cw pw cd ct pt pn dg) {J : Int32 → Int32 → (Nat → Int32) → (Nat → Int32) → (Nat → Int32) → (Nat → Int32) → (Nat → Int32) → (Nat → Int32) → (Nat → Int32) → Prop} {d : Nat} (hd : d < 203) {x : Int32}
    (hx : (x = -1 ∧ hl_L nc np cw pw 0 (hl_p d) = none) ∨ ∃ F0, x = hl_src (hl_f F0) 7 ∧ hl_L nc np cw pw 0 (hl_p d) = some F0)
    (K1 : hl_tgy nc np cw pw (hl_p d) → ∀ nl (ho : Nat → Int32), post 1 (nl, cd, ct, pt, pn, dg, ho, ud)) (K0 : ¬ hl_tgy nc np cw pw (hl_p d) → ∀ nl (ho : Nat → Int32), J (nI (d + 1)) nl cd ct pt pn dg ho ud) : wY_together_26 post J (nI d) x nl cd ct pt pn dg ho ud := by
  unfold wY_together_26
  refine hy_b (s := 1) H (by omega) hd (fun z ho => ?_) (fun F z ho hE => ?_)
  · have no : ¬ hl_tgy nc np cw pw (hl_p d) := fun ⟨_, F1, _, q, _⟩ => by rw [z] at q; cases q
    refine br_t rfl ?_
    unfold wY_together_44
    exact br_c (fun _ => nm_r (nI_1 d) (K0 no _ _)) (fun _ => br_t hl_m1l (nm_r (nI_1 d) (K0 no _ _)))
  · refine br_f hl_10 (hy_so hE ?_)
    unfold wY_together_44
    rcases hx with ⟨rfl, hx⟩ | ⟨F0, rfl, hx⟩
    · exact br_t hl_m1l (nm_r (nI_1 d) (K0 (fun ⟨F0, _, q, _⟩ => by rw [hx] at q; cases q) _ _))
    · refine br_f (hl_src_n _) (br_f (hl_src_n _) (br_c (fun q => ?_) (fun q => ?_)))
      · exact K1 ⟨F0, F, hx, z, (hl_src_d _ _).mp q⟩ _ _
      · refine nm_r (nI_1 d) (K0 (fun ⟨A, B, a1, a2, a3⟩ => q ((hl_src_d _ _).mpr ?_)) _ _)
        rw [hx] at a1
        rw [z] at a2
        rw [Option.some.inj a1, Option.some.inj a2]
        exact a3
theorem hy_tgl {post : Int32 → SY → Prop} (H : hl_Y nc np cw pw cd ct pt pn dg) (K : ∀ r, hl_is r (∃ d, d < 203 ∧ hl_tgy nc np cw pw (hl_p d)) → ∀ nl (ho : Nat → Int32), post r (nl, cd, ct, pt, pn, dg, ho, ud)) :
    ∀ m d nl (ho : Nat → Int32), d ≤ 203 → 203 - d < m → (∀ j, j < d → ¬ hl_tgy nc np cw pw (hl_p j)) → wY_together_2 post m (nI d) nl cd ct pt pn dg ho ud := by
  intro m
  induction m with
  | zero => intro d nl ho _ h; omega
  | succ m ih =>
    intro d nl ho hd hm h
    rw [wY_together_2]
    dsimp only
    by_cases e : d = 203
    · subst e
      exact br_t hl_203' (K 0 (hl_is_f (fun ⟨j, hj, q⟩ => h j hj q)) _ _)
    · have hd' : d < 203 := by omega
      have go := fun (x : Int32) (nl : Int32) (ho : Nat → Int32) hx => hy_tg26 (post := post) (nl := nl) (ho := ho) (ud := ud) H (J := wY_together_2 post m) hd' (x := x) hx (fun q nl ho => K 1 (hl_is_t ⟨d, hd', q⟩) nl ho) (fun q nl ho => ih (d + 1) nl ho (by omega) (by omega) (hl_lt_s h q))
      refine br_f (hl_203 hd') (hy_b (s := 0) H (by omega) hd' (fun z ho => ?_) (fun F z ho hE => ?_))
      · exact br_t rfl (go _ _ _ (Or.inl ⟨rfl, z⟩))
      · exact br_f hl_10 (hy_so hE (go _ _ _ (Or.inr ⟨F, rfl, z⟩)))
theorem hy_tg {post : Int32 → SY → Prop} (H : hl_Y nc np cw pw cd ct pt pn dg) (K : ∀ r, hl_is r (∃ d, d < 203 ∧ hl_tgy nc np cw pw (hl_p d)) → ∀ nl (ho : Nat → Int32), post r (nl, cd, ct, pt, pn, dg, ho, ud)) : wpY_together post (nl, cd, ct, pt, pn, dg, ho, ud) := by
  unfold wpY_together
  dsimp only
  exact ⟨204, hy_tgl H K 204 0 _ _ (by omega) (by omega) (fun j hj => by omega)⟩
end
end
section
/-! Y: walk, fits, fitLonger, allFit -/
theorem hl_wk_n0 {f : Nat → Option Nat} {e : Nat} {ls : Bool} {n a : Nat} {U : Nat → Bool} (h : f a = none) : hl_wk f e ls (n + 1) a U = none := by
  rw [hl_wk.eq_2, h]
theorem hl_wk_nu {f : Nat → Option Nat} {e t : Nat} {ls : Bool} {n a : Nat} {U : Nat → Bool} (h : f a = some t) (hu : U a = true) : hl_wk f e ls (n + 1) a U = none := by
  rw [hl_wk.eq_2, h]
  dsimp only
  rw [if_pos hu]
theorem hl_wk_nl {f : Nat → Option Nat} {e t : Nat} {n a : Nat} {U : Nat → Bool} (h : f a = some t) (hu : U a = false) (ht : t ≠ e) : hl_wk f e false (n + 1) a U = none := by
  rw [hl_wk.eq_2, h]
  dsimp only
  rw [if_neg (by rw [hu]; decide), if_neg ht, if_neg (by decide)]
section
variable {nl : Int32} {cd ct pt pn dg ho ud : Nat → Int32} {nc np : Nat → Nat} {cw pw : Nat → Nat → Nat}
theorem hy_wk0 {post : Int32 → SY → Prop} {x5 : Int32} {e t m : Nat} (he : e < 7) (ht : t < 7) (hm : 1 ≤ m) (h1 : t = e → post 1 (nl, cd, ct, pt, pn, dg, ho, ud)) (h0 : t ≠ e → post 0 (nl, cd, ct, pt, pn, dg, ho, ud)) : wY_walk_53 post (nI e) x5 nl m (nI t) 0 cd ct pt pn dg ho ud := by
  obtain ⟨m', rfl⟩ : ∃ m', m = m' + 1 := ⟨m - 1, by omega⟩
  rw [wY_walk_53]
  dsimp only
  exact br_t rfl (pk_eq t e h1 h0)
theorem hy_wkl {post : Int32 → SY → Prop} {f : Nat → Option Nat} (hE : hl_EY f ho) {e v : Nat} (he : e < 7) (hv : v < 7) (hn : f v = none) (ls : Bool) :
    ∀ n m a U (ud : Nat → Int32), hl_cn U 7 < n → n + 1 ≤ m → a < 7 → hl_UX 7 U ud → (hl_wk f e ls n a U = none → ∀ ud : Nat → Int32, post 0 ((nI v), cd, ct, pt, pn, dg, ho, ud)) → (∀ U', hl_wk f e ls n a U = some U' → ∀ ud : Nat → Int32, hl_UX 7 U' ud → post 1 ((nI v), cd, ct, pt, pn, dg, ho, ud)) →
      wY_walk_53 post (nI e) (hl_bI ls) (nI v) m (nI a) 1 cd ct pt pn dg ho ud := by
  intro n
  induction n with
  | zero => intro m a U ud h; omega
  | succ n ih =>
    intro m a U ud hc hm ha hU K0 K1
    obtain ⟨m', rfl⟩ : ∃ m', m = m' + 1 := ⟨m - 1, by omega⟩
    have hin : vp_in (nI a) 7 := vp_in_nI ha (by decide)
    rw [wY_walk_53]
    dsimp only
    rw [nI_clamp (show a < 2 ^ 31 by omega)]
    refine br_f hl_10 (pk_eq a v (fun z => ?_) (fun z => ⟨hin, hl_EY_lt hE ha (fun y => ?_) (fun t y => ⟨hin, ?_⟩)⟩))
    · subst z; exact K0 (hl_wk_n0 hn) _
    · exact K0 (hl_wk_n0 y) _
    · rw [hU a ha, hl_vb1]
      have lt : t < 7 := (hE.2 a t y).2
      refine hl_br (fun hu => ⟨hin, nm_e ⟨hin, nm_r (show ho a = nI t by rw [hE.1 a ha, y]; rfl) ?_⟩⟩) (fun hu => K0 (hl_wk_nu y hu) _)
      have hU' := hl_UX_set hU a
      cases ls with
      | false =>
        refine br_t rfl (hy_wk0 he lt (by omega) (fun q => ?_) (fun q => ?_))
        · subst q; exact K1 _ (hl_wk_e y hu) _ hU'
        · exact K0 (hl_wk_nl y hu q) _
      | true =>
        refine br_f hl_10 (pk_eq t e (fun q => ?_) (fun q => ?_))
        · refine hy_wk0 he lt (by omega) (fun _ => ?_) (fun q' => absurd q q')
          subst q; exact K1 _ (hl_wk_e y hu) _ hU'
        · rw [hl_wk_t y hu q] at K0 K1
          have hs := hl_cn_s hu ha
          exact ih m' t (hl_set U a) _ (by omega) (by omega) lt hU' K0 K1
theorem hy_wk {post : Int32 → SY → Prop} (H : hl_Y nc np cw pw cd ct pt pn dg) {d i : Nat} (hd : d < 203) (hi : i < np 1) {f : Nat → Option Nat} (hE : hl_EY f ho) (hn : f (hl_G (hl_p d) 5) = none) {U : Nat → Bool} (hU : hl_UX 7 U ud)
    (K0 : hl_wp f (hl_G (hl_p d)) (pw 1 i) U = none → ∀ ud : Nat → Int32, post 0 ((nI (hl_G (hl_p d) 5)), cd, ct, pt, pn, dg, ho, ud)) (K1 : ∀ U', hl_wp f (hl_G (hl_p d)) (pw 1 i) U = some U' → ∀ ud : Nat → Int32, hl_UX 7 U' ud → post 1 ((nI (hl_G (hl_p d) 5)), cd, ct, pt, pn, dg, ho, ud)) : wpY_walk post ((nI (hl_G (hl_p d) 5)), cd, ct, pt, pn, dg, ho, ud) (nI d) (nI i) := by
  obtain ⟨h8, h6, _, _⟩ := H.1 1 (by omega)
  obtain ⟨w72, ew⟩ := H.2.2.1 1 i (by omega) hi
  rw [show 6 * 1 + i = 6 + i by omega] at ew
  have l1 : hl_fr (hl_G (hl_p d)) (pw 1 i) < 6 := hl_fr_lt (hl_Grow (hl_p203 d hd)) _
  have l2 : hl_to (hl_G (hl_p d)) (pw 1 i) < 6 := hl_to_lt (hl_Grow (hl_p203 d hd)) _
  have l5 := hl_G6 (hl_p d) (hl_p203 d hd) 5 (by omega)
  have c7 := hl_cn_le U 7
  unfold hl_wp at K0 K1
  unfold wpY_walk
  dsimp only
  refine hy_fr (s := 1) H (by omega) hd hi (hy_to (s := 1) H (by omega) hd hi (hy_ie (s := 1) H (by omega) hd hi (hl_br (fun z => ?_) (fun z => ?_))))
  · rw [if_neg (of_decide_eq_false z)] at K0 K1
    rw [hl_a6, nI_clamp (show 6 + i < 2 ^ 31 by omega), ew]
    refine ⟨vp_in_nI (by omega) (by decide), pk_lt (pw 1 i) 36 (fun y => ?_) (fun y => ?_)⟩
    · rw [decide_eq_false (show ¬ 36 ≤ pw 1 i by omega)] at K0 K1
      exact ⟨17, hy_wkl hE (by omega) (by omega) hn false 16 17 _ U ud (by omega) (by omega) (by omega) hU K0 K1⟩
    · rw [decide_eq_true y] at K0 K1
      exact ⟨17, hy_wkl hE (by omega) (by omega) hn true 16 17 _ U ud (by omega) (by omega) (by omega) hU K0 K1⟩
  · rw [if_pos (of_decide_eq_true z)] at K1
    exact K1 U rfl _ hU
theorem hy_63 {post : Int32 → SY → Prop} {f : Nat → Option Nat} (hE : hl_EY f ho) {U : Nat → Bool} (hU : hl_UX 7 U ud) (ex : Bool) (K : ∀ r, hl_is r (ex = true → ∀ g, g < 7 → f g ≠ none → U g = true) → post r (nl, cd, ct, pt, pn, dg, ho, ud)) :
    ∀ m g, g ≤ 7 → 7 - g < m → (ex = true → ∀ x, x < g → f x ≠ none → U x = true) → wY_fits_63 post (hl_bI (!ex)) nl cd ct pt pn dg ho ud m (nI g) := by
  intro m
  induction m with
  | zero => intro g _ h; omega
  | succ m ih =>
    intro g hg hm h
    rw [wY_fits_63]
    dsimp only
    by_cases e : g = 7
    · subst e; exact br_t hl_7y (K 1 (hl_is_t h))
    · have hg' : g < 7 := by omega
      have hin : vp_in (nI g) 7 := vp_in_nI hg' (by decide)
      rw [nI_clamp (show g < 2 ^ 31 by omega)]
      refine br_f (hl_7n hg') ⟨hin, hl_EY_lt hE hg' (fun z => ?_) (fun t z => ⟨hin, ?_⟩)⟩
      · exact nm_r (nI_1 g) (ih (g + 1) (by omega) (by omega) (fun he => hl_lt_s (h he) (fun q => absurd z q)))
      · rw [hU g hg']
        refine hl_br (fun hu => hl_br (fun hp => ?_) (fun hp => ?_)) (fun hu => ?_)
        · have he : ex = true := by
            revert hp
            cases ex <;> simp
          refine K 0 (hl_is_f (fun q => ?_))
          rw [q he g hg' (by rw [z]; intro w; cases w)] at hu; cases hu
        · refine nm_r (nI_1 g) (ih (g + 1) (by omega) (by omega) (fun he => ?_))
          rw [he] at hp; cases hp
        · exact nm_r (nI_1 g) (ih (g + 1) (by omega) (by omega) (fun he => hl_lt_s (h he) (fun _ => hu)))
theorem hy_34 {post : Int32 → SY → Prop} (H : hl_Y nc np cw pw cd ct pt pn dg) {d : Nat} (hd : d < 203) {f : Nat → Option Nat} (hE : hl_EY f ho) (hn : f (hl_G (hl_p d) 5) = none) (ex : Bool)
    (K : ∀ r, hl_is r (∃ U, hl_wf f (hl_G (hl_p d)) (pw 1) (np 1) = some U ∧ (ex = true → ∀ g, g < 7 → f g ≠ none → U g = true)) → ∀ ud : Nat → Int32, post r ((nI (hl_G (hl_p d) 5)), cd, ct, pt, pn, dg, ho, ud)) :
    ∀ m i U (ud : Nat → Int32), i ≤ np 1 → np 1 - i < m → hl_wf f (hl_G (hl_p d)) (pw 1) i = some U → hl_UX 7 U ud → wY_fits_34 post (nI d) (hl_bI (!ex)) m (nI i) (nI (hl_G (hl_p d) 5)) cd ct pt pn dg ho ud := by
  obtain ⟨h8, h6, _, ec⟩ := H.1 1 (by omega)
  intro m
  induction m with
  | zero => intro i U ud _ h; omega
  | succ m ih =>
    intro i U ud hi hm hw hU
    rw [wY_fits_34]
    dsimp only
    rw [ec]
    by_cases e : i = np 1
    · subst e
      refine br_t (nI_le (by omega) (by omega)) ⟨8, hy_63 hE hU ex (fun r hr => K r ?_ _) 8 0 (by omega) (by omega) (fun _ x hx => by omega)⟩
      refine ⟨fun ⟨U', a, b⟩ => hr.1 ?_, fun q => hr.2 (fun b => q ⟨U, hw, b⟩)⟩
      rw [hw] at a
      rw [Option.some.inj a]; exact b
    · have hi' : i < np 1 := by omega
      refine br_f (nI_ge (by omega) (by omega)) (hy_wk H hd hi' hE hn hU (fun z ud => ?_) (fun U' z ud hU' => ?_))
      · refine br_t rfl (K 0 (hl_is_f (fun ⟨U', a, b⟩ => ?_)) _)
        rw [hl_wf_n (show hl_wf f (hl_G (hl_p d)) (pw 1) (i + 1) = none from (hl_wf_s hw).trans z) _ (by omega)] at a
        cases a
      · exact br_f hl_10 (nm_r (nI_1 i) (ih (i + 1) U' ud (by omega) (by omega) ((hl_wf_s hw).trans z) hU'))
theorem hy_13 {post : Int32 → SY → Prop} (H : hl_Y nc np cw pw cd ct pt pn dg) {d : Nat} (hd : d < 203) {f : Nat → Option Nat} (hE : hl_EY f ho) (hn : f (hl_G (hl_p d) 5) = none) (ex : Bool)
    (K : ∀ r, hl_is r (∃ U, hl_wf f (hl_G (hl_p d)) (pw 1) (np 1) = some U ∧ (ex = true → ∀ g, g < 7 → f g ≠ none → U g = true)) → ∀ ud : Nat → Int32, post r ((nI (hl_G (hl_p d) 5)), cd, ct, pt, pn, dg, ho, ud)) :
    ∀ m g (ud : Nat → Int32), g ≤ 7 → 7 - g < m → hl_UX g (fun _ => false) ud → wY_fits_13 post (nI d) (hl_bI (!ex)) (nI (hl_G (hl_p d) 5)) m (nI g) cd ct pt pn dg ho ud := by
  intro m
  induction m with
  | zero => intro g ud _ h; omega
  | succ m ih =>
    intro g ud hg hm h
    rw [wY_fits_13]
    dsimp only
    by_cases e : g = 7
    · subst e
      exact br_t hl_7y ⟨np 1 + 1, hy_34 H hd hE hn ex K (np 1 + 1) 0 _ ud (by omega) (by omega) rfl h⟩
    · refine br_f (hl_7n (by omega)) ⟨vp_in_nI (by omega) (by decide), ?_⟩
      rw [nI_clamp (show g < 2 ^ 31 by omega), hl_vb0]
      refine nm_e (nm_r (nI_1 g) (ih (g + 1) _ (by omega) (by omega) (fun x hx => ?_)))
      by_cases ex : x = g
      · subst ex; exact pk_us
      · rw [pk_un ex]; exact h x (by omega)
theorem hy_ft {post : Int32 → SY → Prop} (H : hl_Y nc np cw pw cd ct pt pn dg) {d : Nat} (hd : d < 203) {f : Nat → Option Nat} (hE : hl_EY f ho) (hn : f (hl_G (hl_p d) 5) = none) (ex : Bool)
    (K : ∀ r, hl_is r (hl_fit f (hl_G (hl_p d)) (nc 1) (np 1) (cw 1) (pw 1) ex) → ∀ ud : Nat → Int32, post r ((nI (hl_G (hl_p d) 5)), cd, ct, pt, pn, dg, ho, ud)) : wpY_fits post ((nI (hl_G (hl_p d) 5)), cd, ct, pt, pn, dg, ho, ud) (nI d) (hl_bI (!ex)) := by
  unfold wpY_fits
  dsimp only
  refine hy_al (s := 1) H (by omega) hd (hl_br (fun z => ?_) (fun z => ?_))
  · refine K 0 (hl_is_f (fun q => ?_)) _
    rw [q.1] at z; cases z
  · refine ⟨8, hy_13 H hd hE hn ex (fun r hr ud => K r ?_ ud) 8 0 ud (by omega) (by omega) (fun x hx => by omega)⟩
    exact ⟨fun q => hr.1 q.2, fun q => hr.2 (fun w => q ⟨z, w⟩)⟩
theorem hy_itl {post : Int32 → Prop} (H : hl_Y nc np cw pw cd ct pt pn dg) {d g : Nat} (hd : d < 203) (hg : g < 7) (K : ∀ r, hl_is r (∃ t, t < 6 ∧ hl_G (hl_p d) t = g) → post r) :
    ∀ m t, t ≤ 6 → 6 - t < m → (∀ x, x < t → hl_G (hl_p d) x ≠ g) → wY_isThere_2 post (nI d) (nI g) nl cd ct pt pn dg ho ud m (nI t) := by
  intro m
  induction m with
  | zero => intro t _ h; omega
  | succ m ih =>
    intro t ht hm h
    rw [wY_isThere_2]
    dsimp only
    by_cases e : t = 6
    · subst e
      exact br_t hl_6y (K 0 (hl_is_f (fun ⟨x, hx, q⟩ => h x hx q)))
    · have ht' : t < 6 := by omega
      have l1 := hl_G6 (hl_p d) (hl_p203 d hd) t ht'
      refine br_f (hl_6n ht') (hy_g H hd ht' (pk_eq (hl_G (hl_p d) t) g (fun z => ?_) (fun z => ?_)))
      · exact K 1 (hl_is_t ⟨t, ht', z⟩)
      · exact nm_r (nI_1 t) (ih (t + 1) (by omega) (by omega) (hl_lt_s h z))
theorem hy_it {post : Int32 → Prop} (H : hl_Y nc np cw pw cd ct pt pn dg) {d g : Nat} (hd : d < 203) (hg : g < 7) (K : ∀ r, hl_is r (∃ t, t < 6 ∧ hl_G (hl_p d) t = g) → post r) : wpY_isThere post (nl, cd, ct, pt, pn, dg, ho, ud) (nI d) (nI g) := by
  unfold wpY_isThere
  dsimp only
  exact ⟨7, hy_itl H hd hg K 7 0 (by omega) (by omega) (fun x hx => by omega)⟩
/-- where a longer list may have its further cell -/
def hl_inn (f : Nat → Option Nat) (r : Nat → Nat) (e x : Nat) : Prop := (x = 6 ∨ ∃ t, t < 6 ∧ r t = x) ∧ x ≠ r 5 ∧ x ≠ e ∧ f x = none
theorem hl_EY_back {f : Nat → Option Nat} {ho : Nat → Int32} (h : hl_EY f ho) {g x e : Nat} (hg : f g = some e) (hx : f x = none) : hl_EY f (upd (upd (upd (upd ho g (nI x)) x (nI e)) g (nI e)) x (-1)) := by
  refine ⟨fun y hy => ?_, h.2⟩
  by_cases c1 : y = x
  · subst c1; rw [pk_us, hx]; rfl
  · rw [pk_un c1]
    by_cases c2 : y = g
    · subst c2; rw [pk_us, hg]; rfl
    · rw [pk_un c2, pk_un c1, pk_un c2]; exact h.1 y hy
theorem hy_f50 {post : Int32 → SY → Prop} (H : hl_Y nc np cw pw cd ct pt pn dg) {J : Int32 → Int32 → (Nat → Int32) → (Nat → Int32) → (Nat → Int32) → (Nat → Int32) → (Nat → Int32) → (Nat → Int32) → (Nat → Int32) → Prop} {d : Nat} (hd : d < 203) {f : Nat → Option Nat} (hE : hl_EY f ho) (hn : f (hl_G (hl_p d) 5) = none) (ex : Bool)
    {g e x : Nat} (hx : x < 7) (hg : f g = some e) (th : Bool) (hth : th = true ↔ (x = 6 ∨ ∃ t, t < 6 ∧ hl_G (hl_p d) t = x))
    (K1 : (hl_inn f (hl_G (hl_p d)) e x → hl_fit (hl_ext f g x e) (hl_G (hl_p d)) (nc 1) (np 1) (cw 1) (pw 1) ex) → ∀ ho ud : Nat → Int32, hl_EY f ho → J (nI (x + 1)) (nI (hl_G (hl_p d) 5)) cd ct pt pn dg ho ud)
    (K0 : ¬ (hl_inn f (hl_G (hl_p d)) e x → hl_fit (hl_ext f g x e) (hl_G (hl_p d)) (nc 1) (np 1) (cw 1) (pw 1) ex) → ∀ ho ud : Nat → Int32, post 0 ((nI (hl_G (hl_p d) 5)), cd, ct, pt, pn, dg, ho, ud)) :
    wY_fitLonger_50 post J (nI d) (hl_bI (!ex)) (nI g) (nI e) (nI x) (hl_bI th) (nI (hl_G (hl_p d) 5)) cd ct pt pn dg ho ud := by
  have l5 := hl_G6 (hl_p d) (hl_p203 d hd) 5 (by omega)
  have lg := hE.2 g e hg
  have hin : vp_in (nI x) 7 := vp_in_nI hx (by decide)
  have hig : vp_in (nI g) 7 := vp_in_nI lg.1 (by decide)
  have skip : ¬ hl_inn f (hl_G (hl_p d)) e x → J (nI (x + 1)) (nI (hl_G (hl_p d) 5)) cd ct pt pn dg ho ud := fun q => K1 (fun w => absurd w q) _ _ hE
  unfold wY_fitLonger_50
  rw [nI_clamp (show x < 2 ^ 31 by omega), nI_clamp (show g < 2 ^ 31 by omega)]
  refine hl_br (fun z => ?_) (fun z => pk_eq x (hl_G (hl_p d) 5) (fun y => ?_) (fun y => pk_eq x e (fun w => ?_) (fun w => ⟨hin, hl_EY_ge hE hx (fun q => ?_) (fun t q => ?_)⟩)))
  · exact nm_r (nI_1 x) (skip (fun q => by rw [hth.mpr q.1] at z; cases z))
  · exact nm_r (nI_1 x) (skip (fun q => q.2.1 y))
  · exact nm_r (nI_1 x) (skip (fun q => q.2.2.1 w))
  · have inn : hl_inn f (hl_G (hl_p d)) e x := ⟨hth.mp z, y, w, q⟩
    have hE2 : hl_EY (hl_ext f g x e) (upd (upd ho g (nI x)) x (nI e)) := hl_EY_put (hl_EY_put hE lg.1 hx) hx lg.2
    have hn2 : hl_ext f g x e (hl_G (hl_p d) 5) = none := by
      rw [hl_ext_o _ _ (fun c => y c.symm) (fun c => by rw [c, hg] at hn; cases hn)]; exact hn
    refine ⟨hig, nm_e ⟨hin, nm_e (hy_ft H hd hE2 hn2 ex (fun r hr ud => ?_))⟩⟩
    have bk := hl_EY_back hE hg q
    refine ⟨hig, nm_e ⟨hin, nm_e (hl_is01 hr (fun c => ?_) (fun c => ?_))⟩⟩
    · exact K0 (fun c2 => c (c2 inn)) _ _
    · exact nm_r (nI_1 x) (K1 (fun _ => c) _ _ bk)
  · exact nm_r (nI_1 x) (skip (fun c => by rw [c.2.2.2] at q; cases q))
theorem hy_fll {post : Int32 → SY → Prop} (H : hl_Y nc np cw pw cd ct pt pn dg) {d : Nat} (hd : d < 203) {f : Nat → Option Nat} (hn : f (hl_G (hl_p d) 5) = none) (ex : Bool) {g e : Nat} (hg : f g = some e)
    (K1 : (∀ x, x < 7 → hl_inn f (hl_G (hl_p d)) e x → hl_fit (hl_ext f g x e) (hl_G (hl_p d)) (nc 1) (np 1) (cw 1) (pw 1) ex) → ∀ ho ud : Nat → Int32, hl_EY f ho → post 1 ((nI (hl_G (hl_p d) 5)), cd, ct, pt, pn, dg, ho, ud))
    (K0 : ¬ (∀ x, x < 7 → hl_inn f (hl_G (hl_p d)) e x → hl_fit (hl_ext f g x e) (hl_G (hl_p d)) (nc 1) (np 1) (cw 1) (pw 1) ex) → ∀ ho ud : Nat → Int32, post 0 ((nI (hl_G (hl_p d) 5)), cd, ct, pt, pn, dg, ho, ud)) :
    ∀ m x (ho ud : Nat → Int32), x ≤ 7 → 7 - x < m → hl_EY f ho → (∀ y, y < x → hl_inn f (hl_G (hl_p d)) e y → hl_fit (hl_ext f g y e) (hl_G (hl_p d)) (nc 1) (np 1) (cw 1) (pw 1) ex) →
      wY_fitLonger_21 post (nI d) (hl_bI (!ex)) (nI g) (nI e) m (nI x) (nI (hl_G (hl_p d) 5)) cd ct pt pn dg ho ud := by
  intro m
  induction m with
  | zero => intro x ho ud _ h; omega
  | succ m ih =>
    intro x ho ud hx hm hE h
    rw [wY_fitLonger_21]
    dsimp only
    by_cases c : x = 7
    · subst c
      exact br_t hl_7y (K1 h _ _ hE)
    · have hx' : x < 7 := by omega
      have go := fun (th : Bool) hth => hy_f50 (post := post) (ho := ho) (ud := ud) H (J := wY_fitLonger_21 post (nI d) (hl_bI (!ex)) (nI g) (nI e) m) hd hE hn ex hx' hg th hth (fun q ho ud hE => ih (x + 1) ho ud (by omega) (by omega) hE (hl_lt_s h q)) (fun q ho ud => K0 (fun w => q (w x hx')) ho ud)
      refine br_f (hl_7n hx') (pk_eq x 6 (fun z => ?_) (fun z => ?_))
      · unfold wY_fitLonger_45
        exact go true ⟨fun _ => Or.inl z, fun _ => rfl⟩
      · refine hy_it H hd hx' (fun r hr => hl_is01 hr (fun q => ?_) (fun q => ?_))
        · exact go false ⟨fun w => (by cases w), fun w => absurd w (fun w => w.elim z q)⟩
        · unfold wY_fitLonger_45
          exact go true ⟨fun _ => Or.inr q, fun _ => rfl⟩
/-- what Y asks of a division's heap -/
def hl_yfit (nc np : Nat → Nat) (cw pw : Nat → Nat → Nat) (F : HG) (k : Nat) (ex : Bool) : Prop :=
  hl_fit (hl_f F) (hl_G k) (nc 1) (np 1) (cw 1) (pw 1) ex ∧ hl_long F (hl_G k) (np 0) (pw 0) (fun f => hl_fit f (hl_G k) (nc 1) (np 1) (cw 1) (pw 1) ex)
def hl_lo (nc np : Nat → Nat) (cw pw : Nat → Nat → Nat) (F : HG) (k : Nat) (ex : Bool) (i : Nat) : Prop :=
  36 ≤ pw 0 i → hl_fr (hl_G k) (pw 0 i) ≠ hl_to (hl_G k) (pw 0 i) → ∀ x, x < 7 → hl_inn (hl_f F) (hl_G k) (hl_to (hl_G k) (pw 0 i)) x → hl_fit (hl_ext (hl_f F) (hl_fr (hl_G k) (pw 0 i)) x (hl_to (hl_G k) (pw 0 i))) (hl_G k) (nc 1) (np 1) (cw 1) (pw 1) ex
theorem hl_lo_long {F : HG} {k : Nat} {ex : Bool} : (∀ i, i < np 0 → hl_lo nc np cw pw F k ex i) ↔ hl_long F (hl_G k) (np 0) (pw 0) (fun f => hl_fit f (hl_G k) (nc 1) (np 1) (cw 1) (pw 1) ex) := by
  constructor
  · intro h i hi a b m hm c1 c2 c3 c4
    exact h i hi a b m hm ⟨c1, c2, c3, hl_f_n.mpr c4⟩
  · intro h i hi a b m hm c
    exact h i hi a b m hm c.1 c.2.1 c.2.2.1 (hl_f_n.mp c.2.2.2)
theorem hy_101 {post : Int32 → SY → Prop} {J : Int32 → Int32 → (Nat → Int32) → (Nat → Int32) → (Nat → Int32) → (Nat → Int32) → (Nat → Int32) → (Nat → Int32) → (Nat → Int32) → Prop} {x1 : Int32} {d m : Nat} (hm : 1 ≤ m) {x4 : Int32} (h : post 0 (nl, cd, ct, pt, pn, dg, ho, ud)) : wY_allFit_28 post J x1 (nI d) m 0 x4 nl cd ct pt pn dg ho ud := by
  obtain ⟨m', rfl⟩ : ∃ m', m = m' + 1 := ⟨m - 1, by omega⟩
  have z : wY_allFit_101 post J x1 (nI d) 0 nl cd ct pt pn dg ho ud := by
    unfold wY_allFit_101
    exact br_t rfl h
  rw [wY_allFit_28]
  dsimp only
  exact br_c (fun _ => z) (fun _ => br_t rfl z)
theorem hy_28 {post : Int32 → SY → Prop} (H : hl_Y nc np cw pw cd ct pt pn dg) {J : Int32 → Int32 → (Nat → Int32) → (Nat → Int32) → (Nat → Int32) → (Nat → Int32) → (Nat → Int32) → (Nat → Int32) → (Nat → Int32) → Prop} {d : Nat} (hd : d < 203) {F : HG} (hF : hl_L nc np cw pw 0 (hl_p d) = some F) (ex : Bool)
    (K1 : (∀ i, i < np 0 → hl_lo nc np cw pw F (hl_p d) ex i) → ∀ ho ud : Nat → Int32, J (nI (d + 1)) (nI (hl_G (hl_p d) 5)) cd ct pt pn dg ho ud)
    (K0 : ¬ (∀ i, i < np 0 → hl_lo nc np cw pw F (hl_p d) ex i) → ∀ ho ud : Nat → Int32, post 0 ((nI (hl_G (hl_p d) 5)), cd, ct, pt, pn, dg, ho, ud)) :
    ∀ m i (ho ud : Nat → Int32), i ≤ np 0 → np 0 - i < m → hl_EY (hl_f F) ho → (∀ j, j < i → hl_lo nc np cw pw F (hl_p d) ex j) → wY_allFit_28 post J (hl_bI (!ex)) (nI d) m 1 (nI i) (nI (hl_G (hl_p d) 5)) cd ct pt pn dg ho ud := by
  obtain ⟨h8, h6, _, ec⟩ := H.1 0 (by omega)
  obtain ⟨⟨g1, g2, g3⟩, _, _⟩ := hl_Lgf (hl_p203 d hd) hF
  intro m
  induction m with
  | zero => intro i ho ud _ h; omega
  | succ m ih =>
    intro i ho ud hi hm hE h
    rw [wY_allFit_28]
    dsimp only
    rw [ec]
    by_cases e : i = np 0
    · subst e
      refine br_t (nI_le (by omega) (by omega)) ?_
      unfold wY_allFit_101
      exact br_f hl_10 (nm_r (nI_1 d) (K1 h _ _))
    · have hi' : i < np 0 := by omega
      obtain ⟨w72, ew⟩ := H.2.2.1 0 i (by omega) hi'
      rw [show 6 * 0 + i = i by omega] at ew
      have l1 : hl_fr (hl_G (hl_p d)) (pw 0 i) < 6 := hl_fr_lt (hl_Grow (hl_p203 d hd)) _
      have l2 : hl_to (hl_G (hl_p d)) (pw 0 i) < 6 := hl_to_lt (hl_Grow (hl_p203 d hd)) _
      have skip : hl_lo nc np cw pw F (hl_p d) ex i → wY_allFit_70 post J (wY_allFit_28 post J (hl_bI (!ex)) (nI d) m) (hl_bI (!ex)) (nI d) (nI i) (nI (hl_G (hl_p d) 5)) cd ct pt pn dg ho ud := by
        intro q
        unfold wY_allFit_70 wY_allFit_71
        exact br_t rfl (nm_r (nI_1 i) (ih (i + 1) ho ud (by omega) (by omega) hE (hl_lt_s h q)))
      rw [nI_clamp (show i < 2 ^ 31 by omega), ew]
      refine br_f (nI_ge (by omega) (by omega)) (br_f hl_10 ⟨vp_in_nI (by omega) (by decide), pk_lt (pw 0 i) 36 (fun z => ?_) (fun z => ?_)⟩)
      · exact skip (fun q => by omega)
      · refine hy_ie (s := 0) H (by omega) hd hi' (hl_br (fun y => ?_) (fun y => ?_))
        · have hne : hl_fr (hl_G (hl_p d)) (pw 0 i) ≠ hl_to (hl_G (hl_p d)) (pw 0 i) := fun q => of_decide_eq_false y ⟨z, q⟩
          have hg : hl_f F (hl_fr (hl_G (hl_p d)) (pw 0 i)) = some (hl_to (hl_G (hl_p d)) (pw 0 i)) := hl_f_s ((g3 _ _).mpr ⟨i, hi', z, hne, rfl, rfl⟩)
          unfold wY_allFit_71
          refine br_f hl_10 ?_
          unfold wpY_fitLonger
          dsimp only
          refine hy_fr (s := 0) H (by omega) hd hi' (hy_to (s := 0) H (by omega) hd hi' ⟨8, hy_fll H hd (hl_f_n.mpr g1) ex hg (fun q ho ud hE => ?_) (fun q ho ud => ?_) 8 0 ho ud (by omega) (by omega) hE (fun y hy => by omega)⟩)
          · exact br_f hl_10 (nm_r (nI_1 i) (ih (i + 1) ho ud (by omega) (by omega) hE (hl_lt_s h (fun _ _ => q))))
          · exact br_t rfl (nm_r (nI_1 i) (hy_101 (by omega) (K0 (fun w => q (w i hi' z hne)) _ _)))
        · exact skip (fun _ q => absurd (of_decide_eq_true y).2 q)
def hl_yk (nc np : Nat → Nat) (cw pw : Nat → Nat → Nat) (ex : Bool) (k : Nat) : Prop := ∀ F, hl_L nc np cw pw 0 k = some F → hl_yfit nc np cw pw F k ex
theorem hy_afl {post : Int32 → SY → Prop} (H : hl_Y nc np cw pw cd ct pt pn dg) (ex : Bool) (K : ∀ r, hl_is r (∀ d, d < 203 → hl_yk nc np cw pw ex (hl_p d)) → ∀ nl (ho ud : Nat → Int32), post r (nl, cd, ct, pt, pn, dg, ho, ud)) :
    ∀ m d nl (ho ud : Nat → Int32), d ≤ 203 → 203 - d < m → (∀ j, j < d → hl_yk nc np cw pw ex (hl_p j)) → wY_allFit_2 post (hl_bI (!ex)) m (nI d) nl cd ct pt pn dg ho ud := by
  intro m
  induction m with
  | zero => intro d nl ho ud _ h; omega
  | succ m ih =>
    intro d nl ho ud hd hm h
    rw [wY_allFit_2]
    dsimp only
    by_cases e : d = 203
    · subst e
      exact br_t hl_203' (K 1 (hl_is_t h) _ _ _)
    · have hd' : d < 203 := by omega
      refine br_f (hl_203 hd') (hy_b (s := 0) H (by omega) hd' (fun z ho => ?_) (fun F z ho hE => ?_))
      · exact br_t rfl (nm_r (nI_1 d) (ih (d + 1) _ _ _ (by omega) (by omega) (hl_lt_s h (fun F q => by rw [z] at q; cases q))))
      · have g1 := (hl_Lgf (hl_p203 d hd') z).1.1
        have no : ¬ hl_yfit nc np cw pw F (hl_p d) ex → ∀ nl (ho ud : Nat → Int32), post 0 (nl, cd, ct, pt, pn, dg, ho, ud) := fun q nl ho ud => K 0 (hl_is_f (fun w => q (w d hd' F z))) _ _ _
        refine br_f hl_10 (hy_ft H hd' hE (hl_f_n.mpr g1) ex (fun r hr ud => ?_))
        rcases Classical.em (hl_fit (hl_f F) (hl_G (hl_p d)) (nc 1) (np 1) (cw 1) (pw 1) ex) with q | q
        · rw [hr.1 q]
          refine ⟨np 0 + 1, hy_28 H hd' z ex (fun w ho ud => ?_) (fun w ho ud => ?_) (np 0 + 1) 0 ho ud (by omega) (by omega) hE (fun j hj => by omega)⟩
          · refine ih (d + 1) _ ho ud (by omega) (by omega) (hl_lt_s h (fun F' z' => ?_))
            rw [z] at z'
            rw [← Option.some.inj z']
            exact ⟨q, hl_lo_long.mp w⟩
          · exact no (fun v => w (hl_lo_long.mpr v.2)) _ _ _
        · rw [hr.2 q]
          exact ⟨1, hy_101 (by omega) (no (fun v => q v.1) _ _ _)⟩
theorem hy_af {post : Int32 → SY → Prop} (H : hl_Y nc np cw pw cd ct pt pn dg) (ex : Bool) (K : ∀ r, hl_is r (∀ d, d < 203 → hl_yk nc np cw pw ex (hl_p d)) → ∀ nl (ho ud : Nat → Int32), post r (nl, cd, ct, pt, pn, dg, ho, ud)) : wpY_allFit post (nl, cd, ct, pt, pn, dg, ho, ud) (hl_bI (!ex)) := by
  unfold wpY_allFit
  dsimp only
  exact ⟨204, hy_afl H ex K 204 0 _ _ _ (by omega) (by omega) (fun j hj => by omega)⟩
theorem hl_is_n {r : Int32} {Q : Prop} (h : hl_is r Q) : narrow .boolean (.int r) = .int r := by
  rcases Classical.em Q with q | q
  · rw [h.1 q]; exact narrow_b1
  · rw [h.2 q]; exact narrow_b0
theorem hy_fo {post : Int32 → SY → Prop} (H : hl_Y nc np cw pw cd ct pt pn dg) (K : ∀ r, hl_is r (∀ d, d < 203 → hl_yk nc np cw pw true (hl_p d)) → ∀ nl (ho ud : Nat → Int32), post r (nl, cd, ct, pt, pn, dg, ho, ud)) : wpY_follows post (nl, cd, ct, pt, pn, dg, ho, ud) := by
  unfold wpY_follows
  dsimp only
  exact hy_af H true (fun r hr nl ho ud => ⟨hl_is_n hr, K r hr nl ho ud⟩)
theorem hy_cn {post : Int32 → SY → Prop} (H : hl_Y nc np cw pw cd ct pt pn dg) (K : ∀ r, hl_is r (∀ d, d < 203 → hl_yk nc np cw pw false (hl_p d)) → ∀ nl (ho ud : Nat → Int32), post r (nl, cd, ct, pt, pn, dg, ho, ud)) : wpY_contains post (nl, cd, ct, pt, pn, dg, ho, ud) := by
  unfold wpY_contains
  dsimp only
  exact hy_af H false (fun r hr nl ho ud => ⟨hl_is_n hr, K r hr nl ho ud⟩)
end
end
section
/-! Y: same, other, cell, list, drop, clear, swap -/
theorem hl_upd_id (a : Nat → Int32) (s : Nat) : upd a s (a s) = a := by
  funext x
  by_cases e : x = s
  · subst e; rw [pk_us]
  · rw [pk_un e]
section
variable {nl : Int32} {cd ct pt pn dg ho ud : Nat → Int32} {nc np : Nat → Nat} {cw pw : Nat → Nat → Nat}
theorem hy_Yc (H : hl_Y nc np cw pw cd ct pt pn dg) {s w : Nat} (hs : s < 2) (hn : nc s < 8) (hw : w < 72) : hl_Y (hl_upN nc s (nc s + 1)) np (hl_upW cw s (nc s) w) pw (upd cd (8 * s + nc s) (nI w)) (upd ct s (nI (nc s + 1))) pt pn dg := by
  obtain ⟨h1, h2, h3, h4⟩ := H
  refine ⟨fun j hj => ?_, fun j x hj hx => ?_, h3, h4⟩
  · obtain ⟨a1, a2, a3, a4⟩ := h1 j hj
    by_cases e : j = s
    · subst e
      rw [hl_upN_s, pk_us]
      exact ⟨by omega, a2, rfl, a4⟩
    · rw [hl_upN_n _ _ e, pk_un e]
      exact ⟨a1, a2, a3, a4⟩
  · obtain ⟨a1, _, _, _⟩ := h1 j hj
    by_cases e : j = s ∧ x = nc s
    · obtain ⟨rfl, rfl⟩ := e
      rw [hl_upW_s, pk_us]
      exact ⟨hw, rfl⟩
    · have hx' : x < nc j := by
        by_cases e2 : j = s
        · subst e2
          rw [hl_upN_s] at hx
          have : x ≠ nc j := fun q => e ⟨rfl, q⟩
          omega
        · rw [hl_upN_n _ _ e2] at hx; exact hx
      have ne : 8 * j + x ≠ 8 * s + nc s := by omega
      rw [hl_upW_n _ _ e, pk_un ne]
      exact h2 j x hj hx'
theorem hy_Yp (H : hl_Y nc np cw pw cd ct pt pn dg) {s w : Nat} (hs : s < 2) (hn : np s < 6) (hw : w < 72) : hl_Y nc (hl_upN np s (np s + 1)) cw (hl_upW pw s (np s) w) cd ct (upd pt (6 * s + np s) (nI w)) (upd pn s (nI (np s + 1))) dg := by
  obtain ⟨h1, h2, h3, h4⟩ := H
  refine ⟨fun j hj => ?_, h2, fun j x hj hx => ?_, h4⟩
  · obtain ⟨a1, a2, a3, a4⟩ := h1 j hj
    by_cases e : j = s
    · subst e
      rw [hl_upN_s, pk_us]
      exact ⟨a1, by omega, a3, rfl⟩
    · rw [hl_upN_n _ _ e, pk_un e]
      exact ⟨a1, a2, a3, a4⟩
  · obtain ⟨_, a1, _, _⟩ := h1 j hj
    by_cases e : j = s ∧ x = np s
    · obtain ⟨rfl, rfl⟩ := e
      rw [hl_upW_s, pk_us]
      exact ⟨hw, rfl⟩
    · have hx' : x < np j := by
        by_cases e2 : j = s
        · subst e2
          rw [hl_upN_s] at hx
          have : x ≠ np j := fun q => e ⟨rfl, q⟩
          omega
        · rw [hl_upN_n _ _ e2] at hx; exact hx
      have ne : 6 * j + x ≠ 6 * s + np s := by omega
      rw [hl_upW_n _ _ e, pk_un ne]
      exact h3 j x hj hx'
theorem hy_Ync (H : hl_Y nc np cw pw cd ct pt pn dg) {s v : Nat} (hv : v ≤ nc s) : hl_Y (hl_upN nc s v) np cw pw cd (upd ct s (nI v)) pt pn dg := by
  obtain ⟨h1, h2, h3, h4⟩ := H
  refine ⟨fun j hj => ?_, fun j x hj hx => h2 j x hj ?_, h3, h4⟩
  · obtain ⟨a1, a2, a3, a4⟩ := h1 j hj
    by_cases e : j = s
    · subst e
      rw [hl_upN_s, pk_us]
      exact ⟨by omega, a2, rfl, a4⟩
    · rw [hl_upN_n _ _ e, pk_un e]
      exact ⟨a1, a2, a3, a4⟩
  · by_cases e : j = s
    · subst e; rw [hl_upN_s] at hx; omega
    · rw [hl_upN_n _ _ e] at hx; exact hx
theorem hy_Ynp (H : hl_Y nc np cw pw cd ct pt pn dg) {s v : Nat} (hv : v ≤ np s) : hl_Y nc (hl_upN np s v) cw pw cd ct pt (upd pn s (nI v)) dg := by
  obtain ⟨h1, h2, h3, h4⟩ := H
  refine ⟨fun j hj => ?_, h2, fun j x hj hx => h3 j x hj ?_, h4⟩
  · obtain ⟨a1, a2, a3, a4⟩ := h1 j hj
    by_cases e : j = s
    · subst e
      rw [hl_upN_s, pk_us]
      exact ⟨a1, by omega, a3, rfl⟩
    · rw [hl_upN_n _ _ e, pk_un e]
      exact ⟨a1, a2, a3, a4⟩
  · by_cases e : j = s
    · subst e; rw [hl_upN_s] at hx; omega
    · rw [hl_upN_n _ _ e] at hx; exact hx
theorem hy_ac {post : Int32 → SY → Prop} (H : hl_Y nc np cw pw cd ct pt pn dg) {s w : Nat} (hs : s < 2) (hw : w < 72)
    (K0 : nc s = 8 → post (-2) (nl, cd, ct, pt, pn, dg, ho, ud)) (K1 : nc s < 8 → ∀ cd ct : Nat → Int32, hl_Y (hl_upN nc s (nc s + 1)) np (hl_upW cw s (nc s) w) pw cd ct pt pn dg → post (nI (nc s + 1)) (nl, cd, ct, pt, pn, dg, ho, ud)) : wpY_addCondition post (nl, cd, ct, pt, pn, dg, ho, ud) (nI s) (nI w) := by
  obtain ⟨h8, h6, ec, _⟩ := H.1 s hs
  unfold wpY_addCondition
  dsimp only
  rw [hl_c2 hs, ec]
  refine ⟨hl_in2 hs, pk_eq (nc s) 8 (fun z => K0 z) (fun z => ?_)⟩
  have hin : vp_in (nI (8 * s + nc s)) 16 := vp_in_nI (by omega) (by decide)
  rw [hl_i8, nI_clamp (show 8 * s + nc s < 2 ^ 31 by omega), nI_1]
  refine ⟨hl_in2 hs, hin, nm_e ⟨hl_in2 hs, hl_in2 hs, nm_e ⟨hl_in2 hs, ?_⟩⟩⟩
  rw [pk_us]
  exact K1 (by omega) _ _ (hy_Yc H hs (by omega) hw)
theorem hy_ap {post : Int32 → SY → Prop} (H : hl_Y nc np cw pw cd ct pt pn dg) {s w : Nat} (hs : s < 2) (hw : w < 72)
    (K0 : np s = 6 → post (-2) (nl, cd, ct, pt, pn, dg, ho, ud)) (K1 : np s < 6 → ∀ pt pn : Nat → Int32, hl_Y nc (hl_upN np s (np s + 1)) cw (hl_upW pw s (np s) w) cd ct pt pn dg → post (nI (np s + 1)) (nl, cd, ct, pt, pn, dg, ho, ud)) : wpY_addPart post (nl, cd, ct, pt, pn, dg, ho, ud) (nI s) (nI w) := by
  obtain ⟨h8, h6, _, ec⟩ := H.1 s hs
  unfold wpY_addPart
  dsimp only
  rw [hl_c2 hs, ec]
  refine ⟨hl_in2 hs, pk_eq (np s) 6 (fun z => K0 z) (fun z => ?_)⟩
  have hin : vp_in (nI (6 * s + np s)) 12 := vp_in_nI (by omega) (by decide)
  rw [hl_i6, nI_clamp (show 6 * s + np s < 2 ^ 31 by omega), nI_1]
  refine ⟨hl_in2 hs, hin, nm_e ⟨hl_in2 hs, hl_in2 hs, nm_e ⟨hl_in2 hs, ?_⟩⟩⟩
  rw [pk_us]
  exact K1 (by omega) _ _ (hy_Yp H hs (by omega) hw)
theorem hl_ww (a b : Nat) : (6 : Int32) * nI a + nI b = nI (6 * a + b) := hl_i6 a b
theorem hl_ww' (a b : Nat) : ((36 : Int32) + 6 * nI a) + nI b = nI (36 + 6 * a + b) := by
  rw [hl_m6, show (36 : Int32) = nI 36 from rfl, nI_add, nI_add]
theorem hy_drc {post : Int32 → SY → Prop} (H : hl_Y nc np cw pw cd ct pt pn dg) {s : Nat} (hs : s < 2) (K0 : nc s = 0 → post (-3) (nl, cd, ct, pt, pn, dg, ho, ud)) (K1 : nc s ≠ 0 → ∀ ct : Nat → Int32, hl_Y (hl_upN nc s (nc s - 1)) np cw pw cd ct pt pn dg → post (nI (nc s - 1)) (nl, cd, ct, pt, pn, dg, ho, ud)) : wpY_drop post (nl, cd, ct, pt, pn, dg, ho, ud) (nI s) (nI 0) := by
  obtain ⟨h8, h6, ec, _⟩ := H.1 s hs
  unfold wpY_drop
  dsimp only
  refine hy_ic hs (br_f hl_10 (br_t (by decide) ?_))
  unfold wY_drop_19
  rw [hl_c2 hs, ec]
  refine br_t (by decide) ⟨hl_in2 hs, ?_⟩
  unfold wY_drop_38
  refine pk_eq (nc s) 0 (fun z => K0 z) (fun z => br_t (by decide) ?_)
  unfold wY_drop_67
  rw [hl_pr z, hl_c2 hs, hl_upd_id pn s]
  exact ⟨hl_in2 hs, nm_e (br_f (by decide) ⟨hl_in2 hs, hl_in2 hs, nm_e (K1 z _ (hy_Ync H (by omega)))⟩)⟩
theorem hy_drp {post : Int32 → SY → Prop} (H : hl_Y nc np cw pw cd ct pt pn dg) {s : Nat} (hs : s < 2) (K0 : np s = 0 → post (-3) (nl, cd, ct, pt, pn, dg, ho, ud)) (K1 : np s ≠ 0 → ∀ pn : Nat → Int32, hl_Y nc (hl_upN np s (np s - 1)) cw pw cd ct pt pn dg → post (nI (np s - 1)) (nl, cd, ct, pt, pn, dg, ho, ud)) : wpY_drop post (nl, cd, ct, pt, pn, dg, ho, ud) (nI s) (nI 1) := by
  obtain ⟨h8, h6, _, ec⟩ := H.1 s hs
  unfold wpY_drop
  dsimp only
  refine hy_ic hs (br_f hl_10 (br_f (by decide) (br_t (by decide) ?_)))
  unfold wY_drop_19
  rw [hl_c2 hs, ec]
  refine br_f (by decide) ⟨hl_in2 hs, ?_⟩
  unfold wY_drop_38
  refine pk_eq (np s) 0 (fun z => K0 z) (fun z => br_f (by decide) ⟨hl_in2 hs, ?_⟩)
  unfold wY_drop_67
  rw [hl_pr z, hl_c2 hs, hl_upd_id ct s]
  exact ⟨hl_in2 hs, nm_e (br_t (by decide) ⟨hl_in2 hs, nm_e (K1 z _ (hy_Ynp H (by omega)))⟩)⟩
theorem hy_drB {post : Int32 → SY → Prop} {s : Nat} (hs : s < 2) {v : Int32} (h0 : ¬ v = 0) (h1 : ¬ v = 1) (K : post (-1) (nl, cd, ct, pt, pn, dg, ho, ud)) : wpY_drop post (nl, cd, ct, pt, pn, dg, ho, ud) (nI s) v := by
  unfold wpY_drop
  dsimp only
  exact hy_ic hs (br_f hl_10 (br_f h0 (br_f h1 K)))
theorem hy_drB1 {post : Int32 → SY → Prop} {v1 v2 : Int32} (h0 : ¬ v1 = 0) (h1 : ¬ v1 = 1) (K : post (-1) (nl, cd, ct, pt, pn, dg, ho, ud)) : wpY_drop post (nl, cd, ct, pt, pn, dg, ho, ud) v1 v2 := by
  unfold wpY_drop
  dsimp only
  exact hy_ic0 h0 h1 (br_t rfl K)
theorem hy_cl {post : Int32 → SY → Prop} (H : hl_Y nc np cw pw cd ct pt pn dg) {s : Nat} (hs : s < 2) (K : ∀ ct pn : Nat → Int32, hl_Y (hl_upN nc s 0) (hl_upN np s 0) cw pw cd ct pt pn dg → post (nI (nc s + np s)) (nl, cd, ct, pt, pn, dg, ho, ud)) : wpY_clear post (nl, cd, ct, pt, pn, dg, ho, ud) (nI s) := by
  obtain ⟨h8, h6, ec, ep'⟩ := H.1 s hs
  unfold wpY_clear
  dsimp only
  refine hy_ic hs (br_f hl_10 ⟨hl_in2 hs, hl_in2 hs, ?_⟩)
  rw [hl_c2 hs, ec, ep', nI_add]
  exact nm_e ⟨hl_in2 hs, nm_e ⟨hl_in2 hs, nm_e (K _ _ (hy_Ynp (hy_Ync H (Nat.zero_le _)) (Nat.zero_le _)))⟩⟩
theorem hy_clB {post : Int32 → SY → Prop} {v1 : Int32} (h0 : ¬ v1 = 0) (h1 : ¬ v1 = 1) (K : post (-1) (nl, cd, ct, pt, pn, dg, ho, ud)) : wpY_clear post (nl, cd, ct, pt, pn, dg, ho, ud) v1 := by
  unfold wpY_clear
  dsimp only
  exact hy_ic0 h0 h1 (br_t rfl K)
theorem hy_swpl {post : SY → Prop} (K : post (nl, cd, (upd (upd ct 0 (ct 1)) 1 (ct 0)), (hl_sw pt 6 6), (upd (upd pn 0 (pn 1)) 1 (pn 0)), dg, ho, ud)) :
    ∀ m i, i ≤ 6 → 6 - i < m → wY_swap_48 post nl m (nI i) cd ct (hl_sw pt 6 i) pn dg ho ud := by
  intro m
  induction m with
  | zero => intro i _ h; omega
  | succ m ih =>
    intro i hi hm
    rw [wY_swap_48]
    dsimp only
    by_cases e : i = 6
    · subst e
      exact br_t hl_6y (nm_e (nm_e (nm_e (nm_e (nm_e (nm_e K))))))
    · have hi' : i < 6 := by omega
      have h1 : vp_in (nI i) 12 := vp_in_nI (by omega) (by decide)
      have h2 : vp_in (nI (6 + i)) 12 := vp_in_nI (by omega) (by decide)
      rw [hl_a6, nI_clamp (show i < 2 ^ 31 by omega), nI_clamp (show 6 + i < 2 ^ 31 by omega)]
      refine br_f (hl_6n hi') ⟨h1, nm_e ⟨h2, h1, nm_e ⟨h2, nm_e (nm_r (nI_1 i) ?_)⟩⟩⟩
      rw [hl_sw_s pt hi']
      exact ih (i + 1) (by omega) (by omega)
theorem hy_swcl {post : SY → Prop} (K : post (nl, (hl_sw cd 8 8), (upd (upd ct 0 (ct 1)) 1 (ct 0)), (hl_sw pt 6 6), (upd (upd pn 0 (pn 1)) 1 (pn 0)), dg, ho, ud)) :
    ∀ m i, i ≤ 8 → 8 - i < m → wY_swap_2 post nl m (nI i) (hl_sw cd 8 i) ct pt pn dg ho ud := by
  intro m
  induction m with
  | zero => intro i _ h; omega
  | succ m ih =>
    intro i hi hm
    rw [wY_swap_2]
    dsimp only
    by_cases e : i = 8
    · subst e
      have z := hy_swpl K 7 0 (by omega) (by omega)
      rw [hl_sw_0] at z
      exact br_t (by decide) ⟨7, z⟩
    · have hi' : i < 8 := by omega
      have h1 : vp_in (nI i) 16 := vp_in_nI (by omega) (by decide)
      have h2 : vp_in (nI (8 + i)) 16 := vp_in_nI (by omega) (by decide)
      rw [hl_a8, nI_clamp (show i < 2 ^ 31 by omega), nI_clamp (show 8 + i < 2 ^ 31 by omega)]
      refine br_f (nI_ge (b := 8) (by omega) (by decide)) ⟨h1, nm_e ⟨h2, h1, nm_e ⟨h2, nm_e (nm_r (nI_1 i) ?_)⟩⟩⟩
      rw [hl_sw_s cd hi']
      exact ih (i + 1) (by omega) (by omega)
theorem hy_Ys (H : hl_Y nc np cw pw cd ct pt pn dg) : hl_Y (fun s => nc (hl_oth s)) (fun s => np (hl_oth s)) (fun s => cw (hl_oth s)) (fun s => pw (hl_oth s)) (hl_sw cd 8 8) (upd (upd ct 0 (ct 1)) 1 (ct 0)) (hl_sw pt 6 6) (upd (upd pn 0 (pn 1)) 1 (pn 0)) dg := by
  obtain ⟨h1, h2, h3, h4⟩ := H
  refine ⟨fun j hj => ?_, fun j x hj hx => ?_, fun j x hj hx => ?_, h4⟩
  · have c : j = 0 ∨ j = 1 := by omega
    rcases c with rfl | rfl
    · exact h1 1 (by omega)
    · exact h1 0 (by omega)
  · have c : j = 0 ∨ j = 1 := by omega
    rcases c with rfl | rfl
    · have hx' : x < nc 1 := hx
      obtain ⟨b, _⟩ := h1 1 (by omega)
      obtain ⟨a1, a2⟩ := h2 1 x (by omega) hx'
      rw [show 8 * 0 + x = x by omega, hl_sw_lo _ (by omega)]
      exact ⟨a1, a2⟩
    · have hx' : x < nc 0 := hx
      obtain ⟨b, _⟩ := h1 0 (by omega)
      have a := h2 0 x (by omega) hx'
      rw [show 8 * 0 + x = x by omega] at a
      rw [show 8 * 1 + x = 8 + x by omega, hl_sw_hi _ (by omega)]
      exact a
  · have c : j = 0 ∨ j = 1 := by omega
    rcases c with rfl | rfl
    · have hx' : x < np 1 := hx
      obtain ⟨_, b, _⟩ := h1 1 (by omega)
      obtain ⟨a1, a2⟩ := h3 1 x (by omega) hx'
      rw [show 6 * 0 + x = x by omega, hl_sw_lo _ (by omega)]
      exact ⟨a1, a2⟩
    · have hx' : x < np 0 := hx
      obtain ⟨_, b, _⟩ := h1 0 (by omega)
      have a := h3 0 x (by omega) hx'
      rw [show 6 * 0 + x = x by omega] at a
      rw [show 6 * 1 + x = 6 + x by omega, hl_sw_hi _ (by omega)]
      exact a
theorem hy_sw {post : SY → Prop} (H : hl_Y nc np cw pw cd ct pt pn dg) (K : ∀ cd ct pt pn : Nat → Int32, hl_Y (fun s => nc (hl_oth s)) (fun s => np (hl_oth s)) (fun s => cw (hl_oth s)) (fun s => pw (hl_oth s)) cd ct pt pn dg → post (nl, cd, ct, pt, pn, dg, ho, ud)) : wpY_swap post (nl, cd, ct, pt, pn, dg, ho, ud) := by
  unfold wpY_swap
  dsimp only
  have z := hy_swcl (nl := nl) (ho := ho) (ud := ud) (K _ _ _ _ (hy_Ys H)) 9 0 (by omega) (by omega)
  rw [hl_sw_0] at z
  exact ⟨9, z⟩
end
end
section
/-! X's constructor: the table of divisions -/
def hl_gb (k : Nat) : Nat → Nat
  | 0 => 0
  | t + 1 => if hl_G k t ≤ hl_gb k t then hl_gb k t else hl_G k t
def hl_la (k : Nat) : Nat → Nat
  | 0 => 0
  | t + 1 => if 1 ≤ t ∧ hl_G k t ≤ hl_gb k t then t else hl_la k t
def hl_nx (k t : Nat) : Nat := if t < hl_la k 6 then hl_G k t else if t = hl_la k 6 then hl_G k t + 1 else 0
theorem hl_la6 : ∀ k, k < 202 → 1 ≤ hl_la k 6 ∧ hl_la k 6 < 6 := by decide +kernel
theorem hl_nxG : ∀ k, k < 202 → ∀ t, t < 6 → hl_nx k t = hl_G (k + 1) t := by decide +kernel
theorem hl_G00 : ∀ k, k < 203 → hl_G k 0 = 0 := by decide +kernel
theorem hl_G0 : ∀ t, t < 6 → hl_G 0 t = 0 := by decide +kernel
theorem hl_gb6 {k : Nat} (hk : k < 203) : ∀ t, t ≤ 6 → hl_gb k t < 6 := by
  intro t
  induction t with
  | zero => intro _; exact (by decide : 0 < 6)
  | succ t ih =>
    intro ht
    have := ih (by omega)
    have := hl_G6 k hk t (by omega)
    show (if hl_G k t ≤ hl_gb k t then hl_gb k t else hl_G k t) < 6
    split <;> omega
theorem hl_nle1 : ∀ a, a < 8 → ¬ nI a ≤ (-1 : Int32) := by decide +kernel
section
variable {cc cA cB sm pc pA pB iL dv lt lg ep us : Nat → Int32}
theorem hx_gbl {post : Int32 → Prop} {k t : Nat} (hk : k < 203) (ht : t < 6) (h1 : 1 ≤ t) (hd : ∀ u, u < 6 → dv (6 * k + u) = nI (hl_G k u)) (K : post (nI (hl_gb k t))) :
    ∀ m u x, u ≤ t → t - u < m → ((u = 0 ∧ x = -1) ∨ (1 ≤ u ∧ x = nI (hl_gb k u))) → wX_greatestBefore_5 post (nI k) (nI t) cc cA cB sm pc pA pB iL dv lt lg ep us m x (nI u) := by
  intro m
  induction m with
  | zero => intro u x _ h; omega
  | succ m ih =>
    intro u x hu hm hx
    rw [wX_greatestBefore_5]
    dsimp only
    by_cases e : u = t
    · subst e
      rcases hx with ⟨z, _⟩ | ⟨_, rfl⟩
      · omega
      · exact br_t (nI_le (by omega) (by omega)) K
    · have hin : vp_in (nI (6 * k + u)) 1218 := vp_in_nI (by omega) (by decide)
      have l1 := hl_G6 k hk u (by omega)
      have l2 := hl_gb6 hk u (by omega)
      rw [hl_i6, nI_clamp (show 6 * k + u < 2 ^ 31 by omega), hd u (by omega)]
      refine br_f (nI_ge (by omega) (by omega)) ⟨hin, ?_⟩
      rcases hx with ⟨rfl, rfl⟩ | ⟨hu1, rfl⟩
      · refine br_f (hl_nle1 _ (by omega)) ⟨hin, nm_e (nm_r (nI_1 0) (ih (0 + 1) _ (by omega) (by omega) (Or.inr ⟨by omega, congrArg nI ?_⟩)))⟩
        show hl_G k 0 = if hl_G k 0 ≤ hl_gb k 0 then hl_gb k 0 else hl_G k 0
        rw [hl_G00 k hk]
        split <;> rfl
      · refine pk_le (hl_G k u) (hl_gb k u) (fun z => ?_) (fun z => ⟨hin, ?_⟩)
        · refine nm_r (nI_1 u) (ih (u + 1) _ (by omega) (by omega) (Or.inr ⟨by omega, congrArg nI ?_⟩))
          show _ = if hl_G k u ≤ hl_gb k u then hl_gb k u else hl_G k u
          rw [if_pos z]
        · refine nm_e (nm_r (nI_1 u) (ih (u + 1) _ (by omega) (by omega) (Or.inr ⟨by omega, congrArg nI ?_⟩)))
          show _ = if hl_G k u ≤ hl_gb k u then hl_gb k u else hl_G k u
          rw [if_neg (by omega)]
theorem hx_gb {post : Int32 → Prop} {k t : Nat} (hk : k < 203) (ht : t < 6) (h1 : 1 ≤ t) (hd : ∀ u, u < 6 → dv (6 * k + u) = nI (hl_G k u)) (K : post (nI (hl_gb k t))) : wpX_greatestBefore post (cc, cA, cB, sm, pc, pA, pB, iL, dv, lt, lg, ep, us) (nI k) (nI t) := by
  unfold wpX_greatestBefore
  dsimp only
  exact ⟨t + 1, hx_gbl hk ht h1 hd K (t + 1) 0 (-1) (by omega) (by omega) (Or.inl ⟨rfl, rfl⟩)⟩
/-- rows below k stand, all behind is zero -/
def hl_D0 (dv : Nat → Int32) (k : Nat) : Prop := (∀ j t, j < k → t < 6 → dv (6 * j + t) = nI (hl_G j t)) ∧ (∀ x, 6 * k ≤ x → dv x = 0)
def hl_D1 (dv : Nat → Int32) (k : Nat) (n : Nat) (row : Nat → Nat) : Prop := (∀ j t, j < k → t < 6 → dv (6 * j + t) = nI (hl_G j t)) ∧ (∀ t, t < n → dv (6 * k + t) = nI (row t)) ∧ (∀ x, 6 * k + 6 ≤ x → dv x = 0)
theorem hl_D1_put {dv : Nat → Int32} {k n : Nat} {row : Nat → Nat} (h : hl_D1 dv k n row) (hn : n < 6) {v : Int32} (hv : v = nI (row n)) : hl_D1 (upd dv (6 * k + n) v) k (n + 1) row := by
  obtain ⟨a, b, c⟩ := h
  refine ⟨fun j t hj ht => ?_, fun t ht => ?_, fun x hx => ?_⟩
  · rw [pk_un (by omega)]; exact a j t hj ht
  · by_cases e : t = n
    · subst e; rw [pk_us]; exact hv
    · rw [pk_un (by omega)]; exact b t (by omega)
  · rw [pk_un (by omega)]; exact c x hx
theorem hx_109 {post : SX → Prop} {k : Nat} (hk : k + 1 < 203) {J : Int32 → (Nat → Int32) → (Nat → Int32) → (Nat → Int32) → (Nat → Int32) → (Nat → Int32) → (Nat → Int32) → (Nat → Int32) → (Nat → Int32) → (Nat → Int32) → (Nat → Int32) → (Nat → Int32) → (Nat → Int32) → (Nat → Int32) → Prop}
    (K : ∀ dv : Nat → Int32, hl_D0 dv (k + 2) → J (nI (k + 2)) cc cA cB sm pc pA pB iL dv lt lg ep us) :
    ∀ m t (dv : Nat → Int32), t ≤ 6 → 6 - t < m → hl_la k 6 < t → hl_D1 dv (k + 1) t (hl_nx k) → wX_makeDivisions_109 post J (nI (k + 1)) m (nI t) cc cA cB sm pc pA pB iL dv lt lg ep us := by
  intro m
  induction m with
  | zero => intro t dv _ h; omega
  | succ m ih =>
    intro t dv ht hm hla hD
    rw [wX_makeDivisions_109]
    dsimp only
    by_cases e : t = 6
    · subst e
      refine br_t hl_6y (nm_r (nI_1 (k + 1)) (K dv ?_))
      obtain ⟨a, b, c⟩ := hD
      refine ⟨fun j t hj ht => ?_, fun x hx => c x (by omega)⟩
      by_cases ej : j = k + 1
      · subst ej
        rw [b t ht, hl_nxG k (by omega) t ht]
      · exact a j t (by omega) ht
    · rw [hl_i6, nI_clamp (show 6 * (k + 1) + t < 2 ^ 31 by omega)]
      refine br_f (hl_6n (by omega)) ⟨vp_in_nI (by omega) (by decide), nm_e (nm_r (nI_1 t) (ih (t + 1) _ (by omega) (by omega) (by omega) (hl_D1_put hD (by omega) ?_)))⟩
      unfold hl_nx
      rw [if_neg (by omega), if_neg (by omega)]; rfl
theorem hx_13 {post : SX → Prop} {k : Nat} (hk : k + 1 < 203) {J : Int32 → (Nat → Int32) → (Nat → Int32) → (Nat → Int32) → (Nat → Int32) → (Nat → Int32) → (Nat → Int32) → (Nat → Int32) → (Nat → Int32) → (Nat → Int32) → (Nat → Int32) → (Nat → Int32) → (Nat → Int32) → (Nat → Int32) → Prop}
    (K : ∀ dv : Nat → Int32, hl_D0 dv (k + 2) → J (nI (k + 2)) cc cA cB sm pc pA pB iL dv lt lg ep us) :
    ∀ m t (dv : Nat → Int32), 1 ≤ t → t ≤ 6 → 6 - t < m → hl_D1 dv (k + 1) t (hl_G k) → wX_makeDivisions_13 post J (nI (k + 1)) m (nI (hl_la k t)) (nI t) cc cA cB sm pc pA pB iL dv lt lg ep us := by
  intro m
  induction m with
  | zero => intro t dv _ _ h; omega
  | succ m ih =>
    intro t dv h1 ht hm hD
    rw [wX_makeDivisions_13]
    dsimp only
    rw [nI_pred]
    by_cases e : t = 6
    · subst e
      obtain ⟨l1, l2⟩ := hl_la6 k (by omega)
      rw [hl_i6 k (hl_la k 6), hl_i6 (k + 1) (hl_la k 6), nI_clamp (show 6 * k + hl_la k 6 < 2 ^ 31 by omega), nI_clamp (show 6 * (k + 1) + hl_la k 6 < 2 ^ 31 by omega)]
      refine br_t hl_6y ⟨vp_in_nI (by omega) (by decide), vp_in_nI (by omega) (by decide), nm_e (nm_r (nI_1 _) ⟨7, hx_109 hk K 7 _ _ (by omega) (by omega) (by omega) (hl_D1_put ?_ l2 ?_)⟩)⟩
      · obtain ⟨a, b, c⟩ := hD
        refine ⟨a, fun u hu => ?_, c⟩
        rw [b u (by omega)]
        unfold hl_nx
        rw [if_pos hu]
      · rw [hD.1 k _ (by omega) l2, nI_1]
        unfold hl_nx
        rw [if_neg (by omega), if_pos rfl]
    · have ht' : t < 6 := by omega
      have hin0 : vp_in (nI (6 * k + t)) 1218 := vp_in_nI (by omega) (by decide)
      have hin1 : vp_in (nI (6 * (k + 1) + t)) 1218 := vp_in_nI (by omega) (by decide)
      have lG := hl_G6 k (by omega) t ht'
      have lb := hl_gb6 (k := k) (by omega) t (by omega)
      rw [hl_i6 k t, hl_i6 (k + 1) t, nI_clamp (show 6 * k + t < 2 ^ 31 by omega), nI_clamp (show 6 * (k + 1) + t < 2 ^ 31 by omega)]
      refine br_f (hl_6n ht') ⟨hin0, hin1, nm_e ⟨hin0, ?_⟩⟩
      have hD' : hl_D1 (upd dv (6 * (k + 1) + t) (dv (6 * k + t))) (k + 1) (t + 1) (hl_G k) := hl_D1_put hD ht' (hD.1 k t (by omega) ht')
      refine hx_gb (by omega) ht' h1 (fun u hu => hD'.1 k u (by omega) hu) ?_
      rw [hD'.1 k t (by omega) ht']
      refine pk_lt (hl_gb k t) (hl_G k t) (fun z => ?_) (fun z => ?_)
      · have el : hl_la k (t + 1) = hl_la k t := by
          show (if 1 ≤ t ∧ hl_G k t ≤ hl_gb k t then t else hl_la k t) = _
          rw [if_neg (by omega)]
        have nx := ih (t + 1) _ (by omega) (by omega) (by omega) hD'
        rw [el] at nx
        exact nm_r (nI_1 t) nx
      · have el : hl_la k (t + 1) = t := by
          show (if 1 ≤ t ∧ hl_G k t ≤ hl_gb k t then t else hl_la k t) = _
          rw [if_pos ⟨h1, z⟩]
        have nx := ih (t + 1) _ (by omega) (by omega) (by omega) hD'
        rw [el] at nx
        exact nm_r (nI_1 t) nx
theorem hx_mdl {post : SX → Prop} (K : ∀ dv : Nat → Int32, hl_D0 dv 203 → post (cc, cA, cB, sm, pc, pA, pB, iL, dv, lt, lg, ep, us)) :
    ∀ m k (dv : Nat → Int32), 1 ≤ k → k ≤ 203 → 203 - k < m → hl_D0 dv k → wX_makeDivisions_2 post m (nI k) cc cA cB sm pc pA pB iL dv lt lg ep us := by
  intro m
  induction m with
  | zero => intro k dv _ _ h; omega
  | succ m ih =>
    intro k dv h1 hk hm hD
    rw [wX_makeDivisions_2]
    dsimp only
    by_cases e : k = 203
    · subst e
      exact br_t hl_203' (K dv hD)
    · obtain ⟨k', rfl⟩ : ∃ k', k = k' + 1 := ⟨k - 1, by omega⟩
      refine br_f (hl_203 (by omega)) ⟨6, hx_13 (by omega) (fun dv hD => ih (k' + 2) dv (by omega) (by omega) (by omega) hD) 6 1 dv (by omega) (by omega) (by omega) ?_⟩
      obtain ⟨a, b⟩ := hD
      refine ⟨a, fun t ht => ?_, fun x hx => b x (by omega)⟩
      have et : t = 0 := by omega
      subst et
      rw [b _ (by omega), hl_G00 k' (by omega)]; rfl
theorem hx_init {post : SX → Prop} (K : ∀ u : SX, hl_X (fun _ => 0) (fun _ => 0) (fun _ _ => 0) (fun _ _ => 0) u.1 u.2.1 u.2.2.1 u.2.2.2.1 u.2.2.2.2.1 u.2.2.2.2.2.1 u.2.2.2.2.2.2.1 u.2.2.2.2.2.2.2.1 u.2.2.2.2.2.2.2.2.1 → post u) : wpX_init post := by
  unfold wpX_init wpX_makeDivisions
  dsimp only
  refine ⟨203, hx_mdl (fun dv hD => K _ ?_) 203 1 _ (by omega) (by omega) (by omega) ?_⟩
  · refine ⟨fun s _ => ⟨Nat.zero_le _, Nat.zero_le _, rfl, rfl⟩, fun s i _ hi => absurd hi (Nat.not_lt_zero _), fun s i _ hi => absurd hi (Nat.not_lt_zero _), fun k t hk ht => hD.1 k t hk ht⟩
  · refine ⟨fun j t hj ht => ?_, fun x _ => rfl⟩
    have ej : j = 0 := by omega
    subst ej
    rw [hl_G0 t ht]; rfl
end
end
section
/-! Y's constructor: the numbers below 46656 that are divisions -/
def hl_mx (m g : Nat) : Nat := if g + 1 ≤ m then m else g + 1
def hl_ym (n : Nat) : Nat → Nat
  | 0 => 0
  | i + 1 => hl_mx (hl_ym n i) (n / 6 ^ i % 6)
def hl_yp (n : Nat) : Nat → Bool
  | 0 => true
  | i + 1 => hl_yp n i && decide (n / 6 ^ i % 6 ≤ hl_ym n i)
def hl_yc (n : Nat) : Nat → Int32
  | 0 => 0
  | i + 1 => hl_yc n i ||| (nI (n / 6 ^ i % 6) <<< (((3 : Int32) * nI i) &&& 31))
theorem hl_ym7 (n : Nat) : ∀ i, hl_ym n i ≤ 6
  | 0 => Nat.zero_le _
  | i + 1 => by
    have := hl_ym7 n i
    show hl_mx (hl_ym n i) (n / 6 ^ i % 6) ≤ 6
    unfold hl_mx
    split <;> omega
def hl_al6 (P : Nat → Bool) : Bool := P 0 && P 1 && P 2 && P 3 && P 4 && P 5
theorem hl_al6_c {P : Nat → Bool} (h : hl_al6 P = true) {a : Nat} (ha : a < 6) : P a = true := by
  unfold hl_al6 at h
  simp only [Bool.and_eq_true] at h
  obtain ⟨⟨⟨⟨⟨h0, h1⟩, h2⟩, h3⟩, h4⟩, h5⟩ := h
  have c : a = 0 ∨ a = 1 ∨ a = 2 ∨ a = 3 ∨ a = 4 ∨ a = 5 := by omega
  rcases c with rfl | rfl | rfl | rfl | rfl | rfl <;> assumption
theorem hl_im {a m : Nat} {q : Bool} (h : (!(Nat.ble a m) || q) = true) (ha : a ≤ m) : q = true := by
  rw [Nat.ble_eq_true_of_le ha] at h; exact h
theorem hl_yall0 : hl_al6 (fun a => !(Nat.ble a 0) || hl_al6 (fun b => !(Nat.ble b (hl_mx 0 a)) || hl_al6 (fun c => !(Nat.ble c (hl_mx (hl_mx 0 a) b)) || hl_al6 (fun d => !(Nat.ble d (hl_mx (hl_mx (hl_mx 0 a) b) c)) || hl_al6 (fun e => !(Nat.ble e (hl_mx (hl_mx (hl_mx (hl_mx 0 a) b) c) d)) || hl_al6 (fun f => !(Nat.ble f (hl_mx (hl_mx (hl_mx (hl_mx (hl_mx 0 a) b) c) d) e)) || hl_ynl.elem (a + 6 * b + 36 * c + 216 * d + 1296 * e + 7776 * f))))))) = true := by decide +kernel
theorem hl_yall {a b c d e f : Nat} (ha : a < 6) (ga : a ≤ 0) (hb : b < 6) (gb : b ≤ hl_mx 0 a) (hc : c < 6) (gc : c ≤ hl_mx (hl_mx 0 a) b) (hd : d < 6) (gd : d ≤ hl_mx (hl_mx (hl_mx 0 a) b) c) (he : e < 6) (ge : e ≤ hl_mx (hl_mx (hl_mx (hl_mx 0 a) b) c) d) (hf : f < 6) (gf : f ≤ hl_mx (hl_mx (hl_mx (hl_mx (hl_mx 0 a) b) c) d) e) : hl_ynl.elem (a + 6 * b + 36 * c + 216 * d + 1296 * e + 7776 * f) = true :=
  hl_im (hl_al6_c (hl_im (hl_al6_c (hl_im (hl_al6_c (hl_im (hl_al6_c (hl_im (hl_al6_c (hl_im (hl_al6_c hl_yall0 ha) ga) hb) gb) hc) gc) hd) gd) he) ge) hf) gf
theorem hl_ylen : hl_ynl.length = 203 := by decide +kernel
theorem hl_ysrt1 : ∀ j, j < 202 → hl_yn j < hl_yn (j + 1) := by decide +kernel
theorem hl_ytop : ∀ j, j < 203 → hl_yn j < 46656 := by decide +kernel
theorem hl_yprp : ∀ j, j < 203 → hl_yp (hl_yn j) 6 = true := by decide +kernel
theorem hl_ycod : ∀ j, j < 203 → hl_yc (hl_yn j) 6 = nI (hl_tab.getD (hl_p j) 0) := by decide +kernel
theorem hl_tlt : ∀ k, k < 203 → hl_tab.getD k 0 < 2 ^ 31 := by decide +kernel
theorem hl_ysrt {i : Nat} : ∀ j, i < j → j < 203 → hl_yn i < hl_yn j := by
  intro j
  induction j with
  | zero => intro h; omega
  | succ j ih =>
    intro h hj
    have a := hl_ysrt1 j (by omega)
    by_cases e : i = j
    · subst e; exact a
    · have := ih (by omega) (by omega); omega
theorem hl_yp_lt {n i : Nat} (h : hl_yp n (i + 1) = true) : hl_yp n i = true ∧ n / 6 ^ i % 6 ≤ hl_ym n i := by
  have z : (hl_yp n i && decide (n / 6 ^ i % 6 ≤ hl_ym n i)) = true := h
  rw [Bool.and_eq_true] at z
  exact ⟨z.1, of_decide_eq_true z.2⟩
theorem hl_ydig {n : Nat} (h : n < 46656) : n = n / 6 ^ 0 % 6 + 6 * (n / 6 ^ 1 % 6) + 36 * (n / 6 ^ 2 % 6) + 216 * (n / 6 ^ 3 % 6) + 1296 * (n / 6 ^ 4 % 6) + 7776 * (n / 6 ^ 5 % 6) := by
  simp only [Nat.reducePow]
  omega
theorem hl_yin {n : Nat} (hn : n < 46656) (h : hl_yp n 6 = true) : ∃ j, j < 203 ∧ hl_yn j = n := by
  obtain ⟨h5, g5⟩ := hl_yp_lt h
  obtain ⟨h4, g4⟩ := hl_yp_lt h5
  obtain ⟨h3, g3⟩ := hl_yp_lt h4
  obtain ⟨h2, g2⟩ := hl_yp_lt h3
  obtain ⟨h1, g1⟩ := hl_yp_lt h2
  obtain ⟨h0, g0⟩ := hl_yp_lt h1
  have z := hl_yall (Nat.mod_lt _ (by decide)) g0 (Nat.mod_lt _ (by decide)) g1 (Nat.mod_lt _ (by decide)) g2 (Nat.mod_lt _ (by decide)) g3 (Nat.mod_lt _ (by decide)) g4 (Nat.mod_lt _ (by decide)) g5
  rw [← hl_ydig hn, List.elem_eq_mem] at z
  have z' := of_decide_eq_true z
  obtain ⟨j, hj, e⟩ := List.mem_iff_getElem.mp z'
  refine ⟨j, by rw [hl_ylen] at hj; exact hj, ?_⟩
  unfold hl_yn
  rw [List.getD_eq_getElem?_getD, List.getElem?_eq_getElem hj]
  exact e
theorem hl_sh3 : ∀ t, t < 6 → ((((3 : Int32) * nI t) &&& 31).toBitVec.smod 32).toNat = 3 * t := by decide +kernel
theorem hl_shG {c t : Nat} (hc : c < 2 ^ 31) (ht : t < 6) : ((nI c) >>> (((3 : Int32) * nI t) &&& 31)) &&& 7 = nI (c / 8 ^ t % 8) := by
  rw [pk_shrN hc _ (3 * t) (hl_sh3 t ht), pk_andN (Nat.lt_of_le_of_lt (Nat.div_le_self _ _) (Nat.lt_trans hc (by decide))) 3 (by decide), Nat.pow_mul]
theorem hl_yG {d t : Nat} (hd : d < 203) (ht : t < 6) : ((hl_yc (hl_yn d) 6) >>> (((3 : Int32) * nI t) &&& 31)) &&& 7 = nI (hl_G (hl_p d) t) := by
  rw [hl_ycod d hd]
  exact hl_shG (hl_tlt _ (hl_p203 d hd)) ht
theorem hl_md {n i : Nat} : n / 6 ^ i / 6 = n / 6 ^ (i + 1) := by
  rw [Nat.div_div_eq_div_mul, Nat.pow_succ]
section
variable {nl : Int32} {cd ct pt pn dg ho ud : Nat → Int32}
theorem hy_123 {post : SY → Prop} {J63 : Int32 → Int32 → (Nat → Int32) → (Nat → Int32) → (Nat → Int32) → (Nat → Int32) → (Nat → Int32) → (Nat → Int32) → (Nat → Int32) → Prop} {J : Int32 → Int32 → Int32 → Int32 → Int32 → Prop} {x1 x2 x4 z : Int32} {n i : Nat} (hi : i < 6)
    (hJ : J (hl_yc n (i + 1)) x4 (nI (hl_ym n (i + 1)) - 1) z (nI (i + 1))) : wY_init_123 post J63 J x1 x2 (hl_yc n i) x4 (nI (hl_ym n i) - 1) (nI i) (nI (n / 6 ^ i % 6)) z nl cd ct pt pn dg ho ud := by
  have l6 := hl_ym7 n i
  have lg : n / 6 ^ i % 6 < 6 := Nat.mod_lt _ (by decide)
  have em : hl_ym n (i + 1) = hl_mx (hl_ym n i) (n / 6 ^ i % 6) := rfl
  unfold wY_init_123
  by_cases c : n / 6 ^ i % 6 + 1 ≤ hl_ym n i
  · have e1 : hl_ym n (i + 1) = hl_ym n i := by rw [em]; unfold hl_mx; rw [if_pos c]
    rw [e1] at hJ
    refine br_t ?_ ?_
    · obtain ⟨m, hm⟩ : ∃ m, hl_ym n i = m + 1 := ⟨hl_ym n i - 1, by omega⟩
      rw [hm, nI_pred]
      exact nI_le (by omega) (by omega)
    · unfold wY_init_139
      exact nm_e (nm_r (nI_1 i) hJ)
  · have e1 : hl_ym n (i + 1) = n / 6 ^ i % 6 + 1 := by rw [em]; unfold hl_mx; rw [if_neg c]
    rw [e1, nI_pred] at hJ
    refine br_f ?_ ?_
    · by_cases c0 : hl_ym n i = 0
      · rw [c0]
        exact hl_nle1 _ (by omega)
      · obtain ⟨m, hm⟩ : ∃ m, hl_ym n i = m + 1 := ⟨hl_ym n i - 1, by omega⟩
        rw [hm, nI_pred]
        exact nI_ge (by omega) (by omega)
    · unfold wY_init_139
      exact nm_e (nm_r (nI_1 i) hJ)
theorem hy_83 {post : SY → Prop} {J63 : Int32 → Int32 → (Nat → Int32) → (Nat → Int32) → (Nat → Int32) → (Nat → Int32) → (Nat → Int32) → (Nat → Int32) → (Nat → Int32) → Prop} {c n : Nat} (hc : c ≤ 203) (hn : n < 46656)
    (K0 : hl_yp n 6 = false → J63 (nI c) (nI (n + 1)) cd ct pt pn dg ho ud) (K1 : hl_yp n 6 = true → c < 203 ∧ J63 (nI (c + 1)) (nI (n + 1)) cd ct pt pn (upd dg c (hl_yc n 6)) ho ud) :
    ∀ j m i, i + j = 6 → j < m → wY_init_83 post J63 (nI c) (nI n) nl cd ct pt pn dg ho ud m (hl_yc n i) (nI (n / 6 ^ i)) (nI (hl_ym n i) - 1) (hl_bI (hl_yp n i)) (nI i) := by
  intro j
  induction j with
  | zero =>
    intro m i hi hm
    obtain ⟨m', rfl⟩ : ∃ m', m = m' + 1 := ⟨m - 1, by omega⟩
    have ei : i = 6 := by omega
    subst ei
    rw [wY_init_83]
    dsimp only
    rw [nI_clamp (show c < 2 ^ 31 by omega)]
    refine br_t hl_6y (hl_br (fun z => ?_) (fun z => ?_))
    · exact nm_r (nI_1 n) (K0 z)
    · obtain ⟨c1, k1⟩ := K1 z
      exact ⟨vp_in_nI c1 (by decide), nm_e (nm_r (nI_1 c) (nm_r (nI_1 n) k1))⟩
  | succ j ih =>
    intro m i hi hm
    obtain ⟨m', rfl⟩ : ∃ m', m = m' + 1 := ⟨m - 1, by omega⟩
    have l6 := hl_ym7 n i
    have lg : n / 6 ^ i % 6 < 6 := Nat.mod_lt _ (by decide)
    have ln : n / 6 ^ i ≤ n := Nat.div_le_self _ _
    have nx := ih m' (i + 1) (by omega) (by omega)
    have ey : hl_yp n (i + 1) = (hl_yp n i && decide (n / 6 ^ i % 6 ≤ hl_ym n i)) := rfl
    rw [ey] at nx
    rw [wY_init_83]
    dsimp only
    refine br_f (hl_6n (by omega)) ⟨hl_60, nm_r (show nI (n / 6 ^ i) - nI (n / 6 ^ i) / 6 * 6 = nI (n / 6 ^ i % 6) from pk_rem (d := 6) (by omega) (by omega) (by omega)) ⟨hl_60, nm_r (show nI (n / 6 ^ i) / 6 = nI (n / 6 ^ (i + 1)) by rw [← hl_md]; exact pk_div (d := 6) (by omega) (by omega) (by omega)) ?_⟩⟩
    refine hl_br (fun z => ?_) (fun z => ?_)
    · rw [z] at nx
      unfold wY_init_122
      exact hy_123 (by omega) nx
    · rw [z] at nx
      rw [Int32.sub_add_cancel]
      refine pk_lt (hl_ym n i) (n / 6 ^ i % 6) (fun y => ?_) (fun y => ?_)
      · rw [decide_eq_false (by omega)] at nx
        unfold wY_init_122
        exact hy_123 (by omega) nx
      · rw [decide_eq_true y] at nx
        exact hy_123 (by omega) nx
theorem hy_63i {post : SY → Prop} (K : ∀ dg : Nat → Int32, (∀ j, j < 203 → dg j = hl_yc (hl_yn j) 6) → post (nl, cd, ct, pt, pn, dg, ho, ud)) :
    ∀ m n c (dg : Nat → Int32), n ≤ 46656 → 46656 - n < m → c ≤ 203 → (∀ j, j < c → hl_yn j < n) → (∀ j, c ≤ j → j < 203 → n ≤ hl_yn j) → (∀ j, j < c → dg j = hl_yc (hl_yn j) 6) → wY_init_63 post nl m (nI c) (nI n) cd ct pt pn dg ho ud := by
  intro m
  induction m with
  | zero => intro n c dg _ h; omega
  | succ m ih =>
    intro n c dg hn hm hc h1 h2 h3
    rw [wY_init_63]
    dsimp only
    by_cases e : n = 46656
    · subst e
      refine br_t (nI_le (a := 46656) (b := 46656) (by omega) (by decide)) (K dg (fun j hj => h3 j ?_))
      rcases Nat.lt_or_ge j c with z | z
      · exact z
      · have a := h2 j z hj
        have b := hl_ytop j hj
        omega
    · have hn' : n < 46656 := by omega
      refine br_f (nI_ge (b := 46656) hn' (by decide)) ⟨7, ?_⟩
      have go := hy_83 (post := post) (nl := nl) (cd := cd) (ct := ct) (pt := pt) (pn := pn) (dg := dg) (ho := ho) (ud := ud) (J63 := wY_init_63 post nl m) (c := c) (n := n) hc hn' (fun z => ?_) (fun z => ?_) 6 7 0 (by omega) (by omega)
      · rw [show n / 6 ^ 0 = n by rw [Nat.pow_zero, Nat.div_one]] at go
        exact go
      · refine ih (n + 1) c dg (by omega) (by omega) hc (fun j hj => by have := h1 j hj; omega) (fun j hj hj' => ?_) h3
        have a := h2 j hj hj'
        by_cases e2 : hl_yn j = n
        · have b := hl_yprp j hj'
          rw [e2, z] at b; cases b
        · omega
      · obtain ⟨j, hj, ej⟩ := hl_yin hn' z
        have cj : c ≤ j := by
          rcases Nat.lt_or_ge j c with q | q
          · have := h1 j q; omega
          · exact q
        have ec : j = c := by
          rcases Nat.lt_or_ge c j with q | q
          · have a := hl_ysrt j q hj
            have b := h2 c (Nat.le_refl _) (by omega)
            omega
          · omega
        subst ec
        refine ⟨hj, ih (n + 1) (j + 1) _ (by omega) (by omega) (by omega) (fun i hi => ?_) (fun i hi hi' => ?_) (fun i hi => ?_)⟩
        · by_cases e3 : i = j
          · subst e3; omega
          · have := h1 i (by omega); omega
        · have a := hl_ysrt (i := j) i (by omega) hi'
          omega
        · by_cases e3 : i = j
          · subst e3; rw [pk_us, ej]
          · rw [pk_un e3]; exact h3 i (by omega)
theorem hy_init {post : SY → Prop} (K : ∀ v : SY, hl_Y (fun _ => 0) (fun _ => 0) (fun _ _ => 0) (fun _ _ => 0) v.2.1 v.2.2.1 v.2.2.2.1 v.2.2.2.2.1 v.2.2.2.2.2.1 → post v) : wpY_init post := by
  unfold wpY_init
  refine ⟨46657, hy_63i (fun dg hd => K _ ?_) 46657 0 0 _ (by omega) (by omega) (by omega) (fun j hj => by omega) (fun j _ _ => Nat.zero_le _) (fun j hj => by omega)⟩
  refine ⟨fun s _ => ⟨Nat.zero_le _, Nat.zero_le _, rfl, rfl⟩, fun s i _ hi => absurd hi (Nat.not_lt_zero _), fun s i _ hi => absurd hi (Nat.not_lt_zero _), fun d t hd' ht => ?_⟩
  show (dg d >>> _) &&& 7 = _
  rw [hd d hd']
  exact hl_yG hd' ht
end
end
section
/-! the relation and what joins the two sides -/
def i_Rel (k : Nat) (u : SX) (v : SY) : Prop := ∃ (nc np : Nat → Nat) (cw pw : Nat → Nat → Nat), hl_X nc np cw pw u.1 u.2.1 u.2.2.1 u.2.2.2.1 u.2.2.2.2.1 u.2.2.2.2.2.1 u.2.2.2.2.2.2.1 u.2.2.2.2.2.2.2.1 u.2.2.2.2.2.2.2.2.1 ∧ hl_Y nc np cw pw v.2.1 v.2.2.1 v.2.2.2.1 v.2.2.2.2.1 v.2.2.2.2.2.1
theorem i_up {k : Nat} {u : SX} {v : SY} (h : i_Rel k u v) : i_Rel (k + 4) u v := h
theorem hl_el {P : SX → SY → Prop} {k : Nat} {u : SX} {v : SY} (I : i_Rel k u v) (h : ∀ (nc np : Nat → Nat) (cw pw : Nat → Nat → Nat) (cc cA cB sm pc pA pB iL dv lt lg ep us : Nat → Int32) (nl : Int32) (cd ct pt pn dg ho ud : Nat → Int32), hl_X nc np cw pw cc cA cB sm pc pA pB iL dv → hl_Y nc np cw pw cd ct pt pn dg → P (cc, cA, cB, sm, pc, pA, pB, iL, dv, lt, lg, ep, us) (nl, cd, ct, pt, pn, dg, ho, ud)) : P u v := by
  obtain ⟨nc, np, cw, pw, a, b⟩ := I
  exact h nc np cw pw u.1 u.2.1 u.2.2.1 u.2.2.2.1 u.2.2.2.2.1 u.2.2.2.2.2.1 u.2.2.2.2.2.2.1 u.2.2.2.2.2.2.2.1 u.2.2.2.2.2.2.2.2.1 u.2.2.2.2.2.2.2.2.2.1 u.2.2.2.2.2.2.2.2.2.2.1 u.2.2.2.2.2.2.2.2.2.2.2.1 u.2.2.2.2.2.2.2.2.2.2.2.2 v.1 v.2.1 v.2.2.1 v.2.2.2.1 v.2.2.2.2.1 v.2.2.2.2.2.1 v.2.2.2.2.2.2.1 v.2.2.2.2.2.2.2 a b
theorem hl_mk {nc np : Nat → Nat} {cw pw : Nat → Nat → Nat} {cc cA cB sm pc pA pB iL dv lt lg ep us : Nat → Int32} {nl : Int32} {cd ct pt pn dg ho ud : Nat → Int32} {k : Nat} (a : hl_X nc np cw pw cc cA cB sm pc pA pB iL dv) (b : hl_Y nc np cw pw cd ct pt pn dg) : i_Rel k (cc, cA, cB, sm, pc, pA, pB, iL, dv, lt, lg, ep, us) (nl, cd, ct, pt, pn, dg, ho, ud) := ⟨nc, np, cw, pw, a, b⟩
theorem hl_ncl {v : Int32} (h : v < 0 ∨ (¬ v < 0 ∧ ¬ v ≤ 1)) : ¬ v = 0 ∧ ¬ v = 1 := by
  constructor <;> intro z <;> subst z
  · rcases h with h | h
    · exact absurd h (by decide)
    · exact absurd (by decide) h.2
  · rcases h with h | h
    · exact absurd h (by decide)
    · exact absurd (by decide) h.2
theorem hl_cl' (v : Int32) : (∃ s, s < 2 ∧ v = nI s) ∨ (v < 0 ∨ (¬ v < 0 ∧ ¬ v ≤ 1)) := (hl_cl v).imp id (fun h => h.2.2)
theorem hl_args (v1 v2 v3 : Int32) : (∃ s a b, s < 2 ∧ a < 6 ∧ b < 6 ∧ v1 = nI s ∧ v2 = nI a ∧ v3 = nI b) ∨ hl_bad v1 v2 v3 := by
  rcases hl_cl' v1 with ⟨s, hs, rfl⟩ | h1
  · rcases hl_nm v2 with ⟨a, ha, rfl⟩ | h2
    · rcases hl_nm v3 with ⟨b, hb, rfl⟩ | h3
      · exact Or.inl ⟨s, a, b, hs, ha, hb, rfl, rfl, rfl⟩
      · exact Or.inr (Or.inr ⟨s, hs, rfl, Or.inr ⟨a, ha, rfl, h3⟩⟩)
    · exact Or.inr (Or.inr ⟨s, hs, rfl, Or.inl h2⟩)
  · exact Or.inr (Or.inl h1)
theorem hy_bad {A B : Prop} {u : SY} {v1 v2 v3 : Int32} (hv : hl_bad v1 v2 v3) (h : A) : wpY_isClaim (fun r => (r = 0 → A) ∧ (¬ r = 0 → wpY_isName (fun r => (r = 0 → A) ∧ (¬ r = 0 → wpY_isName (fun r => (r = 0 → A) ∧ (¬ r = 0 → B)) u v3)) u v2)) u v1 := by
  rcases hv with z | ⟨s, hs, rfl, z | ⟨a, ha, rfl, z⟩⟩
  · exact hy_ic0 (hl_ncl z).1 (hl_ncl z).2 (br_t rfl h)
  · exact hy_ic hs (br_f hl_10 (hy_in0 z (br_t rfl h)))
  · exact hy_ic hs (br_f hl_10 (hy_in ha (br_f hl_10 (hy_in0 z (br_t rfl h)))))
theorem hy_bad2 {A B : Prop} {u : SY} {v1 v2 : Int32} (hv : hl_bad v1 v2 0) (h : A) : wpY_isClaim (fun r => (r = 0 → A) ∧ (¬ r = 0 → wpY_isName (fun r => (r = 0 → A) ∧ (¬ r = 0 → B)) u v2)) u v1 := by
  rcases hv with z | ⟨s, hs, rfl, z | ⟨a, ha, rfl, z⟩⟩
  · exact hy_ic0 (hl_ncl z).1 (hl_ncl z).2 (br_t rfl h)
  · exact hy_ic hs (br_f hl_10 (hy_in0 z (br_t rfl h)))
  · rcases z with z | ⟨_, z, _⟩
    · exact absurd z (by decide)
    · exact absurd (by decide) z
section
variable {nc np : Nat → Nat} {cw pw : Nat → Nat → Nat}
theorem hl_xy {ex : Bool} {k : Nat} (hk : k < 203) : hl_xk nc np cw pw ex k ↔ hl_yk nc np cw pw ex k := by
  constructor
  · intro h F hF
    exact hl_main1 (hl_Grow hk) (hl_Lgf hk hF).2.1 (h F hF)
  · intro h F hF
    obtain ⟨a, b⟩ := h F hF
    exact hl_main2 (hl_Grow hk) (hl_Lgf hk hF).2.1 a b
theorem hl_xyall {ex : Bool} : (∀ k, k < 203 → hl_xk nc np cw pw ex k) ↔ ∀ d, d < 203 → hl_yk nc np cw pw ex (hl_p d) := by
  rw [hl_pall (P := fun k => hl_yk nc np cw pw ex k)]
  exact ⟨fun h k hk => (hl_xy hk).mp (h k hk), fun h k hk => (hl_xy hk).mpr (h k hk)⟩
theorem hl_tgxy {k : Nat} (hk : k < 203) : hl_tg nc np cw pw k ↔ hl_tgy nc np cw pw k := by
  constructor
  · rintro ⟨F, hF, hc, hb⟩
    cases e : hl_bd (hl_G k) (pw 1) F (np 1) with
    | none => exact absurd e hb
    | some F' =>
      obtain ⟨F1, a1, _, a3⟩ := hl_tg1 e
      refine ⟨F, F1, hF, ?_, fun g _ => (a3 g).imp hl_f_n.mpr hl_f_n.mpr⟩
      unfold hl_L hl_lay
      rw [if_pos hc]; exact a1
  · rintro ⟨F0, F1, h0, h1, hd⟩
    obtain ⟨_, b1, c1⟩ := hl_Lgf hk h1
    have hd' : ∀ g, F0 g = none ∨ F1 g = none := fun g => by
      rcases Nat.lt_or_ge g 7 with z | z
      · exact (hd g z).imp hl_f_n.mp hl_f_n.mp
      · exact Or.inl (hl_L6 hk h0 (by omega))
    obtain ⟨F, a1, _⟩ := hl_tg2 b1 hd'
    exact ⟨F0, h0, c1, by rw [a1]; intro z; cases z⟩
theorem hl_reaxy {s a b k : Nat} (hk : k < 203) (ha : a < 6) : (∀ F, hl_L nc np cw pw s k = some F → hl_cy (hl_f F) (hl_G k b) 7 (hl_G k a) = true) ↔ ∀ F, hl_L nc np cw pw s k = some F → hl_cy (hl_f F) (hl_G k b) 8 (hl_G k a) = true := by
  have q : ∀ F, hl_L nc np cw pw s k = some F → hl_cy (hl_f F) (hl_G k b) 8 (hl_G k a) = hl_cy (hl_f F) (hl_G k b) 7 (hl_G k a) := by
    intro F hF
    obtain ⟨⟨_, g2, _⟩, _, _⟩ := hl_Lgf hk hF
    refine hl_cy_87 (fun g t z => ?_) (hl_G6 k hk a ha)
    obtain ⟨l, hl⟩ := hl_f_c z
    exact (g2 g t l hl).2.1
  exact ⟨fun h F hF => by rw [q F hF]; exact h F hF, fun h F hF => by rw [← q F hF]; exact h F hF⟩
end
end
section
/-! what is owed -/
theorem i_vc0 : wpX_init (fun u => wpY_init (fun v => i_Rel 0 u v)) := hx_init (fun u hu => hy_init (fun v hv => ⟨_, _, _, _, hu, hv⟩))
theorem i_vc_same {k : Nat} {u : SX} {v : SY} (I : i_Rel k u v) (hk : k + 4 ≤ 2048) (v1 : Int32) (v2 : Int32) (v3 : Int32) : wpX_same (fun r u' => wpY_same (fun r' v' => r' = r ∧ i_Rel (k + 4) u' v') v v1 v2 v3) u v1 v2 v3 := by
  refine hl_el (P := fun u v => wpX_same (fun r u' => wpY_same (fun r' v' => r' = r ∧ i_Rel (k + 4) u' v') v v1 v2 v3) u v1 v2 v3) I ?_
  intro nc np cw pw cc cA cB sm pc pA pB iL dv lt lg ep us nl cd ct pt pn dg ho ud HX HY
  unfold wpX_same
  dsimp only
  rcases hl_args v1 v2 v3 with ⟨s, a, b, hs, ha, hb, rfl, rfl, rfl⟩ | hv
  · have e1 : (6 * a + b) % 36 / 6 = a := by omega
    have e2 : (6 * a + b) % 6 = b := by omega
    have e3 : decide (6 * a + b < 36) = true := decide_eq_true (by omega)
    have Y : ∀ post : Int32 → SY → Prop, wpY_addCondition post (nl, cd, ct, pt, pn, dg, ho, ud) (nI s) (nI (6 * a + b)) → wpY_same post (nl, cd, ct, pt, pn, dg, ho, ud) (nI s) (nI a) (nI b) := by
      intro post z
      unfold wpY_same
      dsimp only
      rw [hl_ww]
      exact hy_ic hs (br_f hl_10 (hy_in ha (br_f hl_10 (hy_in hb (br_f hl_10 z)))))
    have z := hx_cond (post := fun r u' => wpY_same (fun r' v' => r' = r ∧ i_Rel (k + 4) u' v') (nl, cd, ct, pt, pn, dg, ho, ud) (nI s) (nI a) (nI b)) (lt := lt) (lg := lg) (ep := ep) (us := us) HX hs (w := 6 * a + b) (by omega) (fun q => ?_) (fun q cc cA cB sm HX' => ?_)
    · rw [e1, e2, e3] at z
      exact z
    · exact Y _ (hy_ac HY hs (by omega) (fun _ => ⟨rfl, hl_mk HX HY⟩) (fun q' => by omega))
    · exact Y _ (hy_ac HY hs (by omega) (fun q' => by omega) (fun _ cd ct HY' => ⟨rfl, hl_mk HX' HY'⟩))
  · refine hx_condB hv ?_
    unfold wpY_same
    dsimp only
    exact hy_bad hv ⟨rfl, hl_mk HX HY⟩
theorem i_vc_other {k : Nat} {u : SX} {v : SY} (I : i_Rel k u v) (hk : k + 4 ≤ 2048) (v1 : Int32) (v2 : Int32) (v3 : Int32) : wpX_other (fun r u' => wpY_other (fun r' v' => r' = r ∧ i_Rel (k + 4) u' v') v v1 v2 v3) u v1 v2 v3 := by
  refine hl_el (P := fun u v => wpX_other (fun r u' => wpY_other (fun r' v' => r' = r ∧ i_Rel (k + 4) u' v') v v1 v2 v3) u v1 v2 v3) I ?_
  intro nc np cw pw cc cA cB sm pc pA pB iL dv lt lg ep us nl cd ct pt pn dg ho ud HX HY
  unfold wpX_other
  dsimp only
  rcases hl_args v1 v2 v3 with ⟨s, a, b, hs, ha, hb, rfl, rfl, rfl⟩ | hv
  · have e1 : (36 + 6 * a + b) % 36 / 6 = a := by omega
    have e2 : (36 + 6 * a + b) % 6 = b := by omega
    have e3 : decide (36 + 6 * a + b < 36) = false := decide_eq_false (by omega)
    have Y : ∀ post : Int32 → SY → Prop, wpY_addCondition post (nl, cd, ct, pt, pn, dg, ho, ud) (nI s) (nI (36 + 6 * a + b)) → wpY_other post (nl, cd, ct, pt, pn, dg, ho, ud) (nI s) (nI a) (nI b) := by
      intro post z
      unfold wpY_other
      dsimp only
      rw [hl_ww']
      exact hy_ic hs (br_f hl_10 (hy_in ha (br_f hl_10 (hy_in hb (br_f hl_10 z)))))
    have z := hx_cond (post := fun r u' => wpY_other (fun r' v' => r' = r ∧ i_Rel (k + 4) u' v') (nl, cd, ct, pt, pn, dg, ho, ud) (nI s) (nI a) (nI b)) (lt := lt) (lg := lg) (ep := ep) (us := us) HX hs (w := 36 + 6 * a + b) (by omega) (fun q => ?_) (fun q cc cA cB sm HX' => ?_)
    · rw [e1, e2, e3] at z
      exact z
    · exact Y _ (hy_ac HY hs (by omega) (fun _ => ⟨rfl, hl_mk HX HY⟩) (fun q' => by omega))
    · exact Y _ (hy_ac HY hs (by omega) (fun q' => by omega) (fun _ cd ct HY' => ⟨rfl, hl_mk HX' HY'⟩))
  · refine hx_condB hv ?_
    unfold wpY_other
    dsimp only
    exact hy_bad hv ⟨rfl, hl_mk HX HY⟩
theorem i_vc_cell {k : Nat} {u : SX} {v : SY} (I : i_Rel k u v) (hk : k + 4 ≤ 2048) (v1 : Int32) (v2 : Int32) (v3 : Int32) : wpX_cell (fun r u' => wpY_cell (fun r' v' => r' = r ∧ i_Rel (k + 4) u' v') v v1 v2 v3) u v1 v2 v3 := by
  refine hl_el (P := fun u v => wpX_cell (fun r u' => wpY_cell (fun r' v' => r' = r ∧ i_Rel (k + 4) u' v') v v1 v2 v3) u v1 v2 v3) I ?_
  intro nc np cw pw cc cA cB sm pc pA pB iL dv lt lg ep us nl cd ct pt pn dg ho ud HX HY
  unfold wpX_cell
  dsimp only
  rcases hl_args v1 v2 v3 with ⟨s, a, b, hs, ha, hb, rfl, rfl, rfl⟩ | hv
  · have e1 : (6 * a + b) % 36 / 6 = a := by omega
    have e2 : (6 * a + b) % 6 = b := by omega
    have e3 : decide (36 ≤ 6 * a + b) = false := decide_eq_false (by omega)
    have Y : ∀ post : Int32 → SY → Prop, wpY_addPart post (nl, cd, ct, pt, pn, dg, ho, ud) (nI s) (nI (6 * a + b)) → wpY_cell post (nl, cd, ct, pt, pn, dg, ho, ud) (nI s) (nI a) (nI b) := by
      intro post z
      unfold wpY_cell
      dsimp only
      rw [hl_ww]
      exact hy_ic hs (br_f hl_10 (hy_in ha (br_f hl_10 (hy_in hb (br_f hl_10 z)))))
    have z := hx_part (post := fun r u' => wpY_cell (fun r' v' => r' = r ∧ i_Rel (k + 4) u' v') (nl, cd, ct, pt, pn, dg, ho, ud) (nI s) (nI a) (nI b)) (lt := lt) (lg := lg) (ep := ep) (us := us) HX hs (w := 6 * a + b) (by omega) (fun q => ?_) (fun q pc pA pB iL HX' => ?_)
    · rw [e1, e2, e3] at z
      exact z
    · exact Y _ (hy_ap HY hs (by omega) (fun _ => ⟨rfl, hl_mk HX HY⟩) (fun q' => by omega))
    · exact Y _ (hy_ap HY hs (by omega) (fun q' => by omega) (fun _ pt pn HY' => ⟨rfl, hl_mk HX' HY'⟩))
  · refine hx_partB hv ?_
    unfold wpY_cell
    dsimp only
    exact hy_bad hv ⟨rfl, hl_mk HX HY⟩
theorem i_vc_list {k : Nat} {u : SX} {v : SY} (I : i_Rel k u v) (hk : k + 4 ≤ 2048) (v1 : Int32) (v2 : Int32) (v3 : Int32) : wpX_list (fun r u' => wpY_list (fun r' v' => r' = r ∧ i_Rel (k + 4) u' v') v v1 v2 v3) u v1 v2 v3 := by
  refine hl_el (P := fun u v => wpX_list (fun r u' => wpY_list (fun r' v' => r' = r ∧ i_Rel (k + 4) u' v') v v1 v2 v3) u v1 v2 v3) I ?_
  intro nc np cw pw cc cA cB sm pc pA pB iL dv lt lg ep us nl cd ct pt pn dg ho ud HX HY
  unfold wpX_list
  dsimp only
  rcases hl_args v1 v2 v3 with ⟨s, a, b, hs, ha, hb, rfl, rfl, rfl⟩ | hv
  · have e1 : (36 + 6 * a + b) % 36 / 6 = a := by omega
    have e2 : (36 + 6 * a + b) % 6 = b := by omega
    have e3 : decide (36 ≤ 36 + 6 * a + b) = true := decide_eq_true (by omega)
    have Y : ∀ post : Int32 → SY → Prop, wpY_addPart post (nl, cd, ct, pt, pn, dg, ho, ud) (nI s) (nI (36 + 6 * a + b)) → wpY_list post (nl, cd, ct, pt, pn, dg, ho, ud) (nI s) (nI a) (nI b) := by
      intro post z
      unfold wpY_list
      dsimp only
      rw [hl_ww']
      exact hy_ic hs (br_f hl_10 (hy_in ha (br_f hl_10 (hy_in hb (br_f hl_10 z)))))
    have z := hx_part (post := fun r u' => wpY_list (fun r' v' => r' = r ∧ i_Rel (k + 4) u' v') (nl, cd, ct, pt, pn, dg, ho, ud) (nI s) (nI a) (nI b)) (lt := lt) (lg := lg) (ep := ep) (us := us) HX hs (w := 36 + 6 * a + b) (by omega) (fun q => ?_) (fun q pc pA pB iL HX' => ?_)
    · rw [e1, e2, e3] at z
      exact z
    · exact Y _ (hy_ap HY hs (by omega) (fun _ => ⟨rfl, hl_mk HX HY⟩) (fun q' => by omega))
    · exact Y _ (hy_ap HY hs (by omega) (fun q' => by omega) (fun _ pt pn HY' => ⟨rfl, hl_mk HX' HY'⟩))
  · refine hx_partB hv ?_
    unfold wpY_list
    dsimp only
    exact hy_bad hv ⟨rfl, hl_mk HX HY⟩
theorem i_vc_drop {k : Nat} {u : SX} {v : SY} (I : i_Rel k u v) (hk : k + 4 ≤ 2048) (v1 : Int32) (v2 : Int32) : wpX_drop (fun r u' => wpY_drop (fun r' v' => r' = r ∧ i_Rel (k + 4) u' v') v v1 v2) u v1 v2 := by
  refine hl_el (P := fun u v => wpX_drop (fun r u' => wpY_drop (fun r' v' => r' = r ∧ i_Rel (k + 4) u' v') v v1 v2) u v1 v2) I ?_
  intro nc np cw pw cc cA cB sm pc pA pB iL dv lt lg ep us nl cd ct pt pn dg ho ud HX HY
  rcases hl_cl' v1 with ⟨s, hs, rfl⟩ | h1
  · rcases hl_cl' v2 with ⟨t, ht, rfl⟩ | h2
    · have c : t = 0 ∨ t = 1 := by omega
      rcases c with rfl | rfl
      · refine hx_drc HX hs (fun q => ?_) (fun q cc HX' => ?_)
        · exact hy_drc HY hs (fun _ => ⟨rfl, hl_mk HX HY⟩) (fun q' => absurd q q')
        · exact hy_drc HY hs (fun q' => absurd q' q) (fun _ ct HY' => ⟨rfl, hl_mk HX' HY'⟩)
      · refine hx_drp HX hs (fun q => ?_) (fun q pc HX' => ?_)
        · exact hy_drp HY hs (fun _ => ⟨rfl, hl_mk HX HY⟩) (fun q' => absurd q q')
        · exact hy_drp HY hs (fun q' => absurd q' q) (fun _ pn HY' => ⟨rfl, hl_mk HX' HY'⟩)
    · exact hx_drB hs h2 (hy_drB hs (hl_ncl h2).1 (hl_ncl h2).2 ⟨rfl, hl_mk HX HY⟩)
  · exact hx_drB1 h1 (hy_drB1 (hl_ncl h1).1 (hl_ncl h1).2 ⟨rfl, hl_mk HX HY⟩)
theorem i_vc_clear {k : Nat} {u : SX} {v : SY} (I : i_Rel k u v) (hk : k + 4 ≤ 2048) (v1 : Int32) : wpX_clear (fun r u' => wpY_clear (fun r' v' => r' = r ∧ i_Rel (k + 4) u' v') v v1) u v1 := by
  refine hl_el (P := fun u v => wpX_clear (fun r u' => wpY_clear (fun r' v' => r' = r ∧ i_Rel (k + 4) u' v') v v1) u v1) I ?_
  intro nc np cw pw cc cA cB sm pc pA pB iL dv lt lg ep us nl cd ct pt pn dg ho ud HX HY
  rcases hl_cl' v1 with ⟨s, hs, rfl⟩ | h1
  · exact hx_cl HX hs (fun cc pc HX' => hy_cl HY hs (fun ct pn HY' => ⟨rfl, hl_mk HX' HY'⟩))
  · exact hx_clB h1 (hy_clB (hl_ncl h1).1 (hl_ncl h1).2 ⟨rfl, hl_mk HX HY⟩)
theorem i_vc_swap {k : Nat} {u : SX} {v : SY} (I : i_Rel k u v) (hk : k + 4 ≤ 2048) : wpX_swap (fun u' => wpY_swap (fun v' => i_Rel (k + 4) u' v') v) u := by
  refine hl_el (P := fun u v => wpX_swap (fun u' => wpY_swap (fun v' => i_Rel (k + 4) u' v') v) u) I ?_
  intro nc np cw pw cc cA cB sm pc pA pB iL dv lt lg ep us nl cd ct pt pn dg ho ud HX HY
  exact hx_sw HX (fun cc cA cB sm pc pA pB iL HX' => hy_sw HY (fun cd ct pt pn HY' => hl_mk HX' HY'))
theorem i_vc_possible {k : Nat} {u : SX} {v : SY} (I : i_Rel k u v) (hk : k + 4 ≤ 2048) (v1 : Int32) : wpX_possible (fun r u' => wpY_possible (fun r' v' => r' = r ∧ i_Rel (k + 4) u' v') v v1) u v1 := by
  refine hl_el (P := fun u v => wpX_possible (fun r u' => wpY_possible (fun r' v' => r' = r ∧ i_Rel (k + 4) u' v') v v1) u v1) I ?_
  intro nc np cw pw cc cA cB sm pc pA pB iL dv lt lg ep us nl cd ct pt pn dg ho ud HX HY
  rcases hl_cl' v1 with ⟨s, hs, rfl⟩ | h1
  · exact hx_pos HX hs (fun r hr lt lg ep us => hy_pos HY hs (fun r' hr' nl ho => ⟨hl_is_u hr hr' (hl_pex (P := fun k => hl_L nc np cw pw s k ≠ none)).symm, hl_mk HX HY⟩))
  · refine hx_posB h1 ?_
    unfold wpY_possible
    dsimp only
    exact hy_ic0 (hl_ncl h1).1 (hl_ncl h1).2 (br_t rfl ⟨rfl, hl_mk HX HY⟩)
theorem i_vc_divisions {k : Nat} {u : SX} {v : SY} (I : i_Rel k u v) (hk : k + 4 ≤ 2048) (v1 : Int32) : wpX_divisions (fun r u' => wpY_divisions (fun r' v' => r' = r ∧ i_Rel (k + 4) u' v') v v1) u v1 := by
  refine hl_el (P := fun u v => wpX_divisions (fun r u' => wpY_divisions (fun r' v' => r' = r ∧ i_Rel (k + 4) u' v') v v1) u v1) I ?_
  intro nc np cw pw cc cA cB sm pc pA pB iL dv lt lg ep us nl cd ct pt pn dg ho ud HX HY
  rcases hl_cl' v1 with ⟨s, hs, rfl⟩ | h1
  · exact hx_div HX hs (fun lt lg ep us => hy_div HY hs (fun nl ho => ⟨congrArg nI (hl_kn_p (fun k => (hl_L nc np cw pw s k).isSome)), hl_mk HX HY⟩))
  · unfold wpX_divisions
    dsimp only
    refine hx_bc1 h1 (br_f hl_10 ?_)
    unfold wpY_divisions
    dsimp only
    exact hy_ic0 (hl_ncl h1).1 (hl_ncl h1).2 (br_t rfl ⟨rfl, hl_mk HX HY⟩)
theorem i_vc_alwaysSame {k : Nat} {u : SX} {v : SY} (I : i_Rel k u v) (hk : k + 4 ≤ 2048) (v1 : Int32) (v2 : Int32) (v3 : Int32) : wpX_alwaysSame (fun r u' => wpY_alwaysSame (fun r' v' => r' = r ∧ i_Rel (k + 4) u' v') v v1 v2 v3) u v1 v2 v3 := by
  refine hl_el (P := fun u v => wpX_alwaysSame (fun r u' => wpY_alwaysSame (fun r' v' => r' = r ∧ i_Rel (k + 4) u' v') v v1 v2 v3) u v1 v2 v3) I ?_
  intro nc np cw pw cc cA cB sm pc pA pB iL dv lt lg ep us nl cd ct pt pn dg ho ud HX HY
  rcases hl_args v1 v2 v3 with ⟨s, a, b, hs, ha, hb, rfl, rfl, rfl⟩ | hv
  · refine hx_as HX hs ha hb (fun r hr lt lg ep us => hy_as HY hs ha hb (fun r' hr' nl ho => ⟨hl_is_u hr hr' ?_, hl_mk HX HY⟩))
    rw [← hl_pall (P := fun k => hl_G k a = hl_G k b ∨ hl_L nc np cw pw s k = none)]
    exact ⟨fun h d hd => (h d hd).imp decide_eq_true id, fun h d hd => (h d hd).imp of_decide_eq_true id⟩
  · unfold wpX_alwaysSame
    dsimp only
    refine hx_ba1 hv (br_f hl_10 ?_)
    unfold wpY_alwaysSame
    dsimp only
    exact hy_bad hv ⟨rfl, hl_mk HX HY⟩
theorem i_vc_neverSame {k : Nat} {u : SX} {v : SY} (I : i_Rel k u v) (hk : k + 4 ≤ 2048) (v1 : Int32) (v2 : Int32) (v3 : Int32) : wpX_neverSame (fun r u' => wpY_neverSame (fun r' v' => r' = r ∧ i_Rel (k + 4) u' v') v v1 v2 v3) u v1 v2 v3 := by
  refine hl_el (P := fun u v => wpX_neverSame (fun r u' => wpY_neverSame (fun r' v' => r' = r ∧ i_Rel (k + 4) u' v') v v1 v2 v3) u v1 v2 v3) I ?_
  intro nc np cw pw cc cA cB sm pc pA pB iL dv lt lg ep us nl cd ct pt pn dg ho ud HX HY
  rcases hl_args v1 v2 v3 with ⟨s, a, b, hs, ha, hb, rfl, rfl, rfl⟩ | hv
  · refine hx_ns HX hs ha hb (fun r hr lt lg ep us => hy_ns HY hs ha hb (fun r' hr' nl ho => ⟨hl_is_u hr hr' ?_, hl_mk HX HY⟩))
    rw [← hl_pall (P := fun k => hl_G k a ≠ hl_G k b ∨ hl_L nc np cw pw s k = none)]
    exact ⟨fun h d hd => (h d hd).imp decide_eq_false id, fun h d hd => (h d hd).imp of_decide_eq_false id⟩
  · unfold wpX_neverSame
    dsimp only
    refine hx_ba1 hv (br_f hl_10 ?_)
    unfold wpY_neverSame
    dsimp only
    exact hy_bad hv ⟨rfl, hl_mk HX HY⟩
theorem i_vc_held {k : Nat} {u : SX} {v : SY} (I : i_Rel k u v) (hk : k + 4 ≤ 2048) (v1 : Int32) (v2 : Int32) : wpX_held (fun r u' => wpY_held (fun r' v' => r' = r ∧ i_Rel (k + 4) u' v') v v1 v2) u v1 v2 := by
  refine hl_el (P := fun u v => wpX_held (fun r u' => wpY_held (fun r' v' => r' = r ∧ i_Rel (k + 4) u' v') v v1 v2) u v1 v2) I ?_
  intro nc np cw pw cc cA cB sm pc pA pB iL dv lt lg ep us nl cd ct pt pn dg ho ud HX HY
  rcases hl_args v1 v2 0 with ⟨s, a, b, hs, ha, hb, rfl, rfl, _⟩ | hv
  · refine hx_he HX hs ha (fun r hr lt lg ep us => hy_he HY hs ha (fun r' hr' nl ho => ⟨hl_is_u hr hr' ?_, hl_mk HX HY⟩))
    exact (hl_pall (P := fun k => ∀ F, hl_L nc np cw pw s k = some F → F (hl_G k a) ≠ none)).symm
  · unfold wpX_held
    dsimp only
    refine hx_ba1 hv (br_f hl_10 ?_)
    unfold wpY_held
    dsimp only
    exact hy_bad2 hv ⟨rfl, hl_mk HX HY⟩
theorem i_vc_reaches {k : Nat} {u : SX} {v : SY} (I : i_Rel k u v) (hk : k + 4 ≤ 2048) (v1 : Int32) (v2 : Int32) (v3 : Int32) : wpX_reaches (fun r u' => wpY_reaches (fun r' v' => r' = r ∧ i_Rel (k + 4) u' v') v v1 v2 v3) u v1 v2 v3 := by
  refine hl_el (P := fun u v => wpX_reaches (fun r u' => wpY_reaches (fun r' v' => r' = r ∧ i_Rel (k + 4) u' v') v v1 v2 v3) u v1 v2 v3) I ?_
  intro nc np cw pw cc cA cB sm pc pA pB iL dv lt lg ep us nl cd ct pt pn dg ho ud HX HY
  rcases hl_args v1 v2 v3 with ⟨s, a, b, hs, ha, hb, rfl, rfl, rfl⟩ | hv
  · refine hx_re HX hs ha hb (fun r hr lt lg ep us => hy_re HY hs ha hb (fun r' hr' nl ho => ⟨hl_is_u hr hr' ?_, hl_mk HX HY⟩))
    rw [hl_pall (P := fun k => ∀ F, hl_L nc np cw pw s k = some F → hl_cy (hl_f F) (hl_G k b) 8 (hl_G k a) = true)]
    exact ⟨fun h k hk => (hl_reaxy hk ha).mp (h k hk), fun h k hk => (hl_reaxy hk ha).mpr (h k hk)⟩
  · unfold wpX_reaches
    dsimp only
    refine hx_ba1 hv (br_f hl_10 ?_)
    unfold wpY_reaches
    dsimp only
    exact hy_bad hv ⟨rfl, hl_mk HX HY⟩
theorem i_vc_least {k : Nat} {u : SX} {v : SY} (I : i_Rel k u v) (hk : k + 4 ≤ 2048) (v1 : Int32) : wpX_least (fun r u' => wpY_least (fun r' v' => r' = r ∧ i_Rel (k + 4) u' v') v v1) u v1 := by
  refine hl_el (P := fun u v => wpX_least (fun r u' => wpY_least (fun r' v' => r' = r ∧ i_Rel (k + 4) u' v') v v1) u v1) I ?_
  intro nc np cw pw cc cA cB sm pc pA pB iL dv lt lg ep us nl cd ct pt pn dg ho ud HX HY
  rcases hl_cl' v1 with ⟨s, hs, rfl⟩ | h1
  · exact hx_le HX hs (fun r hr lt lg ep us => hy_le HY hs (fun r' hr' nl ho => ⟨hl_mnr_u hr hr', hl_mk HX HY⟩))
  · unfold wpX_least
    dsimp only
    refine hx_bc1 h1 (br_f hl_10 ?_)
    unfold wpY_least
    dsimp only
    exact hy_ic0 (hl_ncl h1).1 (hl_ncl h1).2 (br_t rfl ⟨rfl, hl_mk HX HY⟩)
theorem i_vc_most {k : Nat} {u : SX} {v : SY} (I : i_Rel k u v) (hk : k + 4 ≤ 2048) (v1 : Int32) : wpX_most (fun r u' => wpY_most (fun r' v' => r' = r ∧ i_Rel (k + 4) u' v') v v1) u v1 := by
  refine hl_el (P := fun u v => wpX_most (fun r u' => wpY_most (fun r' v' => r' = r ∧ i_Rel (k + 4) u' v') v v1) u v1) I ?_
  intro nc np cw pw cc cA cB sm pc pA pB iL dv lt lg ep us nl cd ct pt pn dg ho ud HX HY
  rcases hl_cl' v1 with ⟨s, hs, rfl⟩ | h1
  · refine hx_mo HX hs (fun r hr1 hr2 lt lg ep us => hy_mo HY hs (fun r' hr1' hr2' nl ho => ⟨?_, hl_mk HX HY⟩))
    have e := hl_pex (P := fun k => hl_lgk nc np cw pw s k)
    rcases Classical.em (∃ k, k < 203 ∧ hl_lgk nc np cw pw s k) with q | q
    · rw [hr1 q, hr1' (e.mpr q)]
    · exact hl_ma_u (hr2 q) (hr2' (fun w => q (e.mp w)))
  · unfold wpX_most
    dsimp only
    refine hx_bc1 h1 (br_f hl_10 ?_)
    unfold wpY_most
    dsimp only
    exact hy_ic0 (hl_ncl h1).1 (hl_ncl h1).2 (br_t rfl ⟨rfl, hl_mk HX HY⟩)
theorem i_vc_follows {k : Nat} {u : SX} {v : SY} (I : i_Rel k u v) (hk : k + 4 ≤ 2048) : wpX_follows (fun r u' => wpY_follows (fun r' v' => r' = r ∧ i_Rel (k + 4) u' v') v) u := by
  refine hl_el (P := fun u v => wpX_follows (fun r u' => wpY_follows (fun r' v' => r' = r ∧ i_Rel (k + 4) u' v') v) u) I ?_
  intro nc np cw pw cc cA cB sm pc pA pB iL dv lt lg ep us nl cd ct pt pn dg ho ud HX HY
  exact hx_fo HX (fun r hr lt lg ep us => hy_fo HY (fun r' hr' nl ho ud => ⟨hl_is_u hr hr' hl_xyall, hl_mk HX HY⟩))
theorem i_vc_contains {k : Nat} {u : SX} {v : SY} (I : i_Rel k u v) (hk : k + 4 ≤ 2048) : wpX_contains (fun r u' => wpY_contains (fun r' v' => r' = r ∧ i_Rel (k + 4) u' v') v) u := by
  refine hl_el (P := fun u v => wpX_contains (fun r u' => wpY_contains (fun r' v' => r' = r ∧ i_Rel (k + 4) u' v') v) u) I ?_
  intro nc np cw pw cc cA cB sm pc pA pB iL dv lt lg ep us nl cd ct pt pn dg ho ud HX HY
  exact hx_cn HX (fun r hr lt lg ep us => hy_cn HY (fun r' hr' nl ho ud => ⟨hl_is_u hr hr' hl_xyall, hl_mk HX HY⟩))
theorem i_vc_together {k : Nat} {u : SX} {v : SY} (I : i_Rel k u v) (hk : k + 4 ≤ 2048) : wpX_together (fun r u' => wpY_together (fun r' v' => r' = r ∧ i_Rel (k + 4) u' v') v) u := by
  refine hl_el (P := fun u v => wpX_together (fun r u' => wpY_together (fun r' v' => r' = r ∧ i_Rel (k + 4) u' v') v) u) I ?_
  intro nc np cw pw cc cA cB sm pc pA pB iL dv lt lg ep us nl cd ct pt pn dg ho ud HX HY
  refine hx_tg HX (fun r hr lt lg ep us => hy_tg HY (fun r' hr' nl ho => ⟨hl_is_u hr hr' ?_, hl_mk HX HY⟩))
  rw [hl_pex (P := fun k => hl_tgy nc np cw pw k)]
  exact ⟨fun ⟨k, hk, h⟩ => ⟨k, hk, (hl_tgxy hk).mp h⟩, fun ⟨k, hk, h⟩ => ⟨k, hk, (hl_tgxy hk).mpr h⟩⟩
end
