section
theorem pk_us {f : Nat → Int32} {k : Nat} {x : Int32} : upd f k x k = x := if_pos rfl
theorem pk_un {f : Nat → Int32} {k j : Nat} {x : Int32} (h : j ≠ k) : upd f k x j = f j := if_neg h
theorem pk_sub {a b : Nat} (h : b ≤ a) : nI a - nI b = nI (a - b) := by
  obtain ⟨c, rfl⟩ : ∃ c, a = c + b := ⟨a - b, by omega⟩
  rw [← nI_add, Int32.add_sub_cancel, Nat.add_sub_cancel]
theorem pk_m1 (n : Nat) : nI (n + 1) + (-1) = nI n := by
  rw [← nI_1, Int32.add_assoc, show (1 : Int32) + (-1) = 0 from rfl, Int32.add_zero]
theorem pk_mul (a b : Nat) : nI a * nI b = nI (a * b) := (Int32.ofNat_mul a b).symm
theorem pk_div {a d : Nat} (ha : a < 2 ^ 31) (h0 : 0 < d) (hd : d < 2 ^ 31) : nI a / nI d = nI (a / d) := by
  apply Int32.toInt_inj.mp
  rw [lg_idiv_nonneg (by rw [nI_toInt ha]; omega) (by rw [nI_toInt hd]; omega), nI_toInt ha, nI_toInt hd, nI_toInt (Nat.lt_of_le_of_lt (Nat.div_le_self a d) ha)]
  first | rfl | exact (Int.natCast_ediv _ _).symm
theorem pk_rem {a d : Nat} (ha : a < 2 ^ 31) (h0 : 0 < d) (hd : d < 2 ^ 31) : nI a - nI a / nI d * nI d = nI (a % d) := by
  rw [pk_div ha h0 hd, pk_mul, pk_sub (Nat.div_mul_le_self a d)]
  exact congrArg nI (by have := Nat.div_add_mod' a d; omega)
theorem pk_sub_toInt {a b : Nat} (ha : a < 2 ^ 30) (hb : b < 2 ^ 30) : (nI a - nI b).toInt = (a : Int) - b := by
  rw [Int32.toInt_sub, nI_toInt (by omega), nI_toInt (by omega)]
  exact Int.bmod_eq_of_le (by omega) (by omega)
theorem pk_sneg {a b : Nat} (hb : b < 2 ^ 30) (h : a < b) : nI a - nI b < 0 := by
  rw [Int32.lt_iff_toInt_lt, pk_sub_toInt (by omega) hb, show (0 : Int32).toInt = 0 from by decide]
  omega
theorem pk_ix (x : Int32) {n : Nat} (hn : n < 2 ^ 31) : x < 0 ∨ nI n ≤ x ∨ ∃ j : Nat, j < n ∧ x = nI j := by
  by_cases h : x < 0
  · exact Or.inl h
  · obtain ⟨j, hj, rfl⟩ := nI_of h
    by_cases h2 : j < n
    · exact Or.inr (Or.inr ⟨j, h2, rfl⟩)
    · exact Or.inr (Or.inl (nI_le (by omega) hj))
theorem pk_le {x y : Int32} {A B : Prop} (a b : Nat) (f : a ≤ b → A) (g : b < a → B) (hx : x = nI a := by rfl) (hy : y = nI b := by rfl) (ha : a < 2 ^ 31 := by omega) (hb : b < 2 ^ 31 := by omega) : (x ≤ y → A) ∧ (¬ x ≤ y → B) := by
  subst hx hy
  rw [nI_leI ha hb]
  exact ⟨f, fun z => g (by omega)⟩
theorem pk_lt {x y : Int32} {A B : Prop} (a b : Nat) (f : a < b → A) (g : b ≤ a → B) (hx : x = nI a := by rfl) (hy : y = nI b := by rfl) (ha : a < 2 ^ 31 := by omega) (hb : b < 2 ^ 31 := by omega) : (x < y → A) ∧ (¬ x < y → B) := by
  subst hx hy
  rw [nI_ltI ha hb]
  exact ⟨f, fun z => g (by omega)⟩
theorem pk_eq {x y : Int32} {A B : Prop} (a b : Nat) (f : a = b → A) (g : a ≠ b → B) (hx : x = nI a := by rfl) (hy : y = nI b := by rfl) (ha : a < 2 ^ 31 := by omega) (hb : b < 2 ^ 31 := by omega) : (x = y → A) ∧ (¬ x = y → B) := by
  subst hx hy
  rw [nI_eq ha hb]
  exact ⟨f, g⟩
theorem pk_in {x : Int32} (n N : Nat) (h : n < N) (hx : x = nI n := by rfl) (hN : N < 2 ^ 31 := by omega) : vp_in x N := by
  subst hx
  exact vp_in_nI h hN
theorem pk_cl {x : Int32} (n : Nat) (hx : x = nI n := by rfl) (h : n < 2 ^ 31 := by omega) : x.toNatClampNeg = n := by
  subst hx
  exact nI_clamp h
end
section
/-! the half ring of summaries: none, or (greatest score, how many have it, how many in all) -/
abbrev rf_Op : Type := Option (Int × Nat × Nat)
def rf_a3 (x y : Int × Nat × Nat) : Int × Nat × Nat :=
  (max x.1 y.1, (if y.1 ≤ x.1 then x.2.1 else 0) + (if x.1 ≤ y.1 then y.2.1 else 0), x.2.2 + y.2.2)
def rf_m3 (x y : Int × Nat × Nat) : Int × Nat × Nat := (x.1 + y.1, x.2.1 * y.2.1, x.2.2 * y.2.2)
theorem rf_e3 {x y : Int × Nat × Nat} (h1 : x.1 = y.1) (h2 : x.2.1 = y.2.1) (h3 : x.2.2 = y.2.2) : x = y :=
  Prod.ext h1 (Prod.ext h2 h3)
theorem rf_a3_comm (x y : Int × Nat × Nat) : rf_a3 x y = rf_a3 y x := by
  refine rf_e3 ?_ ?_ ?_
  · simp only [rf_a3]; omega
  · simp only [rf_a3]; omega
  · simp only [rf_a3]; omega
theorem rf_a3_k (a b c : Int) (u v w : Nat) : ((if c ≤ max a b then (if b ≤ a then u else 0) + (if a ≤ b then v else 0) else 0) + (if max a b ≤ c then w else 0)) = ((if max b c ≤ a then u else 0) + (if a ≤ max b c then (if c ≤ b then v else 0) + (if b ≤ c then w else 0) else 0)) := by
  by_cases h1 : a ≤ b <;> by_cases h2 : b ≤ a <;> by_cases h3 : b ≤ c <;> by_cases h4 : c ≤ b <;> by_cases h5 : a ≤ c <;> by_cases h6 : c ≤ a <;> first | omega | (simp only [Int.max_def, h1, h2, h3, h4, h5, h6, if_true, if_false] <;> omega)
theorem rf_a3_assoc (x y z : Int × Nat × Nat) : rf_a3 (rf_a3 x y) z = rf_a3 x (rf_a3 y z) := by
  refine rf_e3 ?_ ?_ ?_
  · simp only [rf_a3]; omega
  · exact rf_a3_k _ _ _ _ _ _
  · simp only [rf_a3]; omega
theorem rf_m3_comm (x y : Int × Nat × Nat) : rf_m3 x y = rf_m3 y x := by
  refine rf_e3 ?_ ?_ ?_
  · simp only [rf_m3]; omega
  · simp only [rf_m3]; exact Nat.mul_comm _ _
  · simp only [rf_m3]; exact Nat.mul_comm _ _
theorem rf_m3_assoc (x y z : Int × Nat × Nat) : rf_m3 (rf_m3 x y) z = rf_m3 x (rf_m3 y z) := by
  refine rf_e3 ?_ ?_ ?_
  · simp only [rf_m3]; omega
  · simp only [rf_m3]; exact Nat.mul_assoc _ _ _
  · simp only [rf_m3]; exact Nat.mul_assoc _ _ _
theorem rf_m3_add (x y z : Int × Nat × Nat) : rf_m3 x (rf_a3 y z) = rf_a3 (rf_m3 x y) (rf_m3 x z) := by
  refine rf_e3 ?_ ?_ ?_
  · simp only [rf_a3, rf_m3]; omega
  · have e1 : (x.1 + z.1 ≤ x.1 + y.1) = (z.1 ≤ y.1) := propext ⟨fun h => by omega, fun h => by omega⟩
    have e2 : (x.1 + y.1 ≤ x.1 + z.1) = (y.1 ≤ z.1) := propext ⟨fun h => by omega, fun h => by omega⟩
    simp only [rf_a3, rf_m3, Nat.mul_add]
    by_cases h1 : z.1 ≤ y.1
    · by_cases h2 : y.1 ≤ z.1
      · simp only [h1, h2, e1, e2, if_true]
      · simp only [h1, h2, e1, e2, if_true, if_false, Nat.mul_zero]
    · by_cases h2 : y.1 ≤ z.1
      · simp only [h1, h2, e1, e2, if_true, if_false, Nat.mul_zero]
      · omega
  · simp only [rf_a3, rf_m3]; exact Nat.mul_add _ _ _

def rf_ad : rf_Op → rf_Op → rf_Op
  | none, y => y
  | some x, none => some x
  | some x, some y => some (rf_a3 x y)
def rf_mu : rf_Op → rf_Op → rf_Op
  | none, _ => none
  | some _, none => none
  | some x, some y => some (rf_m3 x y)
def rf_one : rf_Op := some (0, 1, 1)
/-- one fold with this score -/
def rf_sv (d : Int) : rf_Op := some (d, 1, 1)
def rf_sh (d : Int) (x : rf_Op) : rf_Op := rf_mu (rf_sv d) x
theorem rf_none_ad (x : rf_Op) : rf_ad none x = x := rfl
theorem rf_ad_none (x : rf_Op) : rf_ad x none = x := by cases x <;> rfl
theorem rf_ad_comm (x y : rf_Op) : rf_ad x y = rf_ad y x := by
  cases x with
  | none => exact (rf_ad_none y).symm
  | some x => cases y with
    | none => rfl
    | some y => exact congrArg some (rf_a3_comm x y)
theorem rf_ad_assoc (x y z : rf_Op) : rf_ad (rf_ad x y) z = rf_ad x (rf_ad y z) := by
  cases x with
  | none => rfl
  | some x => cases y with
    | none => rfl
    | some y => cases z with
      | none => rfl
      | some z => exact congrArg some (rf_a3_assoc x y z)
theorem rf_ad4 (a b c d : rf_Op) : rf_ad (rf_ad a b) (rf_ad c d) = rf_ad (rf_ad a c) (rf_ad b d) := by
  rw [rf_ad_assoc, rf_ad_assoc, ← rf_ad_assoc b c d, rf_ad_comm b c, rf_ad_assoc c b d]
theorem rf_none_mu (x : rf_Op) : rf_mu none x = none := rfl
theorem rf_mu_none (x : rf_Op) : rf_mu x none = none := by cases x <;> rfl
theorem rf_mu_comm (x y : rf_Op) : rf_mu x y = rf_mu y x := by
  cases x with
  | none => exact (rf_mu_none y).symm
  | some x => cases y with
    | none => rfl
    | some y => exact congrArg some (rf_m3_comm x y)
theorem rf_mu_assoc (x y z : rf_Op) : rf_mu (rf_mu x y) z = rf_mu x (rf_mu y z) := by
  cases x with
  | none => rfl
  | some x => cases y with
    | none => rfl
    | some y => cases z with
      | none => rfl
      | some z => exact congrArg some (rf_m3_assoc x y z)
theorem rf_mu_ad (x y z : rf_Op) : rf_mu x (rf_ad y z) = rf_ad (rf_mu x y) (rf_mu x z) := by
  cases x with
  | none => rfl
  | some x => cases y with
    | none => rfl
    | some y => cases z with
      | none => rfl
      | some z => exact congrArg some (rf_m3_add x y z)
theorem rf_ad_mu (x y z : rf_Op) : rf_mu (rf_ad x y) z = rf_ad (rf_mu x z) (rf_mu y z) := by
  rw [rf_mu_comm, rf_mu_ad, rf_mu_comm z x, rf_mu_comm z y]
theorem rf_one_mu (x : rf_Op) : rf_mu rf_one x = x := by
  cases x with
  | none => rfl
  | some x =>
    refine congrArg some (rf_e3 ?_ ?_ ?_)
    · simp only [rf_m3]; omega
    · simp only [rf_m3]; exact Nat.one_mul _
    · simp only [rf_m3]; exact Nat.one_mul _
theorem rf_mu_one (x : rf_Op) : rf_mu x rf_one = x := by rw [rf_mu_comm, rf_one_mu]
theorem rf_sh0 (x : rf_Op) : rf_sh 0 x = x := rf_one_mu x
theorem rf_sh_none (d : Int) : rf_sh d none = none := rfl
theorem rf_sh_ad (d : Int) (x y : rf_Op) : rf_sh d (rf_ad x y) = rf_ad (rf_sh d x) (rf_sh d y) := rf_mu_ad _ x y
theorem rf_sh_one (d : Int) : rf_sh d rf_one = rf_sv d := rf_mu_one _
theorem rf_sh_sv (d v : Int) : rf_sh d (rf_sv v) = rf_sv (d + v) := rfl
/-- a shift goes past a product's first factor -/
theorem rf_sh_mu (d : Int) (x y : rf_Op) : rf_sh d (rf_mu x y) = rf_mu x (rf_sh d y) := by
  unfold rf_sh
  rw [← rf_mu_assoc, rf_mu_comm (rf_sv d) x, rf_mu_assoc]
theorem rf_mu_sv (d : Int) (x : rf_Op) : rf_mu x (rf_sv d) = rf_sh d x := rf_mu_comm _ _

/-- the sum of f over d numbers from a on -/
def rf_sg (f : Nat → rf_Op) : Nat → Nat → rf_Op
  | _, 0 => none
  | a, d + 1 => rf_ad (f a) (rf_sg f (a + 1) d)
theorem rf_sg_0 (f : Nat → rf_Op) (a : Nat) : rf_sg f a 0 = none := rfl
theorem rf_sg_s (f : Nat → rf_Op) (a d : Nat) : rf_sg f a (d + 1) = rf_ad (f a) (rf_sg f (a + 1) d) := rfl
theorem rf_sg_congr {f g : Nat → rf_Op} : ∀ (d a : Nat), (∀ x, a ≤ x → x < a + d → f x = g x) → rf_sg f a d = rf_sg g a d := by
  intro d
  induction d with
  | zero => intro a _; rfl
  | succ d ih =>
    intro a h
    rw [rf_sg_s, rf_sg_s, h a (by omega) (by omega), ih (a + 1) (fun x h1 h2 => h x (by omega) (by omega))]
theorem rf_sg_none {f : Nat → rf_Op} : ∀ (d a : Nat), (∀ x, a ≤ x → x < a + d → f x = none) → rf_sg f a d = none := by
  intro d
  induction d with
  | zero => intro a _; rfl
  | succ d ih =>
    intro a h
    rw [rf_sg_s, h a (by omega) (by omega), ih (a + 1) (fun x h1 h2 => h x (by omega) (by omega))]
    rfl
theorem rf_sg_ad (f g : Nat → rf_Op) : ∀ (d a : Nat), rf_sg (fun x => rf_ad (f x) (g x)) a d = rf_ad (rf_sg f a d) (rf_sg g a d) := by
  intro d
  induction d with
  | zero => intro a; rfl
  | succ d ih =>
    intro a
    rw [rf_sg_s, rf_sg_s, rf_sg_s, ih (a + 1), rf_ad4]
theorem rf_sg_mu (c : rf_Op) (f : Nat → rf_Op) : ∀ (d a : Nat), rf_mu c (rf_sg f a d) = rf_sg (fun x => rf_mu c (f x)) a d := by
  intro d
  induction d with
  | zero => intro a; exact rf_mu_none c
  | succ d ih =>
    intro a
    rw [rf_sg_s, rf_sg_s, rf_mu_ad, ih (a + 1)]
theorem rf_sg_sh (c : Int) (f : Nat → rf_Op) (d a : Nat) : rf_sh c (rf_sg f a d) = rf_sg (fun x => rf_sh c (f x)) a d := rf_sg_mu _ f d a
theorem rf_sg_mur (c : rf_Op) (f : Nat → rf_Op) (d a : Nat) : rf_mu (rf_sg f a d) c = rf_sg (fun x => rf_mu (f x) c) a d := by
  rw [rf_mu_comm, rf_sg_mu]
  exact rf_sg_congr d a (fun x _ _ => rf_mu_comm _ _)
theorem rf_sg_snoc (f : Nat → rf_Op) : ∀ (d a : Nat), rf_sg f a (d + 1) = rf_ad (rf_sg f a d) (f (a + d)) := by
  intro d
  induction d with
  | zero => intro a; rw [rf_sg_s, rf_sg_0, rf_sg_0, rf_ad_none]; rfl
  | succ d ih =>
    intro a
    rw [rf_sg_s, ih (a + 1), rf_sg_s, rf_ad_assoc, show a + 1 + d = a + (d + 1) from by omega]
/-- the two ways through a triangle -/
theorem rf_tri (F : Nat → Nat → rf_Op) (a : Nat) : ∀ K : Nat, rf_sg (fun k => rf_sg (F k) (k + 1) (a + K - 1 - k)) a K = rf_sg (fun q => rf_sg (fun k => F k q) a (q - a)) a K := by
  intro K
  induction K with
  | zero => rfl
  | succ K ih =>
    rw [rf_sg_snoc, rf_sg_snoc, ← ih, show a + (K + 1) - 1 - (a + K) = 0 from by omega, rf_sg_0, rf_ad_none, show a + K - a = K from by omega, ← rf_sg_ad]
    refine rf_sg_congr K a (fun k h1 h2 => ?_)
    try dsimp only
    rw [show a + (K + 1) - 1 - k = (a + K - 1 - k) + 1 from by omega, rf_sg_snoc, show k + 1 + (a + K - 1 - k) = a + K from by omega]
/-- a sum whose terms stand under one condition -/
theorem rf_sg_if (c : Bool) (f : Nat → rf_Op) (d a : Nat) : rf_sg (fun x => if c = true then f x else none) a d = if c = true then rf_sg f a d else none := by
  cases c with
  | true => rfl
  | false => exact rf_sg_none d a (fun _ _ _ => rfl)
end
section
/-! the context: who may be free, who may begin a pair, which pairs may end, a pair's own score, three extras -/
abbrev rf_K : Type := (Nat → Bool) × (Nat → Bool) × (Nat → Nat → Bool) × (Nat → Nat → Int) × Int × Int × Int
def rf_c0 (K : rf_K) (p : Nat) : Bool := K.1 p
def rf_c1 (K : rf_K) (p : Nat) : Bool := K.2.1 p
def rf_c2 (K : rf_K) (i p : Nat) : Bool := K.2.2.1 i p
def rf_ow (K : rf_K) (i p : Nat) : Int := K.2.2.2.1 i p
def rf_t3 (K : rf_K) : Int := K.2.2.2.2.1
def rf_t4 (K : rf_K) : Int := K.2.2.2.2.2.1
def rf_t5 (K : rf_K) : Int := K.2.2.2.2.2.2
/-- the places from p on, d of them, may all be free -/
def rf_fr (K : rf_K) : Nat → Nat → Bool
  | _, 0 => true
  | p, d + 1 => rf_c0 K p && rf_fr K (p + 1) d
theorem rf_fr_0 (K : rf_K) (p : Nat) : rf_fr K p 0 = true := rfl
theorem rf_fr_s (K : rf_K) (p d : Nat) : rf_fr K p (d + 1) = (rf_c0 K p && rf_fr K (p + 1) d) := rfl
/-- what one inner pair (k, l) adds to (i, q) -/
def rf_x1 (K : rf_K) (i q k l : Nat) : Int := if k = i + 1 ∧ l + 1 = q then rf_t3 K else - rf_t4 K
/-- the ways with i and q a pair, over the places from p to q, with nothing before p -/
def rf_pf (K : rf_K) (R : Nat → Nat → Nat → rf_Op) (i p q : Nat) : rf_Op :=
  rf_ad (rf_ad (if rf_fr K p (q - p) = true then rf_sv (rf_ow K i q) else none)
    (rf_sg (fun k => if rf_fr K p (k - p) = true then
        rf_sg (fun l => if rf_fr K (l + 1) (q - (l + 1)) = true then rf_sh (rf_ow K i q + rf_x1 K i q k l) (R 3 k l) else none) (k + 1) (q - (k + 1))
      else none) p (q - p)))
    (rf_sh (rf_ow K i q - rf_t5 K) (R 2 p q))
/-- one step of the tables: kind 3 is a pair, kinds 0 to 2 are stretches with at least so many pairs at the top -/
def rf_bd (K : rf_K) (R : Nat → Nat → Nat → rf_Op) (l i j : Nat) : rf_Op :=
  if l = 3 then
    (if i < j then (if rf_c1 K i = true then (if rf_c2 K i j = true then rf_pf K R i (i + 1) j else none) else none) else none)
  else if i < j then
    rf_ad (if rf_c0 K i = true then R l (i + 1) j else none) (rf_sg (fun k => rf_mu (R 3 i k) (R (l - 1) (k + 1) j)) (i + 1) (j - (i + 1)))
  else if l = 0 then rf_one else none
def rf_ms (l i j : Nat) : Nat := if l = 3 then 2 * (j + 1 - i) else 2 * (j - i) + 1
theorem rf_ms3 (i j : Nat) : rf_ms 3 i j = 2 * (j + 1 - i) := rfl
theorem rf_msl {l : Nat} (i j : Nat) (h : l ≤ 2) : rf_ms l i j = 2 * (j - i) + 1 := if_neg (by omega)
theorem rf_pf_congr (K : rf_K) {R R' : Nat → Nat → Nat → rf_Op} (i p q : Nat) (h3 : ∀ k l, p ≤ k → k < l → l < q → R 3 k l = R' 3 k l) (h2 : R 2 p q = R' 2 p q) : rf_pf K R i p q = rf_pf K R' i p q := by
  unfold rf_pf
  rw [h2]
  congr 2
  refine rf_sg_congr _ _ (fun k k1 k2 => ?_)
  try dsimp only
  congr 1
  refine rf_sg_congr _ _ (fun l l1 l2 => ?_)
  try dsimp only
  rw [h3 k l (by omega) (by omega) (by omega)]
theorem rf_bd_congr (K : rf_K) {R R' : Nat → Nat → Nat → rf_Op} (l i j : Nat) (hl : l ≤ 3) (h : ∀ l' i' j', l' ≤ 3 → rf_ms l' i' j' < rf_ms l i j → R l' i' j' = R' l' i' j') : rf_bd K R l i j = rf_bd K R' l i j := by
  by_cases h3 : l = 3
  · subst h3
    by_cases hij : i < j
    · have e : rf_pf K R i (i + 1) j = rf_pf K R' i (i + 1) j := by
        refine rf_pf_congr K i (i + 1) j (fun k l h1 h2 h3 => h 3 k l (by omega) ?_) (h 2 (i + 1) j (by omega) ?_)
        · rw [rf_ms3, rf_ms3]; omega
        · rw [rf_ms3, rf_msl _ _ (by omega)]; omega
      unfold rf_bd
      rw [if_pos rfl, if_pos rfl, e]
    · unfold rf_bd
      rw [if_pos rfl, if_pos rfl, if_neg hij, if_neg hij]
  · have hl2 : l ≤ 2 := by omega
    unfold rf_bd
    rw [if_neg h3, if_neg h3]
    by_cases hij : i < j
    · rw [if_pos hij, if_pos hij, h l (i + 1) j hl (by rw [rf_msl _ _ hl2, rf_msl _ _ hl2]; omega)]
      congr 1
      refine rf_sg_congr _ _ (fun k k1 k2 => ?_)
      try dsimp only
      rw [h 3 i k (by omega) (by rw [rf_ms3, rf_msl _ _ hl2]; omega), h (l - 1) (k + 1) j (by omega) (by rw [rf_msl _ _ (by omega), rf_msl _ _ hl2]; omega)]
    · rw [if_neg hij, if_neg hij]
def rf_F (K : rf_K) : Nat → Nat → Nat → Nat → rf_Op
  | 0 => fun _ _ _ => none
  | f + 1 => rf_bd K (rf_F K f)
theorem rf_F_s (K : rf_K) (f l i j : Nat) : rf_F K (f + 1) l i j = rf_bd K (rf_F K f) l i j := rfl
theorem rf_F_st (K : rf_K) : ∀ b f f' l i j : Nat, f + f' ≤ b → l ≤ 3 → rf_ms l i j < f → rf_ms l i j < f' → rf_F K f l i j = rf_F K f' l i j := by
  intro b
  induction b with
  | zero => intro f f' l i j hb _ h _; omega
  | succ b ih =>
    intro f f' l i j hb hl h h'
    obtain ⟨e, rfl⟩ : ∃ e, f = e + 1 := ⟨f - 1, by omega⟩
    obtain ⟨e', rfl⟩ : ∃ e', f' = e' + 1 := ⟨f' - 1, by omega⟩
    rw [rf_F_s, rf_F_s]
    exact rf_bd_congr K l i j hl (fun l' i' j' hl' hm => ih e e' l' i' j' (by omega) hl' (by omega) (by omega))
/-- the tables' values -/
def rf_V (K : rf_K) (l i j : Nat) : rf_Op := rf_F K (rf_ms l i j + 1) l i j
theorem rf_V_eq (K : rf_K) {l : Nat} (i j : Nat) (hl : l ≤ 3) : rf_V K l i j = rf_bd K (rf_V K) l i j := by
  show rf_bd K (rf_F K (rf_ms l i j)) l i j = _
  exact rf_bd_congr K l i j hl (fun l' i' j' hl' hm => rf_F_st K _ _ _ l' i' j' (Nat.le_refl _) hl' hm (by omega))
theorem rf_V3 (K : rf_K) (i j : Nat) : rf_V K 3 i j = if i < j then (if rf_c1 K i = true then (if rf_c2 K i j = true then rf_pf K (rf_V K) i (i + 1) j else none) else none) else none := by
  rw [rf_V_eq K i j (Nat.le_refl 3)]
  exact if_pos rfl
theorem rf_Vl (K : rf_K) {l i j : Nat} (hl : l ≤ 2) (hij : i < j) : rf_V K l i j = rf_ad (if rf_c0 K i = true then rf_V K l (i + 1) j else none) (rf_sg (fun k => rf_mu (rf_V K 3 i k) (rf_V K (l - 1) (k + 1) j)) (i + 1) (j - (i + 1))) := by
  rw [rf_V_eq K i j (by omega)]
  unfold rf_bd
  rw [if_neg (by omega), if_pos hij]
theorem rf_V0 (K : rf_K) {l i j : Nat} (hl : l ≤ 2) (hij : j ≤ i) : rf_V K l i j = if l = 0 then rf_one else none := by
  rw [rf_V_eq K i j (by omega)]
  unfold rf_bd
  rw [if_neg (by omega), if_neg (by omega)]

/-! a pair that is begun at i, with c pairs directly within so far, read from p on and ended at q -/
def rf_vl (K : rf_K) (i c e q : Nat) : Int := rf_ow K i q + (if c = 0 then 0 else if c = 1 then (if e = q then rf_t3 K else - rf_t4 K) else - rf_t5 K)
def rf_cl (K : rf_K) (i c e q : Nat) : rf_Op := if rf_c2 K i q = true then rf_sv (rf_vl K i c e q) else none
def rf_Bu (K : rf_K) (p q i c e : Nat) : rf_Op :=
  if c = 0 then rf_pf K (rf_V K) i p q
  else if c = 1 then rf_ad (if rf_fr K p (q - p) = true then rf_sv (rf_vl K i 1 e q) else none) (rf_sh (rf_ow K i q - rf_t5 K) (rf_V K 1 p q))
  else rf_sh (rf_ow K i q - rf_t5 K) (rf_V K 0 p q)
def rf_B (K : rf_K) (p q i c e : Nat) : rf_Op := if rf_c2 K i q = true then rf_Bu K p q i c e else none
theorem rf_V3B (K : rf_K) (i j : Nat) (h : i < j) : rf_V K 3 i j = if rf_c1 K i = true then rf_B K (i + 1) j i 0 0 else none := by
  rw [rf_V3, if_pos h]
  rfl
theorem rf_B_end (K : rf_K) (p i c e : Nat) : rf_B K p p i c e = rf_cl K i c e p := by
  unfold rf_B rf_cl
  congr 1
  unfold rf_Bu
  by_cases h0 : c = 0
  · subst h0
    rw [if_pos rfl]
    unfold rf_pf
    rw [Nat.sub_self, rf_sg_0, rf_V0 K (by omega) (Nat.le_refl p)]
    show rf_sv (rf_ow K i p) = rf_sv (rf_vl K i 0 e p)
    unfold rf_vl
    rw [if_pos rfl, Int.add_zero]
  · rw [if_neg h0]
    by_cases h1 : c = 1
    · subst h1
      rw [if_pos rfl, Nat.sub_self, rf_V0 K (by omega) (Nat.le_refl p)]
      rfl
    · rw [if_neg h1, rf_V0 K (by omega) (Nat.le_refl p), if_pos rfl, rf_sh_one]
      unfold rf_vl
      rw [if_neg h0, if_neg h1, Int.sub_eq_add_neg]
/-- a condition taken out of a sum of two -/
theorem rf_if_ad (c : Bool) (x y : rf_Op) : rf_ad (if c = true then x else none) (if c = true then y else none) = if c = true then rf_ad x y else none := by
  cases c <;> rfl
theorem rf_sh_if (d : Int) (c : Bool) (x : rf_Op) : rf_sh d (if c = true then x else none) = if c = true then rf_sh d x else none := by
  cases c <;> rfl
theorem rf_mu_if (y : rf_Op) (c : Bool) (x : rf_Op) : rf_mu y (if c = true then x else none) = if c = true then rf_mu y x else none := by
  cases c
  · exact rf_mu_none y
  · rfl
theorem rf_if_and (c d : Bool) (x : rf_Op) : (if (c && d) = true then x else none) = if c = true then (if d = true then x else none) else none := by
  cases c <;> rfl
end
section
theorem rf_Bu2 (K : rf_K) (p q i e : Nat) {c : Nat} (h : 2 ≤ c) : rf_Bu K p q i c e = rf_sh (rf_ow K i q - rf_t5 K) (rf_V K 0 p q) := by
  unfold rf_Bu
  rw [if_neg (by omega), if_neg (by omega)]
theorem rf_Bu1 (K : rf_K) (p q i e : Nat) : rf_Bu K p q i 1 e = rf_ad (if rf_fr K p (q - p) = true then rf_sv (rf_vl K i 1 e q) else none) (rf_sh (rf_ow K i q - rf_t5 K) (rf_V K 1 p q)) := rfl
theorem rf_Bu0 (K : rf_K) (p q i e : Nat) : rf_Bu K p q i 0 e = rf_pf K (rf_V K) i p q := rfl
theorem rf_ad5 (x s y z u : rf_Op) : rf_ad (rf_ad x (rf_ad s y)) (rf_ad z u) = rf_ad (rf_ad (rf_ad x y) z) (rf_ad s u) := by
  rw [rf_ad_comm s y, ← rf_ad_assoc x y s, rf_ad4]
theorem rf_fr_p (K : rf_K) {p q : Nat} (h : p < q) : rf_fr K p (q - p) = (rf_c0 K p && rf_fr K (p + 1) (q - (p + 1))) := by
  rw [show q - p = (q - (p + 1)) + 1 from by omega, rf_fr_s]
theorem rf_shV (K : rf_K) (d : Int) {l p q : Nat} (hl : l ≤ 2) (h : p < q) : rf_sh d (rf_V K l p q) = rf_ad (if rf_c0 K p = true then rf_sh d (rf_V K l (p + 1) q) else none) (rf_sg (fun k => rf_mu (rf_V K 3 p k) (rf_sh d (rf_V K (l - 1) (k + 1) q))) (p + 1) (q - (p + 1))) := by
  rw [rf_Vl K hl h, rf_sh_ad, rf_sh_if, rf_sg_sh]
  congr 1
  exact rf_sg_congr _ _ (fun k _ _ => rf_sh_mu d _ _)
theorem rf_Bu_s2 (K : rf_K) (p q i e : Nat) {c : Nat} (hc : 2 ≤ c) (h : p < q) : rf_Bu K p q i c e = rf_ad (if rf_c0 K p = true then rf_Bu K (p + 1) q i c e else none) (rf_sg (fun k => rf_mu (rf_V K 3 p k) (rf_Bu K (k + 1) q i (c + 1) (if p = i + 1 then k + 1 else 0))) (p + 1) (q - (p + 1))) := by
  rw [rf_Bu2 K p q i e hc, rf_Bu2 K (p + 1) q i e hc, rf_shV K _ (by omega) h]
  congr 1
  refine rf_sg_congr _ _ (fun k _ _ => ?_)
  try dsimp only
  rw [rf_Bu2 K (k + 1) q i _ (by omega : 2 ≤ c + 1)]
theorem rf_Bu_s1 (K : rf_K) (p q i e : Nat) (h : p < q) : rf_Bu K p q i 1 e = rf_ad (if rf_c0 K p = true then rf_Bu K (p + 1) q i 1 e else none) (rf_sg (fun k => rf_mu (rf_V K 3 p k) (rf_Bu K (k + 1) q i (1 + 1) (if p = i + 1 then k + 1 else 0))) (p + 1) (q - (p + 1))) := by
  rw [rf_Bu1, rf_Bu1, rf_shV K _ (by omega) h, rf_fr_p K h, rf_if_and, ← rf_ad_assoc, rf_if_ad]
  rfl
theorem rf_x1_e (K : rf_K) (i q p k : Nat) (hq : 0 < q) : rf_vl K i 1 (if p = i + 1 then k + 1 else 0) q = rf_ow K i q + rf_x1 K i q p k := by
  unfold rf_vl rf_x1
  rw [if_neg (by omega), if_pos rfl]
  by_cases h : p = i + 1
  · rw [if_pos h]
    by_cases h2 : k + 1 = q
    · rw [if_pos h2, if_pos ⟨h, h2⟩]
    · rw [if_neg h2, if_neg (fun z => h2 z.2)]
  · rw [if_neg h, if_neg (by omega), if_neg (fun z => h z.1)]
/-- the terms of one inner pair in rf_pf -/
def rf_g1 (K : rf_K) (i q k : Nat) : rf_Op := rf_sg (fun l => if rf_fr K (l + 1) (q - (l + 1)) = true then rf_sh (rf_ow K i q + rf_x1 K i q k l) (rf_V K 3 k l) else none) (k + 1) (q - (k + 1))
theorem rf_pf_e (K : rf_K) (i p q : Nat) : rf_pf K (rf_V K) i p q = rf_ad (rf_ad (if rf_fr K p (q - p) = true then rf_sv (rf_ow K i q) else none) (rf_sg (fun k => if rf_fr K p (k - p) = true then rf_g1 K i q k else none) p (q - p))) (rf_sh (rf_ow K i q - rf_t5 K) (rf_V K 2 p q)) := rfl
theorem rf_Bu_s0 (K : rf_K) (p q i e : Nat) (h : p < q) : rf_Bu K p q i 0 e = rf_ad (if rf_c0 K p = true then rf_Bu K (p + 1) q i 0 e else none) (rf_sg (fun k => rf_mu (rf_V K 3 p k) (rf_Bu K (k + 1) q i (0 + 1) (if p = i + 1 then k + 1 else 0))) (p + 1) (q - (p + 1))) := by
  have hS : rf_sg (fun k => rf_mu (rf_V K 3 p k) (rf_Bu K (k + 1) q i (0 + 1) (if p = i + 1 then k + 1 else 0))) (p + 1) (q - (p + 1)) = rf_ad (rf_g1 K i q p) (rf_sg (fun k => rf_mu (rf_V K 3 p k) (rf_sh (rf_ow K i q - rf_t5 K) (rf_V K (2 - 1) (k + 1) q))) (p + 1) (q - (p + 1))) := by
    unfold rf_g1
    rw [← rf_sg_ad]
    refine rf_sg_congr _ _ (fun k _ _ => ?_)
    try dsimp only
    rw [rf_Bu1, rf_mu_ad, rf_mu_if, rf_mu_sv, rf_x1_e K i q p k (by omega)]
  have hY : rf_sg (fun k => if rf_fr K p (k - p) = true then rf_g1 K i q k else none) p (q - p) = rf_ad (rf_g1 K i q p) (if rf_c0 K p = true then rf_sg (fun k => if rf_fr K (p + 1) (k - (p + 1)) = true then rf_g1 K i q k else none) (p + 1) (q - (p + 1)) else none) := by
    rw [show q - p = (q - (p + 1)) + 1 from by omega, rf_sg_s, Nat.sub_self, rf_fr_0, if_pos rfl, ← rf_sg_if]
    congr 1
    refine rf_sg_congr _ _ (fun k k1 _ => ?_)
    try dsimp only
    rw [rf_fr_p K (by omega : p < k), rf_if_and]
  rw [hS, rf_Bu0, rf_Bu0, rf_pf_e, rf_pf_e, hY, rf_shV K _ (by omega) h, rf_fr_p K h, rf_if_and, rf_ad5, rf_if_ad, rf_if_ad]
theorem rf_B_s (K : rf_K) (p q i c e : Nat) (h : p < q) : rf_B K p q i c e = rf_ad (if rf_c0 K p = true then rf_B K (p + 1) q i c e else none) (rf_sg (fun k => rf_mu (rf_V K 3 p k) (rf_B K (k + 1) q i (c + 1) (if p = i + 1 then k + 1 else 0))) (p + 1) (q - (p + 1))) := by
  unfold rf_B
  cases hc : rf_c2 K i q with
  | false =>
    rw [rf_sg_none (f := fun k => rf_mu (rf_V K 3 p k) (if false = true then rf_Bu K (k + 1) q i (c + 1) (if p = i + 1 then k + 1 else 0) else none)) _ _ (fun k _ _ => rf_mu_none _)]
    cases rf_c0 K p <;> rfl
  | true =>
    show rf_Bu K p q i c e = _
    by_cases h0 : c = 0
    · subst h0
      exact rf_Bu_s0 K p q i e h
    · by_cases h1 : c = 1
      · subst h1
        exact rf_Bu_s1 K p q i e h
      · exact rf_Bu_s2 K p q i e (by omega) h

/-! rows of signs (0 free, 1 begins a pair, 2 ends one), read with a stack of begun pairs: (place, pairs directly within so far, one behind the inner pair that began at the next place, or 0) -/
abbrev rf_E : Type := Nat × Nat × Nat
def rf_inc (i q : Nat) : List rf_E → List rf_E
  | [] => []
  | x :: s => (x.1, x.2.1 + 1, if i = x.1 + 1 then q + 1 else 0) :: s
def rf_ok2 (K : rf_K) (p : Nat) : List rf_E → Bool
  | [] => false
  | x :: _ => rf_c2 K x.1 p
def rf_nx2 (p : Nat) : List rf_E → List rf_E
  | [] => []
  | x :: s => rf_inc x.1 p s
def rf_dv2 (K : rf_K) (p : Nat) : List rf_E → Int
  | [] => 0
  | x :: _ => rf_vl K x.1 x.2.1 x.2.2 p
def rf_ok (K : rf_K) (s p : Nat) (st : List rf_E) : Bool := if s = 0 then rf_c0 K p else if s = 1 then rf_c1 K p else rf_ok2 K p st
def rf_nx (s p : Nat) (st : List rf_E) : List rf_E := if s = 0 then st else if s = 1 then (p, 0, 0) :: st else rf_nx2 p st
def rf_dv (K : rf_K) (s p : Nat) (st : List rf_E) : Int := if s = 0 then 0 else if s = 1 then 0 else rf_dv2 K p st
def rf_e0 : List rf_E → List (List Nat)
  | [] => [[]]
  | _ :: _ => []
def rf_br (K : rf_K) (R : Nat → List rf_E → List (List Nat)) (s p : Nat) (st : List rf_E) : List (List Nat) :=
  if rf_ok K s p st = true then (R (p + 1) (rf_nx s p st)).map (fun w => s :: w) else []
/-- all rows for the k places from p on, in rising order -/
def rf_en (K : rf_K) : Nat → Nat → List rf_E → List (List Nat)
  | 0 => fun _ st => rf_e0 st
  | k + 1 => fun p st => rf_br K (rf_en K k) 0 p st ++ (rf_br K (rf_en K k) 1 p st ++ rf_br K (rf_en K k) 2 p st)
theorem rf_en_s (K : rf_K) (k p : Nat) (st : List rf_E) : rf_en K (k + 1) p st = rf_br K (rf_en K k) 0 p st ++ (rf_br K (rf_en K k) 1 p st ++ rf_br K (rf_en K k) 2 p st) := rfl
def rf_sc (K : rf_K) : List Nat → Nat → List rf_E → Int
  | [] => fun _ _ => 0
  | s :: w => fun p st => rf_dv K s p st + rf_sc K w (p + 1) (rf_nx s p st)
def rf_sm : List Int → rf_Op
  | [] => none
  | v :: L => rf_ad (rf_sv v) (rf_sm L)
theorem rf_sm_app : ∀ L M : List Int, rf_sm (L ++ M) = rf_ad (rf_sm L) (rf_sm M) := by
  intro L M
  induction L with
  | nil => rfl
  | cons v L ih =>
    show rf_ad (rf_sv v) (rf_sm (L ++ M)) = rf_ad (rf_ad (rf_sv v) (rf_sm L)) (rf_sm M)
    rw [ih, rf_ad_assoc]
theorem rf_sm_sh (d : Int) (f : List Nat → Int) : ∀ L : List (List Nat), rf_sm (L.map (fun w => d + f w)) = rf_sh d (rf_sm (L.map f)) := by
  intro L
  induction L with
  | nil => rfl
  | cons w L ih =>
    show rf_ad (rf_sv (d + f w)) (rf_sm (L.map (fun w => d + f w))) = rf_sh d (rf_ad (rf_sv (f w)) (rf_sm (L.map f)))
    rw [ih, rf_sh_ad, rf_sh_sv]
def rf_T (K : rf_K) (k p : Nat) (st : List rf_E) : rf_Op := rf_sm ((rf_en K k p st).map (fun w => rf_sc K w p st))
def rf_tb (K : rf_K) (k s p : Nat) (st : List rf_E) : rf_Op := if rf_ok K s p st = true then rf_sh (rf_dv K s p st) (rf_T K k (p + 1) (rf_nx s p st)) else none
theorem rf_tb_e (K : rf_K) (k s p : Nat) (st : List rf_E) : rf_sm ((rf_br K (rf_en K k) s p st).map (fun w => rf_sc K w p st)) = rf_tb K k s p st := by
  unfold rf_br rf_tb
  by_cases h : rf_ok K s p st = true
  · rw [if_pos h, if_pos h, List.map_map]
    exact rf_sm_sh (rf_dv K s p st) (fun w => rf_sc K w (p + 1) (rf_nx s p st)) _
  · rw [if_neg h, if_neg h]
    rfl
theorem rf_T_s (K : rf_K) (k p : Nat) (st : List rf_E) : rf_T K (k + 1) p st = rf_ad (rf_tb K k 0 p st) (rf_ad (rf_tb K k 1 p st) (rf_tb K k 2 p st)) := by
  unfold rf_T
  rw [rf_en_s, List.map_append, List.map_append, rf_sm_app, rf_sm_app, rf_tb_e, rf_tb_e, rf_tb_e]
theorem rf_tb0 (K : rf_K) (k p : Nat) (st : List rf_E) : rf_tb K k 0 p st = if rf_c0 K p = true then rf_T K k (p + 1) st else none := by
  show (if rf_c0 K p = true then rf_sh 0 (rf_T K k (p + 1) st) else none) = _
  rw [rf_sh0]
theorem rf_tb1 (K : rf_K) (k p : Nat) (st : List rf_E) : rf_tb K k 1 p st = if rf_c1 K p = true then rf_T K k (p + 1) ((p, 0, 0) :: st) else none := by
  show (if rf_c1 K p = true then rf_sh 0 (rf_T K k (p + 1) ((p, 0, 0) :: st)) else none) = _
  rw [rf_sh0]
theorem rf_tb2 (K : rf_K) (k p : Nat) (x : rf_E) (st : List rf_E) : rf_tb K k 2 p (x :: st) = rf_mu (rf_B K p p x.1 x.2.1 x.2.2) (rf_T K k (p + 1) (rf_inc x.1 p st)) := by
  show (if rf_c2 K x.1 p = true then rf_sh (rf_vl K x.1 x.2.1 x.2.2 p) (rf_T K k (p + 1) (rf_inc x.1 p st)) else none) = _
  rw [rf_B_end]
  unfold rf_cl
  cases rf_c2 K x.1 p <;> rfl
theorem rf_tb2n (K : rf_K) (k p : Nat) : rf_tb K k 2 p [] = none := rfl
theorem rf_triN (F : Nat → Nat → rf_Op) (a N : Nat) : rf_sg (fun k => rf_sg (F k) (k + 1) (N - (k + 1))) a (N - a) = rf_sg (fun q => rf_sg (fun k => F k q) a (q - a)) a (N - a) := by
  rw [← rf_tri F a (N - a)]
  refine rf_sg_congr _ _ (fun k h1 h2 => ?_)
  try dsimp only
  rw [show N - (k + 1) = a + (N - a) - 1 - k from by omega]
end
section
theorem rf_ad3 (a b c : rf_Op) : rf_ad a (rf_ad b c) = rf_ad c (rf_ad a b) := by
  rw [← rf_ad_assoc, rf_ad_comm]
theorem rf_if_mu (c : Bool) (x y : rf_Op) : rf_mu (if c = true then x else none) y = if c = true then rf_mu x y else none := by
  cases c <;> rfl
def rf_G (K : rf_K) (N p : Nat) (x : rf_E) (st : List rf_E) (k q : Nat) : rf_Op :=
  rf_mu (rf_mu (rf_V K 3 p k) (rf_B K (k + 1) q x.1 (x.2.1 + 1) (if p = x.1 + 1 then k + 1 else 0))) (rf_T K (N - (q + 1)) (q + 1) (rf_inc x.1 q st))
/-- what is read from p on under an unfinished pair: where that pair ends, and what is behind -/
theorem rf_T_st (K : rf_K) (N : Nat) : ∀ b p : Nat, N - p ≤ b → ∀ (x : rf_E) (st : List rf_E), rf_T K (N - p) p (x :: st) = rf_sg (fun q => rf_mu (rf_B K p q x.1 x.2.1 x.2.2) (rf_T K (N - (q + 1)) (q + 1) (rf_inc x.1 q st))) p (N - p) := by
  intro b
  induction b with
  | zero =>
    intro p hp x st
    rw [show N - p = 0 from by omega]
    rfl
  | succ b ih =>
    intro p hp x st
    by_cases hN : N ≤ p
    · rw [show N - p = 0 from by omega]
      rfl
    · have h1 : (if rf_c1 K p = true then rf_T K (N - (p + 1)) (p + 1) ((p, 0, 0) :: x :: st) else none) = rf_sg (fun q => rf_sg (fun k => rf_G K N p x st k q) (p + 1) (q - (p + 1))) (p + 1) (N - (p + 1)) := by
        rw [ih (p + 1) (by omega) (p, 0, 0) (x :: st), ← rf_sg_if, ← rf_triN]
        refine rf_sg_congr _ _ (fun k k1 k2 => ?_)
        have hk := ih (k + 1) (by omega) (x.1, x.2.1 + 1, if p = x.1 + 1 then k + 1 else 0) st
        show (if rf_c1 K p = true then rf_mu (rf_B K (p + 1) k p 0 0) (rf_T K (N - (k + 1)) (k + 1) ((x.1, x.2.1 + 1, if p = x.1 + 1 then k + 1 else 0) :: st)) else none) = _
        rw [hk, ← rf_if_mu, ← rf_V3B K p k (by omega), rf_sg_mu]
        refine rf_sg_congr _ _ (fun q q1 q2 => ?_)
        exact (rf_mu_assoc _ _ _).symm
      have h2 : rf_sg (fun q => rf_mu (rf_B K p q x.1 x.2.1 x.2.2) (rf_T K (N - (q + 1)) (q + 1) (rf_inc x.1 q st))) (p + 1) (N - (p + 1)) = rf_ad (if rf_c0 K p = true then rf_sg (fun q => rf_mu (rf_B K (p + 1) q x.1 x.2.1 x.2.2) (rf_T K (N - (q + 1)) (q + 1) (rf_inc x.1 q st))) (p + 1) (N - (p + 1)) else none) (rf_sg (fun q => rf_sg (fun k => rf_G K N p x st k q) (p + 1) (q - (p + 1))) (p + 1) (N - (p + 1))) := by
        rw [← rf_sg_if, ← rf_sg_ad]
        refine rf_sg_congr _ _ (fun q q1 q2 => ?_)
        try dsimp only
        rw [rf_B_s K p q _ _ _ (by omega), rf_ad_mu, rf_sg_mur, rf_if_mu]
        rfl
      rw [show N - p = (N - (p + 1)) + 1 from by omega, rf_T_s, rf_tb0, rf_tb1, rf_tb2, rf_sg_s, h1, h2, ih (p + 1) (by omega) x st, rf_ad3]
theorem rf_T_0 (K : rf_K) (N : Nat) : ∀ b p : Nat, N - p ≤ b → p ≤ N → rf_T K (N - p) p [] = rf_V K 0 p N := by
  intro b
  induction b with
  | zero =>
    intro p hp hN
    rw [show N - p = 0 from by omega, rf_V0 K (by omega) (by omega)]
    rfl
  | succ b ih =>
    intro p hp hN
    by_cases h : p = N
    · rw [show N - p = 0 from by omega, rf_V0 K (by omega) (by omega)]
      rfl
    · have h1 : (if rf_c1 K p = true then rf_T K (N - (p + 1)) (p + 1) ((p, 0, 0) :: []) else none) = rf_sg (fun k => rf_mu (rf_V K 3 p k) (rf_V K (0 - 1) (k + 1) N)) (p + 1) (N - (p + 1)) := by
        rw [rf_T_st K N (N - (p + 1)) (p + 1) (Nat.le_refl _) (p, 0, 0) [], ← rf_sg_if]
        refine rf_sg_congr _ _ (fun k k1 k2 => ?_)
        show (if rf_c1 K p = true then rf_mu (rf_B K (p + 1) k p 0 0) (rf_T K (N - (k + 1)) (k + 1) []) else none) = rf_mu (rf_V K 3 p k) (rf_V K 0 (k + 1) N)
        rw [ih (k + 1) (by omega) (by omega), ← rf_if_mu, ← rf_V3B K p k (by omega)]
      rw [show N - p = (N - (p + 1)) + 1 from by omega, rf_T_s, rf_tb0, rf_tb1, rf_tb2n, rf_ad_none, h1, ih (p + 1) (by omega) (by omega), rf_Vl K (by omega) (by omega : p < N)]
/-- THE TABLES' WHOLE: the summary of all rows -/
theorem rf_main (K : rf_K) (N : Nat) : rf_V K 0 0 N = rf_sm ((rf_en K N 0 []).map (fun w => rf_sc K w 0 [])) := (rf_T_0 K N N 0 (by omega) (by omega)).symm

/-! bounds -/
def rf_al : rf_Op → Nat
  | none => 0
  | some y => y.2.2
theorem rf_al_ad (x y : rf_Op) : rf_al (rf_ad x y) = rf_al x + rf_al y := by
  cases x with
  | none => exact (Nat.zero_add _).symm
  | some x => cases y with
    | none => rfl
    | some y => rfl
theorem rf_al_mu (x y : rf_Op) : rf_al (rf_mu x y) = rf_al x * rf_al y := by
  cases x with
  | none => exact (Nat.zero_mul _).symm
  | some x => cases y with
    | none => rfl
    | some y => rfl
theorem rf_al_sm : ∀ L : List Int, rf_al (rf_sm L) = L.length := by
  intro L
  induction L with
  | nil => rfl
  | cons v L ih =>
    show rf_al (rf_ad (rf_sv v) (rf_sm L)) = L.length + 1
    rw [rf_al_ad, ih]
    show 1 + L.length = _
    omega
theorem rf_al_sg {f : Nat → rf_Op} : ∀ (d a x : Nat), a ≤ x → x < a + d → rf_al (f x) ≤ rf_al (rf_sg f a d) := by
  intro d
  induction d with
  | zero => intro a x h1 h2; omega
  | succ d ih =>
    intro a x h1 h2
    rw [rf_sg_s, rf_al_ad]
    by_cases h : x = a
    · subst h; omega
    · have := ih (a + 1) x (by omega) (by omega)
      omega
theorem rf_al_sg2 {f g : Nat → rf_Op} : ∀ (d a : Nat), (∀ x, a ≤ x → x < a + d → rf_al (f x) ≤ rf_al (g x)) → rf_al (rf_sg f a d) ≤ rf_al (rf_sg g a d) := by
  intro d
  induction d with
  | zero => intro a _; exact Nat.le_refl _
  | succ d ih =>
    intro a h
    rw [rf_sg_s, rf_sg_s, rf_al_ad, rf_al_ad]
    have h1 := ih (a + 1) (fun x h1 h2 => h x (by omega) (by omega))
    have h2 := h a (by omega) (by omega)
    omega
theorem rf_br_len (K : rf_K) {k : Nat} (h : ∀ p st, (rf_en K k p st).length ≤ 3 ^ k) (s p : Nat) (st : List rf_E) : (rf_br K (rf_en K k) s p st).length ≤ 3 ^ k := by
  unfold rf_br
  by_cases ho : rf_ok K s p st = true
  · rw [if_pos ho, List.length_map]
    exact h _ _
  · rw [if_neg ho]
    exact Nat.zero_le _
theorem rf_en_len (K : rf_K) : ∀ (k p : Nat) (st : List rf_E), (rf_en K k p st).length ≤ 3 ^ k := by
  intro k
  induction k with
  | zero =>
    intro p st
    cases st with
    | nil => exact Nat.le_refl _
    | cons x st => exact Nat.zero_le _
  | succ k ih =>
    intro p st
    rw [rf_en_s, List.length_append, List.length_append, Nat.pow_succ]
    have h0 := rf_br_len K ih 0 p st
    have h1 := rf_br_len K ih 1 p st
    have h2 := rf_br_len K ih 2 p st
    omega
theorem rf_al_V0 (K : rf_K) {i j : Nat} (h : i ≤ j) : rf_al (rf_V K 0 i j) ≤ 3 ^ (j - i) := by
  rw [← rf_T_0 K j (j - i) i (Nat.le_refl _) h]
  unfold rf_T
  rw [rf_al_sm, List.length_map]
  exact rf_en_len K _ _ _
theorem rf_al_Vl (K : rf_K) : ∀ b i j l : Nat, j - i ≤ b → l ≤ 2 → rf_al (rf_V K l i j) ≤ rf_al (rf_V K (l - 1) i j) := by
  intro b
  induction b with
  | zero =>
    intro i j l hb hl
    rw [rf_V0 K hl (by omega), rf_V0 K (by omega) (by omega)]
    by_cases h : l = 0
    · subst h; exact Nat.le_refl _
    · rw [if_neg h]; exact Nat.zero_le _
  | succ b ih =>
    intro i j l hb hl
    by_cases hij : i < j
    · rw [rf_Vl K hl hij, rf_Vl K (by omega : l - 1 ≤ 2) hij, rf_al_ad, rf_al_ad]
      refine Nat.add_le_add ?_ (rf_al_sg2 _ _ (fun k k1 k2 => ?_))
      · cases rf_c0 K i
        · exact Nat.le_refl _
        · exact ih (i + 1) j l (by omega) hl
      · try dsimp only
        rw [rf_al_mu, rf_al_mu]
        exact Nat.mul_le_mul_left _ (ih (k + 1) j (l - 1) (by omega) (by omega))
    · rw [rf_V0 K hl (by omega), rf_V0 K (by omega) (by omega)]
      by_cases h : l = 0
      · subst h; exact Nat.le_refl _
      · rw [if_neg h]; exact Nat.zero_le _
theorem rf_al_V (K : rf_K) {l i j : Nat} (hl : l ≤ 2) (h : i ≤ j) : rf_al (rf_V K l i j) ≤ 3 ^ (j - i) := by
  have h0 := rf_al_V0 K h
  have h1 := rf_al_Vl K (j - i) i j 1 (Nat.le_refl _) (by omega)
  have h2 := rf_al_Vl K (j - i) i j 2 (Nat.le_refl _) (by omega)
  obtain rfl | rfl | rfl : l = 0 ∨ l = 1 ∨ l = 2 := by omega
  · exact h0
  · exact Nat.le_trans h1 h0
  · exact Nat.le_trans h2 (Nat.le_trans h1 h0)
theorem rf_al_V3 (K : rf_K) {i j : Nat} (h : i ≤ j) : rf_al (rf_V K 3 i j) ≤ 3 ^ (j + 1 - i) := by
  by_cases hij : i < j
  · have h0 := rf_al_V0 K (by omega : i ≤ j + 1)
    rw [rf_Vl K (by omega) (by omega : i < j + 1), rf_al_ad] at h0
    have h1 : rf_al (rf_mu (rf_V K 3 i j) (rf_V K (0 - 1) (j + 1) (j + 1))) ≤ rf_al (rf_sg (fun k => rf_mu (rf_V K 3 i k) (rf_V K (0 - 1) (k + 1) (j + 1))) (i + 1) (j + 1 - (i + 1))) := rf_al_sg (f := fun k => rf_mu (rf_V K 3 i k) (rf_V K (0 - 1) (k + 1) (j + 1))) (j + 1 - (i + 1)) (i + 1) j (by omega) (by omega)
    have h2 : rf_mu (rf_V K 3 i j) (rf_V K (0 - 1) (j + 1) (j + 1)) = rf_V K 3 i j := by
      rw [rf_V0 K (by omega) (Nat.le_refl _)]
      exact rf_mu_one _
    rw [h2] at h1
    omega
  · rw [rf_V3, if_neg hij]
    exact Nat.zero_le _
end
section
/-- a score within b, and numbers as they should be -/
def rf_w (b : Nat) : rf_Op → Prop
  | none => True
  | some y => -(b : Int) ≤ y.1 ∧ y.1 ≤ (b : Int) ∧ 0 < y.2.1 ∧ y.2.1 ≤ y.2.2
theorem rf_w_mono {b b' : Nat} (h : b ≤ b') : ∀ {x : rf_Op}, rf_w b x → rf_w b' x := by
  intro x hx
  cases x with
  | none => trivial
  | some y =>
    obtain ⟨h1, h2, h3, h4⟩ := hx
    exact ⟨by omega, by omega, h3, h4⟩
theorem rf_w_ad {b : Nat} {x y : rf_Op} (hx : rf_w b x) (hy : rf_w b y) : rf_w b (rf_ad x y) := by
  cases x with
  | none => exact hy
  | some x => cases y with
    | none => exact hx
    | some y =>
      obtain ⟨a1, a2, a3, a4⟩ := hx
      obtain ⟨b1, b2, b3, b4⟩ := hy
      show -(b : Int) ≤ (rf_a3 x y).1 ∧ (rf_a3 x y).1 ≤ (b : Int) ∧ 0 < (rf_a3 x y).2.1 ∧ (rf_a3 x y).2.1 ≤ (rf_a3 x y).2.2
      simp only [rf_a3]
      refine ⟨by omega, by omega, ?_⟩
      by_cases c1 : y.1 ≤ x.1
      · by_cases c2 : x.1 ≤ y.1
        · rw [if_pos c1, if_pos c2]; omega
        · rw [if_pos c1, if_neg c2]; omega
      · rw [if_neg c1, if_pos (by omega : x.1 ≤ y.1)]; omega
theorem rf_w_mu {b b' : Nat} {x y : rf_Op} (hx : rf_w b x) (hy : rf_w b' y) : rf_w (b + b') (rf_mu x y) := by
  cases x with
  | none => trivial
  | some x => cases y with
    | none => trivial
    | some y =>
      obtain ⟨a1, a2, a3, a4⟩ := hx
      obtain ⟨b1, b2, b3, b4⟩ := hy
      show -((b + b' : Nat) : Int) ≤ (rf_m3 x y).1 ∧ (rf_m3 x y).1 ≤ ((b + b' : Nat) : Int) ∧ 0 < (rf_m3 x y).2.1 ∧ (rf_m3 x y).2.1 ≤ (rf_m3 x y).2.2
      simp only [rf_m3]
      exact ⟨by omega, by omega, Nat.mul_pos a3 b3, Nat.mul_le_mul a4 b4⟩
theorem rf_w_sv {b : Nat} {d : Int} (h1 : -(b : Int) ≤ d) (h2 : d ≤ (b : Int)) : rf_w b (rf_sv d) := ⟨h1, h2, Nat.zero_lt_one, Nat.le_refl _⟩
theorem rf_w_sh {b b' : Nat} {d : Int} {x : rf_Op} (h1 : -(b : Int) ≤ d) (h2 : d ≤ (b : Int)) (hx : rf_w b' x) : rf_w (b + b') (rf_sh d x) := rf_w_mu (rf_w_sv h1 h2) hx
theorem rf_w_if {b : Nat} {c : Bool} {x : rf_Op} (hx : c = true → rf_w b x) : rf_w b (if c = true then x else none) := by
  cases c with
  | false => trivial
  | true => exact hx rfl
theorem rf_w_sg {b : Nat} {f : Nat → rf_Op} : ∀ (d a : Nat), (∀ x, a ≤ x → x < a + d → rf_w b (f x)) → rf_w b (rf_sg f a d) := by
  intro d
  induction d with
  | zero => intro a _; trivial
  | succ d ih =>
    intro a h
    rw [rf_sg_s]
    exact rf_w_ad (h a (by omega) (by omega)) (ih (a + 1) (fun x h1 h2 => h x (by omega) (by omega)))
/-- the context's numbers are small -/
def rf_Ks (K : rf_K) : Prop := (∀ i j, 0 ≤ rf_ow K i j ∧ rf_ow K i j ≤ 20) ∧ (0 ≤ rf_t3 K ∧ rf_t3 K ≤ 20) ∧ (0 ≤ rf_t4 K ∧ rf_t4 K ≤ 20) ∧ (0 ≤ rf_t5 K ∧ rf_t5 K ≤ 20)
theorem rf_x1_b {K : rf_K} (h : rf_Ks K) (i q k l : Nat) : -20 ≤ rf_x1 K i q k l ∧ rf_x1 K i q k l ≤ 20 := by
  obtain ⟨_, h3, h4, h5⟩ := h
  unfold rf_x1
  by_cases c : k = i + 1 ∧ l + 1 = q
  · rw [if_pos c]; omega
  · rw [if_neg c]; omega
theorem rf_w_pf {K : rf_K} (hK : rf_Ks K) {R : Nat → Nat → Nat → rf_Op} {i j : Nat} (hij : i < j) (h3 : ∀ k l, k < l → rf_w (20 * (l + 1 - k)) (R 3 k l)) (h2 : rf_w (20 * (j - (i + 1))) (R 2 (i + 1) j)) : rf_w (20 * (j + 1 - i)) (rf_pf K R i (i + 1) j) := by
  have ho := hK.1 i j
  have h5 := hK.2.2.2
  refine rf_w_ad (rf_w_ad (rf_w_if (fun _ => rf_w_sv (by omega) (by omega))) (rf_w_sg _ _ (fun k k1 k2 => rf_w_if (fun _ => rf_w_sg _ _ (fun l l1 l2 => rf_w_if (fun _ => ?_)))))) ?_
  · have hx := rf_x1_b hK i j k l
    exact rf_w_mono (by omega) (rf_w_sh (b := 40) (by omega) (by omega) (h3 k l (by omega)))
  · exact rf_w_mono (by omega) (rf_w_sh (b := 20) (by omega) (by omega) h2)
theorem rf_w_F {K : rf_K} (hK : rf_Ks K) : ∀ f : Nat, (∀ i j, i < j → rf_w (20 * (j + 1 - i)) (rf_F K f 3 i j)) ∧ (∀ l i j, l ≤ 2 → rf_w (20 * (j - i)) (rf_F K f l i j)) := by
  intro f
  induction f with
  | zero => exact ⟨fun _ _ _ => trivial, fun _ _ _ _ => trivial⟩
  | succ f ih =>
    refine ⟨fun i j hij => ?_, fun l i j hl => ?_⟩
    · rw [rf_F_s]
      unfold rf_bd
      rw [if_pos rfl, if_pos hij]
      exact rf_w_if (fun _ => rf_w_if (fun _ => rf_w_pf hK hij (fun k l h => ih.1 k l h) (ih.2 2 (i + 1) j (by omega))))
    · rw [rf_F_s]
      unfold rf_bd
      rw [if_neg (by omega)]
      by_cases hij : i < j
      · rw [if_pos hij]
        refine rf_w_ad (rf_w_if (fun _ => rf_w_mono (by omega) (ih.2 l (i + 1) j hl))) (rf_w_sg _ _ (fun k k1 k2 => ?_))
        exact rf_w_mono (by omega) (rf_w_mu (ih.1 i k (by omega)) (ih.2 (l - 1) (k + 1) j (by omega)))
      · rw [if_neg hij]
        by_cases h0 : l = 0
        · rw [if_pos h0]
          exact rf_w_sv (by omega) (by omega)
        · rw [if_neg h0]
          trivial
theorem rf_w_V {K : rf_K} (hK : rf_Ks K) {l i j : Nat} (hl : l ≤ 3) (h : j ≤ 11) : rf_w 240 (rf_V K l i j) := by
  by_cases h3 : l = 3
  · subst h3
    by_cases hij : i < j
    · exact rf_w_mono (by omega) ((rf_w_F hK _).1 i j hij)
    · rw [rf_V3, if_neg hij]
      trivial
  · exact rf_w_mono (by omega) ((rf_w_F hK _).2 l i j (by omega))
theorem rf_3p {k : Nat} (h : k ≤ 12) : 3 ^ k ≤ 531441 := Nat.le_trans (Nat.pow_le_pow_right (by decide) h) (by decide)
theorem rf_al_b {K : rf_K} {l i j : Nat} (hl : l ≤ 3) (hij : i ≤ j) (h : j ≤ 11) : rf_al (rf_V K l i j) ≤ 531441 := by
  by_cases h3 : l = 3
  · subst h3
    exact Nat.le_trans (rf_al_V3 K hij) (rf_3p (by omega))
  · exact Nat.le_trans (rf_al_V K (by omega) hij) (rf_3p (by omega))

/-! how a summary is kept by the machine -/
def rf_oI (v : Int) : Int32 := Int32.ofInt v
def rf_rs : rf_Op → Int32
  | none => -1000
  | some y => rf_oI y.1
def rf_rb : rf_Op → Int32
  | none => 0
  | some y => nI y.2.1
def rf_ra (x : rf_Op) : Int32 := nI (rf_al x)
theorem rf_oI_add (a b : Int) : rf_oI (a + b) = rf_oI a + rf_oI b := Int32.ofInt_add a b
theorem rf_oI_nI (a : Nat) : rf_oI (a : Int) = nI a := Int32.ofInt_eq_ofNat
theorem rf_oI_T {v : Int} (h1 : -1000000 ≤ v) (h2 : v ≤ 1000000) : (rf_oI v).toInt = v := by
  unfold rf_oI
  exact Int32.toInt_ofInt_of_le (by omega) (by omega)
theorem rf_oI_le {v w : Int} (h1 : -1000000 ≤ v) (h2 : v ≤ 1000000) (h3 : -1000000 ≤ w) (h4 : w ≤ 1000000) : rf_oI v ≤ rf_oI w ↔ v ≤ w := by
  rw [Int32.le_iff_toInt_le, rf_oI_T h1 h2, rf_oI_T h3 h4]
theorem rf_oI_eq {v w : Int} (h1 : -1000000 ≤ v) (h2 : v ≤ 1000000) (h3 : -1000000 ≤ w) (h4 : w ≤ 1000000) : rf_oI v = rf_oI w ↔ v = w := by
  rw [← Int32.toInt_inj, rf_oI_T h1 h2, rf_oI_T h3 h4]
theorem rf_oI_neg (a : Int) : rf_oI (-a) = - rf_oI a := Int32.ofInt_neg a
theorem rf_oI_sub (a b : Int) : rf_oI (a - b) = rf_oI a - rf_oI b := Int32.ofInt_sub a b
end
section
/-! the class's small methods -/
def rf_kd (a b : Nat) : Nat := if a + b = 3 then (if a = 0 ∨ a = 3 then 0 else 1) else if a + b = 5 ∧ a ≠ b then 2 else 3
def rf_kr (a b : Nat) : Int32 := if rf_kd a b < 3 then nI (rf_kd a b) else -1
def rf_fit (g : Nat) (B : Nat → Nat) (i p : Nat) : Bool := decide (i + g < p) && decide (rf_kd (B i) (B p) < 3)
def rf_kp : Option (Nat × Nat) → Nat → Nat → Bool
  | none => fun _ _ => true
  | some f => fun i p => decide (i = f.1) == decide (p = f.2)
def rf_ctx (g : Nat) (B t a : Nat → Nat) (q : Option (Nat × Nat)) : rf_K :=
  (fun p => decide (a p ≤ 1), fun p => decide (a p = 0 ∨ a p = 2), fun i p => decide (a p = 0 ∨ a p = 3) && (rf_kp q i p && rf_fit g B i p), fun i p => (t (rf_kd (B i) (B p)) : Int), (t 3 : Int), (t 4 : Int), (t 5 : Int))
def rf_fo : Option (Nat × Nat) → Int32 → Int32 → Prop
  | none => fun xo _ => xo = -1
  | some f => fun xo xs => xo = nI f.1 ∧ xs = nI f.2 ∧ f.1 < 2 ^ 31 ∧ f.2 < 2 ^ 31
def rf_EX (n g : Nat) (B t a : Nat → Nat) (q : Option (Nat × Nat)) (xg xz xo xs : Int32) (yb ya yt : Nat → Int32) : Prop :=
  n ≤ 11 ∧ g ≤ 4 ∧ (∀ j, B j ≤ 3) ∧ (∀ j, t j ≤ 20) ∧ xg = nI g ∧ xz = nI n ∧ rf_fo q xo xs ∧ (∀ j, yb j = nI (B j)) ∧ (∀ j, j < n → ya j = nI (a j) ∧ a j ≤ 3) ∧ (∀ j, yt j = nI (t j))
theorem rf_c0_e (g : Nat) (B t a : Nat → Nat) (q : Option (Nat × Nat)) (p : Nat) : rf_c0 (rf_ctx g B t a q) p = decide (a p ≤ 1) := rfl
theorem rf_c1_e (g : Nat) (B t a : Nat → Nat) (q : Option (Nat × Nat)) (p : Nat) : rf_c1 (rf_ctx g B t a q) p = decide (a p = 0 ∨ a p = 2) := rfl
theorem rf_c2_e (g : Nat) (B t a : Nat → Nat) (q : Option (Nat × Nat)) (i p : Nat) : rf_c2 (rf_ctx g B t a q) i p = (decide (a p = 0 ∨ a p = 3) && (rf_kp q i p && rf_fit g B i p)) := rfl
theorem rf_ow_e (g : Nat) (B t a : Nat → Nat) (q : Option (Nat × Nat)) (i p : Nat) : rf_ow (rf_ctx g B t a q) i p = (t (rf_kd (B i) (B p)) : Int) := rfl
theorem rf_t3_e (g : Nat) (B t a : Nat → Nat) (q : Option (Nat × Nat)) : rf_t3 (rf_ctx g B t a q) = (t 3 : Int) := rfl
theorem rf_t4_e (g : Nat) (B t a : Nat → Nat) (q : Option (Nat × Nat)) : rf_t4 (rf_ctx g B t a q) = (t 4 : Int) := rfl
theorem rf_t5_e (g : Nat) (B t a : Nat → Nat) (q : Option (Nat × Nat)) : rf_t5 (rf_ctx g B t a q) = (t 5 : Int) := rfl
theorem rf_ctxs {g : Nat} {B t a : Nat → Nat} {q : Option (Nat × Nat)} (h : ∀ j, t j ≤ 20) : rf_Ks (rf_ctx g B t a q) := by
  refine ⟨fun i j => ?_, ?_, ?_, ?_⟩
  · rw [rf_ow_e]; have := h (rf_kd (B i) (B j)); omega
  · rw [rf_t3_e]; have := h 3; omega
  · rw [rf_t4_e]; have := h 4; omega
  · rw [rf_t5_e]; have := h 5; omega
def rf_bi (c : Bool) : Int32 := if c = true then 1 else 0
theorem rf_kX {post : Int32 → Prop} (a b : Nat) (ha : a ≤ 3) (hb : b ≤ 3) (h : post (rf_kr a b)) : wpX_kindOf post (nI a) (nI b) := by
  obtain rfl | rfl | rfl | rfl : a = 0 ∨ a = 1 ∨ a = 2 ∨ a = 3 := by omega
  all_goals obtain rfl | rfl | rfl | rfl : b = 0 ∨ b = 1 ∨ b = 2 ∨ b = 3 := by omega
  all_goals repeat (first | exact h | refine br_t (by decide) ?_ | refine br_f (by decide) ?_)
section
variable {xg xz xo xs xv xb xa : Int32} {yb yh ya yt p1 p2 p3 n1 n2 n3 yk yp : Nat → Int32}
variable {n g : Nat} {B t a : Nat → Nat} {q : Option (Nat × Nat)}
theorem rf_mbf {post : Int32 → Prop} {i : Nat} (E : rf_EX n g B t a q xg xz xo xs yb ya yt) (hi : i < n) (h1 : rf_c0 (rf_ctx g B t a q) i = true → post 1) (h0 : rf_c0 (rf_ctx g B t a q) i = false → post 0) : wpX_mayBeFree post (xg, xz, xo, xs, xv, xb, xa, yb, yh, ya, yt, p1, p2, p3, n1, n2, n3, yk, yp) (nI i) := by
  obtain ⟨hn, _, _, _, _, _, _, _, ha, _⟩ := E
  obtain ⟨e, e3⟩ := ha i hi
  refine And.intro (vp_in_nI (by omega) (by omega)) ?_
  rw [nI_clamp (by omega), e]
  exact pk_lt 1 (a i) (fun h => h0 (by rw [rf_c0_e]; exact decide_eq_false (by omega))) (fun h => h1 (by rw [rf_c0_e]; exact decide_eq_true (by omega)))
theorem rf_isFree_l {post : Int32 → Prop} {j : Nat} (E : rf_EX n g B t a q xg xz xo xs yb ya yt) (hj : j ≤ n) : ∀ d m i : Nat, i + d = j → d < m → (rf_fr (rf_ctx g B t a q) i d = true → post 1) → (rf_fr (rf_ctx g B t a q) i d = false → post 0) → wX_isFree_2 post (nI j) xg xz xo xs xv xb xa yb yh ya yt p1 p2 p3 n1 n2 n3 yk yp m (nI i) := by
  have hn : n ≤ 11 := E.1
  intro d
  induction d with
  | zero =>
    intro m i hi hm h1 h0
    obtain ⟨m, rfl⟩ : ∃ e, m = e + 1 := ⟨m - 1, by omega⟩
    obtain rfl : i = j := by omega
    exact br_t (Int32.le_refl _) (h1 rfl)
  | succ d ih =>
    intro m i hi hm h1 h0
    obtain ⟨m, rfl⟩ : ∃ e, m = e + 1 := ⟨m - 1, by omega⟩
    refine br_f (nI_ge (by omega) (by omega)) (rf_mbf E (by omega) (fun hc => br_f (by decide) (nm_r (nI_1 i) (ih m (i + 1) (by omega) (by omega) (fun hf => h1 ?_) (fun hf => h0 ?_)))) (fun hc => br_t rfl (h0 ?_)))
    · rw [rf_fr_s, hc, hf]; rfl
    · rw [rf_fr_s, hc, hf]; rfl
    · rw [rf_fr_s, hc]; rfl
theorem rf_isFree {post : Int32 → Prop} {i j : Nat} {z : Int32} (hz : z = nI i) (E : rf_EX n g B t a q xg xz xo xs yb ya yt) (hj : j ≤ n) (hij : i ≤ j) (h1 : rf_fr (rf_ctx g B t a q) i (j - i) = true → post 1) (h0 : rf_fr (rf_ctx g B t a q) i (j - i) = false → post 0) : wpX_isFree post (xg, xz, xo, xs, xv, xb, xa, yb, yh, ya, yt, p1, p2, p3, n1, n2, n3, yk, yp) z (nI j) := by
  subst hz
  exact ⟨j - i + 1, rf_isFree_l E hj (j - i) (j - i + 1) i (by omega) (by omega) h1 h0⟩
theorem rf_doFit {post : Int32 → Prop} {i j : Nat} (hg : g ≤ 4) (hB : ∀ j, B j ≤ 3) (eg : xg = nI g) (eb : ∀ j, yb j = nI (B j)) (hi : i < 11) (hj : j < 11) (h1 : rf_fit g B i j = true → post 1) (h0 : rf_fit g B i j = false → post 0) : wpX_doFit post (xg, xz, xo, xs, xv, xb, xa, yb, yh, ya, yt, p1, p2, p3, n1, n2, n3, yk, yp) (nI i) (nI j) := by
  subst eg
  by_cases hij : i + g < j
  · have hc : ¬ nI j - nI i ≤ nI g := by
      rw [pk_sub (by omega)]
      exact nI_ge (by omega) (by omega)
    refine br_f hc (And.intro (vp_in_nI hi (by omega)) (And.intro (vp_in_nI hj (by omega)) ?_))
    rw [nI_clamp (by omega), nI_clamp (by omega), eb i, eb j]
    refine rf_kX (B i) (B j) (hB i) (hB j) ?_
    unfold rf_kr
    by_cases hk : rf_kd (B i) (B j) < 3
    · rw [if_pos hk]
      refine br_f (nI_pos (by omega)) (h1 ?_)
      unfold rf_fit
      rw [decide_eq_true hij, decide_eq_true hk]; rfl
    · rw [if_neg hk]
      refine br_t (by decide) (h0 ?_)
      unfold rf_fit
      rw [decide_eq_false hk, Bool.and_false]
  · have hc : nI j - nI i ≤ nI g := by
      rw [Int32.le_iff_toInt_le, pk_sub_toInt (by omega) (by omega), nI_toInt (by omega)]
      omega
    refine br_t hc (h0 ?_)
    unfold rf_fit
    rw [decide_eq_false hij, Bool.false_and]
theorem rf_mp92 {post : Int32 → Prop} {i j : Nat} (hg : g ≤ 4) (hB : ∀ j, B j ≤ 3) (eg : xg = nI g) (eb : ∀ j, yb j = nI (B j)) (hi : i < 11) (hj : j < 11) (f1 f2 f3 : Bool) (h1 : (f1 && (f2 && (f3 && rf_fit g B i j))) = true → post 1) (h0 : (f1 && (f2 && (f3 && rf_fit g B i j))) = false → post 0) : wX_mayPair_92 post (nI i) (nI j) (rf_bi f1) (rf_bi f2) (rf_bi f3) xg xz xo xs xv xb xa yb yh ya yt p1 p2 p3 n1 n2 n3 yk yp := by
  cases f1 with
  | false => exact br_t rfl (h0 rfl)
  | true =>
    refine br_f (by decide) ?_
    cases f2 with
    | false => exact br_t rfl (h0 rfl)
    | true =>
      refine br_f (by decide) ?_
      cases f3 with
      | false => exact br_t rfl (h0 rfl)
      | true =>
        refine br_f (by decide) ?_
        exact rf_doFit hg hB eg eb hi hj (fun h => br_f (by decide) (h1 h)) (fun h => br_t rfl (h0 h))
theorem rf_mp49 {post : Int32 → Prop} {i j : Nat} (hg : g ≤ 4) (hB : ∀ j, B j ≤ 3) (eg : xg = nI g) (eb : ∀ j, yb j = nI (B j)) (hi : i < 11) (hj : j < 11) (ho : rf_fo q xo xs) (f1 f2 : Bool) (h1 : (f1 && (f2 && (rf_kp q i j && rf_fit g B i j))) = true → post 1) (h0 : (f1 && (f2 && (rf_kp q i j && rf_fit g B i j))) = false → post 0) : wX_mayPair_49 post (nI i) (nI j) (rf_bi f1) (rf_bi f2) xg xz xo xs xv xb xa yb yh ya yt p1 p2 p3 n1 n2 n3 yk yp := by
  cases q with
  | none =>
    have e : xo = -1 := ho
    subst e
    exact br_t (by decide) (rf_mp92 hg hB eg eb hi hj f1 f2 true h1 h0)
  | some f =>
    obtain ⟨e1, e2, l1, l2⟩ := ho
    subst e1 e2
    refine br_f (nI_pos l1) ?_
    by_cases c1 : i = f.1
    · refine br_t (by rw [c1]) ?_
      by_cases c2 : j = f.2
      · have hk : rf_kp (some f) i j = true := by
          show (decide (i = f.1) == decide (j = f.2)) = true
          rw [decide_eq_true c1, decide_eq_true c2]; rfl
        rw [hk] at h1 h0
        exact br_t (by rw [c2]) (br_t rfl (rf_mp92 hg hB eg eb hi hj f1 f2 true h1 h0))
      · have hk : rf_kp (some f) i j = false := by
          show (decide (i = f.1) == decide (j = f.2)) = false
          rw [decide_eq_true c1, decide_eq_false c2]; rfl
        rw [hk] at h1 h0
        exact br_f (fun z => c2 ((nI_eq (by omega) l2).mp z)) (br_f (by decide) (rf_mp92 hg hB eg eb hi hj f1 f2 false h1 h0))
    · refine br_f (fun z => c1 ((nI_eq (by omega) l1).mp z)) ?_
      by_cases c2 : j = f.2
      · have hk : rf_kp (some f) i j = false := by
          show (decide (i = f.1) == decide (j = f.2)) = false
          rw [decide_eq_false c1, decide_eq_true c2]; rfl
        rw [hk] at h1 h0
        exact br_t (by rw [c2]) (br_f (by decide) (rf_mp92 hg hB eg eb hi hj f1 f2 false h1 h0))
      · have hk : rf_kp (some f) i j = true := by
          show (decide (i = f.1) == decide (j = f.2)) = true
          rw [decide_eq_false c1, decide_eq_false c2]; rfl
        rw [hk] at h1 h0
        exact br_f (fun z => c2 ((nI_eq (by omega) l2).mp z)) (br_t rfl (rf_mp92 hg hB eg eb hi hj f1 f2 true h1 h0))
theorem rf_mp24 {post : Int32 → Prop} {i j : Nat} (E : rf_EX n g B t a q xg xz xo xs yb ya yt) (hi : i < 11) (hj : j < n) (f1 : Bool) (h1 : (f1 && rf_c2 (rf_ctx g B t a q) i j) = true → post 1) (h0 : (f1 && rf_c2 (rf_ctx g B t a q) i j) = false → post 0) : wX_mayPair_24 post (nI i) (nI j) (rf_bi f1) xg xz xo xs xv xb xa yb yh ya yt p1 p2 p3 n1 n2 n3 yk yp := by
  obtain ⟨hn, hg, hB, _, eg, _, ho, eb, ha, _⟩ := E
  obtain ⟨e, e3⟩ := ha j hj
  rw [rf_c2_e] at h1 h0
  refine And.intro (vp_in_nI (by omega) (by omega)) ?_
  rw [nI_clamp (by omega), e]
  refine pk_eq (a j) 0 (fun z => ?_) (fun z => And.intro (vp_in_nI (by omega) (by omega)) ?_)
  · rw [decide_eq_true (Or.inl z)] at h1 h0
    exact rf_mp49 hg hB eg eb hi (by omega) ho f1 true h1 h0
  · refine pk_eq (a j) 3 (fun y => ?_) (fun y => ?_)
    · rw [decide_eq_true (Or.inr y)] at h1 h0
      exact rf_mp49 hg hB eg eb hi (by omega) ho f1 true h1 h0
    · rw [decide_eq_false (by omega)] at h1 h0
      exact rf_mp49 hg hB eg eb hi (by omega) ho f1 false h1 h0
theorem rf_mayPair {post : Int32 → Prop} {i j : Nat} (E : rf_EX n g B t a q xg xz xo xs yb ya yt) (hi : i < n) (hj : j < n) (h1 : (rf_c1 (rf_ctx g B t a q) i && rf_c2 (rf_ctx g B t a q) i j) = true → post 1) (h0 : (rf_c1 (rf_ctx g B t a q) i && rf_c2 (rf_ctx g B t a q) i j) = false → post 0) : wpX_mayPair post (xg, xz, xo, xs, xv, xb, xa, yb, yh, ya, yt, p1, p2, p3, n1, n2, n3, yk, yp) (nI i) (nI j) := by
  have E' := E
  obtain ⟨hn, _, _, _, _, _, _, _, ha, _⟩ := E'
  obtain ⟨e, e3⟩ := ha i hi
  rw [rf_c1_e] at h1 h0
  refine And.intro (vp_in_nI (by omega) (by omega)) ?_
  rw [nI_clamp (by omega), e]
  refine pk_eq (a i) 0 (fun z => ?_) (fun z => And.intro (vp_in_nI (by omega) (by omega)) ?_)
  · rw [decide_eq_true (Or.inl z)] at h1 h0
    exact rf_mp24 E (by omega) hj true h1 h0
  · refine pk_eq (a i) 2 (fun y => ?_) (fun y => ?_)
    · rw [decide_eq_true (Or.inr y)] at h1 h0
      exact rf_mp24 E (by omega) hj true h1 h0
    · rw [decide_eq_false (by omega)] at h1 h0
      exact rf_mp24 E (by omega) hj false h1 h0
/-- taking a way in is the sum -/
theorem rf_offer {post : SX → Prop} {x y : rf_Op} {q0 q1 q2 : Int32} (hx : rf_w 1000 x) (hy : rf_w 1000 y) (ha : rf_al x + rf_al y < 2 ^ 31) (h0 : ∀ v, y = some v → q0 = rf_oI v.1) (h1 : q1 = rf_rb y) (h2 : q2 = rf_ra y) (h : post (xg, xz, xo, xs, rf_rs (rf_ad x y), rf_rb (rf_ad x y), rf_ra (rf_ad x y), yb, yh, ya, yt, p1, p2, p3, n1, n2, n3, yk, yp)) : wpX_offer post (xg, xz, xo, xs, rf_rs x, rf_rb x, rf_ra x, yb, yh, ya, yt, p1, p2, p3, n1, n2, n3, yk, yp) q0 q1 q2 := by
  have ez : rf_ra x + q2 = rf_ra (rf_ad x y) := by
    rw [h2]
    unfold rf_ra
    rw [nI_add, rf_al_ad]
  intro z hz
  rw [ez] at hz
  subst hz
  cases y with
  | none =>
    rw [rf_ad_none] at h
    rw [rf_ad_none]
    exact br_t h1 h
  | some y =>
    have e0 := h0 y rfl
    subst e0 h1
    obtain ⟨b1, b2, b3, b4⟩ := hy
    have l2 : y.2.1 < 2 ^ 31 := Nat.lt_of_le_of_lt b4 (Nat.lt_of_le_of_lt (Nat.le_add_left _ _) ha)
    refine br_f (nI_ne0 b3 l2) ?_
    cases x with
    | none => exact br_t rfl h
    | some x =>
      obtain ⟨a1, a2, a3, a4⟩ := hx
      have l1 : x.2.1 < 2 ^ 31 := Nat.lt_of_le_of_lt a4 (Nat.lt_of_le_of_lt (Nat.le_add_right _ _) ha)
      refine br_f (nI_ne0 a3 l1) ?_
      by_cases c : y.1 ≤ x.1
      · refine br_t ((rf_oI_le (by omega) (by omega) (by omega) (by omega)).mpr c) ?_
        by_cases c2 : y.1 = x.1
        · refine br_t (by show rf_oI y.1 = rf_oI x.1; rw [c2]) (nm_r (nI_add _ _) ?_)
          have e : rf_a3 x y = (x.1, x.2.1 + y.2.1, x.2.2 + y.2.2) := rf_e3 (by simp only [rf_a3]; omega) (by simp only [rf_a3]; rw [if_pos c, if_pos (by omega : x.1 ≤ y.1)]) rfl
          have e' : rf_ad (some x) (some y) = some (x.1, x.2.1 + y.2.1, x.2.2 + y.2.2) := congrArg some e
          rw [e'] at h
          rw [e']
          exact h
        · refine br_f (fun z => c2 ((rf_oI_eq (by omega) (by omega) (by omega) (by omega)).mp z)) ?_
          have e : rf_a3 x y = (x.1, x.2.1, x.2.2 + y.2.2) := rf_e3 (by simp only [rf_a3]; omega) (by simp only [rf_a3]; rw [if_pos c, if_neg (by omega : ¬ x.1 ≤ y.1)]; rfl) rfl
          have e' : rf_ad (some x) (some y) = some (x.1, x.2.1, x.2.2 + y.2.2) := congrArg some e
          rw [e'] at h
          rw [e']
          exact h
      · refine br_f (fun z => c ((rf_oI_le (by omega) (by omega) (by omega) (by omega)).mp z)) ?_
        have e : rf_a3 x y = (y.1, y.2.1, x.2.2 + y.2.2) := rf_e3 (by simp only [rf_a3]; omega) (by simp only [rf_a3]; rw [if_neg c, if_pos (by omega : x.1 ≤ y.1), Nat.zero_add]) rfl
        have e' : rf_ad (some x) (some y) = some (y.1, y.2.1, x.2.2 + y.2.2) := congrArg some e
        rw [e'] at h
        rw [e']
        exact h
end
end
section
/-! filling the tables -/
abbrev rf_JX : Type := Int32 → Int32 → Int32 → Int32 → Int32 → Int32 → Int32 → Int32 → (Nat → Int32) → (Nat → Int32) → (Nat → Int32) → (Nat → Int32) → (Nat → Int32) → (Nat → Int32) → (Nat → Int32) → (Nat → Int32) → (Nat → Int32) → (Nat → Int32) → (Nat → Int32) → (Nat → Int32) → Prop
def rf_pt (K : rf_K) (p1 p2 p3 : Nat → Int32) (i j : Nat) : Prop := p1 (12 * i + j) = rf_rs (rf_V K 3 i j) ∧ p2 (12 * i + j) = rf_rb (rf_V K 3 i j) ∧ p3 (12 * i + j) = rf_ra (rf_V K 3 i j)
def rf_at (K : rf_K) (n1 n2 n3 : Nat → Int32) (l i j : Nat) : Prop := n1 (144 * l + 12 * i + j) = rf_rs (rf_V K l i j) ∧ n2 (144 * l + 12 * i + j) = rf_rb (rf_V K l i j) ∧ n3 (144 * l + 12 * i + j) = rf_ra (rf_V K l i j)
theorem rf_ix2 (i j : Nat) : ((12 : Int32) * nI i) + nI j = nI (12 * i + j) := by
  rw [show (12 : Int32) = nI 12 from rfl, pk_mul, nI_add]
theorem rf_ix3 (l i j : Nat) : (((144 : Int32) * nI l) + ((12 : Int32) * nI i)) + nI j = nI (144 * l + 12 * i + j) := by
  rw [show (12 : Int32) = nI 12 from rfl, show (144 : Int32) = nI 144 from rfl, pk_mul, pk_mul, nI_add, nI_add]
theorem rf_ix3s (l i j : Nat) : (((144 : Int32) * nI l) + ((12 : Int32) * (nI i + 1))) + nI j = nI (144 * l + 12 * (i + 1) + j) := by
  rw [nI_1, rf_ix3]
theorem rf_ix4 (i j : Nat) : ((288 : Int32) + ((12 : Int32) * (nI i + 1))) + nI j = nI (144 * 2 + 12 * (i + 1) + j) := by
  rw [nI_1, show (12 : Int32) = nI 12 from rfl, show (288 : Int32) = nI (144 * 2) from rfl, pk_mul, nI_add, nI_add]
theorem rf_m1 {j : Nat} (h : 0 < j) : nI j - 1 = nI (j - 1) := by
  obtain ⟨e, rfl⟩ : ∃ e, j = e + 1 := ⟨j - 1, by omega⟩
  exact nI_pred e
theorem rf_al0 {b : Nat} {x : rf_Op} (h : rf_w b x) (h0 : rf_al x = 0) : x = none := by
  cases x with
  | none => rfl
  | some y =>
    obtain ⟨_, _, h3, h4⟩ := h
    have h5 : y.2.2 = 0 := h0
    omega
theorem rf_rs_mu {x y : rf_Op} (v : Int × Nat × Nat) (h : rf_mu x y = some v) : rf_rs x + rf_rs y = rf_oI v.1 := by
  cases x with
  | none => cases h
  | some x => cases y with
    | none => cases h
    | some y =>
      have e : rf_m3 x y = v := Option.some.inj h
      subst e
      exact (rf_oI_add x.1 y.1).symm
theorem rf_rb_mu (x y : rf_Op) : rf_rb x * rf_rb y = rf_rb (rf_mu x y) := by
  cases x with
  | none => exact Int32.zero_mul
  | some x => cases y with
    | none => exact Int32.mul_zero
    | some y => exact pk_mul _ _
theorem rf_ra_mu (x y : rf_Op) : rf_ra x * rf_ra y = rf_ra (rf_mu x y) := by
  unfold rf_ra
  rw [pk_mul, rf_al_mu]
theorem rf_rs_sh {d : Int} {x : rf_Op} (v : Int × Nat × Nat) (h : rf_sh d x = some v) : rf_oI d + rf_rs x = rf_oI v.1 := rf_rs_mu (x := rf_sv d) v h
theorem rf_rb_sh (d : Int) (x : rf_Op) : rf_rb x = rf_rb (rf_sh d x) := by
  cases x with
  | none => rfl
  | some x =>
    show nI x.2.1 = nI (1 * x.2.1)
    rw [Nat.one_mul]
theorem rf_al_sh (d : Int) (x : rf_Op) : rf_al (rf_sh d x) = rf_al x := by
  unfold rf_sh
  rw [rf_al_mu]
  exact Nat.one_mul _
theorem rf_ra_sh (d : Int) (x : rf_Op) : rf_ra x = rf_ra (rf_sh d x) := by
  unfold rf_ra
  rw [rf_al_sh]
section
variable {xg xz xo xs : Int32} {yb yh ya yt p1 p2 p3 n1 n2 n3 yk yp : Nat → Int32}
variable {n g : Nat} {B t a : Nat → Nat} {q : Option (Nat × Nat)}
theorem rf_oi97 {post : SX → Prop} {J : rf_JX} {i j k l : Nat} {acc : rf_Op} {z4 z0 : Int32} (E : rf_EX n g B t a q xg xz xo xs yb ya yt) (hkl : k < l) (hl : l < j) (hj : j < n) (hP : rf_pt (rf_ctx g B t a q) p1 p2 p3 k l) (hw : rf_w 1000 acc) (e4 : z4 = rf_oI (rf_ow (rf_ctx g B t a q) i j)) (e0 : z0 = rf_oI (rf_x1 (rf_ctx g B t a q) i j k l)) (ha : rf_al acc + rf_al (rf_V (rf_ctx g B t a q) 3 k l) < 2 ^ 31) (H : J (nI (l + 1)) xg xz xo xs (rf_rs (rf_ad acc (rf_sh (rf_ow (rf_ctx g B t a q) i j + rf_x1 (rf_ctx g B t a q) i j k l) (rf_V (rf_ctx g B t a q) 3 k l)))) (rf_rb (rf_ad acc (rf_sh (rf_ow (rf_ctx g B t a q) i j + rf_x1 (rf_ctx g B t a q) i j k l) (rf_V (rf_ctx g B t a q) 3 k l)))) (rf_ra (rf_ad acc (rf_sh (rf_ow (rf_ctx g B t a q) i j + rf_x1 (rf_ctx g B t a q) i j k l) (rf_V (rf_ctx g B t a q) 3 k l)))) yb yh ya yt p1 p2 p3 n1 n2 n3 yk yp) : wX_offerInner_97 post J (nI i) (nI j) (nI k) z4 (nI l) (nI (12 * k + l)) z0 xg xz xo xs (rf_rs acc) (rf_rb acc) (rf_ra acc) yb yh ya yt p1 p2 p3 n1 n2 n3 yk yp := by
  obtain ⟨hn, _, _, ht, _⟩ := E
  have hK : rf_Ks (rf_ctx g B t a q) := rf_ctxs ht
  have ho := hK.1 i j
  have hx := rf_x1_b hK i j k l
  have v : vp_in (nI (12 * k + l)) 144 := vp_in_nI (by omega) (by omega)
  have hV : rf_w 240 (rf_V (rf_ctx g B t a q) 3 k l) := rf_w_V hK (by omega) (by omega)
  refine And.intro v (And.intro v (And.intro v ?_))
  rw [nI_clamp (by omega : 12 * k + l < 2 ^ 31), hP.1, hP.2.1, hP.2.2, e4, e0, ← rf_oI_add]
  refine rf_offer (y := rf_sh (rf_ow (rf_ctx g B t a q) i j + rf_x1 (rf_ctx g B t a q) i j k l) (rf_V (rf_ctx g B t a q) 3 k l)) hw (rf_w_mono (by omega) (rf_w_sh (b := 40) (by omega) (by omega) hV)) (by rw [rf_al_sh]; exact ha) (fun w hw => rf_rs_sh w hw) (rf_rb_sh _ _) (rf_ra_sh _ _) ?_
  exact nm_r (nI_1 l) H
/-- the sum's term for l -/
def rf_f1 (K : rf_K) (i q k l : Nat) : rf_Op := if rf_fr K (l + 1) (q - (l + 1)) = true then rf_sh (rf_ow K i q + rf_x1 K i q k l) (rf_V K 3 k l) else none
theorem rf_oi17 {post : SX → Prop} {i j k : Nat} {z4 : Int32} (E : rf_EX n g B t a q xg xz xo xs yb ya yt) (hik : i < k) (hj : j < n) (hP : ∀ l, k < l → l < j → rf_pt (rf_ctx g B t a q) p1 p2 p3 k l) (e4 : z4 = rf_oI (rf_ow (rf_ctx g B t a q) i j)) : ∀ (d m l : Nat) (acc : rf_Op), l + d = j → k < l → d < m → rf_w 1000 acc → rf_al acc + rf_al (rf_sg (rf_f1 (rf_ctx g B t a q) i j k) l d) < 2 ^ 31 → post (xg, xz, xo, xs, rf_rs (rf_ad acc (rf_sg (rf_f1 (rf_ctx g B t a q) i j k) l d)), rf_rb (rf_ad acc (rf_sg (rf_f1 (rf_ctx g B t a q) i j k) l d)), rf_ra (rf_ad acc (rf_sg (rf_f1 (rf_ctx g B t a q) i j k) l d)), yb, yh, ya, yt, p1, p2, p3, n1, n2, n3, yk, yp) → wX_offerInner_17 post (nI i) (nI j) (nI k) z4 m (nI l) xg xz xo xs (rf_rs acc) (rf_rb acc) (rf_ra acc) yb yh ya yt p1 p2 p3 n1 n2 n3 yk yp := by
  have hn : n ≤ 11 := E.1
  have ht : ∀ j, t j ≤ 20 := E.2.2.2.1
  have et : ∀ j, yt j = nI (t j) := E.2.2.2.2.2.2.2.2.2
  have hK : rf_Ks (rf_ctx g B t a q) := rf_ctxs ht
  intro d
  induction d with
  | zero =>
    intro m l acc hl hkl hm hw ha H
    obtain ⟨m, rfl⟩ : ∃ e, m = e + 1 := ⟨m - 1, by omega⟩
    obtain rfl : l = j := by omega
    rw [rf_sg_0, rf_ad_none] at H
    exact br_t (Int32.le_refl _) H
  | succ d ih =>
    intro m l acc hl hkl hm hw ha H
    obtain ⟨m, rfl⟩ : ∃ e, m = e + 1 := ⟨m - 1, by omega⟩
    have hp := hP l hkl (by omega)
    have hV : rf_w 240 (rf_V (rf_ctx g B t a q) 3 k l) := rf_w_V hK (by omega) (by omega)
    have hb : rf_al (rf_V (rf_ctx g B t a q) 3 k l) ≤ 531441 := rf_al_b (by omega) (by omega) (by omega)
    rw [rf_sg_s, ← rf_ad_assoc] at H
    rw [rf_sg_s, rf_al_ad] at ha
    have hskip : rf_f1 (rf_ctx g B t a q) i j k l = none → wX_offerInner_17 post (nI i) (nI j) (nI k) z4 m (nI (l + 1)) xg xz xo xs (rf_rs acc) (rf_rb acc) (rf_ra acc) yb yh ya yt p1 p2 p3 n1 n2 n3 yk yp := by
      intro hz
      rw [hz, rf_ad_none] at H
      exact ih m (l + 1) acc (by omega) (by omega) (by omega) hw (by omega) H
    refine br_f (nI_ge (by omega) (by omega)) (nm_r (rf_ix2 k l) (And.intro (vp_in_nI (by omega) (by omega)) ?_))
    rw [nI_clamp (by omega : 12 * k + l < 2 ^ 31), hp.2.2]
    by_cases hz : rf_al (rf_V (rf_ctx g B t a q) 3 k l) = 0
    · refine br_t (by unfold rf_ra; rw [hz]; decide) (nm_r (nI_1 l) (hskip ?_))
      unfold rf_f1
      rw [rf_al0 hV hz, rf_sh_none]
      cases rf_fr (rf_ctx g B t a q) (l + 1) (j - (l + 1)) <;> rfl
    · refine br_f (nI_nle (by omega) (by omega)) ?_
      refine rf_isFree (i := l + 1) (nI_1 l) E (by omega) (by omega) (fun hf => br_f (by decide) ?_) (fun hf => br_t rfl (nm_r (nI_1 l) (hskip ?_)))
      · have hF : rf_f1 (rf_ctx g B t a q) i j k l = rf_sh (rf_ow (rf_ctx g B t a q) i j + rf_x1 (rf_ctx g B t a q) i j k l) (rf_V (rf_ctx g B t a q) 3 k l) := by
          unfold rf_f1
          rw [hf]; rfl
        have ho := hK.1 i j
        have hx := rf_x1_b hK i j k l
        have hw2 : rf_w 1000 (rf_ad acc (rf_f1 (rf_ctx g B t a q) i j k l)) := by
          rw [hF]
          exact rf_w_ad hw (rf_w_mono (by omega) (rf_w_sh (b := 40) (by omega) (by omega) hV))
        have ha2 : rf_al acc + rf_al (rf_V (rf_ctx g B t a q) 3 k l) < 2 ^ 31 := by
          rw [hF, rf_al_sh] at ha
          omega
        have hnext := ih m (l + 1) (rf_ad acc (rf_f1 (rf_ctx g B t a q) i j k l)) (by omega) (by omega) (by omega) hw2 (by rw [rf_al_ad]; omega) H
        rw [hF] at hnext
        have h97 : ∀ z0 : Int32, z0 = rf_oI (rf_x1 (rf_ctx g B t a q) i j k l) → wX_offerInner_97 post (wX_offerInner_17 post (nI i) (nI j) (nI k) z4 m) (nI i) (nI j) (nI k) z4 (nI l) (nI (12 * k + l)) z0 xg xz xo xs (rf_rs acc) (rf_rb acc) (rf_ra acc) yb yh ya yt p1 p2 p3 n1 n2 n3 yk yp := fun z0 hz0 => rf_oi97 E hkl (by omega) hj hp hw e4 hz0 ha2 hnext
        have h3 : (k = i + 1 ∧ l + 1 = j) → yt 3 = rf_oI (rf_x1 (rf_ctx g B t a q) i j k l) := by
          intro c
          unfold rf_x1
          rw [if_pos c, et 3, rf_t3_e, rf_oI_nI]
        have h4 : ¬ (k = i + 1 ∧ l + 1 = j) → -(yt 4) = rf_oI (rf_x1 (rf_ctx g B t a q) i j k l) := by
          intro c
          unfold rf_x1
          rw [if_neg c, et 4, rf_t4_e, rf_oI_neg, rf_oI_nI]
        rw [nI_1 i, rf_m1 (by omega : 0 < j)]
        refine pk_eq k (i + 1) (fun c1 => ?_) (fun c1 => ?_)
        · refine pk_eq l (j - 1) (fun c2 => ?_) (fun c2 => ?_)
          · exact br_f (by decide) (h97 _ (h3 ⟨c1, by omega⟩))
          · exact br_t rfl (h97 _ (h4 (fun z => c2 (by omega))))
        · exact br_t rfl (h97 _ (h4 (fun z => c1 z.1)))
      · unfold rf_f1
        rw [hf]; rfl
theorem rf_oi {post : SX → Prop} {i j k : Nat} {acc : rf_Op} {z4 : Int32} (E : rf_EX n g B t a q xg xz xo xs yb ya yt) (hik : i < k) (hkj : k < j) (hj : j < n) (hP : ∀ l, k < l → l < j → rf_pt (rf_ctx g B t a q) p1 p2 p3 k l) (e4 : z4 = rf_oI (rf_ow (rf_ctx g B t a q) i j)) (hw : rf_w 1000 acc) (ha : rf_al acc + rf_al (if rf_fr (rf_ctx g B t a q) (i + 1) (k - (i + 1)) = true then rf_g1 (rf_ctx g B t a q) i j k else none) < 2 ^ 31) (H : post (xg, xz, xo, xs, rf_rs (rf_ad acc (if rf_fr (rf_ctx g B t a q) (i + 1) (k - (i + 1)) = true then rf_g1 (rf_ctx g B t a q) i j k else none)), rf_rb (rf_ad acc (if rf_fr (rf_ctx g B t a q) (i + 1) (k - (i + 1)) = true then rf_g1 (rf_ctx g B t a q) i j k else none)), rf_ra (rf_ad acc (if rf_fr (rf_ctx g B t a q) (i + 1) (k - (i + 1)) = true then rf_g1 (rf_ctx g B t a q) i j k else none)), yb, yh, ya, yt, p1, p2, p3, n1, n2, n3, yk, yp)) : wpX_offerInner post (xg, xz, xo, xs, rf_rs acc, rf_rb acc, rf_ra acc, yb, yh, ya, yt, p1, p2, p3, n1, n2, n3, yk, yp) (nI i) (nI j) (nI k) z4 := by
  refine rf_isFree (i := i + 1) (j := k) (nI_1 i) E (by omega) (by omega) (fun hf => br_f (by decide) (nm_r (nI_1 k) ⟨j - (k + 1) + 1, ?_⟩)) (fun hf => br_t rfl ?_)
  · rw [if_pos hf] at H ha
    exact rf_oi17 E hik hj hP e4 (j - (k + 1)) (j - (k + 1) + 1) (k + 1) acc (by omega) (by omega) (by omega) hw ha H
  · rw [hf] at H
    have H' := H
    rw [if_neg (by decide), rf_ad_none] at H'
    exact H'
theorem rf_sp148 {post : SX → Prop} {i j : Nat} {xv xb xa : Int32} (hi : i ≤ 11) (hj : j ≤ 11) (H : post (xg, xz, xo, xs, xv, xb, xa, yb, yh, ya, yt, upd p1 (12 * i + j) xv, upd p2 (12 * i + j) xb, upd p3 (12 * i + j) xa, n1, n2, n3, yk, yp)) : wX_solvePair_148 post (nI i) (nI j) xg xz xo xs xv xb xa yb yh ya yt p1 p2 p3 n1 n2 n3 yk yp := by
  have v : vp_in (nI (12 * i + j)) 144 := vp_in_nI (by omega) (by omega)
  unfold wX_solvePair_148
  rw [rf_ix2, nI_clamp (by omega : 12 * i + j < 2 ^ 31)]
  exact ⟨v, nm_e ⟨v, nm_e ⟨v, nm_e H⟩⟩⟩
theorem rf_sp79 {post : SX → Prop} {i j : Nat} {z3 : Int32} (E : rf_EX n g B t a q xg xz xo xs yb ya yt) (hj : j < n) (hP : ∀ k l, i < k → k < l → l < j → rf_pt (rf_ctx g B t a q) p1 p2 p3 k l) (hA : rf_at (rf_ctx g B t a q) n1 n2 n3 2 (i + 1) j) (e3 : z3 = rf_oI (rf_ow (rf_ctx g B t a q) i j)) (H : wX_solvePair_148 post (nI i) (nI j) xg xz xo xs (rf_rs (rf_V (rf_ctx g B t a q) 3 i j)) (rf_rb (rf_V (rf_ctx g B t a q) 3 i j)) (rf_ra (rf_V (rf_ctx g B t a q) 3 i j)) yb yh ya yt p1 p2 p3 n1 n2 n3 yk yp) : ∀ (d m k : Nat) (acc : rf_Op), k + d = j → i < k → d < m → rf_w 1000 acc → rf_ad (rf_ad acc (rf_sg (fun k => if rf_fr (rf_ctx g B t a q) (i + 1) (k - (i + 1)) = true then rf_g1 (rf_ctx g B t a q) i j k else none) k d)) (rf_sh (rf_ow (rf_ctx g B t a q) i j - rf_t5 (rf_ctx g B t a q)) (rf_V (rf_ctx g B t a q) 2 (i + 1) j)) = rf_V (rf_ctx g B t a q) 3 i j → wX_solvePair_79 post (nI i) (nI j) z3 m (nI k) xg xz xo xs (rf_rs acc) (rf_rb acc) (rf_ra acc) yb yh ya yt p1 p2 p3 n1 n2 n3 yk yp := by
  have hn : n ≤ 11 := E.1
  have ht : ∀ j, t j ≤ 20 := E.2.2.2.1
  have et : ∀ j, yt j = nI (t j) := E.2.2.2.2.2.2.2.2.2
  have hK : rf_Ks (rf_ctx g B t a q) := rf_ctxs ht
  have h5 := hK.2.2.2
  have ho := hK.1 i j
  intro d
  induction d with
  | zero =>
    intro m k acc hk hik hm hw he
    obtain ⟨m, rfl⟩ : ∃ e, m = e + 1 := ⟨m - 1, by omega⟩
    obtain rfl : k = j := by omega
    rw [rf_sg_0, rf_ad_none] at he
    have hb : rf_al (rf_V (rf_ctx g B t a q) 3 i k) ≤ 531441 := rf_al_b (by omega) (by omega) (by omega)
    have hV : rf_w 240 (rf_V (rf_ctx g B t a q) 2 (i + 1) k) := rf_w_V hK (by omega) (by omega)
    have v : vp_in (nI (144 * 2 + 12 * (i + 1) + k)) 432 := vp_in_nI (by omega) (by omega)
    refine br_t (Int32.le_refl _) (nm_r (rf_ix4 i k) (And.intro v (And.intro v (And.intro v ?_))))
    rw [nI_clamp (by omega : 144 * 2 + 12 * (i + 1) + k < 2 ^ 31), hA.1, hA.2.1, hA.2.2, et 5, e3, ← rf_oI_nI (t 5), ← rf_t5_e g B t a q, ← rf_oI_sub]
    refine rf_offer (y := rf_sh (rf_ow (rf_ctx g B t a q) i k - rf_t5 (rf_ctx g B t a q)) (rf_V (rf_ctx g B t a q) 2 (i + 1) k)) hw (rf_w_mono (by omega) (rf_w_sh (b := 20) (by omega) (by omega) hV)) (by rw [← rf_al_ad, he]; omega) (fun w hw => rf_rs_sh w hw) (rf_rb_sh _ _) (rf_ra_sh _ _) ?_
    rw [he]
    exact H
  | succ d ih =>
    intro m k acc hk hik hm hw he
    obtain ⟨m, rfl⟩ : ∃ e, m = e + 1 := ⟨m - 1, by omega⟩
    have hb : rf_al (rf_V (rf_ctx g B t a q) 3 i j) ≤ 531441 := rf_al_b (by omega) (by omega) (by omega)
    rw [rf_sg_s, ← rf_ad_assoc acc] at he
    have hal := congrArg rf_al he
    rw [rf_al_ad, rf_al_ad, rf_al_ad] at hal
    refine br_f (nI_ge (by omega) (by omega)) ?_
    refine rf_oi E hik (by omega) hj (fun l h1 h2 => hP k l hik h1 h2) e3 hw (by omega) (nm_r (nI_1 k) (ih m (k + 1) _ (by omega) (by omega) (by omega) (rf_w_ad hw (rf_w_if (fun _ => rf_w_sg _ _ (fun l l1 l2 => rf_w_if (fun _ => ?_))))) he))
    have hx := rf_x1_b hK i j k l
    exact rf_w_mono (by omega) (rf_w_sh (b := 40) (by omega) (by omega) (rf_w_V hK (by omega) (by omega)))
end
end
section
section
variable {xg xz xo xs : Int32} {yb yh ya yt p1 p2 p3 n1 n2 n3 yk yp : Nat → Int32}
variable {n g : Nat} {B t a : Nat → Nat} {q : Option (Nat × Nat)}
theorem rf_sp71 {post : SX → Prop} {i j : Nat} {z3 z0 z1 : Int32} {y : rf_Op} (E : rf_EX n g B t a q xg xz xo xs yb ya yt) (hij : i < j) (hj : j < n) (hP : ∀ k l, i < k → k < l → l < j → rf_pt (rf_ctx g B t a q) p1 p2 p3 k l) (hA : rf_at (rf_ctx g B t a q) n1 n2 n3 2 (i + 1) j) (e3 : z3 = rf_oI (rf_ow (rf_ctx g B t a q) i j)) (ey : y = if rf_fr (rf_ctx g B t a q) (i + 1) (j - (i + 1)) = true then rf_sv (rf_ow (rf_ctx g B t a q) i j) else none) (e1 : z1 = rf_rb y) (e0 : z0 = rf_ra y) (he : rf_pf (rf_ctx g B t a q) (rf_V (rf_ctx g B t a q)) i (i + 1) j = rf_V (rf_ctx g B t a q) 3 i j) (H : wX_solvePair_148 post (nI i) (nI j) xg xz xo xs (rf_rs (rf_V (rf_ctx g B t a q) 3 i j)) (rf_rb (rf_V (rf_ctx g B t a q) 3 i j)) (rf_ra (rf_V (rf_ctx g B t a q) 3 i j)) yb yh ya yt p1 p2 p3 n1 n2 n3 yk yp) : wX_solvePair_71 post (nI i) (nI j) z3 z0 z1 z3 xg xz xo xs (rf_rs none) (rf_rb none) (rf_ra none) yb yh ya yt p1 p2 p3 n1 n2 n3 yk yp := by
  have hn : n ≤ 11 := E.1
  have hK : rf_Ks (rf_ctx g B t a q) := rf_ctxs E.2.2.2.1
  have ho := hK.1 i j
  have hwy : rf_w 1000 y := by
    rw [ey]
    exact rf_w_if (fun _ => rf_w_sv (by omega) (by omega))
  have hay : rf_al y ≤ 1 := by
    rw [ey]
    cases rf_fr (rf_ctx g B t a q) (i + 1) (j - (i + 1))
    · exact Nat.zero_le _
    · exact Nat.le_refl _
  have hv : ∀ v, y = some v → z3 = rf_oI v.1 := by
    intro v hv
    rw [e3]
    rw [ey] at hv
    cases hf : rf_fr (rf_ctx g B t a q) (i + 1) (j - (i + 1)) with
    | false => rw [hf] at hv; cases hv
    | true =>
      rw [hf] at hv
      have e : (rf_ow (rf_ctx g B t a q) i j, 1, 1) = v := Option.some.inj hv
      rw [← e]
  refine rf_offer (x := none) (y := y) trivial hwy (by show 0 + rf_al y < 2 ^ 31; omega) hv e1 e0 (nm_r (nI_1 i) ⟨j - (i + 1) + 1, ?_⟩)
  rw [rf_none_ad]
  refine rf_sp79 E hj hP hA e3 H (j - (i + 1)) (j - (i + 1) + 1) (i + 1) y (by omega) (by omega) (by omega) hwy ?_
  rw [← he, ey]
  rfl
theorem rf_solvePair {post : SX → Prop} {i j : Nat} {xv xb xa z : Int32} (hz : z = nI j) (E : rf_EX n g B t a q xg xz xo xs yb ya yt) (hij : i ≤ j) (hj : j < n) (hP : ∀ k l, i < k → k < l → l < j → rf_pt (rf_ctx g B t a q) p1 p2 p3 k l) (hA : i < j → rf_at (rf_ctx g B t a q) n1 n2 n3 2 (i + 1) j) (H : ∀ xv xb xa : Int32, post (xg, xz, xo, xs, xv, xb, xa, yb, yh, ya, yt, upd p1 (12 * i + j) (rf_rs (rf_V (rf_ctx g B t a q) 3 i j)), upd p2 (12 * i + j) (rf_rb (rf_V (rf_ctx g B t a q) 3 i j)), upd p3 (12 * i + j) (rf_ra (rf_V (rf_ctx g B t a q) 3 i j)), n1, n2, n3, yk, yp)) : wpX_solvePair post (xg, xz, xo, xs, xv, xb, xa, yb, yh, ya, yt, p1, p2, p3, n1, n2, n3, yk, yp) (nI i) z := by
  subst hz
  have hn : n ≤ 11 := E.1
  have hB : ∀ j, B j ≤ 3 := E.2.2.1
  have eb : ∀ j, yb j = nI (B j) := E.2.2.2.2.2.2.2.1
  have et : ∀ j, yt j = nI (t j) := E.2.2.2.2.2.2.2.2.2
  have H' : wX_solvePair_148 post (nI i) (nI j) xg xz xo xs (rf_rs (rf_V (rf_ctx g B t a q) 3 i j)) (rf_rb (rf_V (rf_ctx g B t a q) 3 i j)) (rf_ra (rf_V (rf_ctx g B t a q) 3 i j)) yb yh ya yt p1 p2 p3 n1 n2 n3 yk yp := rf_sp148 (by omega) (by omega) (H _ _ _)
  have Hn : rf_V (rf_ctx g B t a q) 3 i j = none → wX_solvePair_148 post (nI i) (nI j) xg xz xo xs (-1000) 0 0 yb yh ya yt p1 p2 p3 n1 n2 n3 yk yp := by
    intro e
    rw [e] at H'
    exact H'
  show (nI j ≤ nI i → _) ∧ (¬ nI j ≤ nI i → _)
  by_cases h : i < j
  · refine br_f (nI_ge h (by omega)) ?_
    have e := rf_V3 (rf_ctx g B t a q) i j
    rw [if_pos h] at e
    refine rf_mayPair E (by omega) hj (fun hm => br_f (by decide) ?_) (fun hm => br_t rfl (Hn ?_))
    · have hc := (Bool.and_eq_true_iff.mp hm)
      rw [hc.1, hc.2, if_pos rfl, if_pos rfl] at e
      have hc2 := hc.2
      rw [rf_c2_e] at hc2
      have hfit : rf_fit g B i j = true := (Bool.and_eq_true_iff.mp (Bool.and_eq_true_iff.mp hc2).2).2
      have hkd : rf_kd (B i) (B j) < 3 := of_decide_eq_true (Bool.and_eq_true_iff.mp hfit).2
      refine And.intro (vp_in_nI (by omega) (by omega)) (And.intro (vp_in_nI (by omega) (by omega)) ?_)
      rw [nI_clamp (by omega : i < 2 ^ 31), nI_clamp (by omega : j < 2 ^ 31), eb i, eb j]
      refine rf_kX (B i) (B j) (hB i) (hB j) ?_
      unfold rf_kr
      rw [if_pos hkd]
      refine And.intro (vp_in_nI (by omega) (by omega)) ?_
      rw [nI_clamp (by omega : rf_kd (B i) (B j) < 2 ^ 31), et]
      refine nm_e ?_
      refine rf_isFree (i := i + 1) (j := j) (nI_1 i) E (by omega) (by omega) (fun hf => br_f (by decide) (br_f (by decide) ?_)) (fun hf => br_t rfl (br_t rfl ?_))
      · exact rf_sp71 (y := rf_sv (rf_ow (rf_ctx g B t a q) i j)) E h hj hP (hA h) rfl (by rw [hf]; rfl) rfl rfl e.symm H'
      · exact rf_sp71 (y := none) E h hj hP (hA h) rfl (by rw [hf]; rfl) rfl rfl e.symm H'
    · rw [e]
      cases h1 : rf_c1 (rf_ctx g B t a q) i with
      | false => rfl
      | true =>
        rw [h1] at hm
        have h2 : rf_c2 (rf_ctx g B t a q) i j = false := hm
        rw [h2]
        rfl
  · have e : i = j := by omega
    refine br_t (by rw [e]; exact Int32.le_refl _) (Hn ?_)
    rw [rf_V3, if_neg h]
theorem rf_sa191 {post : SX → Prop} {l i j : Nat} {xv xb xa : Int32} (hl : l ≤ 2) (hi : i ≤ 11) (hj : j ≤ 11) (H : post (xg, xz, xo, xs, xv, xb, xa, yb, yh, ya, yt, p1, p2, p3, upd n1 (144 * l + 12 * i + j) xv, upd n2 (144 * l + 12 * i + j) xb, upd n3 (144 * l + 12 * i + j) xa, yk, yp)) : wX_solveAny_191 post (nI i) (nI j) (nI l) xg xz xo xs xv xb xa yb yh ya yt p1 p2 p3 n1 n2 n3 yk yp := by
  have v : vp_in (nI (144 * l + 12 * i + j)) 432 := vp_in_nI (by omega) (by omega)
  refine nm_r (rf_ix3 l i j) ?_
  rw [nI_clamp (by omega : 144 * l + 12 * i + j < 2 ^ 31)]
  exact ⟨v, nm_e ⟨v, nm_e ⟨v, nm_e H⟩⟩⟩
theorem rf_sa99 {post : SX → Prop} {l i j : Nat} (E : rf_EX n g B t a q xg xz xo xs yb ya yt) (hl : l ≤ 2) (hij : i < j) (hj : j ≤ n) (hP : ∀ k, i < k → k < j → rf_pt (rf_ctx g B t a q) p1 p2 p3 i k) (hA : ∀ k, i < k → k < j → rf_at (rf_ctx g B t a q) n1 n2 n3 (l - 1) (k + 1) j) (H : wX_solveAny_191 post (nI i) (nI j) (nI l) xg xz xo xs (rf_rs (rf_V (rf_ctx g B t a q) l i j)) (rf_rb (rf_V (rf_ctx g B t a q) l i j)) (rf_ra (rf_V (rf_ctx g B t a q) l i j)) yb yh ya yt p1 p2 p3 n1 n2 n3 yk yp) : ∀ (d m k : Nat) (acc : rf_Op), k + d = j → i < k → d < m → rf_w 1000 acc → rf_ad acc (rf_sg (fun k => rf_mu (rf_V (rf_ctx g B t a q) 3 i k) (rf_V (rf_ctx g B t a q) (l - 1) (k + 1) j)) k d) = rf_V (rf_ctx g B t a q) l i j → wX_solveAny_99 post (nI i) (nI j) (nI l) (nI (l - 1)) m (nI k) xg xz xo xs (rf_rs acc) (rf_rb acc) (rf_ra acc) yb yh ya yt p1 p2 p3 n1 n2 n3 yk yp := by
  have hn : n ≤ 11 := E.1
  have hK : rf_Ks (rf_ctx g B t a q) := rf_ctxs E.2.2.2.1
  have hb : rf_al (rf_V (rf_ctx g B t a q) l i j) ≤ 531441 := rf_al_b (by omega) (by omega) (by omega)
  intro d
  induction d with
  | zero =>
    intro m k acc hk hik hm hw he
    obtain ⟨m, rfl⟩ : ∃ e, m = e + 1 := ⟨m - 1, by omega⟩
    obtain rfl : k = j := by omega
    rw [rf_sg_0, rf_ad_none] at he
    subst he
    exact br_t (Int32.le_refl _) H
  | succ d ih =>
    intro m k acc hk hik hm hw he
    obtain ⟨m, rfl⟩ : ∃ e, m = e + 1 := ⟨m - 1, by omega⟩
    have hp := hP k hik (by omega)
    have hq := hA k hik (by omega)
    rw [rf_sg_s, ← rf_ad_assoc] at he
    have hal := congrArg rf_al he
    rw [rf_al_ad, rf_al_ad] at hal
    have hwy : rf_w 1000 (rf_mu (rf_V (rf_ctx g B t a q) 3 i k) (rf_V (rf_ctx g B t a q) (l - 1) (k + 1) j)) := rf_w_mono (by omega) (rf_w_mu (rf_w_V hK (by omega) (by omega)) (rf_w_V hK (by omega) (by omega)))
    have v1 : vp_in (nI (12 * i + k)) 144 := vp_in_nI (by omega) (by omega)
    have v2 : vp_in (nI (144 * (l - 1) + 12 * (k + 1) + j)) 432 := vp_in_nI (by omega) (by omega)
    refine br_f (nI_ge (by omega) (by omega)) (nm_r (rf_ix2 i k) (nm_r (rf_ix3s (l - 1) k j) (And.intro v1 (And.intro v2 (nm_e (And.intro v1 (And.intro v2 (And.intro v1 (And.intro v2 ?_)))))))))
    rw [nI_clamp (by omega : 12 * i + k < 2 ^ 31), nI_clamp (by omega : 144 * (l - 1) + 12 * (k + 1) + j < 2 ^ 31), hp.1, hp.2.1, hp.2.2, hq.1, hq.2.1, hq.2.2]
    exact rf_offer hw hwy (by omega) (fun w hw => rf_rs_mu w hw) (rf_rb_mu _ _) (rf_ra_mu _ _) (nm_r (nI_1 k) (ih m (k + 1) _ (by omega) (by omega) (by omega) (rf_w_ad hw hwy) he))
theorem rf_sa81 {post : SX → Prop} {l i j : Nat} {acc : rf_Op} (E : rf_EX n g B t a q xg xz xo xs yb ya yt) (hl : l ≤ 2) (hij : i < j) (hj : j ≤ n) (hP : ∀ k, i < k → k < j → rf_pt (rf_ctx g B t a q) p1 p2 p3 i k) (hA : ∀ k, i < k → k < j → rf_at (rf_ctx g B t a q) n1 n2 n3 (l - 1) (k + 1) j) (H : wX_solveAny_191 post (nI i) (nI j) (nI l) xg xz xo xs (rf_rs (rf_V (rf_ctx g B t a q) l i j)) (rf_rb (rf_V (rf_ctx g B t a q) l i j)) (rf_ra (rf_V (rf_ctx g B t a q) l i j)) yb yh ya yt p1 p2 p3 n1 n2 n3 yk yp) (hw : rf_w 1000 acc) (he : rf_ad acc (rf_sg (fun k => rf_mu (rf_V (rf_ctx g B t a q) 3 i k) (rf_V (rf_ctx g B t a q) (l - 1) (k + 1) j)) (i + 1) (j - (i + 1))) = rf_V (rf_ctx g B t a q) l i j) : wX_solveAny_81 post (nI i) (nI j) (nI l) xg xz xo xs (rf_rs acc) (rf_rb acc) (rf_ra acc) yb yh ya yt p1 p2 p3 n1 n2 n3 yk yp := by
  have hn : n ≤ 11 := E.1
  have h99 := rf_sa99 E hl hij hj hP hA H (j - (i + 1)) (j - (i + 1) + 1) (i + 1) acc (by omega) (by omega) (by omega) hw he
  refine pk_le l 0 (fun h => ?_) (fun h => ?_)
  · obtain rfl : l = 0 := by omega
    exact nm_r (nI_1 i) ⟨_, h99⟩
  · exact nm_r (rf_m1 h) (nm_r (nI_1 i) ⟨_, h99⟩)
theorem rf_solveAny {post : SX → Prop} {l i j : Nat} {xv xb xa z : Int32} (hz : z = nI j) (E : rf_EX n g B t a q xg xz xo xs yb ya yt) (hl : l ≤ 2) (hij : i ≤ j) (hj : j ≤ n) (hP : ∀ k, i < k → k < j → rf_pt (rf_ctx g B t a q) p1 p2 p3 i k) (h1 : i < j → rf_at (rf_ctx g B t a q) n1 n2 n3 l (i + 1) j) (hA : ∀ k, i < k → k < j → rf_at (rf_ctx g B t a q) n1 n2 n3 (l - 1) (k + 1) j) (H : ∀ xv xb xa : Int32, post (xg, xz, xo, xs, xv, xb, xa, yb, yh, ya, yt, p1, p2, p3, upd n1 (144 * l + 12 * i + j) (rf_rs (rf_V (rf_ctx g B t a q) l i j)), upd n2 (144 * l + 12 * i + j) (rf_rb (rf_V (rf_ctx g B t a q) l i j)), upd n3 (144 * l + 12 * i + j) (rf_ra (rf_V (rf_ctx g B t a q) l i j)), yk, yp)) : wpX_solveAny post (xg, xz, xo, xs, xv, xb, xa, yb, yh, ya, yt, p1, p2, p3, n1, n2, n3, yk, yp) (nI i) z (nI l) := by
  subst hz
  have hn : n ≤ 11 := E.1
  have hK : rf_Ks (rf_ctx g B t a q) := rf_ctxs E.2.2.2.1
  have H' : wX_solveAny_191 post (nI i) (nI j) (nI l) xg xz xo xs (rf_rs (rf_V (rf_ctx g B t a q) l i j)) (rf_rb (rf_V (rf_ctx g B t a q) l i j)) (rf_ra (rf_V (rf_ctx g B t a q) l i j)) yb yh ya yt p1 p2 p3 n1 n2 n3 yk yp := rf_sa191 hl (by omega) (by omega) (H _ _ _)
  show (nI i = nI j → _) ∧ (¬ nI i = nI j → _)
  refine pk_eq i j (fun h => ?_) (fun h => ?_)
  · subst h
    rw [rf_V0 (rf_ctx g B t a q) hl (Nat.le_refl i)] at H'
    refine pk_eq l 0 (fun h0 => ?_) (fun h0 => ?_)
    · rw [if_pos h0] at H'
      exact rf_offer (x := none) (y := rf_one) trivial (rf_w_sv (by omega) (by omega)) (by decide) (fun v hv => by have e : ((0 : Int), 1, 1) = v := Option.some.inj hv; rw [← e]; rfl) rfl rfl H'
    · rw [if_neg h0] at H'
      exact rf_offer (x := none) (y := none) trivial trivial (by decide) (fun v hv => by cases hv) rfl rfl H'
  · have hlt : i < j := by omega
    have e := rf_Vl (rf_ctx g B t a q) hl hlt
    refine rf_mbf E (by omega) (fun hc => br_f (by decide) ?_) (fun hc => br_t rfl ?_)
    · rw [hc, if_pos rfl] at e
      have hq := h1 hlt
      have hwy : rf_w 1000 (rf_V (rf_ctx g B t a q) l (i + 1) j) := rf_w_mono (by omega) (rf_w_V hK (by omega) (by omega))
      have hb : rf_al (rf_V (rf_ctx g B t a q) l (i + 1) j) ≤ 531441 := rf_al_b (by omega) (by omega) (by omega)
      have v : vp_in (nI (144 * l + 12 * (i + 1) + j)) 432 := vp_in_nI (by omega) (by omega)
      refine nm_r (rf_ix3s l i j) (And.intro v (And.intro v (And.intro v ?_)))
      rw [nI_clamp (by omega : 144 * l + 12 * (i + 1) + j < 2 ^ 31), hq.1, hq.2.1, hq.2.2]
      refine rf_offer (x := none) (y := rf_V (rf_ctx g B t a q) l (i + 1) j) trivial hwy (by show 0 + rf_al _ < 2 ^ 31; omega) (fun v hv => by rw [hv]; rfl) rfl rfl ?_
      rw [rf_none_ad]
      exact rf_sa81 E hl hlt hj hP hA H' hwy e.symm
    · rw [hc] at e
      exact rf_sa81 (acc := none) E hl hlt hj hP hA H' trivial e.symm
end
end
section
def rf_PI (K : rf_K) (n w i0 : Nat) (p1 p2 p3 : Nat → Int32) : Prop := ∀ i j, i ≤ j → j < n → (j + 1 - i < w ∨ (j + 1 - i = w ∧ i < i0)) → rf_pt K p1 p2 p3 i j
def rf_AI (K : rf_K) (n w i0 l0 : Nat) (n1 n2 n3 : Nat → Int32) : Prop := ∀ l i j, l ≤ 2 → i ≤ j → j ≤ n → (j - i < w ∨ (j - i = w ∧ (i < i0 ∨ (i = i0 ∧ l < l0)))) → rf_at K n1 n2 n3 l i j
theorem rf_in2 {i j i' j' : Nat} (hj : j < 12) (hj' : j' < 12) (h : 12 * i' + j' = 12 * i + j) : i' = i ∧ j' = j := by
  have e : i' = i := by omega
  exact ⟨e, by omega⟩
theorem rf_in3 {l i j l' i' j' : Nat} (hi : i < 12) (hi' : i' < 12) (hj : j < 12) (hj' : j' < 12) (h : 144 * l' + 12 * i' + j' = 144 * l + 12 * i + j) : l' = l ∧ i' = i ∧ j' = j := by
  have a : 12 * i + j < 144 := by omega
  have a' : 12 * i' + j' < 144 := by omega
  have e : l' = l := by
    generalize 12 * i = u at *
    generalize 12 * i' = u' at *
    omega
  subst e
  exact ⟨rfl, rf_in2 hj hj' (by omega)⟩
theorem rf_PI_put {K : rf_K} {n w i : Nat} {p1 p2 p3 : Nat → Int32} (hn : n ≤ 11) (h0 : 0 < w) (hi : i + w ≤ n) (h : rf_PI K n w i p1 p2 p3) : rf_PI K n w (i + 1) (upd p1 (12 * i + (i + w - 1)) (rf_rs (rf_V K 3 i (i + w - 1)))) (upd p2 (12 * i + (i + w - 1)) (rf_rb (rf_V K 3 i (i + w - 1)))) (upd p3 (12 * i + (i + w - 1)) (rf_ra (rf_V K 3 i (i + w - 1)))) := by
  intro i' j' hij hj hc
  by_cases e : i' = i ∧ j' = i + w - 1
  · obtain ⟨e1, e2⟩ := e
    subst e1 e2
    exact ⟨pk_us, pk_us, pk_us⟩
  · have hne : 12 * i' + j' ≠ 12 * i + (i + w - 1) := fun z => e (rf_in2 (by omega) (by omega) z)
    have := h i' j' hij hj (by omega)
    unfold rf_pt
    rw [pk_un hne, pk_un hne, pk_un hne]
    exact this
theorem rf_AI_put {K : rf_K} {n w i l : Nat} {n1 n2 n3 : Nat → Int32} (hn : n ≤ 11) (hl : l ≤ 2) (hi : i + w ≤ n) (h : rf_AI K n w i l n1 n2 n3) : rf_AI K n w i (l + 1) (upd n1 (144 * l + 12 * i + (i + w)) (rf_rs (rf_V K l i (i + w)))) (upd n2 (144 * l + 12 * i + (i + w)) (rf_rb (rf_V K l i (i + w)))) (upd n3 (144 * l + 12 * i + (i + w)) (rf_ra (rf_V K l i (i + w)))) := by
  intro l' i' j' hl' hij hj hc
  by_cases e : l' = l ∧ i' = i ∧ j' = i + w
  · obtain ⟨e0, e1, e2⟩ := e
    subst e0 e1 e2
    exact ⟨pk_us, pk_us, pk_us⟩
  · have hne : 144 * l' + 12 * i' + j' ≠ 144 * l + 12 * i + (i + w) := fun z => e (rf_in3 (by omega) (by omega) (by omega) (by omega) z)
    have := h l' i' j' hl' hij hj (by omega)
    unfold rf_at
    rw [pk_un hne, pk_un hne, pk_un hne]
    exact this
section
variable {xg xz xo xs : Int32} {yb yh ya yt yk yp : Nat → Int32}
variable {n g : Nat} {B t a : Nat → Nat} {q : Option (Nat × Nat)}
theorem rf_so38 {post : SX → Prop} {J2 J12 : rf_JX} {w i : Nat} (E : rf_EX n g B t a q xg xz xo xs yb ya yt) (hi : i + w ≤ n) (H : ∀ (xv xb xa : Int32) (p1 p2 p3 n1 n2 n3 : Nat → Int32), rf_PI (rf_ctx g B t a q) n w (i + 1) p1 p2 p3 → rf_AI (rf_ctx g B t a q) n w (i + 1) 0 n1 n2 n3 → J12 (nI (i + 1)) xg xz xo xs xv xb xa yb yh ya yt p1 p2 p3 n1 n2 n3 yk yp) : ∀ (d m l : Nat), l + d = 3 → d < m → ∀ (xv xb xa : Int32) (p1 p2 p3 n1 n2 n3 : Nat → Int32), rf_PI (rf_ctx g B t a q) n w (i + 1) p1 p2 p3 → rf_AI (rf_ctx g B t a q) n w i l n1 n2 n3 → wX_solve_38 post J2 J12 (nI w) (nI i) m (nI l) xg xz xo xs xv xb xa yb yh ya yt p1 p2 p3 n1 n2 n3 yk yp := by
  have hn : n ≤ 11 := E.1
  intro d
  induction d with
  | zero =>
    intro m l hl hm xv xb xa p1 p2 p3 n1 n2 n3 hP hA
    obtain ⟨m, rfl⟩ : ∃ e, m = e + 1 := ⟨m - 1, by omega⟩
    obtain rfl : l = 3 := by omega
    refine br_t (Int32.le_refl _) (nm_r (nI_1 i) (H _ _ _ _ _ _ _ _ _ hP ?_))
    intro l' i' j' hl' hij hj hc
    exact hA l' i' j' hl' hij hj (by omega)
  | succ d ih =>
    intro m l hl hm xv xb xa p1 p2 p3 n1 n2 n3 hP hA
    obtain ⟨m, rfl⟩ : ∃ e, m = e + 1 := ⟨m - 1, by omega⟩
    refine br_f (nI_ge (b := 3) (by omega) (by decide)) ?_
    refine rf_solveAny (j := i + w) (nI_add i w) E (by omega) (by omega) hi (fun k k1 k2 => hP i k (by omega) (by omega) (by omega)) (fun h => hA l (i + 1) (i + w) (by omega) (by omega) (by omega) (by omega)) (fun k k1 k2 => hA (l - 1) (k + 1) (i + w) (by omega) (by omega) (by omega) (by omega)) (fun xv xb xa => ?_)
    exact nm_r (nI_1 l) (ih m (l + 1) (by omega) (by omega) _ _ _ _ _ _ _ _ _ hP (rf_AI_put hn (by omega) hi hA))
theorem rf_so12 {post : SX → Prop} {J2 : rf_JX} {w : Nat} (E : rf_EX n g B t a q xg xz xo xs yb ya yt) (hw : w ≤ n) (H : ∀ (xv xb xa : Int32) (p1 p2 p3 n1 n2 n3 : Nat → Int32), rf_PI (rf_ctx g B t a q) n (w + 1) 0 p1 p2 p3 → rf_AI (rf_ctx g B t a q) n (w + 1) 0 0 n1 n2 n3 → J2 (nI (w + 1)) xg xz xo xs xv xb xa yb yh ya yt p1 p2 p3 n1 n2 n3 yk yp) : ∀ (d m i : Nat), i + d = n + 1 - w → d < m → ∀ (xv xb xa : Int32) (p1 p2 p3 n1 n2 n3 : Nat → Int32), rf_PI (rf_ctx g B t a q) n w i p1 p2 p3 → rf_AI (rf_ctx g B t a q) n w i 0 n1 n2 n3 → wX_solve_12 post J2 (nI w) m (nI i) xg xz xo xs xv xb xa yb yh ya yt p1 p2 p3 n1 n2 n3 yk yp := by
  have hn : n ≤ 11 := E.1
  have ez : xz = nI n := E.2.2.2.2.2.1
  intro d
  induction d with
  | zero =>
    intro m i hi hm xv xb xa p1 p2 p3 n1 n2 n3 hP hA
    obtain ⟨m, rfl⟩ : ∃ e, m = e + 1 := ⟨m - 1, by omega⟩
    have hc : xz < nI i + nI w := by
      rw [ez, nI_add]
      exact nI_lt (by omega) (by omega)
    refine br_t hc (nm_r (nI_1 w) (H _ _ _ _ _ _ _ _ _ ?_ ?_))
    · intro i' j' hij hj hc
      exact hP i' j' hij hj (by omega)
    · intro l' i' j' hl' hij hj hc
      exact hA l' i' j' hl' hij hj (by omega)
  | succ d ih =>
    intro m i hi hm xv xb xa p1 p2 p3 n1 n2 n3 hP hA
    obtain ⟨m, rfl⟩ : ∃ e, m = e + 1 := ⟨m - 1, by omega⟩
    have hc : ¬ xz < nI i + nI w := by
      rw [ez, nI_add]
      exact nI_nlt (by omega) (by omega)
    have h38 : ∀ (xv xb xa : Int32) (p1 p2 p3 n1 n2 n3 : Nat → Int32), rf_PI (rf_ctx g B t a q) n w (i + 1) p1 p2 p3 → rf_AI (rf_ctx g B t a q) n w i 0 n1 n2 n3 → ∃ n38 : Nat, wX_solve_38 post J2 (wX_solve_12 post J2 (nI w) m) (nI w) (nI i) n38 0 xg xz xo xs xv xb xa yb yh ya yt p1 p2 p3 n1 n2 n3 yk yp := fun xv xb xa p1 p2 p3 n1 n2 n3 hP hA => ⟨4, rf_so38 E (by omega) (fun xv xb xa p1 p2 p3 n1 n2 n3 hP hA => ih m (i + 1) (by omega) (by omega) xv xb xa p1 p2 p3 n1 n2 n3 hP hA) 3 4 0 rfl (by omega) xv xb xa p1 p2 p3 n1 n2 n3 hP hA⟩
    refine br_f hc (pk_le w 0 (fun h => ?_) (fun h => ?_))
    · refine h38 _ _ _ _ _ _ _ _ _ ?_ hA
      intro i' j' hij hj hc
      omega
    · refine rf_solvePair (i := i) (j := i + w - 1) (by rw [nI_add, rf_m1 (by omega)]) E (by omega) (by omega) (fun k l k1 k2 k3 => hP k l (by omega) (by omega) (by omega)) (fun h => hA 2 (i + 1) (i + w - 1) (by omega) (by omega) (by omega) (by omega)) (fun xv xb xa => ?_)
      exact h38 _ _ _ _ _ _ _ _ _ (rf_PI_put hn h (by omega) hP) hA
theorem rf_so2 {post : SX → Prop} (E : rf_EX n g B t a q xg xz xo xs yb ya yt) (H : ∀ (xv xb xa : Int32) (p1 p2 p3 n1 n2 n3 : Nat → Int32), rf_at (rf_ctx g B t a q) n1 n2 n3 0 0 n → post (xg, xz, xo, xs, xv, xb, xa, yb, yh, ya, yt, p1, p2, p3, n1, n2, n3, yk, yp)) : ∀ (d m w : Nat), w + d = n + 1 → d < m → ∀ (xv xb xa : Int32) (p1 p2 p3 n1 n2 n3 : Nat → Int32), rf_PI (rf_ctx g B t a q) n w 0 p1 p2 p3 → rf_AI (rf_ctx g B t a q) n w 0 0 n1 n2 n3 → wX_solve_2 post m (nI w) xg xz xo xs xv xb xa yb yh ya yt p1 p2 p3 n1 n2 n3 yk yp := by
  have hn : n ≤ 11 := E.1
  have ez : xz = nI n := E.2.2.2.2.2.1
  intro d
  induction d with
  | zero =>
    intro m w hw hm xv xb xa p1 p2 p3 n1 n2 n3 hP hA
    obtain ⟨m, rfl⟩ : ∃ e, m = e + 1 := ⟨m - 1, by omega⟩
    refine br_t (by rw [ez]; exact nI_lt (by omega) (by omega)) (H _ _ _ _ _ _ _ _ _ (hA 0 0 n (by omega) (by omega) (by omega) (by omega)))
  | succ d ih =>
    intro m w hw hm xv xb xa p1 p2 p3 n1 n2 n3 hP hA
    obtain ⟨m, rfl⟩ : ∃ e, m = e + 1 := ⟨m - 1, by omega⟩
    refine br_f (by rw [ez]; exact nI_nlt (by omega) (by omega)) ⟨n + 1 - w + 1, ?_⟩
    exact rf_so12 E (by omega) (fun xv xb xa p1 p2 p3 n1 n2 n3 hP hA => ih m (w + 1) (by omega) (by omega) xv xb xa p1 p2 p3 n1 n2 n3 hP hA) (n + 1 - w) (n + 1 - w + 1) 0 (by omega) (by omega) xv xb xa p1 p2 p3 n1 n2 n3 hP hA
/-- solve: the whole stretch's entry holds the summary -/
theorem rf_solve {post : SX → Prop} {xv xb xa : Int32} {p1 p2 p3 n1 n2 n3 : Nat → Int32} (E : rf_EX n g B t a q xg xz xo xs yb ya yt) (H : ∀ (xv xb xa : Int32) (p1 p2 p3 n1 n2 n3 : Nat → Int32), n1 n = rf_rs (rf_V (rf_ctx g B t a q) 0 0 n) → n2 n = rf_rb (rf_V (rf_ctx g B t a q) 0 0 n) → n3 n = rf_ra (rf_V (rf_ctx g B t a q) 0 0 n) → post (xg, xz, xo, xs, xv, xb, xa, yb, yh, ya, yt, p1, p2, p3, n1, n2, n3, yk, yp)) : wpX_solve post (xg, xz, xo, xs, xv, xb, xa, yb, yh, ya, yt, p1, p2, p3, n1, n2, n3, yk, yp) := by
  refine ⟨n + 2, ?_⟩
  refine rf_so2 E (fun xv xb xa p1 p2 p3 n1 n2 n3 h => ?_) (n + 1) (n + 2) 0 (by omega) (by omega) xv xb xa p1 p2 p3 n1 n2 n3 ?_ ?_
  · have e : 144 * 0 + 12 * 0 + n = n := by omega
    unfold rf_at at h
    rw [e] at h
    exact H _ _ _ _ _ _ _ _ _ h.1 h.2.1 h.2.2
  · intro i' j' hij hj hc
    omega
  · intro l' i' j' hl' hij hj hc
    omega
end
end
section
/-! rows kept from the last place back (the reference's way): a list r holds the signs of places 0 .. r.length - 1, the last one first -/
def rf_stk : List Nat → List rf_E
  | [] => []
  | s :: r => rf_nx s r.length (rf_stk r)
def rf_acc (K : rf_K) : List Nat → Int
  | [] => 0
  | s :: r => rf_acc K r + rf_dv K s r.length (rf_stk r)
def rf_dg : List Nat → Nat → Nat
  | [] => fun _ => 0
  | s :: r => fun p => if p = r.length then s else rf_dg r p
def rf_eb (K : rf_K) (R : List Nat → List (List Nat)) (s : Nat) (r : List Nat) : List (List Nat) := if rf_ok K s r.length (rf_stk r) = true then R (s :: r) else []
/-- all rows that go on from r by k places -/
def rf_er (K : rf_K) : Nat → List Nat → List (List Nat)
  | 0 => fun r => if (rf_stk r).isEmpty = true then [r] else []
  | k + 1 => fun r => rf_eb K (rf_er K k) 0 r ++ (rf_eb K (rf_er K k) 1 r ++ rf_eb K (rf_er K k) 2 r)
theorem rf_er_s (K : rf_K) (k : Nat) (r : List Nat) : rf_er K (k + 1) r = rf_eb K (rf_er K k) 0 r ++ (rf_eb K (rf_er K k) 1 r ++ rf_eb K (rf_er K k) 2 r) := rfl
theorem rf_rev (s : Nat) (w r : List Nat) : (s :: w).reverse ++ r = w.reverse ++ (s :: r) := by
  rw [List.reverse_cons, List.append_assoc]
  rfl
theorem rf_er_en (K : rf_K) : ∀ (k : Nat) (r : List Nat), rf_er K k r = (rf_en K k r.length (rf_stk r)).map (fun w => w.reverse ++ r) := by
  intro k
  induction k with
  | zero =>
    intro r
    show (if (rf_stk r).isEmpty = true then [r] else []) = (rf_e0 (rf_stk r)).map (fun w => w.reverse ++ r)
    cases rf_stk r with
    | nil => rfl
    | cons x st => rfl
  | succ k ih =>
    intro r
    have hb : ∀ s, rf_eb K (rf_er K k) s r = (rf_br K (rf_en K k) s r.length (rf_stk r)).map (fun w => w.reverse ++ r) := by
      intro s
      unfold rf_eb rf_br
      by_cases h : rf_ok K s r.length (rf_stk r) = true
      · rw [if_pos h, if_pos h, List.map_map, ih (s :: r)]
        refine List.map_congr_left (fun w _ => ?_)
        exact (rf_rev s w r).symm
      · rw [if_neg h, if_neg h]
        rfl
    rw [rf_er_s, hb 0, hb 1, hb 2, rf_en_s, List.map_append, List.map_append]
theorem rf_acc_sc (K : rf_K) : ∀ (w r : List Nat), rf_acc K (w.reverse ++ r) = rf_acc K r + rf_sc K w r.length (rf_stk r) := by
  intro w
  induction w with
  | nil =>
    intro r
    exact (Int.add_zero _).symm
  | cons s w ih =>
    intro r
    rw [rf_rev, ih (s :: r)]
    show rf_acc K r + rf_dv K s r.length (rf_stk r) + rf_sc K w (r.length + 1) (rf_nx s r.length (rf_stk r)) = rf_acc K r + (rf_dv K s r.length (rf_stk r) + rf_sc K w (r.length + 1) (rf_nx s r.length (rf_stk r)))
    omega
theorem rf_main2 (K : rf_K) (n : Nat) : rf_V K 0 0 n = rf_sm ((rf_er K n []).map (rf_acc K)) := by
  rw [rf_main, rf_er_en, List.map_map]
  refine congrArg rf_sm (List.map_congr_left (fun w _ => ?_))
  show rf_sc K w 0 [] = rf_acc K (w.reverse ++ [])
  rw [rf_acc_sc]
  exact (Int.zero_add _).symm
def rf_vd (K : rf_K) : List Nat → Bool
  | [] => true
  | s :: r => rf_vd K r && (decide (s < 3) && rf_ok K s r.length (rf_stk r))
def rf_ar : Nat → List Nat → List (List Nat)
  | 0 => fun r => [r]
  | k + 1 => fun r => rf_ar k (0 :: r) ++ (rf_ar k (1 :: r) ++ rf_ar k (2 :: r))
theorem rf_ar_mem {k : Nat} {r x : List Nat} (h : x ∈ rf_ar (k + 1) r) : ∃ s, s < 3 ∧ x ∈ rf_ar k (s :: r) := by
  have h' : x ∈ rf_ar k (0 :: r) ++ (rf_ar k (1 :: r) ++ rf_ar k (2 :: r)) := h
  rw [List.mem_append, List.mem_append] at h'
  rcases h' with h | h | h
  · exact ⟨0, by omega, h⟩
  · exact ⟨1, by omega, h⟩
  · exact ⟨2, by omega, h⟩
theorem rf_ar_mem' {k s : Nat} {r x : List Nat} (hs : s < 3) (h : x ∈ rf_ar k (s :: r)) : x ∈ rf_ar (k + 1) r := by
  show x ∈ rf_ar k (0 :: r) ++ (rf_ar k (1 :: r) ++ rf_ar k (2 :: r))
  rw [List.mem_append, List.mem_append]
  obtain rfl | rfl | rfl : s = 0 ∨ s = 1 ∨ s = 2 := by omega
  · exact Or.inl h
  · exact Or.inr (Or.inl h)
  · exact Or.inr (Or.inr h)
theorem rf_ar_len : ∀ (k : Nat) (r x : List Nat), x ∈ rf_ar k r → x.length = k + r.length := by
  intro k
  induction k with
  | zero =>
    intro r x h
    have e : x = r := List.mem_singleton.mp h
    rw [e]; omega
  | succ k ih =>
    intro r x h
    obtain ⟨s, _, h⟩ := rf_ar_mem h
    have := ih _ _ h
    rw [List.length_cons] at this
    omega
theorem rf_dg_c {s p : Nat} {r : List Nat} (h : p < r.length) : rf_dg (s :: r) p = rf_dg r p := if_neg (by omega)
theorem rf_dg_l (s : Nat) (r : List Nat) : rf_dg (s :: r) r.length = s := if_pos rfl
theorem rf_ar_dg : ∀ (k : Nat) (r x : List Nat), x ∈ rf_ar k r → ∀ p, p < r.length → rf_dg x p = rf_dg r p := by
  intro k
  induction k with
  | zero =>
    intro r x h p _
    have e : x = r := List.mem_singleton.mp h
    rw [e]
  | succ k ih =>
    intro r x h p hp
    obtain ⟨s, _, h⟩ := rf_ar_mem h
    rw [ih _ _ h p (by rw [List.length_cons]; omega), rf_dg_c hp]
theorem rf_ar_cons {s : Nat} (hs : s < 3) : ∀ (k : Nat) (r x : List Nat), x ∈ rf_ar k r → (s :: x) ∈ rf_ar (k + 1) r := by
  intro k
  induction k with
  | zero =>
    intro r x h
    have e : x = r := List.mem_singleton.mp h
    rw [e]
    exact rf_ar_mem' hs (List.mem_singleton.mpr rfl)
  | succ k ih =>
    intro r x h
    obtain ⟨u, hu, h⟩ := rf_ar_mem h
    exact rf_ar_mem' hu (ih _ _ h)
theorem rf_ar_all : ∀ x : List Nat, (∀ s ∈ x, s < 3) → x ∈ rf_ar x.length [] := by
  intro x
  induction x with
  | nil => intro _; exact List.mem_singleton.mpr rfl
  | cons s x ih =>
    intro h
    exact rf_ar_cons (h s (List.mem_cons_self ..)) _ _ _ (ih (fun u hu => h u (List.mem_cons_of_mem _ hu)))
theorem rf_vd_s {K : rf_K} {s : Nat} {r : List Nat} : rf_vd K (s :: r) = true ↔ rf_vd K r = true ∧ s < 3 ∧ rf_ok K s r.length (rf_stk r) = true := by
  show (rf_vd K r && (decide (s < 3) && rf_ok K s r.length (rf_stk r))) = true ↔ _
  rw [Bool.and_eq_true, Bool.and_eq_true, decide_eq_true_eq]
theorem rf_vd_lt {K : rf_K} : ∀ x : List Nat, rf_vd K x = true → ∀ s ∈ x, s < 3 := by
  intro x
  induction x with
  | nil => intro _ s hs; cases hs
  | cons u x ih =>
    intro h s hs
    obtain ⟨h1, h2, _⟩ := rf_vd_s.mp h
    rcases List.mem_cons.mp hs with e | e
    · rw [e]; exact h2
    · exact ih h1 s e
theorem rf_ar_vd {K : rf_K} : ∀ (k : Nat) (r x : List Nat), x ∈ rf_ar k r → rf_vd K x = true → rf_vd K r = true := by
  intro k
  induction k with
  | zero =>
    intro r x h hv
    have e : x = r := List.mem_singleton.mp h
    rw [← e]; exact hv
  | succ k ih =>
    intro r x h hv
    obtain ⟨s, _, h⟩ := rf_ar_mem h
    exact (rf_vd_s.mp (ih _ _ h hv)).1
theorem rf_er_ar (K : rf_K) : ∀ (k : Nat) (r : List Nat), rf_vd K r = true → rf_er K k r = (rf_ar k r).filter (fun x => rf_vd K x && (rf_stk x).isEmpty) := by
  intro k
  induction k with
  | zero =>
    intro r h
    show (if (rf_stk r).isEmpty = true then [r] else []) = [r].filter (fun x => rf_vd K x && (rf_stk x).isEmpty)
    rw [List.filter_cons, h, Bool.true_and]
    rfl
  | succ k ih =>
    intro r h
    have hb : ∀ s, s < 3 → rf_eb K (rf_er K k) s r = (rf_ar k (s :: r)).filter (fun x => rf_vd K x && (rf_stk x).isEmpty) := by
      intro s hs
      unfold rf_eb
      by_cases ho : rf_ok K s r.length (rf_stk r) = true
      · rw [if_pos ho]
        exact ih _ (rf_vd_s.mpr ⟨h, hs, ho⟩)
      · rw [if_neg ho]
        refine (List.filter_eq_nil_iff.mpr (fun x hx hc => ho ?_)).symm
        rw [Bool.and_eq_true] at hc
        exact (rf_vd_s.mp (rf_ar_vd k _ _ hx hc.1)).2.2
    rw [rf_er_s, hb 0 (by omega), hb 1 (by omega), hb 2 (by omega)]
    show _ = (rf_ar k (0 :: r) ++ (rf_ar k (1 :: r) ++ rf_ar k (2 :: r))).filter _
    rw [List.filter_append, List.filter_append]
theorem rf_er_mem {K : rf_K} {n : Nat} {x : List Nat} : x ∈ rf_er K n [] ↔ x.length = n ∧ rf_vd K x = true ∧ rf_stk x = [] := by
  rw [rf_er_ar K n [] rfl, List.mem_filter, Bool.and_eq_true, List.isEmpty_iff]
  constructor
  · intro h
    exact ⟨rf_ar_len n [] x h.1, h.2.1, h.2.2⟩
  · intro h
    refine ⟨?_, h.2.1, h.2.2⟩
    rw [← h.1]
    exact rf_ar_all x (rf_vd_lt x h.2.1)
theorem rf_er_len (K : rf_K) (k : Nat) (r : List Nat) : (rf_er K k r).length ≤ 3 ^ k := by
  rw [rf_er_en, List.length_map]
  exact rf_en_len K k _ _
/-! the order -/
def rf_lt (x y : List Nat) : Prop := ∃ p, (∀ u, u < p → rf_dg x u = rf_dg y u) ∧ rf_dg x p < rf_dg y p
theorem rf_ar_cross {k s s' : Nat} {r x y : List Nat} (h : s < s') (hx : x ∈ rf_ar k (s :: r)) (hy : y ∈ rf_ar k (s' :: r)) : rf_lt x y := by
  have l1 : r.length < (s :: r).length := by rw [List.length_cons]; omega
  have l2 : r.length < (s' :: r).length := by rw [List.length_cons]; omega
  refine ⟨r.length, fun u hu => ?_, ?_⟩
  · rw [rf_ar_dg k _ _ hx u (by omega), rf_ar_dg k _ _ hy u (by omega), rf_dg_c hu, rf_dg_c hu]
  · rw [rf_ar_dg k _ _ hx _ l1, rf_ar_dg k _ _ hy _ l2, rf_dg_l, rf_dg_l]
    exact h
theorem rf_ar_pw : ∀ (k : Nat) (r : List Nat), (rf_ar k r).Pairwise rf_lt := by
  intro k
  induction k with
  | zero => intro r; exact List.pairwise_singleton _ _
  | succ k ih =>
    intro r
    show (rf_ar k (0 :: r) ++ (rf_ar k (1 :: r) ++ rf_ar k (2 :: r))).Pairwise rf_lt
    rw [List.pairwise_append, List.pairwise_append]
    refine ⟨ih _, ⟨ih _, ih _, fun x hx y hy => rf_ar_cross (by omega) hx hy⟩, fun x hx y hy => ?_⟩
    rcases List.mem_append.mp hy with hy | hy
    · exact rf_ar_cross (by omega) hx hy
    · exact rf_ar_cross (by omega) hx hy
theorem rf_er_pw (K : rf_K) (n : Nat) : (rf_er K n []).Pairwise rf_lt := by
  rw [rf_er_ar K n [] rfl]
  exact (rf_ar_pw n []).filter _
end
section
/-! what is asked for, as a sieve of rows -/
def rf_z0 : Nat → Nat := fun _ => 0
def rf_sat (a : Nat → Nat) : List Nat → Bool
  | [] => true
  | s :: r => rf_sat a r && (decide (a r.length = 0) || decide (a r.length = s + 1))
theorem rf_ok_a {g : Nat} {B t a : Nat → Nat} {s p : Nat} {st : List rf_E} (hs : s < 3) (ha : a p ≤ 3) : rf_ok (rf_ctx g B t a none) s p st = (rf_ok (rf_ctx g B t rf_z0 none) s p st && (decide (a p = 0) || decide (a p = s + 1))) := by
  obtain rfl | rfl | rfl : s = 0 ∨ s = 1 ∨ s = 2 := by omega
  · show decide (a p ≤ 1) = (decide (0 ≤ 1) && (decide (a p = 0) || decide (a p = 0 + 1)))
    generalize a p = c at *
    obtain rfl | rfl | rfl | rfl : c = 0 ∨ c = 1 ∨ c = 2 ∨ c = 3 := by omega
    all_goals rfl
  · show decide (a p = 0 ∨ a p = 2) = (decide (0 = 0 ∨ 0 = 2) && (decide (a p = 0) || decide (a p = 1 + 1)))
    generalize a p = c at *
    obtain rfl | rfl | rfl | rfl : c = 0 ∨ c = 1 ∨ c = 2 ∨ c = 3 := by omega
    all_goals rfl
  · show rf_ok2 (rf_ctx g B t a none) p st = (rf_ok2 (rf_ctx g B t rf_z0 none) p st && (decide (a p = 0) || decide (a p = 2 + 1)))
    cases st with
    | nil => rfl
    | cons x st =>
      show (decide (a p = 0 ∨ a p = 3) && (true && rf_fit g B x.1 p)) = ((decide (0 = 0 ∨ 0 = 3) && (true && rf_fit g B x.1 p)) && (decide (a p = 0) || decide (a p = 2 + 1)))
      generalize rf_fit g B x.1 p = f
      generalize a p = c at *
      obtain rfl | rfl | rfl | rfl : c = 0 ∨ c = 1 ∨ c = 2 ∨ c = 3 := by omega
      all_goals (cases f <;> rfl)
theorem rf_vd_a {g : Nat} {B t a : Nat → Nat} : ∀ x : List Nat, (∀ p, p < x.length → a p ≤ 3) → rf_vd (rf_ctx g B t a none) x = (rf_vd (rf_ctx g B t rf_z0 none) x && rf_sat a x) := by
  intro x
  induction x with
  | nil => intro _; rfl
  | cons s r ih =>
    intro h
    have ih' := ih (fun p hp => h p (by rw [List.length_cons]; omega))
    have h3 := h r.length (by rw [List.length_cons]; omega)
    show (rf_vd (rf_ctx g B t a none) r && (decide (s < 3) && rf_ok (rf_ctx g B t a none) s r.length (rf_stk r))) = ((rf_vd (rf_ctx g B t rf_z0 none) r && (decide (s < 3) && rf_ok (rf_ctx g B t rf_z0 none) s r.length (rf_stk r))) && (rf_sat a r && (decide (a r.length = 0) || decide (a r.length = s + 1))))
    by_cases hs : s < 3
    · rw [ih', rf_ok_a hs h3]
      generalize rf_vd (rf_ctx g B t rf_z0 none) r = b1
      generalize rf_sat a r = b2
      generalize rf_ok (rf_ctx g B t rf_z0 none) s r.length (rf_stk r) = b3
      generalize (decide (a r.length = 0) || decide (a r.length = s + 1)) = b4
      generalize decide (s < 3) = b5
      revert b1 b2 b3 b4 b5
      decide
    · simp only [decide_eq_false hs, Bool.false_and, Bool.and_false]
theorem rf_sat_iff {a : Nat → Nat} : ∀ x : List Nat, rf_sat a x = true ↔ ∀ p, p < x.length → a p = 0 ∨ a p = rf_dg x p + 1 := by
  intro x
  induction x with
  | nil =>
    constructor
    · intro _ p hp; exact absurd hp (Nat.not_lt_zero p)
    · intro _; rfl
  | cons s r ih =>
    show (rf_sat a r && (decide (a r.length = 0) || decide (a r.length = s + 1))) = true ↔ _
    rw [Bool.and_eq_true, ih, Bool.or_eq_true, decide_eq_true_eq, decide_eq_true_eq]
    constructor
    · intro h p hp
      rw [List.length_cons] at hp
      by_cases e : p = r.length
      · rw [e, rf_dg_l]; exact h.2
      · rw [rf_dg_c (by omega)]; exact h.1 p (by omega)
    · intro h
      refine ⟨fun p hp => ?_, ?_⟩
      · have := h p (by rw [List.length_cons]; omega)
        rw [rf_dg_c hp] at this
        exact this
      · have := h r.length (by rw [List.length_cons]; omega)
        rw [rf_dg_l] at this
        exact this
/-- rows with the same signs are the same -/
theorem rf_dg_ext : ∀ x y : List Nat, x.length = y.length → (∀ p, p < x.length → rf_dg x p = rf_dg y p) → x = y := by
  intro x
  induction x with
  | nil =>
    intro y hl _
    cases y with
    | nil => rfl
    | cons s y => rw [List.length_cons, List.length_nil] at hl; omega
  | cons s x ih =>
    intro y hl h
    cases y with
    | nil => rw [List.length_cons, List.length_nil] at hl; omega
    | cons u y =>
      rw [List.length_cons, List.length_cons] at hl
      have hl' : x.length = y.length := by omega
      have e1 := h x.length (by rw [List.length_cons]; omega)
      rw [rf_dg_l, hl', rf_dg_l] at e1
      rw [e1, ih y hl' (fun p hp => ?_)]
      have := h p (by rw [List.length_cons]; omega)
      rw [rf_dg_c hp, rf_dg_c (by omega)] at this
      exact this
/-- a row's score depends on the numbers alone, not on what is asked -/
theorem rf_acc_K {g : Nat} {B t a a' : Nat → Nat} {q q' : Option (Nat × Nat)} : ∀ x : List Nat, rf_acc (rf_ctx g B t a q) x = rf_acc (rf_ctx g B t a' q') x := by
  intro x
  induction x with
  | nil => rfl
  | cons s r ih =>
    show rf_acc (rf_ctx g B t a q) r + rf_dv (rf_ctx g B t a q) s r.length (rf_stk r) = rf_acc (rf_ctx g B t a' q') r + rf_dv (rf_ctx g B t a' q') s r.length (rf_stk r)
    rw [ih]
    rfl
/-! sums of rows -/
theorem rf_sm_none {L : List Int} : rf_sm L = none ↔ L = [] := by
  constructor
  · intro h
    have e := congrArg rf_al h
    rw [rf_al_sm] at e
    exact List.length_eq_zero_iff.mp e
  · intro h; rw [h]; rfl
theorem rf_sm_some : ∀ {L : List Int} {y : Int × Nat × Nat}, rf_sm L = some y → y.1 ∈ L ∧ ∀ v ∈ L, v ≤ y.1 := by
  intro L
  induction L with
  | nil => intro y h; cases h
  | cons v L ih =>
    intro y h
    have h' : rf_ad (rf_sv v) (rf_sm L) = some y := h
    cases hL : rf_sm L with
    | none =>
      rw [hL, rf_ad_none] at h'
      have e : (v, 1, 1) = y := Option.some.inj h'
      have hn : L = [] := rf_sm_none.mp hL
      rw [hn, ← e]
      refine ⟨List.mem_singleton.mpr rfl, fun u hu => ?_⟩
      rw [List.mem_singleton.mp hu]
      exact Int.le_refl _
    | some z =>
      rw [hL] at h'
      have e : rf_a3 (v, 1, 1) z = y := Option.some.inj h'
      have e1 : max v z.1 = y.1 := congrArg Prod.fst e
      obtain ⟨i1, i2⟩ := ih hL
      constructor
      · by_cases c : v ≤ z.1
        · have : y.1 = z.1 := by omega
          rw [this]
          exact List.mem_cons_of_mem _ i1
        · have : y.1 = v := by omega
          rw [this]
          exact List.mem_cons_self ..
      · intro u hu
        rcases List.mem_cons.mp hu with hu | hu
        · rw [hu]; omega
        · have := i2 u hu
          omega
theorem rf_sm_snoc (L : List Int) (v : Int) : rf_sm (L ++ [v]) = rf_ad (rf_sm L) (rf_sv v) := by
  rw [rf_sm_app]
  show rf_ad (rf_sm L) (rf_ad (rf_sv v) none) = _
  rw [rf_ad_none]
end
section
/-! the places whose pair is begun, and a pair that is asked for -/
def rf_pl (r : List Nat) : List Nat := (rf_stk r).map (fun x => x.1)
theorem rf_inc_pl (i q : Nat) (st : List rf_E) : (rf_inc i q st).map (fun x => x.1) = st.map (fun x => x.1) := by
  cases st <;> rfl
theorem rf_pl_0 (r : List Nat) : rf_pl (0 :: r) = rf_pl r := rfl
theorem rf_pl_1 (r : List Nat) : rf_pl (1 :: r) = r.length :: rf_pl r := rfl
theorem rf_pl_2 {s : Nat} (r : List Nat) (h0 : s ≠ 0) (h1 : s ≠ 1) : rf_pl (s :: r) = (rf_pl r).tail := by
  show (rf_nx s r.length (rf_stk r)).map (fun x => x.1) = ((rf_stk r).map (fun x => x.1)).tail
  unfold rf_nx
  rw [if_neg h0, if_neg h1]
  cases rf_stk r with
  | nil => rfl
  | cons x st => exact rf_inc_pl _ _ _
/-- places fall, all below the row's end -/
def rf_dec : Nat → List Nat → Prop
  | _, [] => True
  | b, x :: l => x < b ∧ rf_dec x l
theorem rf_dec_mono {b b' : Nat} (h : b ≤ b') : ∀ {l : List Nat}, rf_dec b l → rf_dec b' l := by
  intro l hl
  cases l with
  | nil => trivial
  | cons x l => exact ⟨Nat.lt_of_lt_of_le hl.1 h, hl.2⟩
theorem rf_dec_mem : ∀ {l : List Nat} {b i : Nat}, rf_dec b l → i ∈ l → i < b := by
  intro l
  induction l with
  | nil => intro b i _ h; cases h
  | cons x l ih =>
    intro b i hd h
    rcases List.mem_cons.mp h with e | e
    · rw [e]; exact hd.1
    · exact Nat.lt_trans (ih hd.2 e) hd.1
theorem rf_pl_dec : ∀ r : List Nat, rf_dec r.length (rf_pl r) := by
  intro r
  induction r with
  | nil => trivial
  | cons s r ih =>
    have hl : (s :: r).length = r.length + 1 := rfl
    rw [hl]
    by_cases h0 : s = 0
    · subst h0
      rw [rf_pl_0]
      exact rf_dec_mono (by omega) ih
    · by_cases h1 : s = 1
      · subst h1
        rw [rf_pl_1]
        exact ⟨by omega, ih⟩
      · rw [rf_pl_2 r h0 h1]
        cases hp : rf_pl r with
        | nil => trivial
        | cons x l =>
          rw [hp] at ih
          have h1 := ih.1
          exact rf_dec_mono (by omega) ih.2
theorem rf_pl_lt {r : List Nat} {i : Nat} (h : i ∈ rf_pl r) : i < r.length := rf_dec_mem (rf_pl_dec r) h
theorem rf_stk_pl {r : List Nat} {x : rf_E} {st : List rf_E} (h : rf_stk r = x :: st) : rf_pl r = x.1 :: st.map (fun x => x.1) := by
  unfold rf_pl
  rw [h]
  rfl
/-- the pair (i, j) is made -/
def rf_hp (i j : Nat) : List Nat → Bool
  | [] => false
  | s :: r => rf_hp i j r || (decide (s = 2) && (decide (r.length = j) && decide ((rf_pl r).head? = some i)))
theorem rf_hp_s {i j s : Nat} {r : List Nat} : rf_hp i j (s :: r) = true ↔ rf_hp i j r = true ∨ (s = 2 ∧ r.length = j ∧ (rf_pl r).head? = some i) := by
  show (rf_hp i j r || (decide (s = 2) && (decide (r.length = j) && decide ((rf_pl r).head? = some i)))) = true ↔ _
  rw [Bool.or_eq_true, Bool.and_eq_true, Bool.and_eq_true, decide_eq_true_eq, decide_eq_true_eq, decide_eq_true_eq]
theorem rf_hp_len {i j : Nat} : ∀ {r : List Nat}, rf_hp i j r = true → j < r.length := by
  intro r
  induction r with
  | nil => intro h; cases h
  | cons s r ih =>
    intro h
    rw [List.length_cons]
    rcases rf_hp_s.mp h with h | h
    · have := ih h; omega
    · have := h.2.1; omega
theorem rf_pl_sub {s i : Nat} {r : List Nat} (h : i ∈ rf_pl (s :: r)) : i = r.length ∨ i ∈ rf_pl r := by
  by_cases h0 : s = 0
  · subst h0; exact Or.inr h
  · by_cases h1 : s = 1
    · subst h1
      rw [rf_pl_1] at h
      exact List.mem_cons.mp h
    · rw [rf_pl_2 r h0 h1] at h
      exact Or.inr (List.mem_of_mem_tail h)
theorem rf_hp_pl {i j : Nat} (hij : i < j) : ∀ {r : List Nat}, rf_hp i j r = true → ¬ i ∈ rf_pl r := by
  intro r
  induction r with
  | nil => intro h; cases h
  | cons s r ih =>
    intro h hm
    rcases rf_hp_s.mp h with h | h
    · have := rf_hp_len h
      rcases rf_pl_sub hm with e | e
      · omega
      · exact ih h e
    · obtain ⟨h2, h3, h4⟩ := h
      rw [rf_pl_2 r (by omega) (by omega)] at hm
      have hd := rf_pl_dec r
      cases hp : rf_pl r with
      | nil => rw [hp] at h4; cases h4
      | cons x l =>
        rw [hp] at h4 hm hd
        have e : x = i := Option.some.inj h4
        have := rf_dec_mem hd.2 hm
        omega
theorem rf_ok0 {g : Nat} {B t a : Nat → Nat} {q : Option (Nat × Nat)} {p : Nat} {st : List rf_E} : rf_ok (rf_ctx g B t a q) 0 p st = true ↔ a p ≤ 1 := decide_eq_true_iff
theorem rf_ok1 {g : Nat} {B t a : Nat → Nat} {q : Option (Nat × Nat)} {p : Nat} {st : List rf_E} : rf_ok (rf_ctx g B t a q) 1 p st = true ↔ (a p = 0 ∨ a p = 2) := decide_eq_true_iff
theorem rf_ok2c {g : Nat} {B t a : Nat → Nat} {q : Option (Nat × Nat)} {p : Nat} {x : rf_E} {st : List rf_E} : rf_ok (rf_ctx g B t a q) 2 p (x :: st) = true ↔ (a p = 0 ∨ a p = 3) ∧ rf_kp q x.1 p = true ∧ rf_fit g B x.1 p = true := by
  show (decide (a p = 0 ∨ a p = 3) && (rf_kp q x.1 p && rf_fit g B x.1 p)) = true ↔ _
  rw [Bool.and_eq_true, Bool.and_eq_true, decide_eq_true_eq]
theorem rf_ok2n {g : Nat} {B t a : Nat → Nat} {q : Option (Nat × Nat)} {p : Nat} : rf_ok (rf_ctx g B t a q) 2 p [] = false := rfl
theorem rf_kp_s {i j u p : Nat} : rf_kp (some (i, j)) u p = true ↔ (u = i ↔ p = j) := by
  show (decide (u = i) == decide (p = j)) = true ↔ _
  by_cases h1 : u = i
  · by_cases h2 : p = j
    · rw [decide_eq_true h1, decide_eq_true h2]; exact ⟨fun _ => ⟨fun _ => h2, fun _ => h1⟩, fun _ => rfl⟩
    · rw [decide_eq_true h1, decide_eq_false h2]; exact ⟨fun h => (nomatch h), fun h => absurd (h.mp h1) h2⟩
  · by_cases h2 : p = j
    · rw [decide_eq_false h1, decide_eq_true h2]; exact ⟨fun h => (nomatch h), fun h => absurd (h.mpr h2) h1⟩
    · rw [decide_eq_false h1, decide_eq_false h2]; exact ⟨fun _ => ⟨fun h => absurd h h1, fun h => absurd h h2⟩, fun _ => rfl⟩
/-- what is asked for with a pair -/
def rf_h2 (H : Nat → Nat) (i j : Nat) : Nat → Nat := fun p => if p = j then 3 else if p = i then 2 else H p
def rf_Q (i j : Nat) (r : List Nat) : Prop := (i < r.length → r.length ≤ j → i ∈ rf_pl r) ∧ (j < r.length → rf_hp i j r = true)
theorem rf_Q_s {i j s : Nat} {r : List Nat} (hij : i < j) (h : rf_Q i j (s :: r)) : rf_Q i j r := by
  obtain ⟨h1, h2⟩ := h
  rw [List.length_cons] at h1 h2
  refine ⟨fun a b => ?_, fun a => ?_⟩
  · by_cases e : r.length = j
    · rcases rf_hp_s.mp (h2 (by omega)) with h | h
      · have := rf_hp_len h
        omega
      · have h4 := h.2.2
        cases hp : rf_pl r with
        | nil => rw [hp] at h4; cases h4
        | cons x l =>
          rw [hp] at h4
          have e : x = i := Option.some.inj h4
          rw [e]
          exact List.mem_cons_self ..
    · rcases rf_pl_sub (h1 (by omega) (by omega)) with e | e
      · omega
      · exact e
  · rcases rf_hp_s.mp (h2 (by omega)) with h | h
    · exact h
    · have := h.2.1
      omega
theorem rf_Q_ok {g : Nat} {B t H : Nat → Nat} {i j s : Nat} {r : List Nat} (hij : i < j) (hi : H i = 0 ∨ H i = 2) (hj : H j = 0 ∨ H j = 3) (hs : s < 3) (hQ : rf_Q i j r) : rf_ok (rf_ctx g B t (rf_h2 H i j) (some (i, j))) s r.length (rf_stk r) = true ↔ (rf_ok (rf_ctx g B t H none) s r.length (rf_stk r) = true ∧ rf_Q i j (s :: r)) := by
  have hh : ∀ p, p ≠ i → p ≠ j → rf_h2 H i j p = H p := fun p h1 h2 => by
    unfold rf_h2; rw [if_neg h2, if_neg h1]
  have hhi : rf_h2 H i j i = 2 := by unfold rf_h2; rw [if_neg (by omega), if_pos rfl]
  have hhj : rf_h2 H i j j = 3 := by unfold rf_h2; rw [if_pos rfl]
  have hl : ∀ s : Nat, (s :: r).length = r.length + 1 := fun _ => rfl
  have hc : r.length < i ∨ r.length = i ∨ (i < r.length ∧ r.length < j) ∨ r.length = j ∨ j < r.length := by omega
  have hpn : r.length ≤ j → ¬ rf_hp i j r = true := fun h z => by have := rf_hp_len z; omega
  obtain rfl | rfl | rfl : s = 0 ∨ s = 1 ∨ s = 2 := by omega
  · rw [rf_ok0, rf_ok0]
    have hq : rf_Q i j (0 :: r) ↔ ((i < r.length + 1 → r.length + 1 ≤ j → i ∈ rf_pl r) ∧ (j < r.length + 1 → rf_hp i j r = true)) := by
      unfold rf_Q
      rw [hl, rf_pl_0, rf_hp_s]
      exact ⟨fun h => ⟨h.1, fun z => (h.2 z).elim id (fun y => absurd y.1 (by omega))⟩, fun h => ⟨h.1, fun z => Or.inl (h.2 z)⟩⟩
    rw [hq]
    rcases hc with c | c | c | c | c
    · rw [hh _ (by omega) (by omega)]
      exact ⟨fun h => ⟨h, fun z => by omega, fun z => by omega⟩, fun h => h.1⟩
    · rw [c, hhi]
      exact ⟨fun h => by omega, fun h => by have := rf_pl_lt (h.2.1 (by omega) (by omega)); omega⟩
    · rw [hh _ (by omega) (by omega)]
      exact ⟨fun h => ⟨h, fun _ _ => hQ.1 (by omega) (by omega), fun z => by omega⟩, fun h => h.1⟩
    · rw [c, hhj]
      exact ⟨fun h => by omega, fun h => absurd (h.2.2 (by omega)) (hpn (by omega))⟩
    · rw [hh _ (by omega) (by omega)]
      exact ⟨fun h => ⟨h, fun z y => by omega, fun _ => hQ.2 c⟩, fun h => h.1⟩
  · rw [rf_ok1, rf_ok1]
    have hq : rf_Q i j (1 :: r) ↔ ((i < r.length + 1 → r.length + 1 ≤ j → i ∈ r.length :: rf_pl r) ∧ (j < r.length + 1 → rf_hp i j r = true)) := by
      unfold rf_Q
      rw [hl, rf_pl_1, rf_hp_s]
      exact ⟨fun h => ⟨h.1, fun z => (h.2 z).elim id (fun y => absurd y.1 (by omega))⟩, fun h => ⟨h.1, fun z => Or.inl (h.2 z)⟩⟩
    rw [hq]
    rcases hc with c | c | c | c | c
    · rw [hh _ (by omega) (by omega)]
      exact ⟨fun h => ⟨h, fun z => by omega, fun z => by omega⟩, fun h => h.1⟩
    · rw [c, hhi]
      exact ⟨fun h => ⟨hi, fun _ _ => List.mem_cons_self .., fun z => by omega⟩, fun h => Or.inr rfl⟩
    · rw [hh _ (by omega) (by omega)]
      exact ⟨fun h => ⟨h, fun _ _ => List.mem_cons_of_mem _ (hQ.1 (by omega) (by omega)), fun z => by omega⟩, fun h => h.1⟩
    · rw [c, hhj]
      exact ⟨fun h => by omega, fun h => absurd (h.2.2 (by omega)) (hpn (by omega))⟩
    · rw [hh _ (by omega) (by omega)]
      exact ⟨fun h => ⟨h, fun z y => by omega, fun _ => hQ.2 c⟩, fun h => h.1⟩
  · cases hst : rf_stk r with
    | nil =>
      rw [rf_ok2n, rf_ok2n]
      exact ⟨fun h => (nomatch h), fun h => (nomatch h.1)⟩
    | cons x st =>
      have hp := rf_stk_pl hst
      have hd := rf_pl_dec r
      rw [hp] at hd
      rw [rf_ok2c, rf_ok2c, rf_kp_s]
      have hq : rf_Q i j (2 :: r) ↔ ((i < r.length + 1 → r.length + 1 ≤ j → i ∈ st.map (fun x => x.1)) ∧ (j < r.length + 1 → (rf_hp i j r = true ∨ (r.length = j ∧ x.1 = i)))) := by
        unfold rf_Q
        rw [hl, rf_pl_2 r (by omega) (by omega), rf_hp_s, hp]
        exact ⟨fun h => ⟨h.1, fun z => (h.2 z).elim Or.inl (fun y => Or.inr ⟨y.2.1, Option.some.inj y.2.2⟩)⟩, fun h => ⟨h.1, fun z => (h.2 z).elim Or.inl (fun y => Or.inr ⟨rfl, y.1, congrArg some y.2⟩)⟩⟩
      rw [hq]
      have h1 := hd.1
      rcases hc with c | c | c | c | c
      · rw [hh _ (by omega) (by omega)]
        exact ⟨fun h => ⟨⟨h.1, rfl, h.2.2⟩, fun z => by omega, fun z => by omega⟩, fun h => ⟨h.1.1, ⟨fun z => by omega, fun z => by omega⟩, h.1.2.2⟩⟩
      · rw [c, hhi]
        exact ⟨fun h => by omega, fun h => by have := rf_dec_mem hd.2 (h.2.1 (by omega) (by omega)); omega⟩
      · rw [hh _ (by omega) (by omega)]
        have hm := hQ.1 (by omega) (by omega)
        rw [hp] at hm
        refine ⟨fun h => ⟨⟨h.1, rfl, h.2.2⟩, fun _ _ => ?_, fun z => by omega⟩, fun h => ⟨h.1.1, ⟨fun z => ?_, fun z => by omega⟩, h.1.2.2⟩⟩
        · rcases List.mem_cons.mp hm with e | e
          · have := h.2.1.mp e.symm
            omega
          · exact e
        · have := rf_dec_mem hd.2 (h.2.1 (by omega) (by omega))
          omega
      · rw [c, hhj]
        refine ⟨fun h => ⟨⟨hj, rfl, h.2.2⟩, fun z y => by omega, fun _ => Or.inr ⟨rfl, h.2.1.mpr rfl⟩⟩, fun h => ⟨Or.inr rfl, ⟨fun _ => rfl, fun _ => ?_⟩, h.1.2.2⟩⟩
        rcases h.2.2 (by omega) with e | e
        · exact absurd e (hpn (by omega))
        · exact e.2
      · rw [hh _ (by omega) (by omega)]
        have hn := rf_hp_pl hij (hQ.2 c)
        rw [hp] at hn
        refine ⟨fun h => ⟨⟨h.1, rfl, h.2.2⟩, fun z y => by omega, fun _ => Or.inl (hQ.2 c)⟩, fun h => ⟨h.1.1, ⟨fun z => ?_, fun z => by omega⟩, h.1.2.2⟩⟩
        exact absurd (by rw [z]; exact List.mem_cons_self ..) hn
theorem rf_vd_f {g : Nat} {B t H : Nat → Nat} {i j : Nat} (hij : i < j) (hi : H i = 0 ∨ H i = 2) (hj : H j = 0 ∨ H j = 3) : ∀ r : List Nat, rf_vd (rf_ctx g B t (rf_h2 H i j) (some (i, j))) r = true ↔ (rf_vd (rf_ctx g B t H none) r = true ∧ rf_Q i j r) := by
  intro r
  induction r with
  | nil => exact ⟨fun _ => ⟨rfl, fun z => absurd z (Nat.not_lt_zero _), fun z => absurd z (Nat.not_lt_zero _)⟩, fun _ => rfl⟩
  | cons s r ih =>
    rw [rf_vd_s, rf_vd_s, ih]
    constructor
    · intro h
      obtain ⟨⟨h1, h2⟩, h3, h4⟩ := h
      have := (rf_Q_ok hij hi hj h3 h2).mp h4
      exact ⟨⟨h1, h3, this.1⟩, this.2⟩
    · intro h
      obtain ⟨⟨h1, h3, h4⟩, h5⟩ := h
      have h2 := rf_Q_s hij h5
      exact ⟨⟨h1, h2⟩, h3, (rf_Q_ok hij hi hj h3 h2).mpr ⟨h4, h5⟩⟩
/-- asking for a pair is the sieve of the rows that have it -/
theorem rf_er_f {g : Nat} {B t H : Nat → Nat} {i j n : Nat} (hij : i < j) (hn : j < n) (hi : H i = 0 ∨ H i = 2) (hj : H j = 0 ∨ H j = 3) : rf_er (rf_ctx g B t (rf_h2 H i j) (some (i, j))) n [] = (rf_er (rf_ctx g B t H none) n []).filter (rf_hp i j) := by
  rw [rf_er_ar _ n [] rfl, rf_er_ar _ n [] rfl, List.filter_filter]
  refine List.filter_congr (fun x hx => ?_)
  have hl := rf_ar_len n [] x hx
  rw [List.length_nil, Nat.add_zero] at hl
  have h := rf_vd_f (g := g) (B := B) (t := t) hij hi hj x
  have hQ : rf_Q i j x ↔ rf_hp i j x = true := ⟨fun q => q.2 (by omega), fun q => ⟨fun z y => by omega, fun _ => q⟩⟩
  rw [hQ] at h
  rw [Bool.eq_iff_iff, Bool.and_eq_true, Bool.and_eq_true, Bool.and_eq_true, h]
  exact ⟨fun z => ⟨z.1.2, z.1.1, z.2⟩, fun z => ⟨⟨z.2.1, z.1⟩, z.2.2⟩⟩
end
section
/-! the partners that a row gives, as the reference keeps them (-1 for none) -/
def rf_mt2 (p : Nat) (m : Nat → Int32) : List rf_E → Nat → Int32
  | [] => m
  | x :: _ => upd (upd m x.1 (nI p)) p (nI x.1)
def rf_mt : List Nat → Nat → Int32
  | [] => fun _ => -1
  | s :: r => if s = 0 then upd (rf_mt r) r.length (-1) else if s = 1 then upd (rf_mt r) r.length (-1) else rf_mt2 r.length (rf_mt r) (rf_stk r)
theorem rf_mt_0 (r : List Nat) : rf_mt (0 :: r) = upd (rf_mt r) r.length (-1) := rfl
theorem rf_mt_1 (r : List Nat) : rf_mt (1 :: r) = upd (rf_mt r) r.length (-1) := rfl
theorem rf_mt_2 {r : List Nat} {x : rf_E} {st : List rf_E} (h : rf_stk r = x :: st) : rf_mt (2 :: r) = upd (upd (rf_mt r) x.1 (nI r.length)) r.length (nI x.1) := by
  show rf_mt2 r.length (rf_mt r) (rf_stk r) = _
  rw [h]
  rfl
theorem rf_m1n {j : Nat} (h : j < 2 ^ 31) : ¬ (-1 : Int32) = nI j := by
  intro z
  have h1 := nI_pos h
  rw [← z] at h1
  exact h1 (by decide)
theorem rf_m1le {j : Nat} (h : j < 2 ^ 31) : (-1 : Int32) ≤ nI j := by
  rw [Int32.le_iff_toInt_le, nI_toInt h, show (-1 : Int32).toInt = -1 from by decide]
  omega
/-- from a on, the pairs' jumps reach q past c pairs -/
def rf_CH (m : Nat → Int32) (a q c : Nat) : Prop := ∀ S : Nat → Nat → Prop, S a 0 → (∀ q c, S q c → m q ≤ nI q → S (q + 1) c) → (∀ q c l, S q c → m q = nI l → q < l → S (l + 1) (c + 1)) → S q c
theorem rf_CH_0 (m : Nat → Int32) (a : Nat) : rf_CH m a a 0 := fun _ h _ _ => h
theorem rf_CH_1 {m : Nat → Int32} {a q c : Nat} (h : rf_CH m a q c) (hm : m q ≤ nI q) : rf_CH m a (q + 1) c := fun S h0 h1 h2 => h1 q c (h S h0 h1 h2) hm
theorem rf_CH_2 {m : Nat → Int32} {a q c l : Nat} (h : rf_CH m a q c) (hm : m q = nI l) (hl : q < l) : rf_CH m a (l + 1) (c + 1) := fun S h0 h1 h2 => h2 q c l (h S h0 h1 h2) hm hl
theorem rf_CH_e {m m' : Nat → Int32} {a q c : Nat} (h : rf_CH m a q c) (hm : ∀ x, a ≤ x → x < q → m x = m' x) : rf_CH m' a q c := by
  have := h (fun q c => a ≤ q ∧ ((∀ x, a ≤ x → x < q → m x = m' x) → rf_CH m' a q c)) ⟨Nat.le_refl _, fun _ => rf_CH_0 m' a⟩ ?_ ?_
  · exact this.2 hm
  · intro q c ⟨h1, h2⟩ h3
    refine ⟨by omega, fun g => rf_CH_1 (h2 (fun x x1 x2 => g x x1 (by omega))) ?_⟩
    rw [← g q h1 (by omega)]
    exact h3
  · intro q c l ⟨h1, h2⟩ h3 h4
    refine ⟨by omega, fun g => rf_CH_2 (h2 (fun x x1 x2 => g x x1 (by omega))) ?_ h4⟩
    rw [← g q h1 (by omega)]
    exact h3
def rf_ent (m : Nat → Int32) (x : rf_E) (q : Nat) : Prop := x.1 < q ∧ m x.1 = -1 ∧ rf_CH m (x.1 + 1) q x.2.1 ∧ (x.2.1 = 0 → ∀ y, x.1 < y → y < q → m y = -1) ∧ (x.2.1 = 1 → x.1 + 1 < q ∧ ∀ j, 0 < j → j < 2 ^ 31 → (m (x.1 + 1) = nI j - 1 ↔ x.2.2 = j))
def rf_ENs (m : Nat → Int32) : Nat → List rf_E → Prop
  | _, [] => True
  | q, x :: st => rf_ent m x q ∧ rf_ENs m x.1 st
theorem rf_ent_e {m m' : Nat → Int32} {x : rf_E} {q : Nat} (h : rf_ent m x q) (hm : ∀ y, y < q → m y = m' y) : rf_ent m' x q := by
  obtain ⟨h1, h2, h3, h4, h5⟩ := h
  refine ⟨h1, ?_, rf_CH_e h3 (fun y _ y2 => hm y y2), fun z y y1 y2 => ?_, fun z => ⟨(h5 z).1, ?_⟩⟩
  · rw [← hm _ h1]; exact h2
  · rw [← hm y y2]; exact h4 z y y1 y2
  · rw [← hm _ (h5 z).1]; exact (h5 z).2
theorem rf_ENs_e {m m' : Nat → Int32} : ∀ {st : List rf_E} {q : Nat}, rf_ENs m q st → (∀ y, y < q → m y = m' y) → rf_ENs m' q st := by
  intro st
  induction st with
  | nil => intro q _ _; trivial
  | cons x st ih =>
    intro q h hm
    have h1 := h.1.1
    exact ⟨rf_ent_e h.1 hm, ih h.2 (fun y hy => hm y (by omega))⟩
theorem rf_ent_1 {m : Nat → Int32} {x : rf_E} {q : Nat} (hq : q < 2 ^ 31) (h : rf_ent m x q) (hm : m q = -1) : rf_ent m x (q + 1) := by
  obtain ⟨h1, h2, h3, h4, h5⟩ := h
  refine ⟨by omega, h2, rf_CH_1 h3 (by rw [hm]; exact rf_m1le hq), fun z y y1 y2 => ?_, fun z => ⟨by have := (h5 z).1; omega, (h5 z).2⟩⟩
  by_cases e : y = q
  · rw [e]; exact hm
  · exact h4 z y y1 (by omega)
theorem rf_ENs_i {m m' : Nat → Int32} {p : Nat} {x : rf_E} {st : List rf_E} (hp : p < 2 ^ 31) (h : rf_ENs m p (x :: st)) (hm : ∀ y, y < x.1 → m y = m' y) (hx : m' x.1 = nI p) : rf_ENs m' (p + 1) (rf_inc x.1 p st) := by
  obtain ⟨hx1, h⟩ := h
  have hxp := hx1.1
  cases st with
  | nil => trivial
  | cons y st =>
    obtain ⟨hy, hs⟩ := h
    have hyx := hy.1
    have hy' := rf_ent_e hy hm
    obtain ⟨h1, h2, h3, h4, h5⟩ := hy'
    refine ⟨⟨by show y.1 < p + 1; omega, h2, rf_CH_2 h3 hx hxp, fun z => ?_, fun z => ⟨by show y.1 + 1 < p + 1; omega, fun j j1 j2 => ?_⟩⟩, rf_ENs_e hs (fun u hu => hm u (by omega))⟩
    · have z' : y.2.1 + 1 = 0 := z
      omega
    · have z' : y.2.1 + 1 = 1 := z
      show m' (y.1 + 1) = nI j - 1 ↔ (if x.1 = y.1 + 1 then p + 1 else 0) = j
      rw [rf_m1 j1]
      by_cases e : x.1 = y.1 + 1
      · rw [if_pos e, ← e, hx, nI_eq hp (by omega)]
        omega
      · rw [if_neg e, h4 (by omega) (y.1 + 1) (by omega) (by omega)]
        exact ⟨fun w => absurd w (rf_m1n (by omega)), fun w => by omega⟩
theorem rf_stk_0 (r : List Nat) : rf_stk (0 :: r) = rf_stk r := rfl
theorem rf_stk_1 (r : List Nat) : rf_stk (1 :: r) = (r.length, 0, 0) :: rf_stk r := rfl
theorem rf_stk_2 {r : List Nat} {x : rf_E} {st : List rf_E} (h : rf_stk r = x :: st) : rf_stk (2 :: r) = rf_inc x.1 r.length st := by
  show rf_nx2 r.length (rf_stk r) = _
  rw [h]
  rfl
theorem rf_ok2s {K : rf_K} {p : Nat} {st : List rf_E} (h : rf_ok K 2 p st = true) : ∃ x st', st = x :: st' ∧ rf_c2 K x.1 p = true := by
  cases st with
  | nil => cases h
  | cons x st => exact ⟨x, st, rfl, h⟩
theorem rf_EN {K : rf_K} : ∀ r : List Nat, r.length < 2 ^ 31 → rf_vd K r = true → rf_ENs (rf_mt r) r.length (rf_stk r) := by
  intro r
  induction r with
  | nil => intro _ _; trivial
  | cons s r ih =>
    intro hl hv
    rw [List.length_cons] at hl ⊢
    obtain ⟨h1, h2, h3⟩ := rf_vd_s.mp hv
    have hr := ih (by omega) h1
    have hup : ∀ v : Int32, ∀ y, y < r.length → rf_mt r y = upd (rf_mt r) r.length v y := fun v y hy => (pk_un (by omega)).symm
    obtain rfl | rfl | rfl : s = 0 ∨ s = 1 ∨ s = 2 := by omega
    · rw [rf_stk_0, rf_mt_0]
      have he := rf_ENs_e hr (hup (-1))
      cases hst : rf_stk r with
      | nil => trivial
      | cons x st =>
        rw [hst] at he
        exact ⟨rf_ent_1 (by omega) he.1 pk_us, he.2⟩
    · rw [rf_stk_1, rf_mt_1]
      exact ⟨⟨by show r.length < r.length + 1; omega, pk_us, rf_CH_0 _ _, fun _ y y1 y2 => by have : r.length < y := y1; omega, fun z => by cases z⟩, rf_ENs_e hr (hup (-1))⟩
    · obtain ⟨x, st, hst, _⟩ := rf_ok2s h3
      rw [rf_stk_2 hst, rf_mt_2 hst]
      rw [hst] at hr
      have hx := hr.1.1
      refine rf_ENs_i (by omega) hr (fun y hy => ?_) ?_
      · rw [pk_un (by omega), pk_un (by omega)]
      · rw [pk_un (by omega), pk_us]
/-! each place's share of the score -/
def rf_con (K : rf_K) (m : Nat → Int32) (b : Nat) (P : List Nat) (i : Nat) (v : Int) : Prop :=
  (m i ≤ nI i ∧ v = 0) ∨ (∃ j c e, m i = nI j ∧ i < j ∧ j < b ∧ rf_c2 K i j = true ∧ rf_CH m (i + 1) j c ∧ (c = 1 → i + 1 < j ∧ (m (i + 1) = nI j - 1 ↔ e = j)) ∧ (∀ u ∈ P, ¬ (i < u ∧ u < j)) ∧ v = rf_vl K i c e j)
def rf_su (v : Nat → Int) : Nat → Int
  | 0 => 0
  | n + 1 => rf_su v n + v n
theorem rf_su_e {v w : Nat → Int} : ∀ n : Nat, (∀ i, i < n → v i = w i) → rf_su v n = rf_su w n := by
  intro n
  induction n with
  | zero => intro _; rfl
  | succ n ih =>
    intro h
    show rf_su v n + v n = rf_su w n + w n
    rw [ih (fun i hi => h i (by omega)), h n (by omega)]
theorem rf_su_u {v : Nat → Int} {k : Nat} {x : Int} (hv : v k = 0) : ∀ n : Nat, k < n → rf_su (fun i => if i = k then x else v i) n = rf_su v n + x := by
  intro n
  induction n with
  | zero => intro h; omega
  | succ n ih =>
    intro h
    show rf_su (fun i => if i = k then x else v i) n + (if n = k then x else v n) = rf_su v n + v n + x
    by_cases e : n = k
    · rw [if_pos e, rf_su_e (w := v) n (fun i hi => if_neg (by omega)), e, hv]
      omega
    · rw [if_neg e, ih (by omega)]
      omega
theorem rf_con_e {K : rf_K} {m m' : Nat → Int32} {b b' : Nat} {P P' : List Nat} {i : Nat} {v : Int} (h : rf_con K m b P i v) (hb : b ≤ b') (hP : ∀ j, j < b → (∀ u ∈ P, ¬ (i < u ∧ u < j)) → ∀ u ∈ P', ¬ (i < u ∧ u < j)) (h0 : m i = m' i) (hm : ∀ j, j < b → (∀ u ∈ P, ¬ (i < u ∧ u < j)) → ∀ y, i < y → y < j → m y = m' y) : rf_con K m' b' P' i v := by
  rcases h with ⟨h1, h2⟩ | ⟨j, c, e, h1, h2, h3, h4, h5, h6, h7, h8⟩
  · exact Or.inl ⟨by rw [← h0]; exact h1, h2⟩
  · refine Or.inr ⟨j, c, e, by rw [← h0]; exact h1, h2, by omega, h4, rf_CH_e h5 (fun y y1 y2 => hm j h3 h7 y (by omega) y2), fun z => ⟨(h6 z).1, ?_⟩, hP j h3 h7, h8⟩
    have h9 := (h6 z).1
    rw [← hm j h3 h7 (i + 1) (by omega) h9]
    exact (h6 z).2
theorem rf_CON {K : rf_K} : ∀ r : List Nat, r.length < 2 ^ 31 → rf_vd K r = true → ∃ v : Nat → Int, (∀ i, i < r.length → rf_con K (rf_mt r) r.length (rf_pl r) i (v i)) ∧ rf_acc K r = rf_su v r.length := by
  intro r
  induction r with
  | nil => intro _ _; exact ⟨fun _ => 0, fun i hi => absurd hi (Nat.not_lt_zero _), rfl⟩
  | cons s r ih =>
    intro hl hv
    have hvc := hv
    rw [List.length_cons] at hl ⊢
    obtain ⟨h1, h2, h3⟩ := rf_vd_s.mp hv
    obtain ⟨v, hc, ha⟩ := ih (by omega) h1
    have hE := rf_EN r (by omega) h1
    have hsu : rf_su (fun i => if i = r.length then 0 else v i) r.length = rf_su v r.length := rf_su_e _ (fun i hi => if_neg (by omega))
    have hfree : ∀ P' : List Nat, (∀ u ∈ P', u = r.length ∨ u ∈ rf_pl r) → ∀ i, i < r.length + 1 → rf_con K (upd (rf_mt r) r.length (-1)) (r.length + 1) P' i (if i = r.length then 0 else v i) := by
      intro P' hP' i hi
      by_cases e : i = r.length
      · rw [if_pos e, e]
        exact Or.inl ⟨by rw [pk_us]; exact rf_m1le (by omega), rfl⟩
      · rw [if_neg e]
        refine rf_con_e (hc i (by omega)) (by omega) (fun j hj hu u hm => ?_) (pk_un e).symm (fun j hj _ y y1 y2 => (pk_un (by omega)).symm)
        rcases hP' u hm with e | e
        · omega
        · exact hu u e
    obtain rfl | rfl | rfl : s = 0 ∨ s = 1 ∨ s = 2 := by omega
    · refine ⟨fun i => if i = r.length then 0 else v i, ?_, ?_⟩
      · rw [rf_mt_0]
        exact hfree _ (fun u hu => rf_pl_sub hu)
      · show rf_acc K r + 0 = rf_su (fun i => if i = r.length then 0 else v i) r.length + (if r.length = r.length then 0 else v r.length)
        rw [hsu, if_pos rfl, ha]
    · refine ⟨fun i => if i = r.length then 0 else v i, ?_, ?_⟩
      · rw [rf_mt_1]
        exact hfree _ (fun u hu => rf_pl_sub hu)
      · show rf_acc K r + 0 = rf_su (fun i => if i = r.length then 0 else v i) r.length + (if r.length = r.length then 0 else v r.length)
        rw [hsu, if_pos rfl, ha]
    · obtain ⟨x, st, hst, hc2⟩ := rf_ok2s h3
      have hp := rf_stk_pl hst
      have hd := rf_pl_dec r
      rw [hp] at hd
      rw [hst] at hE
      obtain ⟨⟨x1, x2, x3, x4, x5⟩, _⟩ := hE
      have hv0 : v x.1 = 0 := by
        rcases hc x.1 x1 with h | ⟨j, c, e, h, _, hj, _⟩
        · exact h.2
        · rw [x2] at h
          exact absurd h (rf_m1n (by omega))
      refine ⟨fun i => if i = x.1 then rf_vl K x.1 x.2.1 x.2.2 r.length else (if i = r.length then 0 else v i), fun i hi => ?_, ?_⟩
      · rw [rf_mt_2 hst, rf_pl_2 r (by omega) (by omega), hp]
        show rf_con K _ _ (st.map (fun x => x.1)) i (if i = x.1 then rf_vl K x.1 x.2.1 x.2.2 r.length else (if i = r.length then 0 else v i))
        by_cases e : i = x.1
        · rw [if_pos e, e]
          refine Or.inr ⟨r.length, x.2.1, x.2.2, by rw [pk_un (by omega), pk_us], x1, by omega, hc2, rf_CH_e x3 (fun y y1 y2 => by rw [pk_un (by omega), pk_un (by omega)]), fun z => ⟨(x5 z).1, ?_⟩, fun u hu z => ?_, rfl⟩
          · have := (x5 z).1
            rw [pk_un (by omega), pk_un (by omega)]
            exact (x5 z).2 r.length (by omega) (by omega)
          · have := rf_dec_mem hd.2 hu
            omega
        · rw [if_neg e]
          by_cases e2 : i = r.length
          · rw [if_pos e2, e2]
            exact Or.inl ⟨by rw [pk_us]; exact nI_le (by omega) (by omega), rfl⟩
          · rw [if_neg e2]
            refine rf_con_e (hc i (by omega)) (by omega) (fun j hj hu u hm => hu u ?_) (by rw [pk_un e2, pk_un e]) (fun j hj hu y y1 y2 => ?_)
            · rw [hp]; exact List.mem_cons_of_mem _ hm
            · have hx := hu x.1 (by rw [hp]; exact List.mem_cons_self ..)
              rw [pk_un (by omega), pk_un (by omega)]
      · show rf_acc K r + rf_dv2 K r.length (rf_stk r) = rf_su (fun i => if i = x.1 then rf_vl K x.1 x.2.1 x.2.2 r.length else (if i = r.length then 0 else v i)) (r.length + 1)
        rw [rf_su_u (v := fun i => if i = r.length then 0 else v i) (by show (if x.1 = r.length then 0 else v x.1) = 0; rw [if_neg (by omega)]; exact hv0) (r.length + 1) (by omega)]
        show rf_acc K r + rf_dv2 K r.length (rf_stk r) = rf_su (fun i => if i = r.length then 0 else v i) r.length + (if r.length = r.length then 0 else v r.length) + rf_vl K x.1 x.2.1 x.2.2 r.length
        rw [hsu, if_pos rfl, ha, hst]
        show rf_su v r.length + rf_vl K x.1 x.2.1 x.2.2 r.length = _
        omega
/-! mates and the pair asked for -/
theorem rf_mt_pl : ∀ {r : List Nat} {i : Nat}, rf_vd (rf_ctx 0 (fun _ => 0) (fun _ => 0) (fun _ => 0) none) [] = true → i ∈ rf_pl r → rf_mt r i = -1 := by
  intro r
  induction r with
  | nil => intro i _ h; cases h
  | cons s r ih =>
    intro i hv h
    by_cases h0 : s = 0
    · subst h0
      rw [rf_pl_0] at h
      have := rf_pl_lt h
      rw [rf_mt_0, pk_un (by omega)]
      exact ih hv h
    · by_cases h1 : s = 1
      · subst h1
        rw [rf_mt_1]
        by_cases e : i = r.length
        · rw [e, pk_us]
        · rw [pk_un e]
          rw [rf_pl_1] at h
          rcases List.mem_cons.mp h with z | z
          · exact absurd z e
          · exact ih hv z
      · rw [rf_pl_2 r h0 h1] at h
        show (if s = 0 then _ else if s = 1 then _ else rf_mt2 r.length (rf_mt r) (rf_stk r)) i = -1
        rw [if_neg h0, if_neg h1]
        cases hst : rf_stk r with
        | nil =>
          have : rf_pl r = [] := by unfold rf_pl; rw [hst]; rfl
          rw [this] at h
          cases h
        | cons x st =>
          have hp := rf_stk_pl hst
          have hd := rf_pl_dec r
          rw [hp] at h hd
          have l1 := rf_dec_mem hd.2 h
          have l2 := hd.1
          show upd (upd (rf_mt r) x.1 (nI r.length)) r.length (nI x.1) i = -1
          rw [pk_un (by omega), pk_un (by omega)]
          exact ih hv (by rw [hp]; exact List.mem_cons_of_mem _ h)
theorem rf_mt_hp {i j : Nat} (hij : i < j) (hj : j < 2 ^ 31) : ∀ r : List Nat, r.length < 2 ^ 31 → (∀ s ∈ r, s < 3) → (rf_mt r i = nI j ↔ rf_hp i j r = true) := by
  intro r
  induction r with
  | nil => intro _ _; exact ⟨fun h => absurd h (rf_m1n hj), fun h => (nomatch h)⟩
  | cons s r ih =>
    intro hl hs
    rw [List.length_cons] at hl
    have ih' := ih (by omega) (fun u hu => hs u (List.mem_cons_of_mem _ hu))
    have hs3 := hs s (List.mem_cons_self ..)
    have hfree : s ≠ 2 → (upd (rf_mt r) r.length (-1) i = nI j ↔ rf_hp i j (s :: r) = true) := by
      intro h2
      rw [rf_hp_s]
      by_cases e : i = r.length
      · rw [e, pk_us]
        refine ⟨fun h => absurd h (rf_m1n hj), fun h => ?_⟩
        rcases h with h | h
        · have := rf_hp_len h
          omega
        · exact absurd h.1 h2
      · rw [pk_un e, ih']
        exact ⟨Or.inl, fun h => h.elim id (fun z => absurd z.1 h2)⟩
    obtain rfl | rfl | rfl : s = 0 ∨ s = 1 ∨ s = 2 := by omega
    · exact hfree (by omega)
    · exact hfree (by omega)
    · cases hst : rf_stk r with
      | nil =>
        have e : rf_pl r = [] := by unfold rf_pl; rw [hst]; rfl
        have e2 : rf_mt (2 :: r) = rf_mt r := by
          show rf_mt2 r.length (rf_mt r) (rf_stk r) = _
          rw [hst]; rfl
        rw [e2, ih', rf_hp_s, e]
        exact ⟨Or.inl, fun h => h.elim id (fun z => (nomatch z.2.2))⟩
      | cons x st =>
        have hp := rf_stk_pl hst
        have hd := rf_pl_dec r
        rw [hp] at hd
        have l1 := hd.1
        have hh : (rf_pl r).head? = some i ↔ x.1 = i := by
          rw [hp]
          exact ⟨fun h => Option.some.inj h, fun h => congrArg some h⟩
        rw [rf_mt_2 hst, rf_hp_s, hh]
        by_cases e : i = r.length
        · rw [e, pk_us, nI_eq (by omega) hj]
          refine ⟨fun h => by omega, fun h => ?_⟩
          rcases h with h | h
          · have := rf_hp_len h
            omega
          · omega
        · rw [pk_un e]
          by_cases e2 : i = x.1
          · rw [e2, pk_us, nI_eq (by omega) hj]
            refine ⟨fun h => Or.inr ⟨rfl, h, rfl⟩, fun h => ?_⟩
            rcases h with h | h
            · rw [← e2] at h
              exact absurd (by rw [hp, e2]; exact List.mem_cons_self ..) (rf_hp_pl hij h)
            · exact h.2.1
          · rw [pk_un e2, ih']
            exact ⟨Or.inl, fun h => h.elim id (fun z => absurd z.2.2.symm e2)⟩
end
section
/-! the reference: pairs and the score -/
def rf_EY (n g : Nat) (B t H : Nat → Nat) (ug ul : Int32) (wb wh wt : Nat → Int32) : Prop :=
  n ≤ 11 ∧ g ≤ 4 ∧ (∀ j, B j ≤ 3) ∧ (∀ j, t j ≤ 20) ∧ (∀ j, H j ≤ 3) ∧ ug = nI g ∧ ul = nI n ∧ (∀ j, wb j = nI (B j)) ∧ (∀ j, wh j = nI (H j)) ∧ (∀ j, wt j = nI (t j))
section
variable {ug ul ut um ue uc ud uw ux : Int32} {wb wh wt ws wo wm we : Nat → Int32}
variable {n g : Nat} {B t H : Nat → Nat}
theorem rf_kY {post : Int32 → Prop} (a b : Nat) (ha : a ≤ 3) (hb : b ≤ 3) (h : post (rf_kr a b)) : wpY_kind post (ug, ul, ut, um, ue, uc, ud, uw, ux, wb, wh, wt, ws, wo, wm, we) (nI a) (nI b) := by
  obtain rfl | rfl | rfl | rfl : a = 0 ∨ a = 1 ∨ a = 2 ∨ a = 3 := by omega
  all_goals obtain rfl | rfl | rfl | rfl : b = 0 ∨ b = 1 ∨ b = 2 ∨ b = 3 := by omega
  all_goals repeat (first | exact h | refine br_t (by decide) ?_ | refine br_f (by decide) ?_)
theorem rf_suits {post : Int32 → Prop} {i j : Nat} (E : rf_EY n g B t H ug ul wb wh wt) (hi : i < 11) (hj : j < 11) (h1 : rf_fit g B i j = true → post 1) (h0 : rf_fit g B i j = false → post 0) : wpY_suits post (ug, ul, ut, um, ue, uc, ud, uw, ux, wb, wh, wt, ws, wo, wm, we) (nI i) (nI j) := by
  obtain ⟨_, hg, hB, _, _, eg, _, eb, _⟩ := E
  subst eg
  by_cases hij : i + g < j
  · have hc : ¬ nI j - nI i ≤ nI g := by
      rw [pk_sub (by omega)]
      exact nI_ge (by omega) (by omega)
    refine br_f hc (And.intro (vp_in_nI hi (by omega)) (And.intro (vp_in_nI hj (by omega)) ?_))
    rw [nI_clamp (by omega), nI_clamp (by omega), eb i, eb j]
    refine rf_kY (B i) (B j) (hB i) (hB j) ?_
    unfold rf_kr
    by_cases hk : rf_kd (B i) (B j) < 3
    · rw [if_pos hk]
      refine br_f (nI_pos (by omega)) (h1 ?_)
      unfold rf_fit
      rw [decide_eq_true hij, decide_eq_true hk]; rfl
    · rw [if_neg hk]
      refine br_t (by decide) (h0 ?_)
      unfold rf_fit
      rw [decide_eq_false hk, Bool.and_false]
  · have hc : nI j - nI i ≤ nI g := by
      rw [Int32.le_iff_toInt_le, pk_sub_toInt (by omega) (by omega), nI_toInt (by omega)]
      omega
    refine br_t hc (h0 ?_)
    unfold rf_fit
    rw [decide_eq_false hij, Bool.false_and]
theorem rf_CH_c {m : Nat → Int32} {x q c : Nat} (h : rf_CH m x q c) : c + x ≤ q := h (fun q c => c + x ≤ q) (by omega) (fun q c h1 _ => by omega) (fun q c l h1 _ h3 => by omega)
theorem rf_within {post : Int32 → Prop} {i j c : Nat} (hj : j ≤ 11) (hij : i < j) (hm : wm i = nI j) (hc : rf_CH wm (i + 1) j c) (h : post (nI c)) : wpY_within post (ug, ul, ut, um, ue, uc, ud, uw, ux, wb, wh, wt, ws, wo, wm, we) (nI i) := by
  have vi : vp_in (nI i) 12 := vp_in_nI (by omega) (by omega)
  refine nm_r (nI_1 i) ?_
  have key := hc (fun q c => q ≤ j → (∀ f, j - q < f → wY_within_6 post (nI i) ug ul ut um ue uc ud uw ux wb wh wt ws wo wm we f (nI c) (nI q)) → ∃ n6 : Nat, wY_within_6 post (nI i) ug ul ut um ue uc ud uw ux wb wh wt ws wo wm we n6 0 (nI (i + 1))) (fun _ h => ⟨j - (i + 1) + 1, h _ (by omega)⟩) ?_ ?_
  · refine key (Nat.le_refl _) (fun f hf => ?_)
    obtain ⟨f, rfl⟩ : ∃ e, f = e + 1 := ⟨f - 1, by omega⟩
    refine And.intro vi ?_
    rw [nI_clamp (by omega), hm]
    exact br_t (Int32.le_refl _) h
  · intro q c ih hq hqj h2
    refine ih (by omega) (fun f hf => ?_)
    obtain ⟨f, rfl⟩ : ∃ e, f = e + 1 := ⟨f - 1, by omega⟩
    refine And.intro vi ?_
    rw [nI_clamp (by omega : i < 2 ^ 31), hm]
    refine br_f (nI_ge (by omega) (by omega)) (br_f (nI_ge (b := 12) (by omega) (by decide)) (And.intro (vp_in_nI (by omega) (by omega)) ?_))
    rw [nI_clamp (by omega : q < 2 ^ 31)]
    exact br_t hq (nm_r (nI_1 q) (h2 f (by omega)))
  · intro q c l ih hq hql hqj h2
    refine ih (by omega) (fun f hf => ?_)
    obtain ⟨f, rfl⟩ : ∃ e, f = e + 1 := ⟨f - 1, by omega⟩
    refine And.intro vi ?_
    rw [nI_clamp (by omega : i < 2 ^ 31), hm]
    refine br_f (nI_ge (by omega) (by omega)) (br_f (nI_ge (b := 12) (by omega) (by decide)) (And.intro (vp_in_nI (by omega) (by omega)) ?_))
    rw [nI_clamp (by omega : q < 2 ^ 31), hq]
    exact br_f (nI_ge hql (by omega)) (nm_r (nI_1 c) (And.intro (vp_in_nI (by omega) (by omega)) (nm_e (nm_r (nI_1 l) (h2 f (by omega))))))
theorem rf_score_l {post : Int32 → Prop} {a : Nat → Nat} {P : List Nat} {v : Nat → Int} (E : rf_EY n g B t H ug ul wb wh wt) (hc : ∀ i, i < n → rf_con (rf_ctx g B t a none) wm n P i (v i)) (h : post (rf_oI (rf_su v n))) : ∀ d f i : Nat, i + d = n → d < f → wY_score_4 post ug ul ut um ue uc ud uw ux wb wh wt ws wo wm we f (rf_oI (rf_su v i)) (nI i) := by
  obtain ⟨hn, hg, hB, ht, _, _, eu, eb, _, et⟩ := E
  intro d
  induction d with
  | zero =>
    intro f i hi hf
    obtain ⟨f, rfl⟩ : ∃ e, f = e + 1 := ⟨f - 1, by omega⟩
    obtain rfl : i = n := by omega
    exact br_t (by rw [eu]; exact Int32.le_refl _) h
  | succ d ih =>
    intro f i hi hf
    obtain ⟨f, rfl⟩ : ∃ e, f = e + 1 := ⟨f - 1, by omega⟩
    have hnext := ih f (i + 1) (by omega) (by omega)
    refine br_f (by rw [eu]; exact nI_ge (by omega) (by omega)) (br_f (nI_ge (b := 11) (by omega) (by decide)) (And.intro (vp_in_nI (by omega) (by omega)) ?_))
    rw [nI_clamp (by omega : i < 2 ^ 31)]
    refine nm_e ?_
    have hs : rf_su v (i + 1) = rf_su v i + v i := rfl
    rcases hc i (by omega) with ⟨h1, h2⟩ | ⟨j, c, e, h1, h2, h3, h4, h5, h6, _, h8⟩
    · rw [hs, h2, Int.add_zero] at hnext
      exact br_t h1 (nm_r (nI_1 i) hnext)
    · rw [hs, h8] at hnext
      rw [h1]
      refine br_f (nI_ge h2 (by omega)) (And.intro (vp_in_nI (by omega) (by omega)) (And.intro (vp_in_nI (by omega) (by omega)) ?_))
      rw [nI_clamp (by omega : j < 2 ^ 31), eb i, eb j]
      rw [rf_c2_e] at h4
      have hfit : rf_fit g B i j = true := (Bool.and_eq_true_iff.mp (Bool.and_eq_true_iff.mp h4).2).2
      have hkd : rf_kd (B i) (B j) < 3 := of_decide_eq_true (Bool.and_eq_true_iff.mp hfit).2
      refine rf_kY (B i) (B j) (hB i) (hB j) ?_
      unfold rf_kr
      rw [if_pos hkd]
      refine And.intro (vp_in_nI (by omega) (by omega)) ?_
      rw [nI_clamp (by omega : rf_kd (B i) (B j) < 2 ^ 31), et]
      have e1 : rf_oI (rf_su v i) + nI (t (rf_kd (B i) (B j))) = rf_oI (rf_su v i + rf_ow (rf_ctx g B t a none) i j) := by
        rw [rf_oI_add, rf_ow_e, rf_oI_nI]
      refine nm_r e1 ?_
      have hcb := rf_CH_c h5
      refine rf_within (by omega) h2 h1 h5 ?_
      refine pk_eq c 1 (fun c1 => ?_) (fun c1 => ?_)
      · obtain ⟨g1, g2⟩ := h6 c1
        subst c1
        refine And.intro (by rw [nI_1]; exact vp_in_nI (by omega) (by omega)) ?_
        rw [nI_1 i, nI_clamp (by omega : i + 1 < 2 ^ 31)]
        by_cases c2 : e = j
        · have e2 : rf_oI (rf_su v i + rf_ow (rf_ctx g B t a none) i j) + wt 3 = rf_oI (rf_su v i + rf_vl (rf_ctx g B t a none) i 1 e j) := by
            unfold rf_vl
            rw [if_neg (by omega), if_pos rfl, if_pos c2, ← Int.add_assoc, rf_oI_add _ (rf_t3 _), rf_t3_e, rf_oI_nI, et]
          refine br_t (g2.mpr c2) (nm_r e2 (br_t (by decide) (nm_r (nI_1 i) hnext)))
        · have e2 : rf_oI (rf_su v i + rf_ow (rf_ctx g B t a none) i j) + -(wt 4) = rf_oI (rf_su v i + rf_vl (rf_ctx g B t a none) i 1 e j) := by
            unfold rf_vl
            rw [if_neg (by omega), if_pos rfl, if_neg c2, ← Int.add_assoc, rf_oI_add _ (- rf_t4 _), rf_oI_neg, rf_t4_e, rf_oI_nI, et]
          refine br_f (fun z => c2 (g2.mp z)) (nm_r e2 (br_t (by decide) (nm_r (nI_1 i) hnext)))
      · refine pk_le c 1 (fun c2 => ?_) (fun c2 => ?_)
        · have e2 : rf_su v i + rf_vl (rf_ctx g B t a none) i c e j = rf_su v i + rf_ow (rf_ctx g B t a none) i j := by
            unfold rf_vl
            rw [if_pos (by omega), Int.add_zero]
          rw [e2] at hnext
          exact nm_r (nI_1 i) hnext
        · have e2 : rf_oI (rf_su v i + rf_ow (rf_ctx g B t a none) i j) - wt 5 = rf_oI (rf_su v i + rf_vl (rf_ctx g B t a none) i c e j) := by
            unfold rf_vl
            rw [if_neg (by omega), if_neg c1, ← Int.add_assoc, rf_oI_add _ (- rf_t5 _), rf_oI_neg, rf_t5_e, rf_oI_nI, et, Int32.sub_eq_add_neg]
          exact nm_r e2 (nm_r (nI_1 i) hnext)
theorem rf_score {post : Int32 → Prop} {a : Nat → Nat} {r : List Nat} (E : rf_EY n g B t H ug ul wb wh wt) (hr : r.length = n) (hv : rf_vd (rf_ctx g B t a none) r = true) (hm : ∀ q, q < n → wm q = rf_mt r q) (h : post (rf_oI (rf_acc (rf_ctx g B t a none) r))) : wpY_score post (ug, ul, ut, um, ue, uc, ud, uw, ux, wb, wh, wt, ws, wo, wm, we) := by
  have hn : n ≤ 11 := E.1
  obtain ⟨v, hc, ha⟩ := rf_CON r (by omega) hv
  rw [hr] at hc ha
  rw [ha] at h
  refine ⟨n + 1, rf_score_l (a := a) (P := rf_pl r) (v := v) E (fun i hi => ?_) h n (n + 1) 0 (by omega) (by omega)⟩
  exact rf_con_e (hc i hi) (Nat.le_refl _) (fun _ _ h => h) (hm i hi).symm (fun j hj _ y y1 y2 => (hm y (by omega)).symm)
end
end
section
/-! the reference: putting and taking signs -/
def rf_so (wo : Nat → Int32) : List rf_E → Prop
  | [] => True
  | x :: st => wo st.length = nI x.1 ∧ rf_so wo st
theorem rf_so_u {wo : Nat → Int32} {k : Nat} {v : Int32} : ∀ {st : List rf_E}, rf_so wo st → st.length ≤ k → rf_so (upd wo k v) st := by
  intro st
  induction st with
  | nil => intro _ _; trivial
  | cons x st ih =>
    intro h hk
    rw [List.length_cons] at hk
    exact ⟨by rw [pk_un (by omega)]; exact h.1, ih h.2 (by omega)⟩
theorem rf_so_i {wo : Nat → Int32} {i q : Nat} {st : List rf_E} (h : rf_so wo st) : rf_so wo (rf_inc i q st) := by
  cases st with
  | nil => trivial
  | cons x st => exact h
theorem rf_so_i' {wo : Nat → Int32} {i q : Nat} {st : List rf_E} (h : rf_so wo (rf_inc i q st)) : rf_so wo st := by
  cases st with
  | nil => trivial
  | cons x st => exact h
theorem rf_inc_len (i q : Nat) (st : List rf_E) : (rf_inc i q st).length = st.length := by
  cases st <;> rfl
theorem rf_dec_len : ∀ {l : List Nat} {b : Nat}, rf_dec b l → l.length ≤ b := by
  intro l
  induction l with
  | nil => intro b _; exact Nat.zero_le _
  | cons x l ih =>
    intro b h
    have h1 := h.1
    have h2 := ih h.2
    rw [List.length_cons]
    omega
theorem rf_stk_len (r : List Nat) : (rf_stk r).length ≤ r.length := by
  have h := rf_dec_len (rf_pl_dec r)
  unfold rf_pl at h
  rw [List.length_map] at h
  exact h
def rf_YI (r : List Nat) (ut : Int32) (ws wo wm : Nat → Int32) : Prop := ut = nI (rf_stk r).length ∧ rf_so wo (rf_stk r) ∧ (∀ q, q < r.length → ws q = nI (rf_dg r q)) ∧ (∀ q, q < r.length → wm q = rf_mt r q)
theorem rf_ws_put {s : Nat} {r : List Nat} {ws : Nat → Int32} (h : ∀ q, q < r.length → ws q = nI (rf_dg r q)) : ∀ q, q < (s :: r).length → upd ws r.length (nI s) q = nI (rf_dg (s :: r) q) := by
  intro q hq
  rw [List.length_cons] at hq
  by_cases e : q = r.length
  · rw [e, pk_us, rf_dg_l]
  · rw [pk_un e, rf_dg_c (by omega), h q (by omega)]
section
variable {ug ul ut um ue uc ud uw ux : Int32} {wb wh wt ws wo wm we : Nat → Int32}
variable {n g : Nat} {B t H : Nat → Nat}
theorem rf_put {post : Int32 → SY → Prop} {r : List Nat} {s : Nat} (E : rf_EY n g B t H ug ul wb wh wt) (I : rf_YI r ut ws wo wm) (hp : r.length < n) (hs : s < 3) (h1 : rf_ok (rf_ctx g B t rf_z0 none) s r.length (rf_stk r) = true → ∀ (ut : Int32) (ws wo wm : Nat → Int32), rf_YI (s :: r) ut ws wo wm → post 1 (ug, ul, ut, um, ue, uc, ud, uw, ux, wb, wh, wt, ws, wo, wm, we)) (h0 : rf_ok (rf_ctx g B t rf_z0 none) s r.length (rf_stk r) = false → post 0 (ug, ul, ut, um, ue, uc, ud, uw, ux, wb, wh, wt, ws, wo, wm, we)) : wpY_put post (ug, ul, ut, um, ue, uc, ud, uw, ux, wb, wh, wt, ws, wo, wm, we) (nI r.length) (nI s) := by
  have hn : n ≤ 11 := E.1
  obtain ⟨i1, i2, i3, i4⟩ := I
  have hk := rf_stk_len r
  have vp : vp_in (nI r.length) 12 := vp_in_nI (by omega) (by omega)
  have cp : (nI r.length).toNatClampNeg = r.length := nI_clamp (by omega)
  obtain rfl | rfl | rfl : s = 0 ∨ s = 1 ∨ s = 2 := by omega
  · refine br_f (by decide) (And.intro vp (nm_e (br_f (by decide) (And.intro vp (nm_e ?_)))))
    rw [cp]
    refine h1 rfl _ _ _ _ ⟨i1, i2, rf_ws_put i3, fun q hq => ?_⟩
    rw [rf_mt_0]
    rw [List.length_cons] at hq
    by_cases e : q = r.length
    · rw [e, pk_us, pk_us]
    · rw [pk_un e, pk_un e, i4 q (by omega)]
  · refine br_f (by decide) (And.intro vp (nm_e (br_t rfl (And.intro (by rw [i1]; exact vp_in_nI (by omega) (by omega)) (nm_e (nm_e (And.intro vp (nm_e ?_))))))))
    rw [cp, i1, nI_clamp (by omega : (rf_stk r).length < 2 ^ 31), nI_1]
    refine h1 rfl _ _ _ _ ⟨rfl, ⟨pk_us, rf_so_u i2 (Nat.le_refl _)⟩, rf_ws_put i3, fun q hq => ?_⟩
    rw [rf_mt_1]
    rw [List.length_cons] at hq
    by_cases e : q = r.length
    · rw [e, pk_us, pk_us]
    · rw [pk_un e, pk_un e, i4 q (by omega)]
  · refine br_t rfl ?_
    cases hst : rf_stk r with
    | nil =>
      rw [hst] at i1 h0
      exact br_t i1 (h0 rfl)
    | cons x st =>
      have hx : x.1 < r.length := by
        have := rf_pl_dec r
        rw [rf_stk_pl hst] at this
        exact this.1
      rw [hst] at i1 i2 hk h1 h0
      rw [List.length_cons] at i1 hk
      have ex : ut - 1 = nI st.length := by rw [i1]; exact nI_pred _
      refine br_f (by rw [i1]; exact nI_ne0 (by omega) (by omega)) (And.intro (by rw [ex]; exact vp_in_nI (by omega) (by omega)) ?_)
      rw [ex, nI_clamp (by omega : st.length < 2 ^ 31), i2.1]
      refine nm_e ?_
      refine rf_suits E (by omega) (by omega) (fun hf => br_f (by decide) (nm_e (And.intro (vp_in_nI (by omega) (by omega)) (nm_e (And.intro vp (nm_e (And.intro vp (nm_e ?_)))))))) (fun hf => br_t rfl (h0 ?_))
      · rw [cp, nI_clamp (by omega : x.1 < 2 ^ 31)]
        refine h1 ?_ _ _ _ _ ⟨?_, ?_, rf_ws_put i3, fun q hq => ?_⟩
        · show (decide ((0 : Nat) = 0 ∨ (0 : Nat) = 3) && (true && rf_fit g B x.1 r.length)) = true
          rw [hf]; rfl
        · rw [rf_stk_2 hst, rf_inc_len]
        · rw [rf_stk_2 hst]
          exact rf_so_i i2.2
        · rw [rf_mt_2 hst]
          rw [List.length_cons] at hq
          by_cases e : q = r.length
          · rw [e, pk_us, pk_us]
          · rw [pk_un e, pk_un e]
            by_cases e2 : q = x.1
            · rw [e2, pk_us, pk_us]
            · rw [pk_un e2, pk_un e2, i4 q (by omega)]
      · show (decide ((0 : Nat) = 0 ∨ (0 : Nat) = 3) && (true && rf_fit g B x.1 r.length)) = false
        rw [hf]; rfl
theorem rf_take {post : SY → Prop} {K : rf_K} {r : List Nat} {s : Nat} (hl : r.length < 11) (hv : rf_vd K (s :: r) = true) (I : rf_YI (s :: r) ut ws wo wm) (h : ∀ (ut : Int32) (wo wm : Nat → Int32), rf_YI r ut ws wo wm → post (ug, ul, ut, um, ue, uc, ud, uw, ux, wb, wh, wt, ws, wo, wm, we)) : wpY_take post (ug, ul, ut, um, ue, uc, ud, uw, ux, wb, wh, wt, ws, wo, wm, we) (nI r.length) := by
  obtain ⟨i1, i2, i3, i4⟩ := I
  obtain ⟨v1, v2, v3⟩ := rf_vd_s.mp hv
  have hk := rf_stk_len r
  have vp : vp_in (nI r.length) 12 := vp_in_nI (by omega) (by omega)
  have cp : (nI r.length).toNatClampNeg = r.length := nI_clamp (by omega)
  have es : ws r.length = nI s := by
    have := i3 r.length (by rw [List.length_cons]; omega)
    rw [rf_dg_l] at this
    exact this
  have j3 : ∀ q, q < r.length → ws q = nI (rf_dg r q) := fun q hq => by
    rw [i3 q (by rw [List.length_cons]; omega), rf_dg_c hq]
  refine And.intro vp ?_
  rw [cp, es]
  obtain rfl | rfl | rfl : s = 0 ∨ s = 1 ∨ s = 2 := by omega
  · refine br_f (by decide) (And.intro vp ?_)
    rw [cp, es]
    refine br_f (by decide) (h _ _ _ ⟨i1, i2, j3, fun q hq => ?_⟩)
    rw [i4 q (by rw [List.length_cons]; omega), rf_mt_0, pk_un (by omega)]
  · refine br_t rfl (nm_e (And.intro vp ?_))
    rw [cp, es]
    refine br_f (by decide) (h _ _ _ ⟨?_, i2.2, j3, fun q hq => ?_⟩)
    · rw [i1]; exact nI_pred _
    · rw [i4 q (by rw [List.length_cons]; omega), rf_mt_1, pk_un (by omega)]
  · refine br_f (by decide) (And.intro vp ?_)
    rw [cp, es]
    obtain ⟨x, st, hst, _⟩ := rf_ok2s v3
    have hx : x.1 < r.length := by
      have := rf_pl_dec r
      rw [rf_stk_pl hst] at this
      exact this.1
    have hE := rf_EN r (by omega) v1
    rw [hst] at hE
    rw [rf_stk_2 hst] at i1 i2
    rw [rf_inc_len] at i1
    rw [hst, List.length_cons] at hk
    have em : wm r.length = nI x.1 := by
      rw [i4 r.length (by rw [List.length_cons]; omega), rf_mt_2 hst, pk_us]
    rw [em]
    refine br_t rfl (And.intro vp (And.intro (by rw [i1]; exact vp_in_nI (by omega) (by omega)) (nm_e (nm_e (And.intro vp (And.intro (vp_in_nI (by omega) (by omega)) (nm_e ?_)))))))
    rw [nI_clamp (by omega : x.1 < 2 ^ 31), i1, nI_clamp (by omega : st.length < 2 ^ 31), nI_1]
    refine h _ _ _ ⟨?_, ?_, j3, fun q hq => ?_⟩
    · rw [hst, List.length_cons]
    · rw [hst]
      exact ⟨pk_us, rf_so_u (rf_so_i' i2) (Nat.le_refl _)⟩
    · by_cases e : q = x.1
      · rw [e, pk_us]
        exact hE.1.2.1.symm
      · rw [pk_un e, i4 q (by rw [List.length_cons]; omega), rf_mt_2 hst, pk_un (by omega), pk_un e]
/-- the least sign from f on that goes -/
theorem rf_next {post : Int32 → SY → Prop} {r : List Nat} (E : rf_EY n g B t H ug ul wb wh wt) (I : rf_YI r ut ws wo wm) (hp : r.length < n) : ∀ d m f : Nat, f + d = 3 → d < m → (∀ s, f ≤ s → s < 3 → rf_ok (rf_ctx g B t H none) s r.length (rf_stk r) = true → (∀ s', f ≤ s' → s' < s → rf_ok (rf_ctx g B t H none) s' r.length (rf_stk r) = false) → ∀ (ut : Int32) (ws wo wm : Nat → Int32), rf_YI (s :: r) ut ws wo wm → post (nI s) (ug, ul, ut, um, ue, uc, ud, uw, ux, wb, wh, wt, ws, wo, wm, we)) → ((∀ s', f ≤ s' → s' < 3 → rf_ok (rf_ctx g B t H none) s' r.length (rf_stk r) = false) → post 3 (ug, ul, ut, um, ue, uc, ud, uw, ux, wb, wh, wt, ws, wo, wm, we)) → wY_next_2 post (nI r.length) m (nI f) ug ul ut um ue uc ud uw ux wb wh wt ws wo wm we := by
  have hn : n ≤ 11 := E.1
  have hH : ∀ j, H j ≤ 3 := E.2.2.2.2.1
  have eh : ∀ j, wh j = nI (H j) := E.2.2.2.2.2.2.2.2.1
  have vp : vp_in (nI r.length) 11 := vp_in_nI (by omega) (by omega)
  have cp : (nI r.length).toNatClampNeg = r.length := nI_clamp (by omega)
  intro d
  induction d with
  | zero =>
    intro m f hf hm h1 h0
    obtain ⟨m, rfl⟩ : ∃ e, m = e + 1 := ⟨m - 1, by omega⟩
    obtain rfl : f = 3 := by omega
    exact br_t (Int32.le_refl _) (h0 (fun s' a b => by omega))
  | succ d ih =>
    intro m f hf hm h1 h0
    obtain ⟨m, rfl⟩ : ∃ e, m = e + 1 := ⟨m - 1, by omega⟩
    have ha := rf_ok_a (g := g) (B := B) (t := t) (a := H) (s := f) (p := r.length) (st := rf_stk r) (by omega) (hH _)
    have hskip : rf_ok (rf_ctx g B t H none) f r.length (rf_stk r) = false → wY_next_2 post (nI r.length) m (nI (f + 1)) ug ul ut um ue uc ud uw ux wb wh wt ws wo wm we := by
      intro hz
      refine ih m (f + 1) (by omega) (by omega) (fun s s1 s2 s3 s4 => h1 s (by omega) s2 s3 (fun s' a b => ?_)) (fun hh => h0 (fun s' a b => ?_))
      · by_cases e : s' = f
        · rw [e]; exact hz
        · exact s4 s' (by omega) b
      · by_cases e : s' = f
        · rw [e]; exact hz
        · exact hh s' (by omega) b
    have hput : (decide (H r.length = 0) || decide (H r.length = f + 1)) = true → wY_next_33 post (wY_next_2 post (nI r.length) m) (nI r.length) (nI f) 1 ug ul ut um ue uc ud uw ux wb wh wt ws wo wm we := by
      intro hc
      rw [hc, Bool.and_true] at ha
      refine br_f (by decide) ?_
      refine rf_put E I hp (by omega) (fun ho ut ws wo wm hI => br_f (by decide) (h1 f (Nat.le_refl _) (by omega) (by rw [ha]; exact ho) (fun s' a b => by omega) ut ws wo wm hI)) (fun ho => br_t rfl (nm_r (nI_1 f) (hskip (by rw [ha]; exact ho))))
    refine br_f (nI_ge (b := 3) (by omega) (by decide)) (And.intro vp ?_)
    rw [cp, eh]
    refine pk_eq (H r.length) 0 (fun c => ?_) (fun c => And.intro vp ?_) rfl rfl (by have := hH r.length; omega)
    · exact hput (by rw [decide_eq_true c]; rfl)
    · rw [nI_1 f]
      refine pk_eq (H r.length) (f + 1) (fun c2 => ?_) (fun c2 => ?_) rfl rfl (by have := hH r.length; omega)
      · exact hput (by rw [decide_eq_true c2, Bool.or_true])
      · refine br_t rfl (nm_r (nI_1 f) (hskip ?_))
        rw [ha, decide_eq_false c, decide_eq_false c2]
        exact Bool.and_false _
end
end
section
/-! the reference: taking notice of a fold -/
theorem rf_vl_b {K : rf_K} (h : rf_Ks K) (i c e q : Nat) : -20 ≤ rf_vl K i c e q ∧ rf_vl K i c e q ≤ 40 := by
  obtain ⟨h0, h3, h4, h5⟩ := h
  have ho := h0 i q
  unfold rf_vl
  by_cases c0 : c = 0
  · rw [if_pos c0]; omega
  · rw [if_neg c0]
    by_cases c1 : c = 1
    · rw [if_pos c1]
      by_cases c2 : e = q
      · rw [if_pos c2]; omega
      · rw [if_neg c2]; omega
    · rw [if_neg c1]; omega
theorem rf_dv_b {K : rf_K} (h : rf_Ks K) (s p : Nat) (st : List rf_E) : -20 ≤ rf_dv K s p st ∧ rf_dv K s p st ≤ 40 := by
  unfold rf_dv
  by_cases c0 : s = 0
  · rw [if_pos c0]; omega
  · rw [if_neg c0]
    by_cases c1 : s = 1
    · rw [if_pos c1]; omega
    · rw [if_neg c1]
      cases st with
      | nil => show (-20 : Int) ≤ 0 ∧ (0 : Int) ≤ 40; omega
      | cons x st => exact rf_vl_b h _ _ _ _
theorem rf_acc_b {K : rf_K} (h : rf_Ks K) : ∀ r : List Nat, -(20 * (r.length : Int)) ≤ rf_acc K r ∧ rf_acc K r ≤ 40 * (r.length : Int) := by
  intro r
  induction r with
  | nil => show -(20 * ((0 : Nat) : Int)) ≤ 0 ∧ (0 : Int) ≤ 40 * ((0 : Nat) : Int); omega
  | cons s r ih =>
    show -(20 * ((r.length + 1 : Nat) : Int)) ≤ rf_acc K r + rf_dv K s r.length (rf_stk r) ∧ rf_acc K r + rf_dv K s r.length (rf_stk r) ≤ 40 * ((r.length + 1 : Nat) : Int)
    have := rf_dv_b h s r.length (rf_stk r)
    omega
theorem rf_w_sm {b : Nat} : ∀ {L : List Int}, (∀ v ∈ L, -(b : Int) ≤ v ∧ v ≤ (b : Int)) → rf_w b (rf_sm L) := by
  intro L
  induction L with
  | nil => intro _; trivial
  | cons v L ih =>
    intro h
    have hv := h v (List.mem_cons_self ..)
    exact rf_w_ad (rf_w_sv hv.1 hv.2) (ih (fun u hu => h u (List.mem_cons_of_mem _ hu)))
def rf_S (K : rf_K) (L : List (List Nat)) : rf_Op := rf_sm (L.map (rf_acc K))
theorem rf_S_w {K : rf_K} (hK : rf_Ks K) {n : Nat} (hn : n ≤ 11) {L : List (List Nat)} (hL : ∀ x ∈ L, x.length = n) : rf_w 1000 (rf_S K L) := by
  refine rf_w_sm (fun v hv => ?_)
  obtain ⟨x, hx, e⟩ := List.mem_map.mp hv
  have h1 := rf_acc_b hK x
  rw [hL x hx] at h1
  rw [← e]
  omega
theorem rf_S_al (K : rf_K) (L : List (List Nat)) : rf_al (rf_S K L) = L.length := by
  unfold rf_S
  rw [rf_al_sm, List.length_map]
theorem rf_S_snoc (K : rf_K) (L : List (List Nat)) (r : List Nat) : rf_S K (L ++ [r]) = rf_ad (rf_S K L) (rf_sv (rf_acc K r)) := by
  unfold rf_S
  rw [List.map_append]
  exact rf_sm_snoc _ _
def rf_pq (i j : Nat) (r : List Nat) : Bool := decide (i < j) && decide (rf_mt r i = nI j)
def rf_cd (d : Nat → Nat) : Nat → Int32
  | 0 => 0
  | p + 1 => 3 * rf_cd d p + nI (d p)
def rf_FB (K : rf_K) (L : List (List Nat)) (h : List Nat) : Prop := ∃ L1 L2, L = L1 ++ h :: L2 ∧ (∀ x ∈ L1, rf_acc K x < rf_acc K h) ∧ (∀ x ∈ L2, rf_acc K x ≤ rf_acc K h)
theorem rf_FB_max {K : rf_K} {L : List (List Nat)} {h : List Nat} (hF : rf_FB K L h) : h ∈ L ∧ ∀ x ∈ L, rf_acc K x ≤ rf_acc K h := by
  obtain ⟨L1, L2, e, h1, h2⟩ := hF
  rw [e]
  refine ⟨List.mem_append_right _ (List.mem_cons_self ..), fun x hx => ?_⟩
  rcases List.mem_append.mp hx with hx | hx
  · exact Int.le_of_lt (h1 x hx)
  · rcases List.mem_cons.mp hx with hx | hx
    · rw [hx]; exact Int.le_refl _
    · exact h2 x hx
theorem rf_FB_S {K : rf_K} {L : List (List Nat)} {h : List Nat} {y : Int × Nat × Nat} (hF : rf_FB K L h) (hS : rf_S K L = some y) : y.1 = rf_acc K h := by
  obtain ⟨h1, h2⟩ := rf_FB_max hF
  obtain ⟨s1, s2⟩ := rf_sm_some hS
  obtain ⟨x, hx, e⟩ := List.mem_map.mp s1
  have a1 := h2 x hx
  have a2 := s2 (rf_acc K h) (List.mem_map.mpr ⟨h, h1, rfl⟩)
  omega
def rf_NI (K : rf_K) (n i j : Nat) (L : List (List Nat)) (um ue uc ud uw ux : Int32) (we : Nat → Int32) : Prop :=
  (∀ x ∈ L, x.length = n) ∧ um = rf_ra (rf_S K L) ∧ uc = rf_rb (rf_S K L) ∧ (∀ v, rf_S K L = some v → ue = rf_oI v.1) ∧ uw = rf_ra (rf_S K (L.filter (rf_pq i j))) ∧ (∀ v, rf_S K (L.filter (rf_pq i j)) = some v → ux = rf_oI v.1) ∧ (L ≠ [] → ∃ h, rf_FB K L h ∧ ud = rf_cd (rf_dg h) n ∧ ∀ q, q < n → we q = rf_mt h q)
section
variable {ug ul ut um ue uc ud uw ux : Int32} {wb wh wt ws wo wm we : Nat → Int32}
variable {n g : Nat} {B t H a : Nat → Nat}
theorem rf_nt137 {post : SY → Prop} {K : rf_K} {i j : Nat} {L : List (List Nat)} {r : List Nat} (hi : i < 11) (hj : j < 11) (hw : rf_w 1000 (rf_S K (L.filter (rf_pq i j)))) (hb : -1000 ≤ rf_acc K r ∧ rf_acc K r ≤ 1000) (hal : (L.filter (rf_pq i j)).length < 1000000) (e1 : uw = rf_ra (rf_S K (L.filter (rf_pq i j)))) (e2 : ∀ v, rf_S K (L.filter (rf_pq i j)) = some v → ux = rf_oI v.1) (hm : i < j → wm i = rf_mt r i) (h : ∀ uw ux : Int32, uw = rf_ra (rf_S K ((L ++ [r]).filter (rf_pq i j))) → (∀ v, rf_S K ((L ++ [r]).filter (rf_pq i j)) = some v → ux = rf_oI v.1) → post (ug, ul, ut, um, ue, uc, ud, uw, ux, wb, wh, wt, ws, wo, wm, we)) : wY_notice_137 post (nI i) (nI j) (rf_oI (rf_acc K r)) ug ul ut um ue uc ud uw ux wb wh wt ws wo wm we := by
  have hno : rf_pq i j r = false → post (ug, ul, ut, um, ue, uc, ud, uw, ux, wb, wh, wt, ws, wo, wm, we) := by
    intro hf
    have ef : (L ++ [r]).filter (rf_pq i j) = L.filter (rf_pq i j) := by
      rw [List.filter_append, List.filter_cons, hf]
      exact List.append_nil _
    rw [ef] at h
    exact h _ _ e1 e2
  refine pk_le j i (fun c => hno ?_) (fun c => And.intro (vp_in_nI (by omega) (by omega)) ?_)
  · unfold rf_pq
    rw [decide_eq_false (by omega), Bool.false_and]
  · rw [nI_clamp (by omega), hm c]
    refine br_c (fun hc => ?_) (fun hc => hno ?_)
    · have hpq : rf_pq i j r = true := by
        unfold rf_pq
        rw [decide_eq_true c, decide_eq_true hc]; rfl
      have ef : (L ++ [r]).filter (rf_pq i j) = L.filter (rf_pq i j) ++ [r] := by
        rw [List.filter_append, List.filter_cons, hpq]
        rfl
      rw [ef, rf_S_snoc] at h
      have ha := rf_S_al K (L.filter (rf_pq i j))
      have e167 : uw + 1 = rf_ra (rf_ad (rf_S K (L.filter (rf_pq i j))) (rf_sv (rf_acc K r))) := by
        rw [e1]
        unfold rf_ra
        rw [rf_al_ad, nI_1]
        rfl
      cases hS : rf_S K (L.filter (rf_pq i j)) with
      | none =>
        rw [hS] at h e1 e167
        refine br_t e1 (nm_r e167 (h _ _ rfl (fun v hv => ?_)))
        have e : (rf_acc K r, 1, 1) = v := Option.some.inj hv
        rw [← e]
      | some y =>
        rw [hS] at h e1 e167 hw ha
        have hal' : y.2.2 = (L.filter (rf_pq i j)).length := ha
        obtain ⟨w1, w2, w3, w4⟩ := hw
        have hux := e2 y hS
        refine br_f (by rw [e1]; exact nI_ne0 (by show 0 < y.2.2; omega) (by show y.2.2 < 2 ^ 31; omega)) ?_
        rw [hux]
        by_cases c2 : rf_acc K r ≤ y.1
        · refine br_t ((rf_oI_le (by omega) (by omega) (by omega) (by omega)).mpr c2) (nm_r e167 (h _ _ rfl (fun v hv => ?_)))
          have e : rf_a3 y (rf_acc K r, 1, 1) = v := Option.some.inj hv
          rw [← e]
          show rf_oI y.1 = rf_oI (max y.1 (rf_acc K r))
          exact congrArg rf_oI (by omega)
        · refine br_f (fun z => c2 ((rf_oI_le (by omega) (by omega) (by omega) (by omega)).mp z)) (nm_r e167 (h _ _ rfl (fun v hv => ?_)))
          have e : rf_a3 y (rf_acc K r, 1, 1) = v := Option.some.inj hv
          rw [← e]
          show rf_oI (rf_acc K r) = rf_oI (max y.1 (rf_acc K r))
          exact congrArg rf_oI (by omega)
    · unfold rf_pq
      rw [decide_eq_false hc, Bool.and_false]
theorem rf_nt92 {post : SY → Prop} {x1 x2 x3 : Int32} (h : ∀ we : Nat → Int32, (∀ q, q < 12 → we q = wm q) → wY_notice_119 post x1 x2 x3 ug ul ut um ue uc ud uw ux wb wh wt ws wo wm we) : ∀ d f p : Nat, p + d = 12 → d < f → ∀ we : Nat → Int32, (∀ q, q < p → we q = wm q) → wY_notice_92 post x1 x2 x3 ug ul ut um ue uc ud uw ux f (nI p) wb wh wt ws wo wm we := by
  intro d
  induction d with
  | zero =>
    intro f p hp hf we hw
    obtain ⟨f, rfl⟩ : ∃ e, f = e + 1 := ⟨f - 1, by omega⟩
    obtain rfl : p = 12 := by omega
    exact br_t (Int32.le_refl _) (h we hw)
  | succ d ih =>
    intro f p hp hf we hw
    obtain ⟨f, rfl⟩ : ∃ e, f = e + 1 := ⟨f - 1, by omega⟩
    have v : vp_in (nI p) 12 := vp_in_nI (by omega) (by omega)
    refine br_f (nI_ge (b := 12) (by omega) (by decide)) (And.intro v (And.intro v (nm_e (nm_r (nI_1 p) (ih f (p + 1) (by omega) (by omega) _ (fun q hq => ?_))))))
    rw [nI_clamp (by omega)]
    by_cases e : q = p
    · rw [e, pk_us]
    · rw [pk_un e]; exact hw q (by omega)
theorem rf_nt11 {post : SY → Prop} {x1 x2 x3 : Int32} {d : Nat → Nat} (hn : n ≤ 11) (eu : ul = nI n) (hs : ∀ q, q < n → ws q = nI (d q)) (h : wY_notice_47 post x1 x2 x3 (rf_cd d n) ug ul ut um ue uc ud uw ux wb wh wt ws wo wm we) : ∀ e f p : Nat, p + e = n → e < f → wY_notice_11 post x1 x2 x3 ug ul ut um ue uc ud uw ux wb wh wt ws wo wm we f (rf_cd d p) (nI p) := by
  intro e
  induction e with
  | zero =>
    intro f p hp hf
    obtain ⟨f, rfl⟩ : ∃ e, f = e + 1 := ⟨f - 1, by omega⟩
    obtain rfl : p = n := by omega
    exact br_t (by rw [eu]; exact Int32.le_refl _) h
  | succ e ih =>
    intro f p hp hf
    obtain ⟨f, rfl⟩ : ∃ e, f = e + 1 := ⟨f - 1, by omega⟩
    refine br_f (by rw [eu]; exact nI_ge (by omega) (by omega)) (br_f (nI_ge (b := 11) (by omega) (by decide)) (And.intro (vp_in_nI (by omega) (by omega)) ?_))
    rw [nI_clamp (by omega), hs p (by omega)]
    exact nm_e (nm_r (nI_1 p) (ih f (p + 1) (by omega) (by omega)))
theorem rf_notice {post : SY → Prop} {i j : Nat} {L : List (List Nat)} {r : List Nat} (E : rf_EY n g B t H ug ul wb wh wt) (hr : r.length = n) (hv : rf_vd (rf_ctx g B t a none) r = true) (I : rf_YI r ut ws wo wm) (hal : L.length < 1000000) (hi : i < 11) (hj : j < 11) (hij : i < j → j < n) (N : rf_NI (rf_ctx g B t a none) n i j L um ue uc ud uw ux we) (h : ∀ (um ue uc ud uw ux : Int32) (we : Nat → Int32), rf_NI (rf_ctx g B t a none) n i j (L ++ [r]) um ue uc ud uw ux we → post (ug, ul, ut, um, ue, uc, ud, uw, ux, wb, wh, wt, ws, wo, wm, we)) : wpY_notice post (ug, ul, ut, um, ue, uc, ud, uw, ux, wb, wh, wt, ws, wo, wm, we) (nI i) (nI j) := by
  have hn : n ≤ 11 := E.1
  have eu : ul = nI n := E.2.2.2.2.2.2.1
  have hK : rf_Ks (rf_ctx g B t a none) := rf_ctxs E.2.2.2.1
  generalize hKe : rf_ctx g B t a none = K at *
  obtain ⟨i1, i2, i3, i4⟩ := I
  rw [hr] at i3 i4
  obtain ⟨n0, n1, n2, n3, n4, n5, n6⟩ := N
  have hb : -1000 ≤ rf_acc K r ∧ rf_acc K r ≤ 1000 := by
    have := rf_acc_b hK r
    rw [hr] at this
    omega
  have hw := rf_S_w hK hn n0
  have hwf : rf_w 1000 (rf_S K (L.filter (rf_pq i j))) := rf_S_w hK hn (fun x hx => n0 x (List.mem_filter.mp hx).1)
  have half : (L.filter (rf_pq i j)).length < 1000000 := Nat.lt_of_le_of_lt (List.length_filter_le _ _) hal
  have ha := rf_S_al K L
  have hlen : ∀ x ∈ L ++ [r], x.length = n := by
    intro x hx
    rcases List.mem_append.mp hx with hx | hx
    · exact n0 x hx
    · rw [List.mem_singleton.mp hx]; exact hr
  have em : um + 1 = rf_ra (rf_S K (L ++ [r])) := by
    rw [n1, rf_S_snoc]
    unfold rf_ra
    rw [rf_al_ad, nI_1]
    rfl
  subst hKe
  refine rf_score (a := a) E hr hv i4 ⟨n + 1, ?_⟩
  refine rf_nt11 (d := rf_dg r) hn eu i3 (nm_r em ?_) n (n + 1) 0 (by omega) (by omega)
  -- the new best
  have h73 : rf_S (rf_ctx g B t a none) (L ++ [r]) = some (rf_acc (rf_ctx g B t a none) r, 1, L.length + 1) → (∀ x ∈ L, rf_acc (rf_ctx g B t a none) x < rf_acc (rf_ctx g B t a none) r) → wY_notice_73 post (nI i) (nI j) (rf_oI (rf_acc (rf_ctx g B t a none) r)) (rf_cd (rf_dg r) n) ug ul ut (rf_ra (rf_S (rf_ctx g B t a none) (L ++ [r]))) ue uc ud uw ux wb wh wt ws wo wm we := by
    intro hS hlt
    refine ⟨13, rf_nt92 (fun we hwe => ?_) 12 13 0 (by omega) (by omega) we (fun q hq => absurd hq (Nat.not_lt_zero _))⟩
    refine br_t rfl (nm_r (e' := 1) (by decide) ?_)
    refine rf_nt137 hi hj hwf hb half n4 n5 (fun c => i4 i (by have := hij c; omega)) (fun uw ux e1 e2 => h _ _ _ _ _ _ _ ⟨hlen, rfl, ?_, ?_, e1, e2, fun _ => ⟨r, ⟨L, [], rfl, hlt, fun x hx => nomatch hx⟩, rfl, fun q hq => ?_⟩⟩)
    · rw [hS]; rfl
    · intro v hv
      rw [hS] at hv
      rw [← Option.some.inj hv]
    · rw [hwe q (by omega)]
      exact i4 q hq
  cases hS : rf_S (rf_ctx g B t a none) L with
  | none =>
    have hL : L = [] := by
      rw [hS] at ha
      exact List.length_eq_zero_iff.mp ha.symm
    have hS' : rf_S (rf_ctx g B t a none) (L ++ [r]) = some (rf_acc (rf_ctx g B t a none) r, 1, L.length + 1) := by
      rw [rf_S_snoc, hS, hL]; rfl
    refine br_t (by rw [hS', hL]; rfl) (h73 hS' (fun x hx => ?_))
    rw [hL] at hx
    cases hx
  | some y =>
    rw [hS] at ha hw
    have ha' : y.2.2 = L.length := ha
    obtain ⟨w1, w2, w3, w4⟩ := hw
    have hS' : rf_S (rf_ctx g B t a none) (L ++ [r]) = some (rf_a3 y (rf_acc (rf_ctx g B t a none) r, 1, 1)) := by
      rw [rf_S_snoc, hS]; rfl
    have hue := n3 y hS
    have hne : L ≠ [] := by
      intro z
      rw [z] at ha'
      have : y.2.2 = 0 := ha'
      omega
    obtain ⟨hh, hF, hcd, hwe⟩ := n6 hne
    have hyh := rf_FB_S hF hS
    refine br_f ?_ ?_
    · rw [hS']
      show ¬ nI (y.2.2 + 1) = nI 1
      rw [nI_eq (by omega) (by omega)]
      omega
    · rw [hue]
      by_cases c : rf_acc (rf_ctx g B t a none) r ≤ y.1
      · refine br_t ((rf_oI_le (by omega) (by omega) (by omega) (by omega)).mpr c) ?_
        have hF' : rf_FB (rf_ctx g B t a none) (L ++ [r]) hh := by
          obtain ⟨L1, L2, e, f1, f2⟩ := hF
          refine ⟨L1, L2 ++ [r], by rw [e, List.append_assoc]; rfl, f1, fun x hx => ?_⟩
          rcases List.mem_append.mp hx with hx | hx
          · exact f2 x hx
          · rw [List.mem_singleton.mp hx]; omega
        have hmx : ∀ v, rf_S (rf_ctx g B t a none) (L ++ [r]) = some v → rf_oI y.1 = rf_oI v.1 := by
          intro v hv
          rw [hS'] at hv
          rw [← Option.some.inj hv]
          show rf_oI y.1 = rf_oI (max y.1 (rf_acc (rf_ctx g B t a none) r))
          exact congrArg rf_oI (by omega)
        by_cases c2 : rf_acc (rf_ctx g B t a none) r = y.1
        · refine br_t (by show rf_oI _ = rf_oI _; rw [c2]) (nm_e (rf_nt137 hi hj hwf hb half n4 n5 (fun c => i4 i (by have := hij c; omega)) (fun uw ux e1 e2 => h _ _ _ _ _ _ _ ⟨hlen, rfl, ?_, hmx, e1, e2, fun _ => ⟨hh, hF', hcd, hwe⟩⟩)))
          rw [n2, hS, hS']
          show nI y.2.1 + 1 = nI ((if rf_acc (rf_ctx g B t a none) r ≤ y.1 then y.2.1 else 0) + (if y.1 ≤ rf_acc (rf_ctx g B t a none) r then 1 else 0))
          rw [if_pos c, if_pos (by omega), nI_1]
        · refine br_f (fun z => c2 ((rf_oI_eq (by omega) (by omega) (by omega) (by omega)).mp z)) (rf_nt137 hi hj hwf hb half n4 n5 (fun c => i4 i (by have := hij c; omega)) (fun uw ux e1 e2 => h _ _ _ _ _ _ _ ⟨hlen, rfl, ?_, hmx, e1, e2, fun _ => ⟨hh, hF', hcd, hwe⟩⟩))
          rw [n2, hS, hS']
          show nI y.2.1 = nI ((if rf_acc (rf_ctx g B t a none) r ≤ y.1 then y.2.1 else 0) + (if y.1 ≤ rf_acc (rf_ctx g B t a none) r then 1 else 0))
          rw [if_pos c, if_neg (by omega), Nat.add_zero]
      · refine br_f (fun z => c ((rf_oI_le (by omega) (by omega) (by omega) (by omega)).mp z)) ?_
        rw [← hue]
        refine h73 ?_ (fun x hx => ?_)
        · rw [hS']
          refine congrArg some (rf_e3 ?_ ?_ ?_)
          · show max y.1 (rf_acc (rf_ctx g B t a none) r) = rf_acc (rf_ctx g B t a none) r
            omega
          · show (if rf_acc (rf_ctx g B t a none) r ≤ y.1 then y.2.1 else 0) + (if y.1 ≤ rf_acc (rf_ctx g B t a none) r then 1 else 0) = 1
            rw [if_neg c, if_pos (by omega)]
          · show y.2.2 + 1 = L.length + 1
            rw [ha']
        · have := (rf_FB_max hF).2 x hx
          omega
end
end
section
/-! the reference: going through all folds -/
def rf_ef (K : rf_K) (R : List Nat → List (List Nat)) : Nat → List Nat → List (List Nat)
  | 0 => fun _ => []
  | d + 1 => fun r => rf_eb K R (2 - d) r ++ rf_ef K R d r
theorem rf_ef_3 (K : rf_K) (k : Nat) (r : List Nat) : rf_ef K (rf_er K k) 3 r = rf_er K (k + 1) r := by
  show rf_eb K (rf_er K k) 0 r ++ (rf_eb K (rf_er K k) 1 r ++ (rf_eb K (rf_er K k) 2 r ++ [])) = _
  rw [List.append_nil]
  rfl
theorem rf_ef_s {K : rf_K} {R : List Nat → List (List Nat)} {f : Nat} {r : List Nat} (hf : f < 3) : rf_ef K R (3 - f) r = rf_eb K R f r ++ rf_ef K R (3 - (f + 1)) r := by
  obtain rfl | rfl | rfl : f = 0 ∨ f = 1 ∨ f = 2 := by omega
  all_goals rfl
theorem rf_ef_skip {K : rf_K} {R : List Nat → List (List Nat)} {r : List Nat} : ∀ e f : Nat, f + e ≤ 3 → (∀ s', f ≤ s' → s' < f + e → rf_ok K s' r.length (rf_stk r) = false) → rf_ef K R (3 - f) r = rf_ef K R (3 - (f + e)) r := by
  intro e
  induction e with
  | zero => intro f _ _; rfl
  | succ e ih =>
    intro f hf h
    have hz := h f (by omega) (by omega)
    have hb : rf_eb K R f r = [] := by
      unfold rf_eb
      rw [hz]
      rfl
    rw [rf_ef_s (by omega), hb, List.nil_append, ih (f + 1) (by omega) (fun s' a b => h s' (by omega) (by omega)), show f + 1 + e = f + (e + 1) from by omega]
def rf_ct : Nat → Nat
  | 0 => 0
  | k + 1 => 3 * (rf_ct k + 2)
theorem rf_ct_s (k : Nat) : rf_ct (k + 1) = 3 * (rf_ct k + 2) := rfl
section
variable {ug ul : Int32} {wb wh wt : Nat → Int32}
variable {n g : Nat} {B t H : Nat → Nat}
theorem rf_ex {post : SY → Prop} {i j : Nat} (E : rf_EY n g B t H ug ul wb wh wt) (hi : i < 11) (hj : j < 11) (hij : i < j → j < n) : ∀ (k : Nat) (r : List Nat), r.length + k = n → rf_vd (rf_ctx g B t H none) r = true → ∀ (tn : Nat) (L : List (List Nat)) (ut um ue uc ud uw ux : Int32) (ws wo wm we : Nat → Int32), rf_YI r ut ws wo wm → rf_NI (rf_ctx g B t H none) n i j L um ue uc ud uw ux we → tn + rf_ct k ≤ 1000000 → L.length + 3 ^ k ≤ 500000 → (∀ (tn' : Nat) (x4 ut um ue uc ud uw ux : Int32) (ws wo wm we : Nat → Int32), tn' ≤ tn + rf_ct k → rf_YI r ut ws wo wm → rf_NI (rf_ctx g B t H none) n i j (L ++ rf_er (rf_ctx g B t H none) k r) um ue uc ud uw ux we → wY_explore_121 post (wY_explore_52 post (nI i) (nI j) (2000000 - tn')) (nI i) (nI j) (nI r.length) x4 (nI tn') ug ul ut um ue uc ud uw ux wb wh wt ws wo wm we) → wY_explore_52 post (nI i) (nI j) (2000001 - tn) (nI r.length) 0 1 (nI tn) ug ul ut um ue uc ud uw ux wb wh wt ws wo wm we := by
  have hn : n ≤ 11 := E.1
  have eu : ul = nI n := E.2.2.2.2.2.2.1
  intro k
  induction k with
  | zero =>
    intro r hr hv tn L ut um ue uc ud uw ux ws wo wm we I N ht hL C
    rw [show 2000001 - tn = (2000000 - tn) + 1 from by omega]
    have hrn : r.length = n := by omega
    refine br_f (nI_ge (b := 2000000) (by omega) (by decide)) (br_f (by decide) (br_t (by rw [eu, hrn]; exact Int32.le_refl _) (br_t (Int32.le_refl _) (br_t (by rw [eu, hrn]) ?_))))
    have I' := I
    obtain ⟨i1, _⟩ := I'
    cases hst : rf_stk r with
    | nil =>
      rw [hst] at i1
      refine br_t i1 ?_
      refine rf_notice (a := H) E hrn hv I (by have := Nat.one_le_two_pow (n := 0); omega) hi hj hij N (fun um ue uc ud uw ux we N' => C tn _ _ _ _ _ _ _ _ _ _ _ _ (by omega) I ?_)
      have e : rf_er (rf_ctx g B t H none) 0 r = [r] := by
        show (if (rf_stk r).isEmpty = true then [r] else []) = [r]
        rw [hst]; rfl
      rw [e]
      exact N'
    | cons x st =>
      have hk := rf_stk_len r
      rw [hst] at i1 hk
      rw [List.length_cons] at i1 hk
      refine br_f (by rw [i1]; exact nI_ne0 (by omega) (by omega)) (C tn _ _ _ _ _ _ _ _ _ _ _ _ (by omega) I ?_)
      have e : rf_er (rf_ctx g B t H none) 0 r = [] := by
        show (if (rf_stk r).isEmpty = true then [r] else []) = []
        rw [hst]; rfl
      rw [e, List.append_nil]
      exact N
  | succ k ih =>
    intro r hr hv
    have claim : ∀ b d f : Nat, d ≤ b → f + d = 3 → ∀ (tn : Nat) (L : List (List Nat)) (ut um ue uc ud uw ux : Int32) (ws wo wm we : Nat → Int32), rf_YI r ut ws wo wm → rf_NI (rf_ctx g B t H none) n i j L um ue uc ud uw ux we → tn + d * (rf_ct k + 2) ≤ 1000000 → L.length + d * 3 ^ k ≤ 500000 → (∀ (tn' : Nat) (x4 ut um ue uc ud uw ux : Int32) (ws wo wm we : Nat → Int32), tn' ≤ tn + d * (rf_ct k + 2) → rf_YI r ut ws wo wm → rf_NI (rf_ctx g B t H none) n i j (L ++ rf_ef (rf_ctx g B t H none) (rf_er (rf_ctx g B t H none) k) d r) um ue uc ud uw ux we → wY_explore_121 post (wY_explore_52 post (nI i) (nI j) (2000000 - tn')) (nI i) (nI j) (nI r.length) x4 (nI tn') ug ul ut um ue uc ud uw ux wb wh wt ws wo wm we) → wY_explore_52 post (nI i) (nI j) (2000001 - tn) (nI r.length) (nI f) 1 (nI tn) ug ul ut um ue uc ud uw ux wb wh wt ws wo wm we := by
      intro b
      induction b with
      | zero =>
        intro d f hd hf tn L ut um ue uc ud uw ux ws wo wm we I N ht hL C
        obtain rfl : d = 0 := by omega
        obtain rfl : f = 3 := by omega
        rw [show 2000001 - tn = (2000000 - tn) + 1 from by omega]
        refine br_f (nI_ge (b := 2000000) (by omega) (by decide)) (br_f (by decide) (br_f (by rw [eu]; exact nI_ge (by omega) (by omega)) ⟨1, ?_⟩))
        refine rf_next E I (by omega) 0 1 3 rfl (by omega) (fun s s1 s2 => by omega) (fun _ => br_t (Int32.le_refl _) (br_f ?_ (C tn _ _ _ _ _ _ _ _ _ _ _ _ (by omega) I ?_)))
        · rw [eu, nI_eq (by omega) (by omega)]; omega
        · show rf_NI _ n i j (L ++ []) _ _ _ _ _ _ _
          rw [List.append_nil]
          exact N
      | succ b ihb =>
        intro d f hd hf tn L ut um ue uc ud uw ux ws wo wm we I N ht hL C
        have hfd : d = 3 - f := by omega
        rw [show 2000001 - tn = (2000000 - tn) + 1 from by omega]
        refine br_f (nI_ge (b := 2000000) (by omega) (by decide)) (br_f (by decide) (br_f (by rw [eu]; exact nI_ge (by omega) (by omega)) ⟨d + 1, ?_⟩))
        refine rf_next E I (by omega) d (d + 1) f hf (by omega) (fun s s1 s2 s3 s4 ut ws wo wm I2 => ?_) (fun hno => br_t (Int32.le_refl _) (br_f ?_ (C tn _ _ _ _ _ _ _ _ _ _ _ _ (by omega) I ?_)))
        · have hv2 : rf_vd (rf_ctx g B t H none) (s :: r) = true := rf_vd_s.mpr ⟨hv, s2, s3⟩
          obtain ⟨d', hd'⟩ : ∃ d', s + 1 + d' = 3 := ⟨3 - (s + 1), by omega⟩
          have hm1 : (d' + 1) * (rf_ct k + 2) ≤ d * (rf_ct k + 2) := Nat.mul_le_mul_right _ (by omega)
          have hm2 : (d' + 1) * 3 ^ k ≤ d * 3 ^ k := Nat.mul_le_mul_right _ (by omega)
          rw [Nat.succ_mul] at hm1 hm2
          have hlen := rf_er_len (rf_ctx g B t H none) k (s :: r)
          have hef : rf_ef (rf_ctx g B t H none) (rf_er (rf_ctx g B t H none) k) d r = rf_er (rf_ctx g B t H none) k (s :: r) ++ rf_ef (rf_ctx g B t H none) (rf_er (rf_ctx g B t H none) k) d' r := by
            have e1 := rf_ef_skip (K := rf_ctx g B t H none) (R := rf_er (rf_ctx g B t H none) k) (r := r) (s - f) f (by omega) (fun s' a b => s4 s' a (by omega))
            rw [show f + (s - f) = s from by omega, rf_ef_s s2, show 3 - (s + 1) = d' from by omega] at e1
            rw [hfd, e1]
            unfold rf_eb
            rw [if_pos s3]
          refine br_f (nI_ge (b := 3) (by omega) (by decide)) (nm_r (nI_1 r.length) (nm_r (nI_1 tn) ?_))
          have hgo := ih (s :: r) (by rw [List.length_cons]; omega) hv2 (tn + 1) L ut um ue uc ud uw ux ws wo wm we I2 N (by omega) (by omega)
          rw [show 2000001 - (tn + 1) = 2000000 - tn from by omega] at hgo
          refine hgo (fun tn1 x4 ut um ue uc ud uw ux ws wo wm we ht1 I3 N3 => ?_)
          refine br_f (nI_nle (by rw [List.length_cons]; omega) (by rw [List.length_cons]; omega)) (br_f (by decide) (nm_r (pk_m1 r.length) ?_))
          refine rf_take (by omega) hv2 I3 (fun ut wo wm I4 => And.intro (vp_in_nI (by omega) (by omega)) ?_)
          have hsg : ws r.length = nI s := by
            have := I3.2.2.1 r.length (by rw [List.length_cons]; omega)
            rw [rf_dg_l] at this
            exact this
          rw [nI_clamp (by omega : r.length < 2 ^ 31), hsg]
          refine nm_r (nI_1 s) (nm_r (nI_1 tn1) ?_)
          have hgo2 := ihb d' (s + 1) (by omega) hd' (tn1 + 1) (L ++ rf_er (rf_ctx g B t H none) k (s :: r)) ut um ue uc ud uw ux ws wo wm we I4 N3 (by omega) (by rw [List.length_append]; omega)
          rw [show 2000001 - (tn1 + 1) = 2000000 - tn1 from by omega] at hgo2
          refine hgo2 (fun tn2 x4 ut um ue uc ud uw ux ws wo wm we ht2 I5 N5 => C tn2 x4 _ _ _ _ _ _ _ _ _ _ _ (by omega) I5 ?_)
          rw [hef, ← List.append_assoc]
          exact N5
        · rw [eu, nI_eq (by omega) (by omega)]; omega
        · have e1 := rf_ef_skip (K := rf_ctx g B t H none) (R := rf_er (rf_ctx g B t H none) k) (r := r) (3 - f) f (by omega) (fun s' a b => hno s' a (by omega))
          rw [hfd, e1, show 3 - (f + (3 - f)) = 0 from by omega]
          show rf_NI _ n i j (L ++ []) _ _ _ _ _ _ _
          rw [List.append_nil]
          exact N
    intro tn L ut um ue uc ud uw ux ws wo wm we I N ht hL C
    rw [rf_ct_s] at ht C
    rw [Nat.pow_succ] at hL
    refine claim 3 3 0 (by omega) rfl tn L ut um ue uc ud uw ux ws wo wm we I N ht (by omega) (fun tn' x4 ut um ue uc ud uw ux ws wo wm we h1 h2 h3 => C tn' x4 _ _ _ _ _ _ _ _ _ _ _ h1 h2 ?_)
    rw [rf_ef_3] at h3
    exact h3
theorem rf_ex22 {post : SY → Prop} {x1 x2 : Int32} {ut um ue uc ud uw ux : Int32} {ws wo we : Nat → Int32} (h : ∀ wm : Nat → Int32, ∃ n52 : Nat, wY_explore_52 post x1 x2 n52 0 0 1 0 ug ul ut um ue uc ud uw ux wb wh wt ws wo wm we) : ∀ d f p : Nat, p + d = 12 → d < f → ∀ wm : Nat → Int32, wY_explore_22 post x1 x2 ug ul ut um ue uc ud uw ux f (nI p) wb wh wt ws wo wm we := by
  intro d
  induction d with
  | zero =>
    intro f p hp hf wm
    obtain ⟨f, rfl⟩ : ∃ e, f = e + 1 := ⟨f - 1, by omega⟩
    obtain rfl : p = 12 := by omega
    exact br_t (Int32.le_refl _) (h wm)
  | succ d ih =>
    intro f p hp hf wm
    obtain ⟨f, rfl⟩ : ∃ e, f = e + 1 := ⟨f - 1, by omega⟩
    exact br_f (nI_ge (b := 12) (by omega) (by decide)) (And.intro (vp_in_nI (by omega) (by omega)) (nm_e (nm_r (nI_1 p) (ih f (p + 1) (by omega) (by omega) _))))
theorem rf_ct11 : ∀ {k : Nat}, k ≤ 11 → rf_ct k ≤ 531438 ∧ 3 ^ k ≤ 177147 := by
  intro k hk
  have h : ∀ k, k < 12 → rf_ct k ≤ 531438 ∧ 3 ^ k ≤ 177147 := by decide
  exact h k (by omega)
/-- explore: all folds in their order, each noticed once -/
theorem rf_explore {post : SY → Prop} {i j : Nat} {z1 z2 : Int32} {ut um ue uc ud uw ux : Int32} {ws wo wm we : Nat → Int32} (h1 : z1 = nI i) (h2 : z2 = nI j) (E : rf_EY n g B t H ug ul wb wh wt) (hi : i < 11) (hj : j < 11) (hij : i < j → j < n) (h : ∀ (ut um ue uc ud uw ux : Int32) (ws wo wm we : Nat → Int32), rf_NI (rf_ctx g B t H none) n i j (rf_er (rf_ctx g B t H none) n []) um ue uc ud uw ux we → post (ug, ul, ut, um, ue, uc, ud, uw, ux, wb, wh, wt, ws, wo, wm, we)) : wpY_explore post (ug, ul, ut, um, ue, uc, ud, uw, ux, wb, wh, wt, ws, wo, wm, we) z1 z2 := by
  subst h1 h2
  have hn : n ≤ 11 := E.1
  have hct := rf_ct11 hn
  refine ⟨13, rf_ex22 (fun wm => ⟨2000001, ?_⟩) 12 13 0 (by omega) (by omega) wm⟩
  refine rf_ex E hi hj hij n [] (by rw [List.length_nil]; omega) rfl 0 [] _ _ _ _ _ _ _ _ _ _ _ ⟨rfl, trivial, fun q hq => absurd hq (Nat.not_lt_zero _), fun q hq => absurd hq (Nat.not_lt_zero _)⟩ ⟨fun x hx => (nomatch hx), rfl, rfl, fun v hv => (nomatch hv), rfl, fun v hv => (nomatch hv), fun z => absurd rfl z⟩ (by omega) (by rw [List.length_nil]; omega) (fun tn x4 ut um ue uc ud uw ux ws wo wm we ht I N => ?_)
  refine br_t (Int32.le_refl _) (br_t rfl (nm_r (nI_1 tn) ?_))
  rw [show 2000000 - tn = (1999999 - tn) + 1 from by omega]
  exact br_f (nI_ge (b := 2000000) (by omega) (by decide)) (br_t rfl (h _ _ _ _ _ _ _ _ _ _ _ N))
end
end
section
/-! the first best row -/
theorem rf_FB_ex {K : rf_K} : ∀ L : List (List Nat), L ≠ [] → ∃ h, rf_FB K L h := by
  intro L
  induction L with
  | nil => intro z; exact absurd rfl z
  | cons x L ih =>
    intro _
    by_cases hL : L = []
    · rw [hL]
      exact ⟨x, [], [], rfl, fun u hu => (nomatch hu), fun u hu => (nomatch hu)⟩
    · obtain ⟨h, hF⟩ := ih hL
      obtain ⟨hm, hx⟩ := rf_FB_max hF
      by_cases c : rf_acc K h ≤ rf_acc K x
      · exact ⟨x, [], L, rfl, fun u hu => (nomatch hu), fun u hu => Int.le_trans (hx u hu) c⟩
      · obtain ⟨L1, L2, e, f1, f2⟩ := hF
        refine ⟨h, x :: L1, L2, by rw [e]; rfl, fun u hu => ?_, f2⟩
        rcases List.mem_cons.mp hu with z | z
        · rw [z]; omega
        · exact f1 u z
theorem rf_FB_un {K : rf_K} {L : List (List Nat)} {h h' : List Nat} (hF : rf_FB K L h) (hF' : rf_FB K L h') : h = h' := by
  have m := rf_FB_max hF
  have m' := rf_FB_max hF'
  obtain ⟨L1, L2, e, f1, f2⟩ := hF
  obtain ⟨M1, M2, e', g1, g2⟩ := hF'
  rw [e] at e'
  rcases List.append_eq_append_iff.mp e' with ⟨as, h1, h2⟩ | ⟨bs, h1, h2⟩
  · cases as with
    | nil => exact (List.cons.inj h2).1
    | cons u as =>
      have hu : h = u := (List.cons.inj h2).1
      have := g1 h (by rw [h1, hu]; exact List.mem_append_right _ (List.mem_cons_self ..))
      have := m.2 h' m'.1
      omega
  · cases bs with
    | nil => exact (List.cons.inj h2).1.symm
    | cons u bs =>
      have hu : h' = u := (List.cons.inj h2).1
      have := f1 h' (by rw [h1, hu]; exact List.mem_append_right _ (List.mem_cons_self ..))
      have := m'.2 h m.1
      omega
theorem rf_FB_lt {K : rf_K} {n : Nat} {h x : List Nat} (hF : rf_FB K (rf_er K n []) h) (hx : x ∈ rf_er K n []) (he : rf_acc K x = rf_acc K h) : x = h ∨ rf_lt h x := by
  have pw := rf_er_pw K n
  obtain ⟨L1, L2, e, f1, f2⟩ := hF
  rw [e] at hx pw
  rcases List.mem_append.mp hx with hx | hx
  · have := f1 x hx
    omega
  · rcases List.mem_cons.mp hx with hx | hx
    · exact Or.inl hx
    · exact Or.inr ((List.pairwise_cons.mp (List.pairwise_append.mp pw).2.1).1 x hx)
/-- decided up to i, with c at i -/
def rf_di (H : Nat → Nat) (h : List Nat) (i c : Nat) : Nat → Nat := fun p => if p < i then rf_dg h p + 1 else if p = i then c else H p
theorem rf_vd_dg {K : rf_K} : ∀ x : List Nat, rf_vd K x = true → ∀ p, rf_dg x p < 3 := by
  intro x
  induction x with
  | nil => intro _ p; show 0 < 3; omega
  | cons s x ih =>
    intro h p
    obtain ⟨h1, h2, _⟩ := rf_vd_s.mp h
    show (if p = x.length then s else rf_dg x p) < 3
    by_cases e : p = x.length
    · rw [if_pos e]; exact h2
    · rw [if_neg e]; exact ih h1 p
section
variable {n g : Nat} {B t H : Nat → Nat} {h : List Nat}
theorem rf_er_a {a : Nat → Nat} {x : List Nat} (ha : ∀ p, p < n → a p ≤ 3) : x ∈ rf_er (rf_ctx g B t a none) n [] ↔ x.length = n ∧ rf_vd (rf_ctx g B t rf_z0 none) x = true ∧ rf_stk x = [] ∧ ∀ p, p < n → a p = 0 ∨ a p = rf_dg x p + 1 := by
  rw [rf_er_mem]
  constructor
  · intro ⟨h1, h2, h3⟩
    rw [rf_vd_a x (by rw [h1]; exact ha), Bool.and_eq_true, rf_sat_iff, h1] at h2
    exact ⟨h1, h2.1, h3, h2.2⟩
  · intro ⟨h1, h2, h3, h4⟩
    refine ⟨h1, ?_, h3⟩
    rw [rf_vd_a x (by rw [h1]; exact ha), Bool.and_eq_true, rf_sat_iff, h1]
    exact ⟨h2, h4⟩
theorem rf_V_acc {a a' : Nat → Nat} {q : Option (Nat × Nat)} {y : Int × Nat × Nat} (hy : rf_V (rf_ctx g B t a q) 0 0 n = some y) : (∃ x, x ∈ rf_er (rf_ctx g B t a q) n [] ∧ y.1 = rf_acc (rf_ctx g B t a' none) x) ∧ ∀ x, x ∈ rf_er (rf_ctx g B t a q) n [] → rf_acc (rf_ctx g B t a' none) x ≤ y.1 := by
  rw [rf_main2] at hy
  obtain ⟨h1, h2⟩ := rf_sm_some hy
  obtain ⟨x, hx, e⟩ := List.mem_map.mp h1
  refine ⟨⟨x, hx, ?_⟩, fun u hu => ?_⟩
  · rw [← e]; exact rf_acc_K x
  · have := h2 _ (List.mem_map.mpr ⟨u, hu, rfl⟩)
    rw [rf_acc_K (a' := a') (q' := none)] at this
    exact this
theorem rf_V_nn {a : Nat → Nat} {q : Option (Nat × Nat)} {x : List Nat} (hx : x ∈ rf_er (rf_ctx g B t a q) n []) : ∃ y, rf_V (rf_ctx g B t a q) 0 0 n = some y := by
  cases hV : rf_V (rf_ctx g B t a q) 0 0 n with
  | some y => exact ⟨y, rfl⟩
  | none =>
    rw [rf_main2] at hV
    have := rf_sm_none.mp hV
    rw [List.map_eq_nil_iff] at this
    rw [this] at hx
    cases hx
theorem rf_di_3 {i c : Nat} (hH : ∀ j, H j ≤ 3) (hc : c ≤ 3) (hd : ∀ p, rf_dg h p < 3) (p : Nat) : rf_di H h i c p ≤ 3 := by
  have h1 := hd p
  have h2 := hH p
  unfold rf_di
  by_cases e : p < i
  · rw [if_pos e]; omega
  · rw [if_neg e]
    by_cases e2 : p = i
    · rw [if_pos e2]; exact hc
    · rw [if_neg e2]; exact h2
/-- rows of what is decided are rows of what is held -/
theorem rf_di_sub {i c : Nat} {x : List Nat} (hH : ∀ j, H j ≤ 3) (hc : c ≤ 3) (hm : h ∈ rf_er (rf_ctx g B t H none) n []) (hHi : H i = 0) (hx : x ∈ rf_er (rf_ctx g B t (rf_di H h i c) none) n []) : x ∈ rf_er (rf_ctx g B t H none) n [] ∧ (∀ p, p < i → p < n → rf_dg x p = rf_dg h p) ∧ (i < n → c ≠ 0 → rf_dg x i + 1 = c) := by
  have hd := rf_vd_dg h (rf_er_mem.mp hm).2.1
  obtain ⟨h1, h2, h3, h4⟩ := (rf_er_a (fun p _ => rf_di_3 hH hc hd p)).mp hx
  obtain ⟨_, _, _, k4⟩ := (rf_er_a (fun p _ => hH p)).mp hm
  have hlow : ∀ p, p < i → p < n → rf_dg x p = rf_dg h p := by
    intro p hp hn
    have := h4 p hn
    unfold rf_di at this
    rw [if_pos hp] at this
    omega
  refine ⟨(rf_er_a (fun p _ => hH p)).mpr ⟨h1, h2, h3, fun p hp => ?_⟩, hlow, fun hin hc0 => ?_⟩
  · by_cases e : p < i
    · rw [hlow p e hp]; exact k4 p hp
    · by_cases e2 : p = i
      · rw [e2]; exact Or.inl hHi
      · have := h4 p hp
        unfold rf_di at this
        rw [if_neg e, if_neg e2] at this
        exact this
  · have := h4 i hin
    unfold rf_di at this
    rw [if_neg (by omega), if_pos rfl] at this
    omega
theorem rf_di_yes {i c : Nat} (hH : ∀ j, H j ≤ 3) (hi : i < n) (hF : rf_FB (rf_ctx g B t H none) (rf_er (rf_ctx g B t H none) n []) h) (hHi : H i = 0) (hc : rf_dg h i + 1 = c) : ∃ y, rf_V (rf_ctx g B t (rf_di H h i c) none) 0 0 n = some y ∧ y.1 = rf_acc (rf_ctx g B t H none) h := by
  obtain ⟨hm, hx⟩ := rf_FB_max hF
  have hd := rf_vd_dg h (rf_er_mem.mp hm).2.1
  have hc3 : c ≤ 3 := by have := hd i; omega
  obtain ⟨k1, k2, k3, k4⟩ := (rf_er_a (fun p _ => hH p)).mp hm
  have hin : h ∈ rf_er (rf_ctx g B t (rf_di H h i c) none) n [] := by
    refine (rf_er_a (fun p _ => rf_di_3 hH hc3 hd p)).mpr ⟨k1, k2, k3, fun p hp => ?_⟩
    unfold rf_di
    by_cases e : p < i
    · rw [if_pos e]; exact Or.inr rfl
    · rw [if_neg e]
      by_cases e2 : p = i
      · rw [if_pos e2, e2]; exact Or.inr hc.symm
      · rw [if_neg e2]; exact k4 p hp
  obtain ⟨y, hy⟩ := rf_V_nn hin
  obtain ⟨⟨x, x1, x2⟩, x3⟩ := rf_V_acc (a' := H) hy
  refine ⟨y, hy, ?_⟩
  have a1 := x3 h hin
  have a2 := hx x (rf_di_sub hH hc3 hm hHi x1).1
  omega
theorem rf_di_no {i c : Nat} {y : Int × Nat × Nat} (hH : ∀ j, H j ≤ 3) (hi : i < n) (hF : rf_FB (rf_ctx g B t H none) (rf_er (rf_ctx g B t H none) n []) h) (hHi : H i = 0) (hc0 : c ≠ 0) (hc : c < rf_dg h i + 1) (hy : rf_V (rf_ctx g B t (rf_di H h i c) none) 0 0 n = some y) : y.1 ≠ rf_acc (rf_ctx g B t H none) h := by
  intro he
  obtain ⟨hm, hx⟩ := rf_FB_max hF
  have hd := rf_vd_dg h (rf_er_mem.mp hm).2.1
  have hc3 : c ≤ 3 := by have := hd i; omega
  obtain ⟨⟨x, x1, x2⟩, x3⟩ := rf_V_acc (a' := H) hy
  obtain ⟨s1, s2, s3⟩ := rf_di_sub hH hc3 hm hHi x1
  have s4 := s3 hi hc0
  rcases rf_FB_lt hF s1 (by omega) with z | ⟨p, p1, p2⟩
  · rw [z] at s4; omega
  · by_cases e : p < i
    · have := s2 p e (by omega)
      omega
    · by_cases e2 : p = i
      · rw [e2] at p2; omega
      · have := p1 i (by omega)
        omega
end
end
section
/-! the class: deciding the least best fold -/
section
variable {xg xz xs : Int32} {yb yh yt yk yp : Nat → Int32}
variable {n g : Nat} {B t H : Nat → Nat} {h : List Nat}
theorem rf_th2 {post : SX → Prop} {xo xv xb xa : Int32} {p1 p2 p3 n1 n2 n3 : Nat → Int32} (hn : n ≤ 11) (ez : xz = nI n) (hpost : ∀ ya : Nat → Int32, (∀ j, j < n → ya j = yh j) → post (xg, xz, -1, xs, xv, xb, xa, yb, yh, ya, yt, p1, p2, p3, n1, n2, n3, yk, yp)) : ∀ d m i : Nat, i + d = n → d < m → ∀ ya : Nat → Int32, (∀ j, j < i → ya j = yh j) → wX_takeHeld_2 post xg xz xo xs xv xb xa m (nI i) yb yh ya yt p1 p2 p3 n1 n2 n3 yk yp := by
  intro d
  induction d with
  | zero =>
    intro m i hi hm ya hy
    obtain ⟨m, rfl⟩ : ∃ e, m = e + 1 := ⟨m - 1, by omega⟩
    obtain rfl : i = n := by omega
    exact br_t (by rw [ez]; exact Int32.le_refl _) (hpost ya hy)
  | succ d ih =>
    intro m i hi hm ya hy
    obtain ⟨m, rfl⟩ : ∃ e, m = e + 1 := ⟨m - 1, by omega⟩
    have v : vp_in (nI i) 11 := vp_in_nI (by omega) (by omega)
    refine br_f (by rw [ez]; exact nI_ge (by omega) (by omega)) (And.intro v (And.intro v (nm_e (nm_r (nI_1 i) (ih m (i + 1) (by omega) (by omega) _ (fun j hj => ?_))))))
    rw [nI_clamp (by omega)]
    by_cases e : j = i
    · rw [e, pk_us]
    · rw [pk_un e]; exact hy j (by omega)
theorem rf_takeHeld {post : SX → Prop} {xo xv xb xa : Int32} {ya p1 p2 p3 n1 n2 n3 : Nat → Int32} (hn : n ≤ 11) (ez : xz = nI n) (hpost : ∀ ya : Nat → Int32, (∀ j, j < n → ya j = yh j) → post (xg, xz, -1, xs, xv, xb, xa, yb, yh, ya, yt, p1, p2, p3, n1, n2, n3, yk, yp)) : wpX_takeHeld post (xg, xz, xo, xs, xv, xb, xa, yb, yh, ya, yt, p1, p2, p3, n1, n2, n3, yk, yp) :=
  ⟨n + 1, rf_th2 hn ez hpost n (n + 1) 0 (by omega) (by omega) ya (fun j hj => absurd hj (Nat.not_lt_zero _))⟩
/-- the held signs and the numbers, without what is asked -/
def rf_EH (n g : Nat) (B t H : Nat → Nat) (xg xz : Int32) (yb yh yt : Nat → Int32) : Prop :=
  n ≤ 11 ∧ g ≤ 4 ∧ (∀ j, B j ≤ 3) ∧ (∀ j, t j ≤ 20) ∧ (∀ j, H j ≤ 3) ∧ xg = nI g ∧ xz = nI n ∧ (∀ j, yb j = nI (B j)) ∧ (∀ j, yh j = nI (H j)) ∧ (∀ j, yt j = nI (t j))
theorem rf_EH_EX {a : Nat → Nat} {q : Option (Nat × Nat)} {xo : Int32} {ya : Nat → Int32} (E : rf_EH n g B t H xg xz yb yh yt) (ho : rf_fo q xo xs) (ha : ∀ j, j < n → ya j = nI (a j) ∧ a j ≤ 3) : rf_EX n g B t a q xg xz xo xs yb ya yt := by
  obtain ⟨h1, h2, h3, h4, h5, h6, h7, h8, h9, h10⟩ := E
  exact ⟨h1, h2, h3, h4, h6, h7, ho, h8, ha, h10⟩
theorem rf_rs_le {x y : rf_Op} : rf_ra x ≤ 0 ↔ nI (rf_al x) ≤ 0 := Iff.rfl
theorem rf_ra0 {x : rf_Op} (h : rf_al x < 2 ^ 31) : rf_ra x = 0 ↔ rf_al x = 0 := by
  show nI (rf_al x) = nI 0 ↔ _
  exact nI_eq h (by omega)
theorem rf_ral {x : rf_Op} (h : rf_al x < 2 ^ 31) : rf_ra x ≤ 0 ↔ rf_al x = 0 := by
  show nI (rf_al x) ≤ nI 0 ↔ _
  rw [nI_leI h (by omega)]
  omega
theorem rf_d53 {post : Int32 → SX → Prop} {J : rf_JX} {i : Nat} (E : rf_EH n g B t H xg xz yb yh yt) (hi : i < n) (hF : rf_FB (rf_ctx g B t H none) (rf_er (rf_ctx g B t H none) n []) h) (hHi : H i = 0) (hJ : ∀ (xv xb xa : Int32) (ya p1 p2 p3 n1 n2 n3 : Nat → Int32), (∀ p, p < n → ya p = nI (rf_di H h i (rf_dg h i + 1) p)) → J (nI (i + 1)) xg xz (-1) xs xv xb xa yb yh ya yt p1 p2 p3 n1 n2 n3 yk yp) : ∀ e m c : Nat, c + e = rf_dg h i + 1 → c ≠ 0 → e < m → ∀ (xv xb xa : Int32) (ya p1 p2 p3 n1 n2 n3 : Nat → Int32), (∀ p, p < n → p ≠ i → ya p = nI (rf_di H h i 0 p)) → wX_decide_53 post J (rf_oI (rf_acc (rf_ctx g B t H none) h)) (nI i) m (nI c) xg xz (-1) xs xv xb xa yb yh ya yt p1 p2 p3 n1 n2 n3 yk yp := by
  have hn : n ≤ 11 := E.1
  have hH : ∀ j, H j ≤ 3 := E.2.2.2.2.1
  have ht : ∀ j, t j ≤ 20 := E.2.2.2.1
  have ez : xz = nI n := E.2.2.2.2.2.2.1
  obtain ⟨hm0, _⟩ := rf_FB_max hF
  have hd := rf_vd_dg h (rf_er_mem.mp hm0).2.1
  have hdi := hd i
  have hl0 : h.length = n := (rf_er_mem.mp hm0).1
  have hab := rf_acc_b (rf_ctxs (g := g) (B := B) (a := H) (q := none) ht) h
  rw [hl0] at hab
  have vi : vp_in (nI i) 11 := vp_in_nI (by omega) (by omega)
  have ci : (nI i).toNatClampNeg = i := nI_clamp (by omega)
  have hput : ∀ (c : Nat) (ya : Nat → Int32), (∀ p, p < n → p ≠ i → ya p = nI (rf_di H h i 0 p)) → ∀ p, p < n → upd ya i (nI c) p = nI (rf_di H h i c p) := by
    intro c ya hy p hp
    by_cases e : p = i
    · rw [e, pk_us]
      unfold rf_di
      rw [if_neg (by omega), if_pos rfl]
    · rw [pk_un e, hy p hp e]
      unfold rf_di
      by_cases e2 : p < i
      · rw [if_pos e2, if_pos e2]
      · rw [if_neg e2, if_neg e2, if_neg e, if_neg e]
  have hkeep : ∀ (c : Nat) (ya : Nat → Int32), (∀ p, p < n → p ≠ i → ya p = nI (rf_di H h i 0 p)) → ∀ p, p < n → p ≠ i → upd ya i (nI c) p = nI (rf_di H h i 0 p) := by
    intro c ya hy p hp e
    rw [pk_un e]; exact hy p hp e
  have vz : vp_in xz 432 := by rw [ez]; exact vp_in_nI (by omega) (by omega)
  have cz : xz.toNatClampNeg = n := by rw [ez]; exact nI_clamp (by omega)
  intro e
  induction e with
  | zero =>
    intro m c hc hc0 hm xv xb xa ya p1 p2 p3 n1 n2 n3 hy
    obtain ⟨m, rfl⟩ : ∃ e, m = e + 1 := ⟨m - 1, by omega⟩
    have hce : c = rf_dg h i + 1 := by omega
    refine pk_le 3 c (fun c3 => And.intro vi (nm_e (nm_r (nI_1 i) ?_))) (fun c3 => And.intro vi (nm_e ?_))
    · rw [ci, hce]
      exact hJ _ _ _ _ _ _ _ _ _ _ (hput _ ya hy)
    · rw [ci]
      refine rf_solve (rf_EH_EX (a := rf_di H h i c) (q := none) (xo := -1) (xs := xs) E rfl (fun j hj => ⟨hput c ya hy j hj, rf_di_3 hH (by omega) hd j⟩)) (fun xv xb xa p1 p2 p3 n1 n2 n3 e1 e2 e3 => And.intro vz ?_)
      obtain ⟨y, hV, hy1⟩ := rf_di_yes hH hi hF hHi hce.symm
      rw [cz, e3]
      have hal := rf_al_b (K := rf_ctx g B t (rf_di H h i c) none) (l := 0) (i := 0) (j := n) (by omega) (by omega) hn
      have hw := rf_w_V (K := rf_ctx g B t (rf_di H h i c) none) (rf_ctxs ht) (l := 0) (i := 0) (j := n) (by omega) hn
      refine br_f (fun z => ?_) (And.intro vz ?_)
      · have z0 := (rf_ral (by omega)).mp z
        rw [rf_al0 hw z0] at hV
        cases hV
      · rw [e1, hV]
        refine br_t (by show rf_oI y.1 = _; rw [hy1]) (And.intro vi (nm_e (nm_r (nI_1 i) (hJ _ _ _ _ _ _ _ _ _ _ ?_))))
        intro p hp
        have := hput c (upd ya i (nI c)) (hkeep c ya hy) p hp
        rw [this, hce]
  | succ e ih =>
    intro m c hc hc0 hm xv xb xa ya p1 p2 p3 n1 n2 n3 hy
    obtain ⟨m, rfl⟩ : ∃ e, m = e + 1 := ⟨m - 1, by omega⟩
    refine br_f (nI_ge (b := 3) (by omega) (by decide)) (And.intro vi (nm_e ?_))
    rw [ci]
    refine rf_solve (rf_EH_EX (a := rf_di H h i c) (q := none) (xo := -1) (xs := xs) E rfl (fun j hj => ⟨hput c ya hy j hj, rf_di_3 hH (by omega) hd j⟩)) (fun xv xb xa p1 p2 p3 n1 n2 n3 e1 e2 e3 => And.intro vz ?_)
    have hgo := ih m (c + 1) (by omega) (by omega) (by omega) xv xb xa (upd ya i (nI c)) p1 p2 p3 n1 n2 n3 (hkeep c ya hy)
    have hw := rf_w_V (K := rf_ctx g B t (rf_di H h i c) none) (rf_ctxs ht) (l := 0) (i := 0) (j := n) (by omega) hn
    have hal := rf_al_b (K := rf_ctx g B t (rf_di H h i c) none) (l := 0) (i := 0) (j := n) (by omega) (by omega) hn
    rw [cz]
    refine br_c (fun _ => nm_r (nI_1 c) hgo) (fun z => And.intro vz (br_f (fun z2 => ?_) (nm_r (nI_1 c) hgo)))
    rw [e1] at z2
    rw [e3] at z
    cases hV : rf_V (rf_ctx g B t (rf_di H h i c) none) 0 0 n with
    | none =>
      rw [hV] at z
      exact z (by decide)
    | some y =>
      rw [hV] at z2 hw
      obtain ⟨w1, w2, _⟩ := hw
      exact rf_di_no hH hi hF hHi hc0 (by omega) hV ((rf_oI_eq (by omega) (by omega) (by omega) (by omega)).mp z2)
theorem rf_d34 {post : Int32 → SX → Prop} (E : rf_EH n g B t H xg xz yb yh yt) (hF : rf_FB (rf_ctx g B t H none) (rf_er (rf_ctx g B t H none) n []) h) (hpost : ∀ (xv xb xa : Int32) (ya p1 p2 p3 n1 n2 n3 : Nat → Int32), (∀ p, p < n → ya p = nI (rf_dg h p + 1)) → post 1 (xg, xz, -1, xs, xv, xb, xa, yb, yh, ya, yt, p1, p2, p3, n1, n2, n3, yk, yp)) : ∀ d m i : Nat, i + d = n → d < m → ∀ (xv xb xa : Int32) (ya p1 p2 p3 n1 n2 n3 : Nat → Int32), (∀ p, p < n → ya p = nI (if p < i then rf_dg h p + 1 else H p)) → wX_decide_34 post (rf_oI (rf_acc (rf_ctx g B t H none) h)) m (nI i) xg xz (-1) xs xv xb xa yb yh ya yt p1 p2 p3 n1 n2 n3 yk yp := by
  have hn : n ≤ 11 := E.1
  have hH : ∀ j, H j ≤ 3 := E.2.2.2.2.1
  have ez : xz = nI n := E.2.2.2.2.2.2.1
  obtain ⟨hm0, _⟩ := rf_FB_max hF
  obtain ⟨_, _, _, k4⟩ := (rf_er_a (fun p _ => hH p)).mp hm0
  intro d
  induction d with
  | zero =>
    intro m i hi hm xv xb xa ya p1 p2 p3 n1 n2 n3 hy
    obtain ⟨m, rfl⟩ : ∃ e, m = e + 1 := ⟨m - 1, by omega⟩
    obtain rfl : i = n := by omega
    refine br_t (by rw [ez]; exact Int32.le_refl _) (hpost _ _ _ _ _ _ _ _ _ _ (fun p hp => ?_))
    rw [hy p hp, if_pos hp]
  | succ d ih =>
    intro m i hi hm xv xb xa ya p1 p2 p3 n1 n2 n3 hy
    obtain ⟨m, rfl⟩ : ∃ e, m = e + 1 := ⟨m - 1, by omega⟩
    refine br_f (by rw [ez]; exact nI_ge (by omega) (by omega)) (And.intro (vp_in_nI (by omega) (by omega)) ?_)
    rw [nI_clamp (by omega : i < 2 ^ 31), hy i (by omega), if_neg (by omega)]
    refine pk_eq (H i) 0 (fun hz => ⟨4, ?_⟩) (fun hz => nm_r (nI_1 i) ?_) rfl rfl (by have := hH i; omega)
    · have hd := rf_vd_dg h (rf_er_mem.mp hm0).2.1 i
      refine rf_d53 E (by omega) hF hz (fun xv xb xa ya p1 p2 p3 n1 n2 n3 hy2 => ih m (i + 1) (by omega) (by omega) xv xb xa ya p1 p2 p3 n1 n2 n3 (fun p hp => ?_)) (rf_dg h i) 4 1 (by omega) (by omega) (by omega) xv xb xa ya p1 p2 p3 n1 n2 n3 (fun p hp hne => ?_)
      · rw [hy2 p hp]
        unfold rf_di
        by_cases e : p < i
        · rw [if_pos e, if_pos (by omega)]
        · rw [if_neg e]
          by_cases e2 : p = i
          · rw [if_pos e2, if_pos (by omega), e2]
          · rw [if_neg e2, if_neg (by omega)]
      · rw [hy p hp]
        unfold rf_di
        by_cases e : p < i
        · rw [if_pos e, if_pos e]
        · rw [if_neg e, if_neg e, if_neg hne]
    · refine ih m (i + 1) (by omega) (by omega) xv xb xa ya p1 p2 p3 n1 n2 n3 (fun p hp => ?_)
      rw [hy p hp]
      by_cases e : p < i
      · rw [if_pos e, if_pos (by omega)]
      · rw [if_neg e]
        by_cases e2 : p = i
        · rw [if_pos (by omega), e2]
          rcases k4 i (by omega) with z | z
          · exact absurd z hz
          · rw [z]
        · rw [if_neg (by omega)]
theorem rf_decide {post : Int32 → SX → Prop} {xo xv xb xa : Int32} {ya p1 p2 p3 n1 n2 n3 : Nat → Int32} (E : rf_EH n g B t H xg xz yb yh yt) (h0 : rf_er (rf_ctx g B t H none) n [] = [] → ∀ (xv xb xa : Int32) (ya p1 p2 p3 n1 n2 n3 : Nat → Int32), post 0 (xg, xz, -1, xs, xv, xb, xa, yb, yh, ya, yt, p1, p2, p3, n1, n2, n3, yk, yp)) (h1 : ∀ h, rf_FB (rf_ctx g B t H none) (rf_er (rf_ctx g B t H none) n []) h → ∀ (xv xb xa : Int32) (ya p1 p2 p3 n1 n2 n3 : Nat → Int32), (∀ p, p < n → ya p = nI (rf_dg h p + 1)) → post 1 (xg, xz, -1, xs, xv, xb, xa, yb, yh, ya, yt, p1, p2, p3, n1, n2, n3, yk, yp)) : wpX_decide post (xg, xz, xo, xs, xv, xb, xa, yb, yh, ya, yt, p1, p2, p3, n1, n2, n3, yk, yp) := by
  have hn : n ≤ 11 := E.1
  have ht : ∀ j, t j ≤ 20 := E.2.2.2.1
  have hH : ∀ j, H j ≤ 3 := E.2.2.2.2.1
  have ez : xz = nI n := E.2.2.2.2.2.2.1
  have eh : ∀ j, yh j = nI (H j) := E.2.2.2.2.2.2.2.2.1
  have vz : vp_in xz 432 := by rw [ez]; exact vp_in_nI (by omega) (by omega)
  have cz : xz.toNatClampNeg = n := by rw [ez]; exact nI_clamp (by omega)
  have hw := rf_w_V (K := rf_ctx g B t H none) (rf_ctxs ht) (l := 0) (i := 0) (j := n) (by omega) hn
  have hal := rf_al_b (K := rf_ctx g B t H none) (l := 0) (i := 0) (j := n) (by omega) (by omega) hn
  refine rf_takeHeld hn ez (fun ya hya => ?_)
  have hya' : ∀ j, j < n → ya j = nI (H j) ∧ H j ≤ 3 := fun j hj => ⟨by rw [hya j hj, eh], hH j⟩
  refine rf_solve (rf_EH_EX (a := H) (q := none) (xo := -1) (xs := xs) E rfl hya') (fun xv xb xa p1 p2 p3 n1 n2 n3 e1 e2 e3 => And.intro vz ?_)
  rw [cz, e3, e1]
  cases hV : rf_V (rf_ctx g B t H none) 0 0 n with
  | none =>
    refine br_t (by decide) (h0 ?_ _ _ _ _ _ _ _ _ _ _)
    rw [rf_main2] at hV
    exact List.map_eq_nil_iff.mp (rf_sm_none.mp hV)
  | some y =>
    rw [hV] at hw hal
    have hne : rf_er (rf_ctx g B t H none) n [] ≠ [] := by
      intro z
      rw [rf_main2, z] at hV
      cases hV
    obtain ⟨h, hF⟩ := rf_FB_ex (K := rf_ctx g B t H none) _ hne
    have hy1 : y.1 = rf_acc (rf_ctx g B t H none) h := by
      rw [rf_main2] at hV
      exact rf_FB_S hF hV
    refine br_f (fun z => ?_) (And.intro vz (nm_r (e' := rf_oI (rf_acc (rf_ctx g B t H none) h)) (by show rf_oI y.1 = _; rw [hy1]) ⟨n + 1, ?_⟩))
    · have z0 := (rf_ra0 (x := some y) (by omega)).mp z
      have := rf_al0 hw z0
      cases this
    · exact rf_d34 E hF (h1 h hF) n (n + 1) 0 (by omega) (by omega) _ _ _ _ _ _ _ _ _ _ (fun p hp => by rw [if_neg (by omega)]; exact (hya' p hp).1)
theorem rf_bc13 {post : Int32 → SX → Prop} {xo xv xb xa : Int32} {ya p1 p2 p3 n1 n2 n3 : Nat → Int32} {d : Nat → Nat} (hn : n ≤ 11) (ez : xz = nI n) (hy : ∀ p, p < n → ya p = nI (d p + 1)) (hpost : post (rf_cd d n) (xg, xz, xo, xs, xv, xb, xa, yb, yh, ya, yt, p1, p2, p3, n1, n2, n3, yk, yp)) : ∀ e m p : Nat, p + e = n → e < m → wX_bestCode_13 post xg xz xo xs xv xb xa yb yh ya yt p1 p2 p3 n1 n2 n3 yk yp m (rf_cd d p) (nI p) := by
  intro e
  induction e with
  | zero =>
    intro m p hp hm
    obtain ⟨m, rfl⟩ : ∃ e, m = e + 1 := ⟨m - 1, by omega⟩
    obtain rfl : p = n := by omega
    exact br_t (by rw [ez]; exact Int32.le_refl _) hpost
  | succ e ih =>
    intro m p hp hm
    obtain ⟨m, rfl⟩ : ∃ e, m = e + 1 := ⟨m - 1, by omega⟩
    refine br_f (by rw [ez]; exact nI_ge (by omega) (by omega)) (And.intro (vp_in_nI (by omega) (by omega)) ?_)
    rw [nI_clamp (by omega : p < 2 ^ 31), hy p (by omega)]
    refine nm_r (e' := rf_cd d (p + 1)) ?_ (nm_r (nI_1 p) (ih m (p + 1) (by omega) (by omega)))
    show 3 * rf_cd d p + nI (d p + 1) - 1 = 3 * rf_cd d p + nI (d p)
    rw [← nI_1, ← Int32.add_assoc, Int32.add_sub_cancel]
end
end
section
/-! rows from their signs -/
def rf_pre (d : Nat → Nat) : Nat → List Nat
  | 0 => []
  | p + 1 => d p :: rf_pre d p
theorem rf_pre_len (d : Nat → Nat) : ∀ p : Nat, (rf_pre d p).length = p := by
  intro p
  induction p with
  | zero => rfl
  | succ p ih =>
    show (rf_pre d p).length + 1 = p + 1
    rw [ih]
theorem rf_pre_dg (d : Nat → Nat) : ∀ p u : Nat, u < p → rf_dg (rf_pre d p) u = d u := by
  intro p
  induction p with
  | zero => intro u hu; omega
  | succ p ih =>
    intro u hu
    show (if u = (rf_pre d p).length then d p else rf_dg (rf_pre d p) u) = d u
    rw [rf_pre_len]
    by_cases e : u = p
    · rw [if_pos e, e]
    · rw [if_neg e, ih u (by omega)]
theorem rf_pre_h (h : List Nat) : rf_pre (rf_dg h) h.length = h := by
  refine rf_dg_ext _ _ (rf_pre_len _ _) (fun p hp => ?_)
  rw [rf_pre_len] at hp
  exact rf_pre_dg _ _ _ hp
theorem rf_pre_vd {K : rf_K} {d : Nat → Nat} : ∀ e p : Nat, rf_vd K (rf_pre d (p + e)) = true → rf_vd K (rf_pre d p) = true := by
  intro e
  induction e with
  | zero => intro p h; exact h
  | succ e ih =>
    intro p h
    exact ih p (rf_vd_s.mp h).1
theorem rf_mt_val : ∀ (r : List Nat) (u : Nat), r.length < 2 ^ 31 → rf_mt r u = -1 ∨ ∃ v, v < 2 ^ 31 ∧ rf_mt r u = nI v := by
  intro r
  induction r with
  | nil => intro u _; exact Or.inl rfl
  | cons s r ih =>
    intro u hl
    rw [List.length_cons] at hl
    have ih' := ih u (by omega)
    have hfree : upd (rf_mt r) r.length (-1) u = -1 ∨ ∃ v, v < 2 ^ 31 ∧ upd (rf_mt r) r.length (-1) u = nI v := by
      by_cases e : u = r.length
      · rw [e, pk_us]; exact Or.inl rfl
      · rw [pk_un e]; exact ih'
    show (if s = 0 then upd (rf_mt r) r.length (-1) else if s = 1 then upd (rf_mt r) r.length (-1) else rf_mt2 r.length (rf_mt r) (rf_stk r)) u = -1 ∨ ∃ v, v < 2 ^ 31 ∧ (if s = 0 then upd (rf_mt r) r.length (-1) else if s = 1 then upd (rf_mt r) r.length (-1) else rf_mt2 r.length (rf_mt r) (rf_stk r)) u = nI v
    by_cases h0 : s = 0
    · rw [if_pos h0]; exact hfree
    · rw [if_neg h0]
      by_cases h1 : s = 1
      · rw [if_pos h1]; exact hfree
      · rw [if_neg h1]
        cases hst : rf_stk r with
        | nil => exact ih'
        | cons x st =>
          have hx : x.1 < r.length := by
            have := rf_pl_dec r
            rw [rf_stk_pl hst] at this
            exact this.1
          show upd (upd (rf_mt r) x.1 (nI r.length)) r.length (nI x.1) u = -1 ∨ ∃ v, v < 2 ^ 31 ∧ upd (upd (rf_mt r) x.1 (nI r.length)) r.length (nI x.1) u = nI v
          by_cases e : u = r.length
          · rw [e, pk_us]; exact Or.inr ⟨x.1, by omega, rfl⟩
          · rw [pk_un e]
            by_cases e2 : u = x.1
            · rw [e2, pk_us]; exact Or.inr ⟨r.length, by omega, rfl⟩
            · rw [pk_un e2]; exact ih'
def rf_fx (m : Int32) : Int32 := if m = -1 then -2 else m
theorem rf_fx_n {v : Nat} (h : v < 2 ^ 31) : rf_fx (nI v) = nI v := if_neg (fun z => rf_m1n h z.symm)
theorem rf_fx_1 : rf_fx (-1) = -2 := if_pos rfl
/-! the class: partners, asked pairs, codes -/
section
variable {xg xz xo xs xv xb xa : Int32} {yb yh ya yt p1 p2 p3 n1 n2 n3 : Nat → Int32}
variable {n g : Nat} {B t H : Nat → Nat}
theorem rf_pa24 {post : Int32 → SX → Prop} {K : rf_K} {d : Nat → Nat} {u : Nat} (hn : n ≤ 11) (ez : xz = nI n) (hu : u < n) (hv : rf_vd K (rf_pre d n) = true) (hy : ∀ p, p < n → ya p = nI (d p + 1)) (hpost : ∀ yk yp : Nat → Int32, yp u = rf_fx (rf_mt (rf_pre d n) u) → post (yp u) (xg, xz, xo, xs, xv, xb, xa, yb, yh, ya, yt, p1, p2, p3, n1, n2, n3, yk, yp)) : ∀ e m p : Nat, p + e = n → e < m → ∀ yk yp : Nat → Int32, rf_so yk (rf_stk (rf_pre d p)) → (∀ v, v < p → yp v = rf_fx (rf_mt (rf_pre d p) v)) → wX_partner_24 post (nI u) xg xz xo xs xv xb xa m (nI (rf_stk (rf_pre d p)).length) (nI p) yb yh ya yt p1 p2 p3 n1 n2 n3 yk yp := by
  intro e
  induction e with
  | zero =>
    intro m p hp hm yk yp h1 h2
    obtain ⟨m, rfl⟩ : ∃ e, m = e + 1 := ⟨m - 1, by omega⟩
    obtain rfl : p = n := by omega
    refine br_t (by rw [ez]; exact Int32.le_refl _) (And.intro (vp_in_nI (by omega) (by omega)) ?_)
    rw [nI_clamp (by omega : u < 2 ^ 31)]
    exact hpost yk yp (h2 u hu)
  | succ e ih =>
    intro m p hp hm yk yp h1 h2
    obtain ⟨m, rfl⟩ : ∃ e, m = e + 1 := ⟨m - 1, by omega⟩
    have hl := rf_pre_len d p
    have hk := rf_stk_len (rf_pre d p)
    rw [hl] at hk
    have hvp : rf_vd K (d p :: rf_pre d p) = true := rf_pre_vd e (p + 1) (by rw [show p + 1 + e = n from by omega]; exact hv)
    obtain ⟨v1, v2, v3⟩ := rf_vd_s.mp hvp
    have v : vp_in (nI p) 11 := vp_in_nI (by omega) (by omega)
    have cp : (nI p).toNatClampNeg = p := nI_clamp (by omega)
    refine br_f (by rw [ez]; exact nI_ge (by omega) (by omega)) (And.intro v (nm_e (And.intro v ?_)))
    rw [cp, hy p (by omega)]
    have hgo := ih m (p + 1) (by omega) (by omega)
    obtain hs | hs | hs : d p = 0 ∨ d p = 1 ∨ d p = 2 := by omega
    · have e1 : rf_pre d (p + 1) = 0 :: rf_pre d p := by show d p :: rf_pre d p = _; rw [hs]
      rw [e1, rf_stk_0, rf_mt_0, hl] at hgo
      rw [hs]
      refine br_f (by decide) (And.intro v ?_)
      refine br_f (by decide) (nm_r (nI_1 p) (hgo yk _ h1 (fun w hw => ?_)))
      by_cases c : w = p
      · rw [c, pk_us, pk_us, rf_fx_1]
      · rw [pk_un c, pk_un c]; exact h2 w (by omega)
    · have e1 : rf_pre d (p + 1) = 1 :: rf_pre d p := by show d p :: rf_pre d p = _; rw [hs]
      rw [e1, rf_stk_1, rf_mt_1, hl] at hgo
      rw [hs]
      refine br_t rfl (And.intro (vp_in_nI (by omega) (by omega)) (nm_e (nm_r (nI_1 _) (nm_r (nI_1 p) (hgo _ _ ?_ (fun w hw => ?_))))))
      · rw [nI_clamp (by omega : (rf_stk (rf_pre d p)).length < 2 ^ 31)]
        exact ⟨pk_us, rf_so_u h1 (Nat.le_refl _)⟩
      · by_cases c : w = p
        · rw [c, pk_us, pk_us, rf_fx_1]
        · rw [pk_un c, pk_un c]; exact h2 w (by omega)
    · have e1 : rf_pre d (p + 1) = 2 :: rf_pre d p := by show d p :: rf_pre d p = _; rw [hs]
      rw [hs] at v3
      obtain ⟨x, st, hst, _⟩ := rf_ok2s v3
      have hx : x.1 < p := by
        have := rf_pl_dec (rf_pre d p)
        rw [rf_stk_pl hst, hl] at this
        exact this.1
      rw [e1, rf_stk_2 hst, rf_mt_2 hst, hl, rf_inc_len] at hgo
      rw [hst] at h1 hk
      rw [List.length_cons] at hk
      rw [hst, hs]
      refine br_f (by decide) (And.intro v ?_)
      have vs : vp_in (nI st.length) 11 := vp_in_nI (by omega) (by omega)
      refine br_t rfl (nm_r (pk_m1 st.length) (And.intro vs (And.intro v (nm_e (And.intro vs ?_)))))
      rw [nI_clamp (by omega : st.length < 2 ^ 31), h1.1]
      refine And.intro (vp_in_nI (by omega) (by omega)) (nm_e (nm_r (nI_1 p) ?_))
      rw [nI_clamp (by omega : x.1 < 2 ^ 31)]
      refine hgo yk _ (rf_so_i h1.2) (fun w hw => ?_)
      by_cases c2 : w = x.1
      · rw [c2, pk_us, pk_un (by omega), pk_us, rf_fx_n (by omega)]
      · rw [pk_un c2]
        by_cases c : w = p
        · rw [c, pk_us, pk_us, rf_fx_n (by omega)]
        · rw [pk_un c, pk_un c, pk_un c, pk_un c2]; exact h2 w (by omega)
end
theorem rf_pl_H {g : Nat} {B t H : Nat → Nat} {i : Nat} : ∀ r : List Nat, rf_vd (rf_ctx g B t H none) r = true → i ∈ rf_pl r → H i = 0 ∨ H i = 2 := by
  intro r
  induction r with
  | nil => intro _ h; cases h
  | cons s r ih =>
    intro hv h
    obtain ⟨v1, v2, v3⟩ := rf_vd_s.mp hv
    obtain rfl | rfl | rfl : s = 0 ∨ s = 1 ∨ s = 2 := by omega
    · exact ih v1 h
    · rw [rf_pl_1] at h
      rcases List.mem_cons.mp h with e | e
      · rw [e]; exact rf_ok1.mp v3
      · exact ih v1 e
    · rw [rf_pl_2 r (by omega) (by omega)] at h
      exact ih v1 (List.mem_of_mem_tail h)
theorem rf_hp_H {g : Nat} {B t H : Nat → Nat} {i j : Nat} : ∀ r : List Nat, rf_vd (rf_ctx g B t H none) r = true → rf_hp i j r = true → (H i = 0 ∨ H i = 2) ∧ (H j = 0 ∨ H j = 3) := by
  intro r
  induction r with
  | nil => intro _ h; cases h
  | cons s r ih =>
    intro hv h
    obtain ⟨v1, v2, v3⟩ := rf_vd_s.mp hv
    rcases rf_hp_s.mp h with h | ⟨h1, h2, h3⟩
    · exact ih v1 h
    · subst h1
      cases hst : rf_stk r with
      | nil => rw [hst] at v3; cases v3
      | cons x st =>
        rw [hst] at v3
        rw [rf_stk_pl hst] at h3
        have e : x.1 = i := Option.some.inj h3
        refine ⟨rf_pl_H r v1 ?_, ?_⟩
        · rw [rf_stk_pl hst, e]; exact List.mem_cons_self ..
        · rw [← h2]; exact (rf_ok2c.mp v3).1
section
variable {xg xz : Int32} {yb yh yt yk yp : Nat → Int32}
variable {n g : Nat} {B t H : Nat → Nat}
theorem rf_pq_f {i j : Nat} (hn : n ≤ 11) (hij : i < j) (hj : j < n) : (rf_er (rf_ctx g B t H none) n []).filter (rf_pq i j) = (rf_er (rf_ctx g B t H none) n []).filter (rf_hp i j) := by
  refine List.filter_congr (fun x hx => ?_)
  obtain ⟨h1, h2, h3⟩ := rf_er_mem.mp hx
  have := rf_mt_hp hij (by omega) x (by omega) (rf_vd_lt x h2)
  rw [Bool.eq_iff_iff]
  show (decide (i < j) && decide (rf_mt x i = nI j)) = true ↔ _
  rw [Bool.and_eq_true, decide_eq_true_eq, decide_eq_true_eq, this]
  exact ⟨fun z => z.2, fun z => ⟨hij, z⟩⟩
theorem rf_pq_n {i j : Nat} (hij : j ≤ i) (L : List (List Nat)) : L.filter (rf_pq i j) = [] := by
  refine List.filter_eq_nil_iff.mpr (fun x _ hx => ?_)
  have h : (decide (i < j) && decide (rf_mt x i = nI j)) = true := hx
  rw [Bool.and_eq_true, decide_eq_true_eq] at h
  omega
theorem rf_solveWith {post : Int32 → SX → Prop} {xo xs xv xb xa : Int32} {ya p1 p2 p3 n1 n2 n3 : Nat → Int32} {i j : Nat} (E : rf_EH n g B t H xg xz yb yh yt) (hi : i < n) (hj : j < n) (h0 : rf_S (rf_ctx g B t H none) ((rf_er (rf_ctx g B t H none) n []).filter (rf_pq i j)) = none → ∀ (xo xs xv xb xa : Int32) (ya p1 p2 p3 n1 n2 n3 : Nat → Int32), post 0 (xg, xz, xo, xs, xv, xb, xa, yb, yh, ya, yt, p1, p2, p3, n1, n2, n3, yk, yp)) (h1 : ∀ y, rf_S (rf_ctx g B t H none) ((rf_er (rf_ctx g B t H none) n []).filter (rf_pq i j)) = some y → ∀ (xo xs xv xb xa : Int32) (ya p1 p2 p3 n1 n2 n3 : Nat → Int32), n1 n = rf_oI y.1 → n3 n = nI y.2.2 → post 1 (xg, xz, xo, xs, xv, xb, xa, yb, yh, ya, yt, p1, p2, p3, n1, n2, n3, yk, yp)) : wpX_solveWith post (xg, xz, xo, xs, xv, xb, xa, yb, yh, ya, yt, p1, p2, p3, n1, n2, n3, yk, yp) (nI i) (nI j) := by
  have hn : n ≤ 11 := E.1
  have ht : ∀ j, t j ≤ 20 := E.2.2.2.1
  have hH : ∀ j, H j ≤ 3 := E.2.2.2.2.1
  have ez : xz = nI n := E.2.2.2.2.2.2.1
  have eh : ∀ j, yh j = nI (H j) := E.2.2.2.2.2.2.2.2.1
  have vz : vp_in xz 432 := by rw [ez]; exact vp_in_nI (by omega) (by omega)
  have cz : xz.toNatClampNeg = n := by rw [ez]; exact nI_clamp (by omega)
  have vi : vp_in (nI i) 11 := vp_in_nI (by omega) (by omega)
  have vj : vp_in (nI j) 11 := vp_in_nI (by omega) (by omega)
  have ci : (nI i).toNatClampNeg = i := nI_clamp (by omega)
  have cj : (nI j).toNatClampNeg = j := nI_clamp (by omega)
  refine rf_takeHeld hn ez (fun ya hya => ?_)
  refine pk_le j i (fun c => h0 ?_ _ _ _ _ _ _ _ _ _ _ _ _) (fun c => And.intro vi ?_)
  · rw [rf_pq_n c]; rfl
  have hbad : ¬ ((H i = 0 ∨ H i = 2) ∧ (H j = 0 ∨ H j = 3)) → rf_S (rf_ctx g B t H none) ((rf_er (rf_ctx g B t H none) n []).filter (rf_pq i j)) = none := by
    intro hb
    rw [rf_pq_f hn c hj]
    have : (rf_er (rf_ctx g B t H none) n []).filter (rf_hp i j) = [] := List.filter_eq_nil_iff.mpr (fun x hx hp => hb (rf_hp_H x (rf_er_mem.mp hx).2.1 hp))
    rw [this]; rfl
  have h49 : (H i = 0 ∨ H i = 2) → (H j = 0 ∨ H j = 3) → wX_solveWith_49 post (nI i) (nI j) xg xz (-1) xs xv xb xa yb yh ya yt p1 p2 p3 n1 n2 n3 yk yp := by
    intro hHi hHj
    refine And.intro vi (nm_e (And.intro vj (nm_e ?_)))
    rw [ci, cj]
    have ea : ∀ p, p < n → upd (upd ya i 2) j 3 p = nI (rf_h2 H i j p) ∧ rf_h2 H i j p ≤ 3 := by
      intro p hp
      unfold rf_h2
      by_cases e : p = j
      · rw [if_pos e, e, pk_us]; exact ⟨rfl, by omega⟩
      · rw [if_neg e, pk_un e]
        by_cases e2 : p = i
        · rw [if_pos e2, e2, pk_us]; exact ⟨rfl, by omega⟩
        · rw [if_neg e2, pk_un e2, hya p hp, eh]; exact ⟨rfl, hH p⟩
    refine rf_solve (rf_EH_EX (a := rf_h2 H i j) (q := some (i, j)) (xo := nI i) (xs := nI j) E ⟨rfl, rfl, by show i < 2 ^ 31; omega, by show j < 2 ^ 31; omega⟩ ea) (fun xv xb xa p1 p2 p3 n1 n2 n3 e1 e2 e3 => And.intro vz ?_)
    have hV : rf_V (rf_ctx g B t (rf_h2 H i j) (some (i, j))) 0 0 n = rf_S (rf_ctx g B t H none) ((rf_er (rf_ctx g B t H none) n []).filter (rf_pq i j)) := by
      rw [rf_main2, rf_er_f c hj hHi hHj, rf_pq_f hn c hj]
      unfold rf_S
      exact congrArg rf_sm (List.map_congr_left (fun x _ => rf_acc_K x))
    have hw := rf_w_V (K := rf_ctx g B t (rf_h2 H i j) (some (i, j))) (rf_ctxs ht) (l := 0) (i := 0) (j := n) (by omega) hn
    have hal := rf_al_b (K := rf_ctx g B t (rf_h2 H i j) (some (i, j))) (l := 0) (i := 0) (j := n) (by omega) (by omega) hn
    rw [hV] at e1 e2 e3 hw hal
    rw [cz]
    cases hS : rf_S (rf_ctx g B t H none) ((rf_er (rf_ctx g B t H none) n []).filter (rf_pq i j)) with
    | none =>
      rw [hS] at e3
      refine br_t (by rw [e3]; decide) (h0 hS _ _ _ _ _ _ _ _ _ _ _ _)
    | some y =>
      rw [hS] at e1 e3 hw hal
      refine br_f (fun z => ?_) (h1 y hS _ _ _ _ _ _ _ _ _ _ _ _ e1 e3)
      rw [e3] at z
      have := rf_al0 hw ((rf_ral (by omega)).mp z)
      cases this
  have h28 : (H i = 0 ∨ H i = 2) → wX_solveWith_28 post (nI i) (nI j) xg xz (-1) xs xv xb xa yb yh ya yt p1 p2 p3 n1 n2 n3 yk yp := by
    intro hHi
    refine And.intro vj ?_
    rw [cj, eh]
    refine pk_eq (H j) 0 (fun z => h49 hHi (Or.inl z)) (fun z => And.intro vj ?_) rfl rfl (by have := hH j; omega)
    exact pk_eq (H j) 3 (fun w => h49 hHi (Or.inr w)) (fun w => h0 (hbad (fun b => by omega)) _ _ _ _ _ _ _ _ _ _ _ _) rfl rfl (by have := hH j; omega)
  rw [ci, eh]
  refine pk_eq (H i) 0 (fun z => h28 (Or.inl z)) (fun z => And.intro vi ?_) rfl rfl (by have := hH i; omega)
  exact pk_eq (H i) 2 (fun w => h28 (Or.inr w)) (fun w => h0 (hbad (fun b => by omega)) _ _ _ _ _ _ _ _ _ _ _ _) rfl rfl (by have := hH i; omega)
end
end
section
/-! the score of a code -/
def rf_D (n c p : Nat) : Nat := c / 3 ^ (n - 1 - p) % 3
def rf_sr (g : Nat) (B t : Nat → Nat) (n c : Nat) : Int32 := if (rf_vd (rf_ctx g B t rf_z0 none) (rf_pre (rf_D n c) n) && (rf_stk (rf_pre (rf_D n c) n)).isEmpty) = true then rf_oI (rf_acc (rf_ctx g B t rf_z0 none) (rf_pre (rf_D n c) n)) else -1000
theorem rf_D3 (n c p : Nat) : rf_D n c p < 3 := Nat.mod_lt _ (by omega)
theorem rf_sr_V {g : Nat} {B t : Nat → Nat} {n c : Nat} : (∀ y, rf_V (rf_ctx g B t (fun p => rf_D n c p + 1) none) 0 0 n = some y → rf_oI y.1 = rf_sr g B t n c) ∧ (rf_V (rf_ctx g B t (fun p => rf_D n c p + 1) none) 0 0 n = none → rf_sr g B t n c = -1000) := by
  have ha : ∀ p, p < n → (fun p => rf_D n c p + 1) p ≤ 3 := fun p _ => by have := rf_D3 n c p; show rf_D n c p + 1 ≤ 3; omega
  constructor
  · intro y hy
    obtain ⟨⟨z, z1, z2⟩, _⟩ := rf_V_acc (a' := rf_z0) hy
    obtain ⟨l1, l2, l3, l4⟩ := (rf_er_a ha).mp z1
    have ez : z = rf_pre (rf_D n c) n := by
      refine rf_dg_ext _ _ (by rw [l1, rf_pre_len]) (fun p hp => ?_)
      rw [l1] at hp
      rw [rf_pre_dg _ _ _ hp]
      rcases l4 p hp with w | w
      · cases w
      · exact (Nat.succ.inj w).symm
    unfold rf_sr
    rw [← ez, l2, l3, z2]
    rfl
  · intro hN
    unfold rf_sr
    by_cases hc : (rf_vd (rf_ctx g B t rf_z0 none) (rf_pre (rf_D n c) n) && (rf_stk (rf_pre (rf_D n c) n)).isEmpty) = true
    · rw [Bool.and_eq_true, List.isEmpty_iff] at hc
      have hin : rf_pre (rf_D n c) n ∈ rf_er (rf_ctx g B t (fun p => rf_D n c p + 1) none) n [] := (rf_er_a ha).mpr ⟨rf_pre_len _ _, hc.1, hc.2, fun p hp => Or.inr (by show rf_D n c p + 1 = _; rw [rf_pre_dg _ _ _ hp])⟩
      obtain ⟨y, hy⟩ := rf_V_nn hin
      rw [hN] at hy
      cases hy
    · rw [if_neg hc]
theorem rf_r3 {a : Nat} (h : a < 2 ^ 31) : (nI a - nI a / 3 * 3) + 1 = nI (a % 3 + 1) := by
  show (nI a - nI a / nI 3 * nI 3) + 1 = _
  rw [pk_rem h (by omega) (by omega), nI_1]
theorem rf_d3 {a : Nat} (h : a < 2 ^ 31) : nI a / 3 = nI (a / 3) := by
  show nI a / nI 3 = _
  exact pk_div h (by omega) (by omega)
theorem rf_3n {k : Nat} (h : k ≤ 11) : 3 ^ k ≤ 177147 := (rf_ct11 h).2
section
variable {xg xz xo xs xv xb xa : Int32} {yb yh yt p1 p2 p3 n1 n2 n3 yk yp : Nat → Int32}
variable {n g : Nat} {B t H : Nat → Nat}
theorem rf_xs45 {post : Int32 → SX → Prop} {c : Nat} (E : rf_EH n g B t H xg xz yb yh yt) (hc : c < 3 ^ n) (hpost : ∀ (xo xs xv xb xa : Int32) (ya p1 p2 p3 n1 n2 n3 : Nat → Int32), post (rf_sr g B t n c) (xg, xz, xo, xs, xv, xb, xa, yb, yh, ya, yt, p1, p2, p3, n1, n2, n3, yk, yp)) : ∀ k m : Nat, k ≤ n → k < m → ∀ ya : Nat → Int32, (∀ p, k ≤ p → p < n → ya p = nI (rf_D n c p + 1)) → wX_scoreOf_45 post xg xz xo xs xv xb xa m (nI (c / 3 ^ (n - k))) (rf_oI ((k : Int) - 1)) yb yh ya yt p1 p2 p3 n1 n2 n3 yk yp := by
  have hn : n ≤ 11 := E.1
  have ht : ∀ j, t j ≤ 20 := E.2.2.2.1
  have ez : xz = nI n := E.2.2.2.2.2.2.1
  have vz : vp_in xz 432 := by rw [ez]; exact vp_in_nI (by omega) (by omega)
  have cz : xz.toNatClampNeg = n := by rw [ez]; exact nI_clamp (by omega)
  have h3 := rf_3n hn
  intro k
  induction k with
  | zero =>
    intro m hk hm ya hy
    obtain ⟨m, rfl⟩ : ∃ e, m = e + 1 := ⟨m - 1, by omega⟩
    refine br_t (by decide) ?_
    refine rf_solve (rf_EH_EX (a := fun p => rf_D n c p + 1) (q := none) (xo := -1) (xs := xs) E rfl (fun j hj => ⟨hy j (by omega) hj, by have := rf_D3 n c j; show rf_D n c j + 1 ≤ 3; omega⟩)) (fun xv xb xa p1 p2 p3 n1 n2 n3 e1 e2 e3 => And.intro vz ?_)
    rw [cz, e3, e1]
    have hw := rf_w_V (K := rf_ctx g B t (fun p => rf_D n c p + 1) none) (rf_ctxs ht) (l := 0) (i := 0) (j := n) (by omega) hn
    have hal := rf_al_b (K := rf_ctx g B t (fun p => rf_D n c p + 1) none) (l := 0) (i := 0) (j := n) (by omega) (by omega) hn
    obtain ⟨s1, s2⟩ := rf_sr_V (g := g) (B := B) (t := t) (n := n) (c := c)
    cases hV : rf_V (rf_ctx g B t (fun p => rf_D n c p + 1) none) 0 0 n with
    | none =>
      rw [s2 hV] at hpost
      exact br_t (by decide) (hpost _ _ _ _ _ _ _ _ _ _ _ _)
    | some y =>
      rw [hV] at hw hal
      rw [← s1 y hV] at hpost
      refine br_f (fun z => ?_) (And.intro vz (hpost _ _ _ _ _ _ _ _ _ _ _ _))
      have := rf_al0 hw ((rf_ra0 (by omega)).mp z)
      cases this
  | succ k ih =>
    intro m hk hm ya hy
    obtain ⟨m, rfl⟩ : ∃ e, m = e + 1 := ⟨m - 1, by omega⟩
    have e : rf_oI (((k + 1 : Nat) : Int) - 1) = nI k := by
      rw [← rf_oI_nI]
      exact congrArg rf_oI (by omega)
    have hb : c / 3 ^ (n - (k + 1)) < 2 ^ 31 := Nat.lt_of_le_of_lt (Nat.div_le_self _ _) (by omega)
    rw [e]
    refine br_f (nI_pos (by omega)) (And.intro (by decide) (And.intro (vp_in_nI (by omega) (by omega)) (nm_e (And.intro (by decide) (nm_r (e' := nI (c / 3 ^ (n - k))) ?_ (nm_r (e' := rf_oI ((k : Int) - 1)) ?_ (ih m (by omega) (by omega) _ (fun p p1 p2 => ?_))))))))
    · rw [rf_d3 hb, Nat.div_div_eq_div_mul, ← Nat.pow_succ, show (n - (k + 1)).succ = n - k from by omega]
    · rw [Int.sub_eq_add_neg, rf_oI_add, rf_oI_nI]
      rfl
    · rw [nI_clamp (by omega), rf_r3 hb]
      by_cases c2 : p = k
      · rw [c2, pk_us]
        unfold rf_D
        rw [show n - 1 - k = n - (k + 1) from by omega]
      · rw [pk_un c2]; exact hy p (by omega) p2
theorem rf_xs4 {post : Int32 → SX → Prop} {ya : Nat → Int32} {v1 : Int32} (E : rf_EH n g B t H xg xz yb yh yt) (h0 : (v1 < 0 ∨ nI (3 ^ n) ≤ v1) → post (-1000) (xg, xz, xo, xs, xv, xb, xa, yb, yh, ya, yt, p1, p2, p3, n1, n2, n3, yk, yp)) (h1 : ∀ c, c < 3 ^ n → v1 = nI c → ∀ (xo xs xv xb xa : Int32) (ya p1 p2 p3 n1 n2 n3 : Nat → Int32), post (rf_sr g B t n c) (xg, xz, xo, xs, xv, xb, xa, yb, yh, ya, yt, p1, p2, p3, n1, n2, n3, yk, yp)) : ∀ d m p : Nat, p + d = n → d < m → wX_scoreOf_4 post v1 xg xz xo xs xv xb xa yb yh ya yt p1 p2 p3 n1 n2 n3 yk yp m (nI (3 ^ p)) (nI p) := by
  have hn : n ≤ 11 := E.1
  have ez : xz = nI n := E.2.2.2.2.2.2.1
  have h3 := rf_3n hn
  intro d
  induction d with
  | zero =>
    intro m p hp hm
    obtain ⟨m, rfl⟩ : ∃ e, m = e + 1 := ⟨m - 1, by omega⟩
    obtain rfl : p = n := by omega
    refine br_t (by rw [ez]; exact Int32.le_refl _) ?_
    rcases pk_ix v1 (n := 3 ^ p) (by omega) with z | z | ⟨c, hc, rfl⟩
    · exact br_t z (h0 (Or.inl z))
    · refine br_f (fun w => ?_) (br_f (Int32.not_lt.mpr z) (h0 (Or.inr z)))
      have : nI (3 ^ p) < 0 := Int32.lt_of_le_of_lt z w
      exact nI_pos (by omega) this
    · refine br_f (nI_pos (by omega)) (br_t (nI_lt hc (by omega)) (nm_r (e' := rf_oI ((p : Int) - 1)) ?_ ⟨p + 1, ?_⟩))
      · rw [ez, rf_oI_sub, rf_oI_nI]
        rfl
      · have hgo := rf_xs45 (xo := xo) (xs := xs) (xv := xv) (xb := xb) (xa := xa) (p1 := p1) (p2 := p2) (p3 := p3) (n1 := n1) (n2 := n2) (n3 := n3) (yk := yk) (yp := yp) E hc (h1 c hc rfl) p (p + 1) (Nat.le_refl _) (by omega) ya (fun q q1 q2 => by omega)
        rw [Nat.sub_self, Nat.pow_zero, Nat.div_one] at hgo
        exact hgo
  | succ d ih =>
    intro m p hp hm
    obtain ⟨m, rfl⟩ : ∃ e, m = e + 1 := ⟨m - 1, by omega⟩
    refine br_f (by rw [ez]; exact nI_ge (by omega) (by omega)) (nm_r (e' := nI (3 ^ (p + 1))) ?_ (nm_r (nI_1 p) (ih m (p + 1) (by omega) (by omega))))
    show nI (3 ^ p) * nI 3 = _
    rw [pk_mul, Nat.pow_succ]
end
section
variable {ug ul ut um ue uc ud uw ux : Int32} {wb wh wt ws wo wm we : Nat → Int32}
variable {n g : Nat} {B t H : Nat → Nat}
theorem rf_ys107 {post : Int32 → SY → Prop} {c : Nat} (E : rf_EY n g B t H ug ul wb wh wt) (hv : rf_vd (rf_ctx g B t rf_z0 none) (rf_pre (rf_D n c) n) = true) (I : rf_YI (rf_pre (rf_D n c) n) ut ws wo wm) (hpost : post (rf_sr g B t n c) (ug, ul, ut, um, ue, uc, ud, uw, ux, wb, wh, wt, ws, wo, wm, we)) : wY_scoreOf_107 post ug ul ut um ue uc ud uw ux wb wh wt ws wo wm we := by
  have hn : n ≤ 11 := E.1
  have hl := rf_pre_len (rf_D n c) n
  obtain ⟨i1, i2, i3, i4⟩ := I
  rw [hl] at i4
  have hk := rf_stk_len (rf_pre (rf_D n c) n)
  rw [hl] at hk
  unfold rf_sr at hpost
  rw [hv, Bool.true_and] at hpost
  cases hst : rf_stk (rf_pre (rf_D n c) n) with
  | nil =>
    rw [hst] at i1 hpost
    refine br_t i1 ?_
    exact rf_score (a := rf_z0) E hl hv i4 hpost
  | cons x st =>
    rw [hst] at i1 hpost hk
    rw [List.length_cons] at i1 hk
    exact br_f (by rw [i1]; exact nI_ne0 (by omega) (by omega)) hpost
theorem rf_ys45 {post : Int32 → SY → Prop} {c : Nat} (E : rf_EY n g B t H ug ul wb wh wt) (hc : c < 3 ^ n) (hpost : ∀ (ut : Int32) (ws wo wm : Nat → Int32), post (rf_sr g B t n c) (ug, ul, ut, um, ue, uc, ud, uw, ux, wb, wh, wt, ws, wo, wm, we)) : ∀ d m p : Nat, p + d = n → d < m → ∀ (ut : Int32) (ws wo wm : Nat → Int32), rf_vd (rf_ctx g B t rf_z0 none) (rf_pre (rf_D n c) p) = true → rf_YI (rf_pre (rf_D n c) p) ut ws wo wm → wY_scoreOf_45 post m (nI (3 ^ (n - p))) (nI (c % 3 ^ (n - p))) (nI p) ug ul ut um ue uc ud uw ux wb wh wt ws wo wm we := by
  have hn : n ≤ 11 := E.1
  have eu : ul = nI n := E.2.2.2.2.2.2.1
  have h3 := rf_3n hn
  intro d
  induction d with
  | zero =>
    intro m p hp hm ut ws wo wm hv I
    obtain ⟨m, rfl⟩ : ∃ e, m = e + 1 := ⟨m - 1, by omega⟩
    obtain rfl : p = n := by omega
    exact br_t (by rw [eu]; exact Int32.le_refl _) (rf_ys107 E hv I (hpost _ _ _ _))
  | succ d ih =>
    intro m p hp hm ut ws wo wm hv I
    obtain ⟨m, rfl⟩ : ∃ e, m = e + 1 := ⟨m - 1, by omega⟩
    have hl := rf_pre_len (rf_D n c) p
    have hM : 3 ^ (n - (p + 1)) ≤ 177147 := rf_3n (by omega)
    have hM0 : 0 < 3 ^ (n - (p + 1)) := Nat.pow_pos (by omega)
    have eM : 3 ^ (n - p) = 3 ^ (n - (p + 1)) * 3 := by rw [← Nat.pow_succ, show (n - (p + 1)).succ = n - p from by omega]
    rw [eM]
    generalize hMe : 3 ^ (n - (p + 1)) = M at *
    have hrest : c % (M * 3) < M * 3 := Nat.mod_lt _ (by omega)
    have hdig : c % (M * 3) / M = rf_D n c p := by
      unfold rf_D
      rw [Nat.mod_mul_right_div_self, show n - 1 - p = n - (p + 1) from by omega, hMe]
    refine br_f (by rw [eu]; exact nI_ge (by omega) (by omega)) (br_f (nI_ge (b := 11) (by omega) (by decide)) (And.intro (by decide) (nm_r (e' := nI M) ?_ (br_t ?_ (And.intro ?_ ?_)))))
    · rw [rf_d3 (by omega), Nat.mul_div_cancel _ (by omega : 0 < 3)]
    · exact nI_le (a := 1) (by omega) (by omega)
    · exact nI_ne0 (by omega) (by omega)
    · rw [pk_div (by omega) hM0 (by omega), hdig]
      have hput := rf_put (r := rf_pre (rf_D n c) p) (s := rf_D n c p) (post := fun r_28 u => match u with | (ug', ul', ut', um', ue', uc', ud', uw', ux', wb', wh', wt', ws', wo', wm', we') => ((r_28 = 0 → post (-1000) (ug', ul', ut', um', ue', uc', ud', uw', ux', wb', wh', wt', ws', wo', wm', we')) ∧ (¬ r_28 = 0 → ∀ x3_46 : Int32, x3_46 = nI (c % (M * 3)) - (nI (rf_D n c p) * nI M) → ∀ x4_47 : Int32, x4_47 = nI p + 1 → wY_scoreOf_45 post m (nI M) x3_46 x4_47 ug' ul' ut' um' ue' uc' ud' uw' ux' wb' wh' wt' ws' wo' wm' we'))) (ug := ug) (ul := ul) (ut := ut) (um := um) (ue := ue) (uc := uc) (ud := ud) (uw := uw) (ux := ux) (wb := wb) (wh := wh) (wt := wt) (ws := ws) (wo := wo) (wm := wm) (we := we) E I (by rw [hl]; omega) (rf_D3 n c p) ?_ ?_
      · rw [hl] at hput
        exact hput
      · intro ho ut ws wo wm I2
        refine br_f (by decide) (nm_r (e' := nI (c % M)) ?_ (nm_r (nI_1 p) ?_))
        · have hle : rf_D n c p * M ≤ c % (M * 3) := by rw [← hdig]; exact Nat.div_mul_le_self _ _
          rw [pk_mul, pk_sub hle, ← hdig]
          refine congrArg nI ?_
          have h1 := Nat.div_add_mod' (c % (M * 3)) M
          have h2 : c % (M * 3) % M = c % M := Nat.mod_mul_right_mod c M 3
          omega
        · have := ih m (p + 1) (by omega) (by omega) ut ws wo wm (rf_vd_s.mpr ⟨hv, rf_D3 n c p, ho⟩) I2
          rw [hMe] at this
          exact this
      · intro ho
        refine br_t rfl ?_
        have hsr : rf_sr g B t n c = -1000 := by
          unfold rf_sr
          refine if_neg (fun z => ?_)
          rw [Bool.and_eq_true] at z
          have hz := rf_pre_vd (K := rf_ctx g B t rf_z0 none) (d := rf_D n c) d (p + 1) (by rw [show p + 1 + d = n from by omega]; exact z.1)
          have := (rf_vd_s.mp hz).2.2
          rw [ho] at this
          cases this
        rw [hsr] at hpost
        exact hpost _ _ _ _
theorem rf_ys4 {post : Int32 → SY → Prop} {v1 : Int32} (E : rf_EY n g B t H ug ul wb wh wt) (h0 : (v1 < 0 ∨ nI (3 ^ n) ≤ v1) → post (-1000) (ug, ul, ut, um, ue, uc, ud, uw, ux, wb, wh, wt, ws, wo, wm, we)) (h1 : ∀ c, c < 3 ^ n → v1 = nI c → ∀ (ut : Int32) (ws wo wm : Nat → Int32), post (rf_sr g B t n c) (ug, ul, ut, um, ue, uc, ud, uw, ux, wb, wh, wt, ws, wo, wm, we)) : ∀ d m p : Nat, p + d = n → d < m → wY_scoreOf_4 post v1 ug ul ut um ue uc ud uw ux wb wh wt ws wo wm we m (nI (3 ^ p)) (nI p) := by
  have hn : n ≤ 11 := E.1
  have eu : ul = nI n := E.2.2.2.2.2.2.1
  have h3 := rf_3n hn
  intro d
  induction d with
  | zero =>
    intro m p hp hm
    obtain ⟨m, rfl⟩ : ∃ e, m = e + 1 := ⟨m - 1, by omega⟩
    obtain rfl : p = n := by omega
    refine br_t (by rw [eu]; exact Int32.le_refl _) ?_
    rcases pk_ix v1 (n := 3 ^ p) (by omega) with z | z | ⟨c, hc, rfl⟩
    · exact br_t z (h0 (Or.inl z))
    · refine br_f (fun w => ?_) (br_f (Int32.not_lt.mpr z) (h0 (Or.inr z)))
      have : nI (3 ^ p) < 0 := Int32.lt_of_le_of_lt z w
      exact nI_pos (by omega) this
    · refine br_f (nI_pos (by omega)) (br_t (nI_lt hc (by omega)) ⟨p + 1, ?_⟩)
      have hgo := rf_ys45 (um := um) (ue := ue) (uc := uc) (ud := ud) (uw := uw) (ux := ux) (we := we) E hc (h1 c hc rfl) p (p + 1) 0 (by omega) (by omega) 0 ws wo wm rfl ⟨rfl, trivial, fun q hq => absurd hq (Nat.not_lt_zero _), fun q hq => absurd hq (Nat.not_lt_zero _)⟩
      rw [Nat.sub_zero, Nat.mod_eq_of_lt hc] at hgo
      exact hgo
  | succ d ih =>
    intro m p hp hm
    obtain ⟨m, rfl⟩ : ∃ e, m = e + 1 := ⟨m - 1, by omega⟩
    refine br_f (by rw [eu]; exact nI_ge (by omega) (by omega)) (nm_r (e' := nI (3 ^ (p + 1))) ?_ (nm_r (nI_1 p) (ih m (p + 1) (by omega) (by omega))))
    show nI 3 * nI (3 ^ p) = _
    rw [pk_mul, Nat.pow_succ, Nat.mul_comm]
end
end
section
/-! the relation: the same bases, held signs, numbers, gap and length; nothing else lasts from call to call -/
def i_Rel (k : Nat) (u : SX) (v : SY) : Prop := match u with
  | (xg, xz, xo, xs, xv, xb, xa, yb, yh, ya, yt, p1, p2, p3, n1, n2, n3, yk, yp) => match v with
    | (ug, ul, ut, um, ue, uc, ud, uw, ux, wb, wh, wt, ws, wo, wm, we) => ∃ (n g : Nat) (B t H : Nat → Nat), rf_EH n g B t H xg xz yb yh yt ∧ rf_EY n g B t H ug ul wb wh wt
theorem i_up {k : Nat} {u : SX} {v : SY} (h : i_Rel k u v) : i_Rel (k + 3) u v := h
section
variable {xg xz xo xs xv xb xa : Int32} {yb yh ya yt p1 p2 p3 n1 n2 n3 yk yp : Nat → Int32}
variable {ug ul ut um ue uc ud uw ux : Int32} {wb wh wt ws wo wm we : Nat → Int32}
variable {n g : Nat} {B t H : Nat → Nat}
theorem rf_mk {k : Nat} (h1 : rf_EH n g B t H xg xz yb yh yt) (h2 : rf_EY n g B t H ug ul wb wh wt) : i_Rel k (xg, xz, xo, xs, xv, xb, xa, yb, yh, ya, yt, p1, p2, p3, n1, n2, n3, yk, yp) (ug, ul, ut, um, ue, uc, ud, uw, ux, wb, wh, wt, ws, wo, wm, we) := by
  unfold i_Rel
  exact ⟨n, g, B, t, H, h1, h2⟩
theorem rf_ipX0 {post : Int32 → Prop} {v1 : Int32} (hn : n ≤ 11) (ez : xz = nI n) (hv : v1 < 0 ∨ nI n ≤ v1) (h : post 0) : wpX_isPlace post (xg, xz, xo, xs, xv, xb, xa, yb, yh, ya, yt, p1, p2, p3, n1, n2, n3, yk, yp) v1 := by
  subst ez
  rcases hv with z | z
  · exact br_t z h
  · refine br_f (fun w => ?_) (br_t z h)
    have : nI n < 0 := Int32.lt_of_le_of_lt z w
    exact nI_pos (by omega) this
theorem rf_ipX1 {post : Int32 → Prop} {j : Nat} (hn : n ≤ 11) (ez : xz = nI n) (hj : j < n) (h : post 1) : wpX_isPlace post (xg, xz, xo, xs, xv, xb, xa, yb, yh, ya, yt, p1, p2, p3, n1, n2, n3, yk, yp) (nI j) := by
  subst ez
  exact br_f (nI_pos (by omega)) (br_f (nI_ge hj (by omega)) h)
theorem rf_bdY0 {post : Int32 → Prop} {v1 : Int32} (hn : n ≤ 11) (ez : ul = nI n) (hv : v1 < 0 ∨ nI n ≤ v1) (h : post 1) : wpY_bad post (ug, ul, ut, um, ue, uc, ud, uw, ux, wb, wh, wt, ws, wo, wm, we) v1 := by
  subst ez
  rcases hv with z | z
  · exact br_t z h
  · refine br_f (fun w => ?_) (br_t z h)
    have : nI n < 0 := Int32.lt_of_le_of_lt z w
    exact nI_pos (by omega) this
theorem rf_bdY1 {post : Int32 → Prop} {j : Nat} (hn : n ≤ 11) (ez : ul = nI n) (hj : j < n) (h : post 0) : wpY_bad post (ug, ul, ut, um, ue, uc, ud, uw, ux, wb, wh, wt, ws, wo, wm, we) (nI j) := by
  subst ez
  exact br_f (nI_pos (by omega)) (br_f (nI_ge hj (by omega)) (br_t (nI_le (b := 10) (by omega) (by decide)) h))
end
theorem rf_un {f : Nat → Int32} {F : Nat → Nat} {k c : Nat} (h : ∀ j, f j = nI (F j)) : ∀ j, upd f k (nI c) j = nI ((fun j => if j = k then c else F j) j) := by
  intro j
  show upd f k (nI c) j = nI (if j = k then c else F j)
  by_cases e : j = k
  · rw [e, pk_us, if_pos rfl]
  · rw [pk_un e, if_neg e, h j]
theorem rf_ub {F : Nat → Nat} {k c b : Nat} (h : ∀ j, F j ≤ b) (hc : c ≤ b) : ∀ j, (fun j => if j = k then c else F j) j ≤ b := by
  intro j
  show (if j = k then c else F j) ≤ b
  by_cases e : j = k
  · rw [if_pos e]; exact hc
  · rw [if_neg e]; exact h j
def rf_t0 (j : Nat) : Nat := if j = 5 then 3 else if j = 4 then 2 else if j = 3 then 2 else if j = 2 then 1 else if j = 1 then 5 else if j = 0 then 3 else 0
theorem rf_t0b (j : Nat) : rf_t0 j ≤ 20 := by
  unfold rf_t0
  repeat' split
  all_goals omega
theorem rf_t0e (j : Nat) : upd (upd (upd (upd (upd (upd (fun _ => 0) 0 3) 1 5) 2 1) 3 2) 4 2) 5 3 j = nI (rf_t0 j) := by
  unfold rf_t0
  show (if j = 5 then (3 : Int32) else if j = 4 then 2 else if j = 3 then 2 else if j = 2 then 1 else if j = 1 then 5 else if j = 0 then 3 else 0) = _
  by_cases h5 : j = 5
  · rw [if_pos h5, if_pos h5]; rfl
  · rw [if_neg h5, if_neg h5]
    by_cases h4 : j = 4
    · rw [if_pos h4, if_pos h4]; rfl
    · rw [if_neg h4, if_neg h4]
      by_cases h3 : j = 3
      · rw [if_pos h3, if_pos h3]; rfl
      · rw [if_neg h3, if_neg h3]
        by_cases h2 : j = 2
        · rw [if_pos h2, if_pos h2]; rfl
        · rw [if_neg h2, if_neg h2]
          by_cases h1 : j = 1
          · rw [if_pos h1, if_pos h1]; rfl
          · rw [if_neg h1, if_neg h1]
            by_cases h0 : j = 0
            · rw [if_pos h0, if_pos h0]; rfl
            · rw [if_neg h0, if_neg h0]; rfl
theorem rf_EH0 {g : Nat} (hg : g ≤ 4) : rf_EH 0 g (fun _ => 0) rf_t0 (fun _ => 0) (nI g) 0 (fun _ => 0) (fun _ => 0) (upd (upd (upd (upd (upd (upd (fun _ => 0) 0 3) 1 5) 2 1) 3 2) 4 2) 5 3) :=
  ⟨by omega, hg, fun _ => Nat.zero_le _, rf_t0b, fun _ => Nat.zero_le _, rfl, rfl, fun _ => rfl, fun _ => rfl, rf_t0e⟩
theorem rf_EY0 {g : Nat} (hg : g ≤ 4) : rf_EY 0 g (fun _ => 0) rf_t0 (fun _ => 0) (nI g) 0 (fun _ => 0) (fun _ => 0) (upd (upd (upd (upd (upd (upd (fun _ => 0) 0 3) 1 5) 2 1) 3 2) 4 2) 5 3) :=
  ⟨by omega, hg, fun _ => Nat.zero_le _, rf_t0b, fun _ => Nat.zero_le _, rfl, rfl, fun _ => rfl, fun _ => rfl, rf_t0e⟩
theorem i_vc0 (k0 : Int32) : wpX_init (fun u => wpY_init (fun v => i_Rel 1 u v) k0) k0 := by
  by_cases h0 : 0 ≤ k0
  · obtain ⟨j, hj, rfl⟩ := nI_of (x := k0) (Int32.not_lt.mpr h0)
    by_cases h4 : nI j ≤ 4
    · have hj4 : j ≤ 4 := (nI_leI (b := 4) hj (by decide)).mp h4
      exact br_t h0 (br_t h4 (nm_e (nm_e (nm_e (nm_e (nm_e (nm_e (br_t h0 (br_t h4 (nm_e (nm_e (nm_e (nm_e (nm_e (nm_e (rf_mk (rf_EH0 hj4) (rf_EY0 hj4)))))))))))))))))
    · exact br_t h0 (br_f h4 (nm_e (nm_e (nm_e (nm_e (nm_e (nm_e (br_t h0 (br_f h4 (nm_e (nm_e (nm_e (nm_e (nm_e (nm_e (rf_mk (rf_EH0 (g := 4) (by omega)) (rf_EY0 (g := 4) (by omega))))))))))))))))))
  · exact br_f h0 (br_t (by decide) (nm_e (nm_e (nm_e (nm_e (nm_e (nm_e (br_f h0 (nm_e (nm_e (nm_e (nm_e (nm_e (nm_e (rf_mk (rf_EH0 (g := 0) (by omega)) (rf_EY0 (g := 0) (by omega)))))))))))))))))
theorem i_vc_push {k : Nat} {u : SX} {v : SY} (I : i_Rel k u v) (hk : k + 3 ≤ 1537) (v1 : Int32) : wpX_push (fun r u' => wpY_push (fun r' v' => r' = r ∧ i_Rel (k + 3) u' v') v v1) u v1 := by
  obtain ⟨xg, xz, xo, xs, xv, xb, xa, yb, yh, ya, yt, p1, p2, p3, n1, n2, n3, yk, yp⟩ := u
  obtain ⟨ug, ul, ut, um, ue, uc, ud, uw, ux, wb, wh, wt, ws, wo, wm, we⟩ := v
  obtain ⟨n, g, B, t, H, EH, EY⟩ := I
  have R : i_Rel (k + 3) (xg, xz, xo, xs, xv, xb, xa, yb, yh, ya, yt, p1, p2, p3, n1, n2, n3, yk, yp) (ug, ul, ut, um, ue, uc, ud, uw, ux, wb, wh, wt, ws, wo, wm, we) := rf_mk EH EY
  by_cases h0 : v1 < 0
  · exact br_t h0 (br_t h0 ⟨rfl, R⟩)
  · by_cases h3 : v1 ≤ 3
    · obtain ⟨c, hc, rfl⟩ := nI_of2 (n := 3) (by decide) h0 h3
      obtain ⟨a1, a2, a3, a4, a5, a6, a7, a8, a9, a10⟩ := EH
      obtain ⟨b1, b2, b3, b4, b5, b6, b7, b8, b9, b10⟩ := EY
      subst a7 b7
      by_cases hn : n = 11
      · subst hn
        exact br_f h0 (br_t h3 (br_t rfl (br_f h0 (br_t h3 (br_f (by decide) ⟨rfl, R⟩)))))
      · have v : vp_in (nI n) 11 := vp_in_nI (by omega) (by omega)
        have cn : (nI n).toNatClampNeg = n := nI_clamp (by omega)
        refine br_f h0 (br_t h3 (br_f (fun z => hn ((nI_eq (b := 11) (by omega) (by omega)).mp z)) (And.intro v (nm_e (And.intro v (nm_e (nm_r (nI_1 n) ?_)))))))
        refine br_f h0 (br_t h3 (br_t (nI_le (b := 10) (by omega) (by decide)) (And.intro v (nm_e (And.intro v (nm_e (nm_r (nI_1 n) ⟨rfl, ?_⟩)))))))
        rw [cn]
        exact rf_mk (n := n + 1) (g := g) (B := fun j => if j = n then c else B j) (t := t) (H := fun j => if j = n then 0 else H j) ⟨by omega, a2, rf_ub a3 hc, a4, rf_ub a5 (by omega), a6, rfl, rf_un a8, rf_un (c := 0) a9, a10⟩ ⟨by omega, b2, rf_ub b3 hc, b4, rf_ub b5 (by omega), b6, rfl, rf_un b8, rf_un (c := 0) b9, b10⟩
    · exact br_f h0 (br_f h3 (br_f h0 (br_f h3 ⟨rfl, R⟩)))
theorem i_vc_pop {k : Nat} {u : SX} {v : SY} (I : i_Rel k u v) (hk : k + 3 ≤ 1537) : wpX_pop (fun r u' => wpY_pop (fun r' v' => r' = r ∧ i_Rel (k + 3) u' v') v) u := by
  obtain ⟨xg, xz, xo, xs, xv, xb, xa, yb, yh, ya, yt, p1, p2, p3, n1, n2, n3, yk, yp⟩ := u
  obtain ⟨ug, ul, ut, um, ue, uc, ud, uw, ux, wb, wh, wt, ws, wo, wm, we⟩ := v
  obtain ⟨n, g, B, t, H, EH, EY⟩ := I
  have R : i_Rel (k + 3) (xg, xz, xo, xs, xv, xb, xa, yb, yh, ya, yt, p1, p2, p3, n1, n2, n3, yk, yp) (ug, ul, ut, um, ue, uc, ud, uw, ux, wb, wh, wt, ws, wo, wm, we) := rf_mk EH EY
  obtain ⟨a1, a2, a3, a4, a5, a6, a7, a8, a9, a10⟩ := EH
  obtain ⟨b1, b2, b3, b4, b5, b6, b7, b8, b9, b10⟩ := EY
  subst a7 b7
  cases n with
  | zero => exact br_t rfl (br_t rfl ⟨rfl, R⟩)
  | succ m =>
    have hne : ¬ nI (m + 1) = 0 := nI_ne0 (by omega) (by omega)
    have v : vp_in (nI m) 11 := vp_in_nI (by omega) (by omega)
    refine br_f hne (nm_r (nI_pred m) (And.intro v (br_f hne (nm_r (nI_pred m) (And.intro v ⟨by rw [a8, b8], ?_⟩)))))
    exact rf_mk (n := m) (g := g) (B := B) (t := t) (H := H) ⟨by omega, a2, a3, a4, a5, a6, rfl, a8, a9, a10⟩ ⟨by omega, b2, b3, b4, b5, b6, rfl, b8, b9, b10⟩
theorem i_vc_set {k : Nat} {u : SX} {v : SY} (I : i_Rel k u v) (hk : k + 3 ≤ 1537) (v1 : Int32) (v2 : Int32) : wpX_set (fun r u' => wpY_set (fun r' v' => r' = r ∧ i_Rel (k + 3) u' v') v v1 v2) u v1 v2 := by
  obtain ⟨xg, xz, xo, xs, xv, xb, xa, yb, yh, ya, yt, p1, p2, p3, n1, n2, n3, yk, yp⟩ := u
  obtain ⟨ug, ul, ut, um, ue, uc, ud, uw, ux, wb, wh, wt, ws, wo, wm, we⟩ := v
  obtain ⟨n, g, B, t, H, EH, EY⟩ := I
  have R : i_Rel (k + 3) (xg, xz, xo, xs, xv, xb, xa, yb, yh, ya, yt, p1, p2, p3, n1, n2, n3, yk, yp) (ug, ul, ut, um, ue, uc, ud, uw, ux, wb, wh, wt, ws, wo, wm, we) := rf_mk EH EY
  obtain ⟨a1, a2, a3, a4, a5, a6, a7, a8, a9, a10⟩ := EH
  obtain ⟨b1, b2, b3, b4, b5, b6, b7, b8, b9, b10⟩ := EY
  unfold wpX_set wpY_set
  dsimp only
  rcases pk_ix v1 (n := n) (by omega) with z | z | ⟨j, hj, rfl⟩
  · refine rf_ipX0 a1 a7 (Or.inl z) (br_t rfl ?_)
    refine rf_bdY0 b1 b7 (Or.inl z) (br_f (by decide) ?_)
    exact ⟨rfl, R⟩
  · refine rf_ipX0 a1 a7 (Or.inr z) (br_t rfl ?_)
    refine rf_bdY0 b1 b7 (Or.inr z) (br_f (by decide) ?_)
    exact ⟨rfl, R⟩
  · refine rf_ipX1 a1 a7 hj (br_f (by decide) ?_)
    have hv : vp_in (nI j) 11 := vp_in_nI (by omega) (by omega)
    have cj : (nI j).toNatClampNeg = j := nI_clamp (by omega)
    by_cases h0 : v2 < 0
    · refine br_t h0 ?_
      refine rf_bdY1 b1 b7 hj (br_t rfl (br_t h0 ?_))
      exact ⟨rfl, R⟩
    · by_cases h3 : v2 ≤ 3
      · obtain ⟨c, hc, rfl⟩ := nI_of2 (n := 3) (by decide) h0 h3
        refine br_f h0 (br_t h3 (And.intro hv (nm_e (And.intro hv (nm_e ?_)))))
        refine rf_bdY1 b1 b7 hj (br_t rfl (br_f h0 (br_t h3 (And.intro hv (nm_e (And.intro hv (nm_e ?_)))))))
        refine ⟨?_, ?_⟩
        · rw [cj, a8, b8]
        · rw [cj]
          exact rf_mk (n := n) (g := g) (B := fun i => if i = j then c else B i) (t := t) (H := H) ⟨a1, a2, rf_ub a3 hc, a4, a5, a6, a7, rf_un a8, a9, a10⟩ ⟨b1, b2, rf_ub b3 hc, b4, b5, b6, b7, rf_un b8, b9, b10⟩
      · refine br_f h0 (br_f h3 ?_)
        refine rf_bdY1 b1 b7 hj (br_t rfl (br_f h0 (br_f h3 ?_)))
        exact ⟨rfl, R⟩
theorem i_vc_hold {k : Nat} {u : SX} {v : SY} (I : i_Rel k u v) (hk : k + 3 ≤ 1537) (v1 : Int32) (v2 : Int32) : wpX_hold (fun r u' => wpY_hold (fun r' v' => r' = r ∧ i_Rel (k + 3) u' v') v v1 v2) u v1 v2 := by
  obtain ⟨xg, xz, xo, xs, xv, xb, xa, yb, yh, ya, yt, p1, p2, p3, n1, n2, n3, yk, yp⟩ := u
  obtain ⟨ug, ul, ut, um, ue, uc, ud, uw, ux, wb, wh, wt, ws, wo, wm, we⟩ := v
  obtain ⟨n, g, B, t, H, EH, EY⟩ := I
  have R : i_Rel (k + 3) (xg, xz, xo, xs, xv, xb, xa, yb, yh, ya, yt, p1, p2, p3, n1, n2, n3, yk, yp) (ug, ul, ut, um, ue, uc, ud, uw, ux, wb, wh, wt, ws, wo, wm, we) := rf_mk EH EY
  obtain ⟨a1, a2, a3, a4, a5, a6, a7, a8, a9, a10⟩ := EH
  obtain ⟨b1, b2, b3, b4, b5, b6, b7, b8, b9, b10⟩ := EY
  unfold wpX_hold wpY_hold
  dsimp only
  rcases pk_ix v1 (n := n) (by omega) with z | z | ⟨j, hj, rfl⟩
  · refine rf_ipX0 a1 a7 (Or.inl z) (br_t rfl ?_)
    refine rf_bdY0 b1 b7 (Or.inl z) (br_f (by decide) ?_)
    exact ⟨rfl, R⟩
  · refine rf_ipX0 a1 a7 (Or.inr z) (br_t rfl ?_)
    refine rf_bdY0 b1 b7 (Or.inr z) (br_f (by decide) ?_)
    exact ⟨rfl, R⟩
  · refine rf_ipX1 a1 a7 hj (br_f (by decide) ?_)
    have hv : vp_in (nI j) 11 := vp_in_nI (by omega) (by omega)
    have cj : (nI j).toNatClampNeg = j := nI_clamp (by omega)
    by_cases h0 : v2 < 0
    · refine br_t h0 ?_
      refine rf_bdY1 b1 b7 hj (br_t rfl (br_t h0 ?_))
      exact ⟨rfl, R⟩
    · by_cases h3 : v2 ≤ 3
      · obtain ⟨c, hc, rfl⟩ := nI_of2 (n := 3) (by decide) h0 h3
        refine br_f h0 (br_t h3 (And.intro hv (nm_e (And.intro hv (nm_e ?_)))))
        refine rf_bdY1 b1 b7 hj (br_t rfl (br_f h0 (br_t h3 (And.intro hv (nm_e (And.intro hv (nm_e ?_)))))))
        refine ⟨?_, ?_⟩
        · rw [cj, a9, b9]
        · rw [cj]
          exact rf_mk (n := n) (g := g) (B := B) (t := t) (H := fun i => if i = j then c else H i) ⟨a1, a2, a3, a4, rf_ub a5 hc, a6, a7, a8, rf_un a9, a10⟩ ⟨b1, b2, b3, b4, rf_ub b5 hc, b6, b7, b8, rf_un b9, b10⟩
      · refine br_f h0 (br_f h3 ?_)
        refine rf_bdY1 b1 b7 hj (br_t rfl (br_f h0 (br_f h3 ?_)))
        exact ⟨rfl, R⟩
theorem i_vc_tune {k : Nat} {u : SX} {v : SY} (I : i_Rel k u v) (hk : k + 3 ≤ 1537) (v1 : Int32) (v2 : Int32) : wpX_tune (fun r u' => wpY_tune (fun r' v' => r' = r ∧ i_Rel (k + 3) u' v') v v1 v2) u v1 v2 := by
  obtain ⟨xg, xz, xo, xs, xv, xb, xa, yb, yh, ya, yt, p1, p2, p3, n1, n2, n3, yk, yp⟩ := u
  obtain ⟨ug, ul, ut, um, ue, uc, ud, uw, ux, wb, wh, wt, ws, wo, wm, we⟩ := v
  obtain ⟨n, g, B, t, H, EH, EY⟩ := I
  have R : i_Rel (k + 3) (xg, xz, xo, xs, xv, xb, xa, yb, yh, ya, yt, p1, p2, p3, n1, n2, n3, yk, yp) (ug, ul, ut, um, ue, uc, ud, uw, ux, wb, wh, wt, ws, wo, wm, we) := rf_mk EH EY
  obtain ⟨a1, a2, a3, a4, a5, a6, a7, a8, a9, a10⟩ := EH
  obtain ⟨b1, b2, b3, b4, b5, b6, b7, b8, b9, b10⟩ := EY
  by_cases g0 : v1 < 0
  · exact br_t g0 (br_t g0 ⟨rfl, R⟩)
  · by_cases g5 : v1 ≤ 5
    · obtain ⟨j, hj, rfl⟩ := nI_of2 (n := 5) (by decide) g0 g5
      have hv : vp_in (nI j) 6 := vp_in_nI (by omega) (by omega)
      have cj : (nI j).toNatClampNeg = j := nI_clamp (by omega)
      by_cases h0 : v2 < 0
      · exact br_f g0 (br_t g5 (br_t h0 (br_f g0 (br_t g5 (br_t h0 ⟨rfl, R⟩)))))
      · by_cases h3 : v2 ≤ 20
        · obtain ⟨c, hc, rfl⟩ := nI_of2 (n := 20) (by decide) h0 h3
          refine br_f g0 (br_t g5 (br_f h0 (br_t h3 (And.intro hv (nm_e (And.intro hv (nm_e (br_f g0 (br_t g5 (br_f h0 (br_t h3 (And.intro hv (nm_e (And.intro hv (nm_e ⟨?_, ?_⟩)))))))))))))))
          · rw [cj, a10, b10]
          · rw [cj]
            exact rf_mk (n := n) (g := g) (B := B) (t := fun i => if i = j then c else t i) (H := H) ⟨a1, a2, a3, rf_ub a4 hc, a5, a6, a7, a8, a9, rf_un a10⟩ ⟨b1, b2, b3, rf_ub b4 hc, b5, b6, b7, b8, b9, rf_un b10⟩
        · exact br_f g0 (br_t g5 (br_f h0 (br_f h3 (br_f g0 (br_t g5 (br_f h0 (br_f h3 ⟨rfl, R⟩)))))))
    · exact br_f g0 (br_f g5 (br_f g0 (br_f g5 ⟨rfl, R⟩)))
theorem i_vc_length {k : Nat} {u : SX} {v : SY} (I : i_Rel k u v) (hk : k + 3 ≤ 1537) : wpX_length (fun r => wpY_length (fun r' => r' = r ∧ i_Rel (k + 3) u v) v) u := by
  obtain ⟨xg, xz, xo, xs, xv, xb, xa, yb, yh, ya, yt, p1, p2, p3, n1, n2, n3, yk, yp⟩ := u
  obtain ⟨ug, ul, ut, um, ue, uc, ud, uw, ux, wb, wh, wt, ws, wo, wm, we⟩ := v
  obtain ⟨n, g, B, t, H, EH, EY⟩ := I
  have e1 : xz = nI n := EH.2.2.2.2.2.2.1
  have e2 : ul = nI n := EY.2.2.2.2.2.2.1
  exact ⟨by rw [e1, e2], rf_mk EH EY⟩
theorem i_vc_fits {k : Nat} {u : SX} {v : SY} (I : i_Rel k u v) (hk : k + 3 ≤ 1537) (v1 : Int32) (v2 : Int32) : wpX_fits (fun r => wpY_fits (fun r' => r' = r ∧ i_Rel (k + 3) u v) v v1 v2) u v1 v2 := by
  obtain ⟨xg, xz, xo, xs, xv, xb, xa, yb, yh, ya, yt, p1, p2, p3, n1, n2, n3, yk, yp⟩ := u
  obtain ⟨ug, ul, ut, um, ue, uc, ud, uw, ux, wb, wh, wt, ws, wo, wm, we⟩ := v
  obtain ⟨n, g, B, t, H, EH, EY⟩ := I
  have R : i_Rel (k + 3) (xg, xz, xo, xs, xv, xb, xa, yb, yh, ya, yt, p1, p2, p3, n1, n2, n3, yk, yp) (ug, ul, ut, um, ue, uc, ud, uw, ux, wb, wh, wt, ws, wo, wm, we) := rf_mk EH EY
  obtain ⟨a1, a2, a3, a4, a5, a6, a7, a8, a9, a10⟩ := EH
  have b1 : n ≤ 11 := EY.1
  have b7 : ul = nI n := EY.2.2.2.2.2.2.1
  unfold wpX_fits wpY_fits
  dsimp only
  rcases pk_ix v1 (n := n) (by omega) with z | z | ⟨i, hi, rfl⟩
  · refine rf_ipX0 a1 a7 (Or.inl z) (br_t rfl ?_)
    refine rf_bdY0 b1 b7 (Or.inl z) (br_f (by decide) ?_)
    exact ⟨rfl, R⟩
  · refine rf_ipX0 a1 a7 (Or.inr z) (br_t rfl ?_)
    refine rf_bdY0 b1 b7 (Or.inr z) (br_f (by decide) ?_)
    exact ⟨rfl, R⟩
  · refine rf_ipX1 a1 a7 hi (br_f (by decide) ?_)
    rcases pk_ix v2 (n := n) (by omega) with z | z | ⟨j, hj, rfl⟩
    · refine rf_ipX0 a1 a7 (Or.inl z) (br_t rfl ?_)
      refine rf_bdY1 b1 b7 hi (br_t rfl ?_)
      refine rf_bdY0 b1 b7 (Or.inl z) (br_f (by decide) ?_)
      exact ⟨rfl, R⟩
    · refine rf_ipX0 a1 a7 (Or.inr z) (br_t rfl ?_)
      refine rf_bdY1 b1 b7 hi (br_t rfl ?_)
      refine rf_bdY0 b1 b7 (Or.inr z) (br_f (by decide) ?_)
      exact ⟨rfl, R⟩
    · refine rf_ipX1 a1 a7 hj (br_f (by decide) ?_)
      refine rf_doFit a2 a3 a6 a8 (by omega) (by omega) (fun hf => br_f (by decide) ?_) (fun hf => br_t rfl ?_)
      · refine rf_bdY1 b1 b7 hi (br_t rfl ?_)
        refine rf_bdY1 b1 b7 hj (br_t rfl ?_)
        refine rf_suits EY (by omega) (by omega) (fun _ => br_f (by decide) ⟨rfl, R⟩) (fun hf2 => ?_)
        rw [hf] at hf2
        cases hf2
      · refine rf_bdY1 b1 b7 hi (br_t rfl ?_)
        refine rf_bdY1 b1 b7 hj (br_t rfl ?_)
        refine rf_suits EY (by omega) (by omega) (fun hf2 => ?_) (fun _ => br_t rfl ⟨rfl, R⟩)
        rw [hf] at hf2
        cases hf2
end
section
theorem i_vc_folds {k : Nat} {u : SX} {v : SY} (I : i_Rel k u v) (hk : k + 3 ≤ 1537) : wpX_folds (fun r u' => wpY_folds (fun r' v' => r' = r ∧ i_Rel (k + 3) u' v') v) u := by
  obtain ⟨xg, xz, xo, xs, xv, xb, xa, yb, yh, ya, yt, p1, p2, p3, n1, n2, n3, yk, yp⟩ := u
  obtain ⟨ug, ul, ut, um, ue, uc, ud, uw, ux, wb, wh, wt, ws, wo, wm, we⟩ := v
  obtain ⟨n, g, B, t, H, EH, EY⟩ := I
  have a1 : n ≤ 11 := EH.1
  have ht : ∀ j, t j ≤ 20 := EH.2.2.2.1
  have hH : ∀ j, H j ≤ 3 := EH.2.2.2.2.1
  have a7 : xz = nI n := EH.2.2.2.2.2.2.1
  have a9 : ∀ j, yh j = nI (H j) := EH.2.2.2.2.2.2.2.2.1
  have b1 : n ≤ 11 := EY.1
  have b7 : ul = nI n := EY.2.2.2.2.2.2.1
  have vz : vp_in xz 432 := by rw [a7]; exact vp_in_nI (by omega) (by omega)
  have cz : xz.toNatClampNeg = n := by rw [a7]; exact nI_clamp (by omega)
  unfold wpX_folds wpY_folds
  refine rf_takeHeld a1 a7 (fun ya hya => ?_)
  refine rf_solve (rf_EH_EX (a := H) (q := none) (xo := -1) (xs := xs) EH rfl (fun j hj => ⟨by rw [hya j hj, a9], hH j⟩)) (fun xv xb xa p1 p2 p3 n1 n2 n3 e1 e2 e3 => And.intro vz ?_)
  have hal := rf_al_b (K := rf_ctx g B t H none) (l := 0) (i := 0) (j := n) (by omega) (by omega) a1
  have hw := rf_w_V (K := rf_ctx g B t H none) (rf_ctxs ht) (l := 0) (i := 0) (j := n) (by omega) a1
  have hV : rf_V (rf_ctx g B t H none) 0 0 n = rf_S (rf_ctx g B t H none) (rf_er (rf_ctx g B t H none) n []) := rf_main2 _ _
  rw [hV] at e1 e2 e3 hal hw
  rw [cz]
  refine rf_explore (i := 0) (j := 0) rfl rfl EY (by omega) (by omega) (fun z => by omega) (fun ut um ue uc ud uw ux ws wo wm we N => ?_)
  exact ⟨by rw [N.2.1, e3], rf_mk EH EY⟩
theorem i_vc_bestFolds {k : Nat} {u : SX} {v : SY} (I : i_Rel k u v) (hk : k + 3 ≤ 1537) : wpX_bestFolds (fun r u' => wpY_bestFolds (fun r' v' => r' = r ∧ i_Rel (k + 3) u' v') v) u := by
  obtain ⟨xg, xz, xo, xs, xv, xb, xa, yb, yh, ya, yt, p1, p2, p3, n1, n2, n3, yk, yp⟩ := u
  obtain ⟨ug, ul, ut, um, ue, uc, ud, uw, ux, wb, wh, wt, ws, wo, wm, we⟩ := v
  obtain ⟨n, g, B, t, H, EH, EY⟩ := I
  have a1 : n ≤ 11 := EH.1
  have ht : ∀ j, t j ≤ 20 := EH.2.2.2.1
  have hH : ∀ j, H j ≤ 3 := EH.2.2.2.2.1
  have a7 : xz = nI n := EH.2.2.2.2.2.2.1
  have a9 : ∀ j, yh j = nI (H j) := EH.2.2.2.2.2.2.2.2.1
  have b1 : n ≤ 11 := EY.1
  have b7 : ul = nI n := EY.2.2.2.2.2.2.1
  have vz : vp_in xz 432 := by rw [a7]; exact vp_in_nI (by omega) (by omega)
  have cz : xz.toNatClampNeg = n := by rw [a7]; exact nI_clamp (by omega)
  unfold wpX_bestFolds wpY_bestFolds
  refine rf_takeHeld a1 a7 (fun ya hya => ?_)
  refine rf_solve (rf_EH_EX (a := H) (q := none) (xo := -1) (xs := xs) EH rfl (fun j hj => ⟨by rw [hya j hj, a9], hH j⟩)) (fun xv xb xa p1 p2 p3 n1 n2 n3 e1 e2 e3 => And.intro vz ?_)
  have hal := rf_al_b (K := rf_ctx g B t H none) (l := 0) (i := 0) (j := n) (by omega) (by omega) a1
  have hw := rf_w_V (K := rf_ctx g B t H none) (rf_ctxs ht) (l := 0) (i := 0) (j := n) (by omega) a1
  have hV : rf_V (rf_ctx g B t H none) 0 0 n = rf_S (rf_ctx g B t H none) (rf_er (rf_ctx g B t H none) n []) := rf_main2 _ _
  rw [hV] at e1 e2 e3 hal hw
  rw [cz]
  refine rf_explore (i := 0) (j := 0) rfl rfl EY (by omega) (by omega) (fun z => by omega) (fun ut um ue uc ud uw ux ws wo wm we N => ?_)
  exact ⟨by rw [N.2.2.1, e2], rf_mk EH EY⟩
theorem i_vc_best {k : Nat} {u : SX} {v : SY} (I : i_Rel k u v) (hk : k + 3 ≤ 1537) : wpX_best (fun r u' => wpY_best (fun r' v' => r' = r ∧ i_Rel (k + 3) u' v') v) u := by
  obtain ⟨xg, xz, xo, xs, xv, xb, xa, yb, yh, ya, yt, p1, p2, p3, n1, n2, n3, yk, yp⟩ := u
  obtain ⟨ug, ul, ut, um, ue, uc, ud, uw, ux, wb, wh, wt, ws, wo, wm, we⟩ := v
  obtain ⟨n, g, B, t, H, EH, EY⟩ := I
  have a1 : n ≤ 11 := EH.1
  have ht : ∀ j, t j ≤ 20 := EH.2.2.2.1
  have hH : ∀ j, H j ≤ 3 := EH.2.2.2.2.1
  have a7 : xz = nI n := EH.2.2.2.2.2.2.1
  have a9 : ∀ j, yh j = nI (H j) := EH.2.2.2.2.2.2.2.2.1
  have b1 : n ≤ 11 := EY.1
  have b7 : ul = nI n := EY.2.2.2.2.2.2.1
  have vz : vp_in xz 432 := by rw [a7]; exact vp_in_nI (by omega) (by omega)
  have cz : xz.toNatClampNeg = n := by rw [a7]; exact nI_clamp (by omega)
  unfold wpX_best wpY_best
  refine rf_takeHeld a1 a7 (fun ya hya => ?_)
  refine rf_solve (rf_EH_EX (a := H) (q := none) (xo := -1) (xs := xs) EH rfl (fun j hj => ⟨by rw [hya j hj, a9], hH j⟩)) (fun xv xb xa p1 p2 p3 n1 n2 n3 e1 e2 e3 => And.intro vz ?_)
  have hal := rf_al_b (K := rf_ctx g B t H none) (l := 0) (i := 0) (j := n) (by omega) (by omega) a1
  have hw := rf_w_V (K := rf_ctx g B t H none) (rf_ctxs ht) (l := 0) (i := 0) (j := n) (by omega) a1
  have hV : rf_V (rf_ctx g B t H none) 0 0 n = rf_S (rf_ctx g B t H none) (rf_er (rf_ctx g B t H none) n []) := rf_main2 _ _
  rw [hV] at e1 e2 e3 hal hw
  rw [cz, e3]
  cases hS : rf_S (rf_ctx g B t H none) (rf_er (rf_ctx g B t H none) n []) with
  | none =>
    refine br_t (by decide) ?_
    refine rf_explore (i := 0) (j := 0) rfl rfl EY (by omega) (by omega) (fun z => by omega) (fun ut um ue uc ud uw ux ws wo wm we N => ?_)
    refine br_t (by rw [N.2.1, hS]; decide) ?_
    exact ⟨rfl, rf_mk EH EY⟩
  | some y =>
    rw [hS] at e1 hal hw
    have hnz : ¬ rf_ra (some y) = 0 := by
      intro z
      have := rf_al0 hw ((rf_ra0 (by omega)).mp z)
      cases this
    refine br_f hnz (And.intro vz ?_)
    refine rf_explore (i := 0) (j := 0) rfl rfl EY (by omega) (by omega) (fun z => by omega) (fun ut um ue uc ud uw ux ws wo wm we N => ?_)
    refine br_f (by rw [N.2.1, hS]; exact hnz) ?_
    exact ⟨by rw [N.2.2.2.1 y hS, e1]; rfl, rf_mk EH EY⟩
theorem i_vc_bestCode {k : Nat} {u : SX} {v : SY} (I : i_Rel k u v) (hk : k + 3 ≤ 1537) : wpX_bestCode (fun r u' => wpY_bestCode (fun r' v' => r' = r ∧ i_Rel (k + 3) u' v') v) u := by
  obtain ⟨xg, xz, xo, xs, xv, xb, xa, yb, yh, ya, yt, p1, p2, p3, n1, n2, n3, yk, yp⟩ := u
  obtain ⟨ug, ul, ut, um, ue, uc, ud, uw, ux, wb, wh, wt, ws, wo, wm, we⟩ := v
  obtain ⟨n, g, B, t, H, EH, EY⟩ := I
  have a1 : n ≤ 11 := EH.1
  have ht : ∀ j, t j ≤ 20 := EH.2.2.2.1
  have hH : ∀ j, H j ≤ 3 := EH.2.2.2.2.1
  have a7 : xz = nI n := EH.2.2.2.2.2.2.1
  have a9 : ∀ j, yh j = nI (H j) := EH.2.2.2.2.2.2.2.2.1
  have b1 : n ≤ 11 := EY.1
  have b7 : ul = nI n := EY.2.2.2.2.2.2.1
  have vz : vp_in xz 432 := by rw [a7]; exact vp_in_nI (by omega) (by omega)
  have cz : xz.toNatClampNeg = n := by rw [a7]; exact nI_clamp (by omega)
  unfold wpX_bestCode wpY_bestCode
  refine rf_decide EH (fun hL xv xb xa ya p1 p2 p3 n1 n2 n3 => br_t rfl ?_) (fun h hF xv xb xa ya p1 p2 p3 n1 n2 n3 hy => br_f (by decide) ⟨n + 1, ?_⟩)
  · refine rf_explore (i := 0) (j := 0) rfl rfl EY (by omega) (by omega) (fun z => by omega) (fun ut um ue uc ud uw ux ws wo wm we N => ?_)
    refine br_t (by rw [N.2.1, hL]; rfl) ?_
    exact ⟨rfl, rf_mk EH EY⟩
  · refine rf_bc13 (d := rf_dg h) a1 a7 hy ?_ n (n + 1) 0 (by omega) (by omega)
    refine rf_explore (i := 0) (j := 0) rfl rfl EY (by omega) (by omega) (fun z => by omega) (fun ut um ue uc ud uw ux ws wo wm we N => ?_)
    have hne : rf_er (rf_ctx g B t H none) n [] ≠ [] := by
      intro z
      have := (rf_FB_max hF).1
      rw [z] at this
      cases this
    have hal := rf_S_al (rf_ctx g B t H none) (rf_er (rf_ctx g B t H none) n [])
    have hlen := rf_er_len (rf_ctx g B t H none) n []
    have h3 := rf_3n a1
    refine br_f (fun z => ?_) ?_
    · rw [N.2.1] at z
      have := (rf_ra0 (by omega)).mp z
      rw [hal] at this
      exact hne (List.length_eq_zero_iff.mp this)
    · obtain ⟨h', hF', hcd, _⟩ := N.2.2.2.2.2.2 hne
      have e := rf_FB_un hF hF'
      exact ⟨by rw [hcd, e], rf_mk EH EY⟩
theorem i_vc_partner {k : Nat} {u : SX} {v : SY} (I : i_Rel k u v) (hk : k + 3 ≤ 1537) (v1 : Int32) : wpX_partner (fun r u' => wpY_partner (fun r' v' => r' = r ∧ i_Rel (k + 3) u' v') v v1) u v1 := by
  obtain ⟨xg, xz, xo, xs, xv, xb, xa, yb, yh, ya, yt, p1, p2, p3, n1, n2, n3, yk, yp⟩ := u
  obtain ⟨ug, ul, ut, um, ue, uc, ud, uw, ux, wb, wh, wt, ws, wo, wm, we⟩ := v
  obtain ⟨n, g, B, t, H, EH, EY⟩ := I
  have a1 : n ≤ 11 := EH.1
  have ht : ∀ j, t j ≤ 20 := EH.2.2.2.1
  have hH : ∀ j, H j ≤ 3 := EH.2.2.2.2.1
  have a7 : xz = nI n := EH.2.2.2.2.2.2.1
  have a9 : ∀ j, yh j = nI (H j) := EH.2.2.2.2.2.2.2.2.1
  have b1 : n ≤ 11 := EY.1
  have b7 : ul = nI n := EY.2.2.2.2.2.2.1
  have vz : vp_in xz 432 := by rw [a7]; exact vp_in_nI (by omega) (by omega)
  have cz : xz.toNatClampNeg = n := by rw [a7]; exact nI_clamp (by omega)
  unfold wpX_partner wpY_partner
  have R : i_Rel (k + 3) (xg, xz, xo, xs, xv, xb, xa, yb, yh, ya, yt, p1, p2, p3, n1, n2, n3, yk, yp) (ug, ul, ut, um, ue, uc, ud, uw, ux, wb, wh, wt, ws, wo, wm, we) := rf_mk EH EY
  rcases pk_ix v1 (n := n) (by omega) with z | z | ⟨j, hj, rfl⟩
  · refine rf_ipX0 a1 a7 (Or.inl z) (br_t rfl ?_)
    refine rf_bdY0 b1 b7 (Or.inl z) (br_f (by decide) ?_)
    exact ⟨rfl, R⟩
  · refine rf_ipX0 a1 a7 (Or.inr z) (br_t rfl ?_)
    refine rf_bdY0 b1 b7 (Or.inr z) (br_f (by decide) ?_)
    exact ⟨rfl, R⟩
  · refine rf_ipX1 a1 a7 hj (br_f (by decide) ?_)
    have v12 : vp_in (nI j) 12 := vp_in_nI (by omega) (by omega)
    have cj : (nI j).toNatClampNeg = j := nI_clamp (by omega)
    refine rf_decide EH (fun hL xv xb xa ya p1 p2 p3 n1 n2 n3 => br_t rfl ?_) (fun h hF xv xb xa ya p1 p2 p3 n1 n2 n3 hy => br_f (by decide) ⟨n + 1, ?_⟩)
    · refine rf_bdY1 b1 b7 hj (br_t rfl ?_)
      refine rf_explore (i := 0) (j := 0) rfl rfl EY (by omega) (by omega) (fun z => by omega) (fun ut um ue uc ud uw ux ws wo wm we N => ?_)
      refine br_t (by rw [N.2.1, hL]; rfl) ?_
      exact ⟨rfl, rf_mk EH EY⟩
    · have hin := (rf_FB_max hF).1
      obtain ⟨l1, l2, l3⟩ := rf_er_mem.mp hin
      have epre : rf_pre (rf_dg h) n = h := by rw [← l1]; exact rf_pre_h h
      refine rf_pa24 (K := rf_ctx g B t H none) (d := rf_dg h) a1 a7 hj (by rw [epre]; exact l2) hy (fun yk yp hyp => ?_) n (n + 1) 0 (by omega) (by omega) _ _ trivial (fun w hw => absurd hw (Nat.not_lt_zero _))
      rw [epre] at hyp
      refine rf_bdY1 b1 b7 hj (br_t rfl ?_)
      refine rf_explore (i := 0) (j := 0) rfl rfl EY (by omega) (by omega) (fun z => by omega) (fun ut um ue uc ud uw ux ws wo wm we N => ?_)
      have hne : rf_er (rf_ctx g B t H none) n [] ≠ [] := by
        intro z
        rw [z] at hin
        cases hin
      have hal := rf_S_al (rf_ctx g B t H none) (rf_er (rf_ctx g B t H none) n [])
      have hlen := rf_er_len (rf_ctx g B t H none) n []
      have h3 := rf_3n a1
      refine br_f (fun z => ?_) (And.intro v12 ?_)
      · rw [N.2.1] at z
        have := (rf_ra0 (by omega)).mp z
        rw [hal] at this
        exact hne (List.length_eq_zero_iff.mp this)
      · obtain ⟨h', hF', _, hwe⟩ := N.2.2.2.2.2.2 hne
        have e := rf_FB_un hF hF'
        subst e
        rw [cj, hwe j hj]
        rcases rf_mt_val h j (by omega) with z | ⟨w, hw, z⟩
        · rw [z] at hyp ⊢
          refine br_f (by decide) ?_
          exact ⟨by rw [hyp, rf_fx_1], rf_mk EH EY⟩
        · rw [z] at hyp ⊢
          refine br_t (nI_pos' hw) (And.intro v12 ?_)
          exact ⟨by rw [hyp, rf_fx_n hw], rf_mk EH EY⟩
theorem i_vc_bestWith {k : Nat} {u : SX} {v : SY} (I : i_Rel k u v) (hk : k + 3 ≤ 1537) (v1 : Int32) (v2 : Int32) : wpX_bestWith (fun r u' => wpY_bestWith (fun r' v' => r' = r ∧ i_Rel (k + 3) u' v') v v1 v2) u v1 v2 := by
  obtain ⟨xg, xz, xo, xs, xv, xb, xa, yb, yh, ya, yt, p1, p2, p3, n1, n2, n3, yk, yp⟩ := u
  obtain ⟨ug, ul, ut, um, ue, uc, ud, uw, ux, wb, wh, wt, ws, wo, wm, we⟩ := v
  obtain ⟨n, g, B, t, H, EH, EY⟩ := I
  have a1 : n ≤ 11 := EH.1
  have ht : ∀ j, t j ≤ 20 := EH.2.2.2.1
  have hH : ∀ j, H j ≤ 3 := EH.2.2.2.2.1
  have a7 : xz = nI n := EH.2.2.2.2.2.2.1
  have a9 : ∀ j, yh j = nI (H j) := EH.2.2.2.2.2.2.2.2.1
  have b1 : n ≤ 11 := EY.1
  have b7 : ul = nI n := EY.2.2.2.2.2.2.1
  have vz : vp_in xz 432 := by rw [a7]; exact vp_in_nI (by omega) (by omega)
  have cz : xz.toNatClampNeg = n := by rw [a7]; exact nI_clamp (by omega)
  unfold wpX_bestWith wpY_bestWith
  have R : i_Rel (k + 3) (xg, xz, xo, xs, xv, xb, xa, yb, yh, ya, yt, p1, p2, p3, n1, n2, n3, yk, yp) (ug, ul, ut, um, ue, uc, ud, uw, ux, wb, wh, wt, ws, wo, wm, we) := rf_mk EH EY
  rcases pk_ix v1 (n := n) (by omega) with z | z | ⟨i, hi, rfl⟩
  · refine rf_ipX0 a1 a7 (Or.inl z) (br_t rfl ?_)
    refine rf_bdY0 b1 b7 (Or.inl z) (br_f (by decide) ?_)
    exact ⟨rfl, R⟩
  · refine rf_ipX0 a1 a7 (Or.inr z) (br_t rfl ?_)
    refine rf_bdY0 b1 b7 (Or.inr z) (br_f (by decide) ?_)
    exact ⟨rfl, R⟩
  · refine rf_ipX1 a1 a7 hi (br_f (by decide) ?_)
    rcases pk_ix v2 (n := n) (by omega) with z | z | ⟨j, hj, rfl⟩
    · refine rf_ipX0 a1 a7 (Or.inl z) (br_t rfl ?_)
      refine rf_bdY1 b1 b7 hi (br_t rfl ?_)
      refine rf_bdY0 b1 b7 (Or.inl z) (br_f (by decide) ?_)
      exact ⟨rfl, R⟩
    · refine rf_ipX0 a1 a7 (Or.inr z) (br_t rfl ?_)
      refine rf_bdY1 b1 b7 hi (br_t rfl ?_)
      refine rf_bdY0 b1 b7 (Or.inr z) (br_f (by decide) ?_)
      exact ⟨rfl, R⟩
    · refine rf_ipX1 a1 a7 hj (br_f (by decide) ?_)
      have hfl : ((rf_er (rf_ctx g B t H none) n []).filter (rf_pq i j)).length ≤ 177147 := Nat.le_trans (List.length_filter_le _ _) (Nat.le_trans (rf_er_len (rf_ctx g B t H none) n []) (rf_3n a1))
      have hal := rf_S_al (rf_ctx g B t H none) ((rf_er (rf_ctx g B t H none) n []).filter (rf_pq i j))
      have hw := rf_S_w (K := rf_ctx g B t H none) (rf_ctxs ht) a1 (L := (rf_er (rf_ctx g B t H none) n []).filter (rf_pq i j)) (fun x hx => (rf_er_mem.mp (List.mem_filter.mp hx).1).1)
      refine rf_solveWith EH hi hj (fun hS xo xs xv xb xa ya p1 p2 p3 n1 n2 n3 => br_t rfl ?_) (fun y hS xo xs xv xb xa ya p1 p2 p3 n1 n2 n3 e1 e3 => br_f (by decide) (And.intro vz ?_))
      · refine rf_bdY1 b1 b7 hi (br_t rfl ?_)
        refine rf_bdY1 b1 b7 hj (br_t rfl ?_)
        refine rf_explore (i := i) (j := j) rfl rfl EY (by omega) (by omega) (fun _ => hj) (fun ut um ue uc ud uw ux ws wo wm we N => ?_)
        refine br_t (by rw [N.2.2.2.2.1, hS]; decide) ?_
        exact ⟨rfl, rf_mk EH EY⟩
      · rw [cz]
        refine rf_bdY1 b1 b7 hi (br_t rfl ?_)
        refine rf_bdY1 b1 b7 hj (br_t rfl ?_)
        refine rf_explore (i := i) (j := j) rfl rfl EY (by omega) (by omega) (fun _ => hj) (fun ut um ue uc ud uw ux ws wo wm we N => ?_)
        rw [hS] at hal hw
        refine br_f (fun z => ?_) ?_
        · rw [N.2.2.2.2.1, hS] at z
          have := rf_al0 hw ((rf_ra0 (by omega)).mp z)
          cases this
        · exact ⟨by rw [N.2.2.2.2.2.1 y hS, e1], rf_mk EH EY⟩
theorem i_vc_foldsWith {k : Nat} {u : SX} {v : SY} (I : i_Rel k u v) (hk : k + 3 ≤ 1537) (v1 : Int32) (v2 : Int32) : wpX_foldsWith (fun r u' => wpY_foldsWith (fun r' v' => r' = r ∧ i_Rel (k + 3) u' v') v v1 v2) u v1 v2 := by
  obtain ⟨xg, xz, xo, xs, xv, xb, xa, yb, yh, ya, yt, p1, p2, p3, n1, n2, n3, yk, yp⟩ := u
  obtain ⟨ug, ul, ut, um, ue, uc, ud, uw, ux, wb, wh, wt, ws, wo, wm, we⟩ := v
  obtain ⟨n, g, B, t, H, EH, EY⟩ := I
  have a1 : n ≤ 11 := EH.1
  have ht : ∀ j, t j ≤ 20 := EH.2.2.2.1
  have hH : ∀ j, H j ≤ 3 := EH.2.2.2.2.1
  have a7 : xz = nI n := EH.2.2.2.2.2.2.1
  have a9 : ∀ j, yh j = nI (H j) := EH.2.2.2.2.2.2.2.2.1
  have b1 : n ≤ 11 := EY.1
  have b7 : ul = nI n := EY.2.2.2.2.2.2.1
  have vz : vp_in xz 432 := by rw [a7]; exact vp_in_nI (by omega) (by omega)
  have cz : xz.toNatClampNeg = n := by rw [a7]; exact nI_clamp (by omega)
  unfold wpX_foldsWith wpY_foldsWith
  have R : i_Rel (k + 3) (xg, xz, xo, xs, xv, xb, xa, yb, yh, ya, yt, p1, p2, p3, n1, n2, n3, yk, yp) (ug, ul, ut, um, ue, uc, ud, uw, ux, wb, wh, wt, ws, wo, wm, we) := rf_mk EH EY
  rcases pk_ix v1 (n := n) (by omega) with z | z | ⟨i, hi, rfl⟩
  · refine rf_ipX0 a1 a7 (Or.inl z) (br_t rfl ?_)
    refine rf_bdY0 b1 b7 (Or.inl z) (br_f (by decide) ?_)
    exact ⟨rfl, R⟩
  · refine rf_ipX0 a1 a7 (Or.inr z) (br_t rfl ?_)
    refine rf_bdY0 b1 b7 (Or.inr z) (br_f (by decide) ?_)
    exact ⟨rfl, R⟩
  · refine rf_ipX1 a1 a7 hi (br_f (by decide) ?_)
    rcases pk_ix v2 (n := n) (by omega) with z | z | ⟨j, hj, rfl⟩
    · refine rf_ipX0 a1 a7 (Or.inl z) (br_t rfl ?_)
      refine rf_bdY1 b1 b7 hi (br_t rfl ?_)
      refine rf_bdY0 b1 b7 (Or.inl z) (br_f (by decide) ?_)
      exact ⟨rfl, R⟩
    · refine rf_ipX0 a1 a7 (Or.inr z) (br_t rfl ?_)
      refine rf_bdY1 b1 b7 hi (br_t rfl ?_)
      refine rf_bdY0 b1 b7 (Or.inr z) (br_f (by decide) ?_)
      exact ⟨rfl, R⟩
    · refine rf_ipX1 a1 a7 hj (br_f (by decide) ?_)
      have hfl : ((rf_er (rf_ctx g B t H none) n []).filter (rf_pq i j)).length ≤ 177147 := Nat.le_trans (List.length_filter_le _ _) (Nat.le_trans (rf_er_len (rf_ctx g B t H none) n []) (rf_3n a1))
      have hal := rf_S_al (rf_ctx g B t H none) ((rf_er (rf_ctx g B t H none) n []).filter (rf_pq i j))
      have hw := rf_S_w (K := rf_ctx g B t H none) (rf_ctxs ht) a1 (L := (rf_er (rf_ctx g B t H none) n []).filter (rf_pq i j)) (fun x hx => (rf_er_mem.mp (List.mem_filter.mp hx).1).1)
      refine rf_solveWith EH hi hj (fun hS xo xs xv xb xa ya p1 p2 p3 n1 n2 n3 => br_t rfl ?_) (fun y hS xo xs xv xb xa ya p1 p2 p3 n1 n2 n3 e1 e3 => br_f (by decide) (And.intro vz ?_))
      · refine rf_bdY1 b1 b7 hi (br_t rfl ?_)
        refine rf_bdY1 b1 b7 hj (br_t rfl ?_)
        refine rf_explore (i := i) (j := j) rfl rfl EY (by omega) (by omega) (fun _ => hj) (fun ut um ue uc ud uw ux ws wo wm we N => ?_)
        exact ⟨by rw [N.2.2.2.2.1, hS]; rfl, rf_mk EH EY⟩
      · rw [cz]
        refine rf_bdY1 b1 b7 hi (br_t rfl ?_)
        refine rf_bdY1 b1 b7 hj (br_t rfl ?_)
        refine rf_explore (i := i) (j := j) rfl rfl EY (by omega) (by omega) (fun _ => hj) (fun ut um ue uc ud uw ux ws wo wm we N => ?_)
        exact ⟨by rw [N.2.2.2.2.1, hS, e3]; rfl, rf_mk EH EY⟩
theorem i_vc_scoreOf {k : Nat} {u : SX} {v : SY} (I : i_Rel k u v) (hk : k + 3 ≤ 1537) (v1 : Int32) : wpX_scoreOf (fun r u' => wpY_scoreOf (fun r' v' => r' = r ∧ i_Rel (k + 3) u' v') v v1) u v1 := by
  obtain ⟨xg, xz, xo, xs, xv, xb, xa, yb, yh, ya, yt, p1, p2, p3, n1, n2, n3, yk, yp⟩ := u
  obtain ⟨ug, ul, ut, um, ue, uc, ud, uw, ux, wb, wh, wt, ws, wo, wm, we⟩ := v
  obtain ⟨n, g, B, t, H, EH, EY⟩ := I
  have a1 : n ≤ 11 := EH.1
  have ht : ∀ j, t j ≤ 20 := EH.2.2.2.1
  have hH : ∀ j, H j ≤ 3 := EH.2.2.2.2.1
  have a7 : xz = nI n := EH.2.2.2.2.2.2.1
  have a9 : ∀ j, yh j = nI (H j) := EH.2.2.2.2.2.2.2.2.1
  have b1 : n ≤ 11 := EY.1
  have b7 : ul = nI n := EY.2.2.2.2.2.2.1
  have vz : vp_in xz 432 := by rw [a7]; exact vp_in_nI (by omega) (by omega)
  have cz : xz.toNatClampNeg = n := by rw [a7]; exact nI_clamp (by omega)
  unfold wpX_scoreOf wpY_scoreOf
  refine ⟨n + 1, ?_⟩
  refine rf_xs4 EH (fun hz => ?_) (fun c hc hv xo xs xv xb xa ya p1 p2 p3 n1 n2 n3 => ?_) n (n + 1) 0 (by omega) (by omega)
  · refine ⟨n + 1, ?_⟩
    refine rf_ys4 EY (fun _ => ⟨rfl, rf_mk EH EY⟩) (fun c hc hv => ?_) n (n + 1) 0 (by omega) (by omega)
    subst hv
    have h3 := rf_3n a1
    rcases hz with z | z
    · exact absurd z (nI_pos (by omega))
    · exact absurd z (nI_ge hc (by omega))
  · refine ⟨n + 1, ?_⟩
    have h3 := rf_3n a1
    subst hv
    refine rf_ys4 EY (fun hz => ?_) (fun c' hc' hv' ut ws wo wm => ?_) n (n + 1) 0 (by omega) (by omega)
    · rcases hz with z | z
      · exact absurd z (nI_pos (by omega))
      · exact absurd z (nI_ge hc (by omega))
    · have e := (nI_eq (by omega) (by omega)).mp hv'
      subst e
      exact ⟨rfl, rf_mk EH EY⟩
end
