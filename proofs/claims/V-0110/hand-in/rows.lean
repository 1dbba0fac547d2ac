section
/-! rows taken from the kit's rows to paste -/
theorem pk_us {f : Nat → Int32} {k : Nat} {x : Int32} : upd f k x k = x := if_pos rfl
theorem pk_un {f : Nat → Int32} {k j : Nat} {x : Int32} (h : j ≠ k) : upd f k x j = f j := if_neg h
theorem pk_uLs {f : Nat → Int64} {k : Nat} {x : Int64} : vp_updL f k x k = x := if_pos rfl
theorem pk_uLn {f : Nat → Int64} {k j : Nat} {x : Int64} (h : j ≠ k) : vp_updL f k x j = f j := if_neg h
theorem pk_sub {a b : Nat} (h : b ≤ a) : nI a - nI b = nI (a - b) := by
  obtain ⟨c, rfl⟩ : ∃ c, a = c + b := ⟨a - b, by omega⟩
  rw [← nI_add, Int32.add_sub_cancel, Nat.add_sub_cancel]
theorem pk_m1 (n : Nat) : nI (n + 1) + (-1) = nI n := by
  rw [← nI_1, Int32.add_assoc, show (1 : Int32) + (-1) = 0 from rfl, Int32.add_zero]
theorem pk_mul (a b : Nat) : nI a * nI b = nI (a * b) := (Int32.ofNat_mul a b).symm
theorem pk_ix (x : Int32) {n : Nat} (hn : n < 2 ^ 31) : x < 0 ∨ nI n ≤ x ∨ ∃ j : Nat, j < n ∧ x = nI j := by
  by_cases h : x < 0
  · exact Or.inl h
  · obtain ⟨j, hj, rfl⟩ := nI_of h
    by_cases h2 : j < n
    · exact Or.inr (Or.inr ⟨j, h2, rfl⟩)
    · exact Or.inr (Or.inl (nI_le (by omega) hj))
theorem pk_le {x y : Int32} {A B : Prop} (a b : Nat) (f : a ≤ b → A) (g : b < a → B) (hx : x = nI a := by rfl) (hy : y = nI b := by rfl) (ha : a < 2 ^ 31 := by omega) (hb : b < 2 ^ 31 := by omega) : (x ≤ y → A) ∧ (¬ x ≤ y → B) := by
  subst hx hy
  rw [nI_leI ha hb]
  exact ⟨f, fun z => g (by omega)⟩
theorem pk_lt {x y : Int32} {A B : Prop} (a b : Nat) (f : a < b → A) (g : b ≤ a → B) (hx : x = nI a := by rfl) (hy : y = nI b := by rfl) (ha : a < 2 ^ 31 := by omega) (hb : b < 2 ^ 31 := by omega) : (x < y → A) ∧ (¬ x < y → B) := by
  subst hx hy
  rw [nI_ltI ha hb]
  exact ⟨f, fun z => g (by omega)⟩
theorem pk_eq {x y : Int32} {A B : Prop} (a b : Nat) (f : a = b → A) (g : a ≠ b → B) (hx : x = nI a := by rfl) (hy : y = nI b := by rfl) (ha : a < 2 ^ 31 := by omega) (hb : b < 2 ^ 31 := by omega) : (x = y → A) ∧ (¬ x = y → B) := by
  subst hx hy
  rw [nI_eq ha hb]
  exact ⟨f, g⟩
theorem pk_in {x : Int32} (n N : Nat) (h : n < N) (hx : x = nI n := by rfl) (hN : N < 2 ^ 31 := by omega) : vp_in x N := by
  subst hx
  exact vp_in_nI h hN
theorem pk_cl {x : Int32} (n : Nat) (hx : x = nI n := by rfl) (h : n < 2 ^ 31 := by omega) : x.toNatClampNeg = n := by
  subst hx
  exact nI_clamp h
theorem pk_tn {n : Nat} (h : n < 2 ^ 32) : (nI n).toBitVec.toNat = n := Nat.mod_eq_of_lt h
theorem pk_and (x : Int32) {m : Int32} (k : Nat) (hm : m.toBitVec.toNat = 2 ^ k - 1) : x &&& m = nI (x.toBitVec.toNat % 2 ^ k) := by
  apply Int32.toBitVec_inj.mp
  apply BitVec.eq_of_toNat_eq
  rw [Int32.toBitVec_and, BitVec.toNat_and, hm, Nat.and_two_pow_sub_one_eq_mod]
  show _ = (BitVec.ofNat 32 _).toNat
  rw [BitVec.toNat_ofNat]
  exact (Nat.mod_eq_of_lt (Nat.lt_of_le_of_lt (Nat.mod_le _ _) x.toBitVec.isLt)).symm
theorem pk_andN {n : Nat} (h : n < 2 ^ 32) {m : Int32} (k : Nat) (hm : m.toBitVec.toNat = 2 ^ k - 1) : nI n &&& m = nI (n % 2 ^ k) := by
  rw [pk_and _ k hm, pk_tn h]
theorem pk_shr (a s : Int32) (k : Nat) (hs : (s.toBitVec.smod 32).toNat = k) : (a >>> s).toInt = a.toInt >>> k := by
  show (a.toBitVec.sshiftRight (s.toBitVec.smod 32).toNat).toInt = _
  rw [hs, BitVec.toInt_sshiftRight]
  rfl
theorem pk_shrN {n : Nat} (h : n < 2 ^ 31) (s : Int32) (k : Nat) (hs : (s.toBitVec.smod 32).toNat = k) : nI n >>> s = nI (n / 2 ^ k) := by
  apply Int32.toInt_inj.mp
  have h2 : n / 2 ^ k ≤ n := Nat.div_le_self _ _
  rw [pk_shr _ _ k hs, nI_toInt h, nI_toInt (by omega), Int.shiftRight_eq_div_pow]
  rfl
theorem pk_lT {n : Nat} (h : n < 2 ^ 63) : (lN n).toInt = (n : Int) := lg_ofNat_toInt h
theorem pk_lLT {a b : Nat} (ha : a < 2 ^ 63) (hb : b < 2 ^ 63) : lN a < lN b ↔ a < b := by
  rw [Int64.lt_iff_toInt_lt, pk_lT ha, pk_lT hb]; omega
theorem pk_lLE {a b : Nat} (ha : a < 2 ^ 63) (hb : b < 2 ^ 63) : lN a ≤ lN b ↔ a ≤ b := by
  rw [Int64.le_iff_toInt_le, pk_lT ha, pk_lT hb]; omega
theorem pk_lEQ {a b : Nat} (ha : a < 2 ^ 63) (hb : b < 2 ^ 63) : lN a = lN b ↔ a = b := by
  rw [← Int64.toInt_inj, pk_lT ha, pk_lT hb]; omega
def bt (x : Int32) (i : Nat) : Bool := x.toBitVec.getLsbD i
theorem b_ext {x y : Int32} (h : ∀ i, i < 32 → bt x i = bt y i) : x = y := Int32.toBitVec_inj.mp (BitVec.eq_of_getLsbD_eq (fun i hi => h i hi))
theorem b_or (x y : Int32) (i : Nat) : bt (x ||| y) i = (bt x i || bt y i) := by unfold bt; rw [Int32.toBitVec_or, BitVec.getLsbD_or]
theorem b_and (x y : Int32) (i : Nat) : bt (x &&& y) i = (bt x i && bt y i) := by unfold bt; rw [Int32.toBitVec_and, BitVec.getLsbD_and]
theorem b_xor (x y : Int32) (i : Nat) : bt (x ^^^ y) i = (bt x i ^^ bt y i) := by unfold bt; rw [Int32.toBitVec_xor, BitVec.getLsbD_xor]
theorem b_big {x : Int32} {i : Nat} (h : 32 ≤ i) : bt x i = false := BitVec.getLsbD_of_ge _ _ h
theorem b_m1 : ∀ i, i < 32 → bt (-1) i = true := by decide +kernel
theorem b_0 (i : Nat) : bt 0 i = false := BitVec.getLsbD_zero
theorem s_l : ∀ n, n < 32 → ((nI n &&& 31).toBitVec.smod 32).toNat = n := by decide +kernel
theorem b_shl (n : Nat) (hn : n < 32) (x : Int32) {i : Nat} (hi : i < 32) : bt (x <<< (nI n &&& 31)) i = (decide (n ≤ i) && bt x (i - n)) := by
  unfold bt
  rw [Int32.toBitVec_shiftLeft]
  show (x.toBitVec <<< ((nI n &&& 31).toBitVec.smod 32).toNat).getLsbD i = _
  rw [s_l n hn, BitVec.getLsbD_shiftLeft]
  rcases Nat.lt_or_ge i n with h | h
  · simp [h, Nat.not_le.mpr h]
  · simp [hi, h, Nat.not_lt.mpr h]
end
section
/-! numbers, handles, lock bits, chains of prototypes, ranks -/
theorem zn_m1 {n : Nat} (h : n < 2 ^ 31) : ¬ nI n = -1 := by
  intro e
  have e2 := congrArg Int32.toInt e
  rw [nI_toInt h, show (-1 : Int32).toInt = -1 from by decide] at e2
  omega
theorem zn_neg1 : (-1 : Int32) < 0 := by decide
theorem zn_8 (a b : Nat) : nI a * 8 + nI b = nI (a * 8 + b) := by
  rw [show (8 : Int32) = nI 8 from rfl, pk_mul, nI_add]
theorem zn_4 (a b : Nat) : nI a * 4 + nI b = nI (a * 4 + b) := by
  rw [show (4 : Int32) = nI 4 from rfl, pk_mul, nI_add]
theorem zn_10 (a b : Nat) : nI a * 10 + nI b = nI (a * 10 + b) := by
  rw [show (10 : Int32) = nI 10 from rfl, pk_mul, nI_add]
theorem zn_inj {a b : Nat} (ha : a < 2 ^ 31) (hb : b < 2 ^ 31) (e : nI a = nI b) : a = b := (nI_eq ha hb).mp e
theorem zn_up {f : Nat → Int32} {k : Nat} {x : Int32} (h : f k = x) : upd f k x = f := by
  funext j
  unfold upd
  by_cases e : j = k
  · rw [if_pos e, e, h]
  · rw [if_neg e]
def NH (T : Nat) (x : Int32) : Prop := x < 0 ∨ (¬ x < 0 ∧ nI T ≤ x)
theorem zh_c (T : Nat) (hT : T < 2 ^ 31) (x : Int32) : NH T x ∨ ∃ q, q < T ∧ x = nI q := by
  by_cases h : x < 0
  · exact Or.inl (Or.inl h)
  · rcases pk_ix x hT with h1 | h1 | h1
    · exact absurd h1 h
    · exact Or.inl (Or.inr ⟨h, h1⟩)
    · exact Or.inr h1
theorem zh_t {q T : Nat} {A B : Prop} (h : q < T) (hT : T < 2 ^ 31) (b : B) : (nI q < 0 → A) ∧ (¬ nI q < 0 → (nI T ≤ nI q → A) ∧ (¬ nI T ≤ nI q → B)) := br_f (nI_pos (by omega)) (br_f (nI_ge h hT) b)
theorem zh_f {T : Nat} {x : Int32} {A B : Prop} (h : NH T x) (a : A) : (x < 0 → A) ∧ (¬ x < 0 → (nI T ≤ x → A) ∧ (¬ nI T ≤ x → B)) := by
  rcases h with h | ⟨h, h'⟩
  · exact br_t h a
  · exact br_f h (br_t h' a)
theorem zh_m1 {T : Nat} : NH T (-1) := Or.inl zn_neg1
theorem zh_nh {T q : Nat} (hT : T < 2 ^ 31) (h : q < T) : ¬ NH T (nI q) := by
  intro z
  rcases z with z | ⟨_, z⟩
  · exact nI_pos (by omega) z
  · exact nI_ge h hT z
/-! lock bits -/
theorem b_1 : ∀ i, i < 32 → bt 1 i = decide (i = 0) := by decide +kernel
theorem b_one {n i : Nat} (hn : n < 32) (hi : i < 32) : bt ((1 : Int32) <<< (nI n &&& 31)) i = decide (i = n) := by
  rw [b_shl n hn 1 hi]
  by_cases h : n ≤ i
  · rw [b_1 (i - n) (by omega), decide_eq_true h, Bool.true_and]
    by_cases e : i = n
    · rw [decide_eq_true e, decide_eq_true (by omega)]
    · rw [decide_eq_false e, decide_eq_false (by omega)]
  · rw [decide_eq_false h, Bool.false_and, decide_eq_false (by omega)]
def lb (x : Int32) (m : Nat) : Prop := ¬ (x &&& ((1 : Int32) <<< (nI m &&& 31))) = 0
theorem lb_bt (x : Int32) {m : Nat} (hm : m < 32) : lb x m ↔ bt x m = true := by
  unfold lb
  constructor
  · intro h
    cases e : bt x m with
    | true => rfl
    | false =>
      refine absurd (b_ext (fun i hi => ?_)) h
      rw [b_and, b_one hm hi, b_0]
      by_cases d : i = m
      · rw [d, e, Bool.false_and]
      · rw [decide_eq_false d, Bool.and_false]
  · intro h z
    have e := congrArg (fun y => bt y m) z
    rw [b_and, b_one hm hm, h, b_0] at e
    simp at e
theorem lb_0 {m : Nat} (hm : m < 32) : ¬ lb 0 m := by
  rw [lb_bt 0 hm, b_0]
  exact Bool.false_ne_true
theorem lb_or {x : Int32} {m n : Nat} (hm : m < 8) (hn : n < 8) : lb (x ||| ((1 : Int32) <<< (nI n &&& 31))) m ↔ lb x m ∨ m = n := by
  rw [lb_bt _ (by omega), lb_bt _ (by omega), b_or, b_one (by omega) (by omega)]
  simp
theorem lb_cl {x : Int32} {m n : Nat} (hm : m < 8) (hn : n < 8) : lb (x &&& (((1 : Int32) <<< (nI n &&& 31)) ^^^ (-1))) m ↔ lb x m ∧ m ≠ n := by
  rw [lb_bt _ (by omega), lb_bt _ (by omega), b_and, b_xor, b_one (by omega) (by omega), b_m1 m (by omega)]
  simp
/-! chains -/
def inh (pa : Nat → Int32) (o : Int32) : Nat → Int32 → Prop
  | 0, _ => False
  | k + 1, x => ¬ x = -1 ∧ (x = o ∨ inh pa o k (pa x.toNatClampNeg))
def hol (pa ow : Nat → Int32) : Nat → Int32 → Int32
  | 0, _ => -1
  | k + 1, x => if x = -1 then -1 else if ow x.toNatClampNeg = -1 then hol pa ow k (pa x.toNatClampNeg) else x
def VP (T : Nat) (x : Int32) : Prop := x = -1 ∨ ∃ p, p < T ∧ x = nI p
def RK (T : Nat) (pa : Nat → Int32) (rk : Nat → Nat) : Prop := ∀ q, q < T → rk q < 12 ∧ (pa q = -1 ∨ ∃ p, p < T ∧ pa q = nI p ∧ rk p < rk q)
def RB (T : Nat) (rk : Nat → Nat) (x : Int32) (k : Nat) : Prop := x = -1 ∨ ∃ p, p < T ∧ x = nI p ∧ rk p < k
def OB (T OL : Nat) (pa : Nat → Int32) : Prop := T ≤ OL ∧ OL ≤ 12 ∧ ∃ rk, RK T pa rk
section
variable {T : Nat} {pa ow : Nat → Int32} {rk : Nat → Nat} {o : Int32}
theorem inh_s {k p : Nat} (hp : p < 2 ^ 31) : inh pa o (k + 1) (nI p) ↔ (nI p = o ∨ inh pa o k (pa p)) := by
  show (¬ nI p = -1 ∧ (nI p = o ∨ inh pa o k (pa (nI p).toNatClampNeg))) ↔ _
  rw [nI_clamp hp]
  exact ⟨fun h => h.2, fun h => ⟨zn_m1 hp, h⟩⟩
theorem inh_m1 : ∀ k : Nat, ¬ inh pa o k (-1)
  | 0 => fun h => h
  | _ + 1 => fun h => h.1 rfl
theorem hol_s {k p : Nat} (hp : p < 2 ^ 31) : hol pa ow (k + 1) (nI p) = if ow p = -1 then hol pa ow k (pa p) else nI p := by
  show (if nI p = -1 then -1 else if ow (nI p).toNatClampNeg = -1 then hol pa ow k (pa (nI p).toNatClampNeg) else nI p) = _
  rw [nI_clamp hp, if_neg (zn_m1 hp)]
theorem hol_m1 : ∀ k : Nat, hol pa ow k (-1) = -1
  | 0 => rfl
  | _ + 1 => if_pos rfl
theorem RK_vp (R : RK T pa rk) {q : Nat} (hq : q < T) : VP T (pa q) := by
  rcases (R q hq).2 with h | ⟨p, hp, e, _⟩
  · exact Or.inl h
  · exact Or.inr ⟨p, hp, e⟩
theorem RK_rb (R : RK T pa rk) {q k : Nat} (hq : q < T) (h : rk q < k + 1) : RB T rk (pa q) k := by
  rcases (R q hq).2 with h2 | ⟨p, hp, e, h3⟩
  · exact Or.inl h2
  · exact Or.inr ⟨p, hp, e, by omega⟩
theorem RK_rb12 (R : RK T pa rk) {x : Int32} (h : VP T x) : RB T rk x 12 := by
  rcases h with h | ⟨p, hp, e⟩
  · exact Or.inl h
  · exact Or.inr ⟨p, hp, e, (R p hp).1⟩
theorem inh_fuel (R : RK T pa rk) (hT : T ≤ 12) : ∀ (k k' : Nat) (x : Int32), RB T rk x k → RB T rk x k' → (inh pa o k x ↔ inh pa o k' x) := by
  intro k
  induction k with
  | zero =>
    intro k' x h _
    rcases h with rfl | ⟨p, _, _, h⟩
    · exact ⟨fun z => absurd z (inh_m1 _), fun z => absurd z (inh_m1 _)⟩
    · exact absurd h (Nat.not_lt_zero _)
  | succ k ih =>
    intro k' x h h'
    rcases h with rfl | ⟨p, hp, rfl, h⟩
    · exact ⟨fun z => absurd z (inh_m1 _), fun z => absurd z (inh_m1 _)⟩
    · rcases h' with h' | ⟨p', hp', e, h'⟩
      · exact absurd h' (zn_m1 (by omega))
      · have e2 := zn_inj (by omega) (by omega) e
        subst e2
        cases k' with
        | zero => exact absurd h' (Nat.not_lt_zero _)
        | succ k' =>
          rw [inh_s (by omega), inh_s (by omega), ih k' (pa p) (RK_rb R hp h) (RK_rb R hp h')]
theorem hol_fuel (R : RK T pa rk) (hT : T ≤ 12) : ∀ (k k' : Nat) (x : Int32), RB T rk x k → RB T rk x k' → hol pa ow k x = hol pa ow k' x := by
  intro k
  induction k with
  | zero =>
    intro k' x h _
    rcases h with rfl | ⟨p, _, _, h⟩
    · rw [hol_m1, hol_m1]
    · exact absurd h (Nat.not_lt_zero _)
  | succ k ih =>
    intro k' x h h'
    rcases h with rfl | ⟨p, hp, rfl, h⟩
    · rw [hol_m1, hol_m1]
    · rcases h' with h' | ⟨p', hp', e, h'⟩
      · exact absurd h' (zn_m1 (by omega))
      · have e2 := zn_inj (by omega) (by omega) e
        subst e2
        cases k' with
        | zero => exact absurd h' (Nat.not_lt_zero _)
        | succ k' =>
          rw [hol_s (by omega), hol_s (by omega), ih k' (pa p) (RK_rb R hp h) (RK_rb R hp h')]
theorem inh_eq (R : RK T pa rk) (hT : T ≤ 12) {q : Nat} (hq : q < T) : inh pa o 12 (nI q) ↔ (nI q = o ∨ inh pa o 12 (pa q)) := by
  rw [inh_s (k := 11) (by omega), inh_fuel R hT 11 12 (pa q) (RK_rb R hq (R q hq).1) (RK_rb12 R (RK_vp R hq))]
theorem hol_eq (R : RK T pa rk) (hT : T ≤ 12) {q : Nat} (hq : q < T) : hol pa ow 12 (nI q) = if ow q = -1 then hol pa ow 12 (pa q) else nI q := by
  rw [hol_s (k := 11) (by omega), hol_fuel R hT 11 12 (pa q) (RK_rb R hq (R q hq).1) (RK_rb12 R (RK_vp R hq))]
theorem hol_vp (R : RK T pa rk) (hT : T ≤ 12) : ∀ (k : Nat) (x : Int32), VP T x → hol pa ow k x = -1 ∨ ∃ p, p < T ∧ hol pa ow k x = nI p ∧ ¬ ow p = -1 ∧ inh pa (nI p) k x := by
  intro k
  induction k with
  | zero => intro x _; exact Or.inl rfl
  | succ k ih =>
    intro x h
    rcases h with rfl | ⟨p, hp, rfl⟩
    · exact Or.inl (hol_m1 _)
    · rw [hol_s (by omega)]
      by_cases e : ow p = -1
      · rw [if_pos e]
        rcases ih (pa p) (RK_vp R hp) with h | ⟨r, hr, h1, h2, h3⟩
        · exact Or.inl h
        · exact Or.inr ⟨r, hr, h1, h2, (inh_s (by omega)).mpr (Or.inr h3)⟩
      · rw [if_neg e]
        exact Or.inr ⟨p, hp, rfl, e, (inh_s (by omega)).mpr (Or.inl rfl)⟩
theorem hol_loc {pa' ow' : Nat → Int32} {oo : Nat} (R : RK T pa rk) (hT : T ≤ 12) (ho : oo < 2 ^ 31) (hn : ∀ q, q < T → q ≠ oo → pa' q = pa q ∧ ow' q = ow q) : ∀ (k : Nat) (x : Int32), VP T x → ¬ inh pa (nI oo) k x → hol pa' ow' k x = hol pa ow k x := by
  intro k
  induction k with
  | zero => intro x _ _; rfl
  | succ k ih =>
    intro x h hi
    rcases h with rfl | ⟨p, hp, rfl⟩
    · rw [hol_m1, hol_m1]
    · rw [inh_s (by omega)] at hi
      have hne : p ≠ oo := fun z => hi (Or.inl (congrArg nI z))
      obtain ⟨e1, e2⟩ := hn p hp hne
      rw [hol_s (by omega), hol_s (by omega), e1, e2, ih (pa p) (RK_vp R hp) (fun z => hi (Or.inr z))]
theorem inh_out (R : RK T pa rk) (hT : T ≤ 12) : ∀ (k : Nat) (x : Int32), VP T x → ¬ inh pa (nI T) k x := by
  intro k
  induction k with
  | zero => intro x _ h; exact h
  | succ k ih =>
    intro x h
    rcases h with rfl | ⟨p, hp, rfl⟩
    · exact inh_m1 _
    · rw [inh_s (by omega)]
      intro z
      rcases z with z | z
      · have := zn_inj (by omega) (by omega) z; omega
      · exact ih _ (RK_vp R hp) z
end
/-! ranks by counting -/
def cn (f : Nat → Bool) : Nat → Nat
  | 0 => 0
  | n + 1 => cn f n + (if f n = true then 1 else 0)
theorem cn_le (f g : Nat → Bool) : ∀ n, (∀ r, r < n → f r = true → g r = true) → cn f n ≤ cn g n := by
  intro n
  induction n with
  | zero => intro _; exact Nat.le_refl _
  | succ n ih =>
    intro h
    have h1 := ih (fun r hr => h r (by omega))
    have h2 := h n (by omega)
    show cn f n + (if f n = true then 1 else 0) ≤ cn g n + (if g n = true then 1 else 0)
    by_cases a : f n = true
    · rw [if_pos a, if_pos (h2 a)]; omega
    · rw [if_neg a]; omega
theorem cn_lt (f g : Nat → Bool) (p : Nat) (hf : ¬ f p = true) (hg : g p = true) : ∀ n, p < n → (∀ r, r < n → f r = true → g r = true) → cn f n < cn g n := by
  intro n
  induction n with
  | zero => intro h; omega
  | succ n ih =>
    intro hp h
    have h2 := h n (by omega)
    show cn f n + (if f n = true then 1 else 0) < cn g n + (if g n = true then 1 else 0)
    by_cases e : p = n
    · subst e
      have h1 := cn_le f g p (fun r hr => h r (by omega))
      rw [if_neg hf, if_pos hg]; omega
    · have h1 := ih (by omega) (fun r hr => h r (by omega))
      by_cases a : f n = true
      · rw [if_pos a, if_pos (h2 a)]; omega
      · rw [if_neg a]; omega
theorem cn_all : ∀ n, cn (fun _ => true) n = n := by
  intro n
  induction n with
  | zero => rfl
  | succ n ih =>
    show cn (fun _ => true) n + 1 = n + 1
    rw [ih]
theorem RK_mk {T : Nat} {pa : Nat → Int32} (rk : Nat → Nat) (hT : T ≤ 12) (h : ∀ q, q < T → (pa q = -1 ∨ ∃ p, p < T ∧ pa q = nI p ∧ rk p < rk q)) : ∃ rk', RK T pa rk' := by
  refine ⟨fun q => cn (fun r => decide (rk r < rk q)) T, fun q hq => ⟨?_, ?_⟩⟩
  · have h1 := cn_lt (fun r => decide (rk r < rk q)) (fun _ => true) q (by simp) rfl T hq (fun _ _ _ => rfl)
    rw [cn_all] at h1
    dsimp only
    omega
  · rcases h q hq with e | ⟨p, hp, e, hr⟩
    · exact Or.inl e
    · refine Or.inr ⟨p, hp, e, ?_⟩
      dsimp only
      refine cn_lt _ _ p (by simp) (by simpa using hr) T hp ?_
      intro r _ h2
      have h3 : rk r < rk p := by simpa using h2
      simp
      omega
theorem OB_new {T OL : Nat} {pa : Nat → Int32} (H : OB T OL pa) (hl : T < OL) {x : Int32} (hx : VP T x) : OB (T + 1) OL (upd pa T x) := by
  obtain ⟨h1, h2, rk, R⟩ := H
  refine ⟨by omega, h2, RK_mk (fun q => if q = T then 12 else rk q) (by omega) (fun q hq => ?_)⟩
  by_cases e : q = T
  · subst e
    rw [pk_us]
    rcases hx with hx | ⟨p, hp, hx⟩
    · exact Or.inl hx
    · refine Or.inr ⟨p, by omega, hx, ?_⟩
      rw [if_neg (by omega), if_pos rfl]
      exact (R p hp).1
  · rw [pk_un e]
    rcases (R q (by omega)).2 with h | ⟨p, hp, h, h3⟩
    · exact Or.inl h
    · refine Or.inr ⟨p, by omega, h, ?_⟩
      rw [if_neg (by omega), if_neg e]
      exact h3
theorem OB_set {T OL : Nat} {pa : Nat → Int32} (H : OB T OL pa) {o : Nat} (ho : o < T) {x : Int32} (hx : VP T x) (hn : ¬ inh pa (nI o) 12 x) : OB T OL (upd pa o x) := by
  obtain ⟨h1, h2, rk, R⟩ := H
  have hT : T ≤ 12 := by omega
  classical
  refine ⟨h1, h2, RK_mk (fun q => if inh pa (nI o) 12 (nI q) then rk q + 12 else rk q) hT (fun q hq => ?_)⟩
  by_cases e : q = o
  · subst e
    rw [pk_us]
    rcases hx with hx | ⟨p, hp, rfl⟩
    · exact Or.inl hx
    · refine Or.inr ⟨p, hp, rfl, ?_⟩
      rw [if_neg hn, if_pos ((inh_eq R hT hq).mpr (Or.inl rfl))]
      have := (R p hp).1
      omega
  · rw [pk_un e]
    rcases (R q hq).2 with h | ⟨p, hp, h, h3⟩
    · exact Or.inl h
    · refine Or.inr ⟨p, hp, h, ?_⟩
      by_cases d : inh pa (nI o) 12 (nI p)
      · have d2 : inh pa (nI o) 12 (nI q) := (inh_eq R hT hq).mpr (Or.inr (by rw [h]; exact d))
        rw [if_pos d, if_pos d2]; omega
      · rw [if_neg d]
        by_cases d2 : inh pa (nI o) 12 (nI q)
        · rw [if_pos d2]; omega
        · rw [if_neg d2]; exact h3
/-! n + 1 numbers below n: two are equal -/
theorem pg_hole : ∀ (n : Nat) (f : Nat → Nat), (∀ i, i ≤ n → f i < n) → ∃ i j, i < j ∧ j ≤ n ∧ f i = f j := by
  intro n
  induction n with
  | zero => intro f h; exact absurd (h 0 (Nat.le_refl _)) (Nat.not_lt_zero _)
  | succ n ih =>
    intro f h
    by_cases a : ∃ i, i ≤ n ∧ f i = f (n + 1)
    · obtain ⟨i, hi, e⟩ := a
      exact ⟨i, n + 1, by omega, Nat.le_refl _, e⟩
    · have hne : ∀ i, i ≤ n → f i ≠ f (n + 1) := fun i hi e => a ⟨i, hi, e⟩
      obtain ⟨i, j, hij, hj, e⟩ := ih (fun i => if f i = n then f (n + 1) else f i) (fun i hi => by
        have h1 := h i (by omega)
        have h2 := h (n + 1) (Nat.le_refl _)
        have h3 := hne i hi
        by_cases d : f i = n
        · rw [if_pos d]; omega
        · rw [if_neg d]; omega)
      refine ⟨i, j, hij, by omega, ?_⟩
      have n1 := hne i (by omega)
      have n2 := hne j hj
      by_cases d : f i = n
      · by_cases d2 : f j = n
        · rw [d, d2]
        · rw [if_pos d, if_neg d2] at e
          exact absurd e.symm n2
      · by_cases d2 : f j = n
        · rw [if_neg d, if_pos d2] at e
          exact absurd e n1
        · rw [if_neg d, if_neg d2] at e
          exact e
end
section
/-! layouts: a shape of the component, an object of the reference -/
def kap (κ : Nat → Nat) (z n : Nat) : Nat → Nat := fun i => if i = z then n else κ i
def krm (κ : Nat → Nat) (p : Nat) : Nat → Nat := fun i => if i < p then κ i else κ (i + 1)
def RX (zs ls ks ps : Nat → Int32) (s z : Nat) (κ : Nat → Nat) (b : Int32) : Prop :=
  z ≤ 8 ∧ zs s = nI z ∧ ls s = b ∧ (∀ i, i < z → κ i < 8 ∧ ks (s * 8 + i) = nI (κ i) ∧ ps (s * 8 + κ i) = nI i) ∧ (∀ m, m < 8 → (ps (s * 8 + m) = -1 ∧ ¬ lb b m) ∨ ∃ i, i < z ∧ κ i = m)
def RY (sz ky lo : Nat → Int32) (q z : Nat) (κ : Nat → Nat) (b : Int32) : Prop :=
  sz q = nI z ∧ ∀ i, i < z → ky (q * 8 + i) = nI (κ i) ∧ ((lb b (κ i) ∧ lo (q * 8 + i) = 1) ∨ (¬ lb b (κ i) ∧ lo (q * 8 + i) = 0))
def SE (zs ls ks ps zs' ls' ks' ps' : Nat → Int32) (s s' : Nat) : Prop :=
  zs' s' = zs s ∧ ls' s' = ls s ∧ ∀ i, i < 8 → ks' (s' * 8 + i) = ks (s * 8 + i) ∧ ps' (s' * 8 + i) = ps (s * 8 + i)
section
variable {zs ls ks ps zs' ls' ks' ps' zs'' ls'' ks'' ps'' : Nat → Int32} {s s' t z n m : Nat} {κ : Nat → Nat} {b : Int32}
theorem SE_rfl : SE zs ls ks ps zs ls ks ps s s := ⟨rfl, rfl, fun _ _ => ⟨rfl, rfl⟩⟩
theorem SE_symm (h : SE zs ls ks ps zs' ls' ks' ps' s s') : SE zs' ls' ks' ps' zs ls ks ps s' s := ⟨h.1.symm, h.2.1.symm, fun i hi => ⟨(h.2.2 i hi).1.symm, (h.2.2 i hi).2.symm⟩⟩
theorem SE_trans (h : SE zs ls ks ps zs' ls' ks' ps' s s') (h' : SE zs' ls' ks' ps' zs'' ls'' ks'' ps'' s' t) : SE zs ls ks ps zs'' ls'' ks'' ps'' s t := ⟨h'.1.trans h.1, h'.2.1.trans h.2.1, fun i hi => ⟨(h'.2.2 i hi).1.trans (h.2.2 i hi).1, (h'.2.2 i hi).2.trans (h.2.2 i hi).2⟩⟩
theorem RX_cg (h : SE zs ls ks ps zs' ls' ks' ps' s s') (H : RX zs ls ks ps s z κ b) : RX zs' ls' ks' ps' s' z κ b := by
  obtain ⟨h1, h2, h3⟩ := h
  obtain ⟨a1, a2, a3, a4, a5⟩ := H
  refine ⟨a1, h1.trans a2, h2.trans a3, fun i hi => ?_, fun m hm => ?_⟩
  · obtain ⟨c1, c2, c3⟩ := a4 i hi
    exact ⟨c1, (h3 i (by omega)).1.trans c2, (h3 _ c1).2.trans c3⟩
  · rcases a5 m hm with ⟨c1, c2⟩ | c
    · exact Or.inl ⟨(h3 m hm).2.trans c1, c2⟩
    · exact Or.inr c
/-- a name's place in the shape -/
theorem RX_at (H : RX zs ls ks ps s z κ b) (hm : m < 8) : (ps (s * 8 + m) = -1 ∧ ¬ lb b m ∧ ∀ i, i < z → κ i ≠ m) ∨ ∃ i, i < z ∧ κ i = m ∧ ps (s * 8 + m) = nI i := by
  obtain ⟨a1, a2, a3, a4, a5⟩ := H
  rcases a5 m hm with ⟨c1, c2⟩ | ⟨i, hi, e⟩
  · refine Or.inl ⟨c1, c2, fun i hi e => ?_⟩
    have h := (a4 i hi).2.2
    rw [e, c1] at h
    exact zn_m1 (by omega) h.symm
  · refine Or.inr ⟨i, hi, e, ?_⟩
    rw [← e]
    exact (a4 i hi).2.2
theorem RX_inj (H : RX zs ls ks ps s z κ b) {i j : Nat} (hi : i < z) (hj : j < z) (e : κ i = κ j) : i = j := by
  obtain ⟨a1, a2, a3, a4, a5⟩ := H
  have h1 := (a4 i hi).2.2
  have h2 := (a4 j hj).2.2
  rw [e, h2] at h1
  exact (zn_inj (by omega) (by omega) h1).symm
theorem RX_room (H : RX zs ls ks ps s z κ b) (hm : m < 8) (ha : ps (s * 8 + m) = -1) : z < 8 := by
  by_cases h : z < 8
  · exact h
  · exfalso
    have a1 := H.1
    have e8 : z = 8 := by omega
    subst e8
    obtain ⟨i, j, hij, hj, e⟩ := pg_hole 8 (fun i => if i < 8 then κ i else m) (fun i hi => by
      by_cases d : i < 8
      · rw [if_pos d]; exact (H.2.2.2.1 i d).1
      · rw [if_neg d]; exact hm)
    have hi : i < 8 := by omega
    rw [if_pos hi] at e
    by_cases d : j < 8
    · rw [if_pos d] at e
      have := RX_inj H hi d e
      omega
    · rw [if_neg d] at e
      rcases RX_at H hm with ⟨_, _, c⟩ | ⟨j', _, _, c⟩
      · exact c i hi e
      · rw [ha] at c
        exact zn_m1 (by have := H.1; omega) c.symm
theorem RX_ap (H : RX zs ls ks ps s z κ b) (hn : n < 8) (ha : ps (s * 8 + n) = -1) : RX (upd zs s (nI (z + 1))) ls (upd ks (s * 8 + z) (nI n)) (upd ps (s * 8 + n) (nI z)) s (z + 1) (kap κ z n) b := by
  have hz := RX_room H hn ha
  have hA := RX_at H hn
  obtain ⟨a1, a2, a3, a4, a5⟩ := H
  have hne : ∀ i, i < z → κ i ≠ n := by
    rcases hA with ⟨_, _, c⟩ | ⟨i, hi, _, c⟩
    · exact c
    · rw [ha] at c
      exact absurd c.symm (zn_m1 (by omega))
  refine ⟨by omega, pk_us, a3, fun i hi => ?_, fun m hm => ?_⟩
  · unfold kap
    by_cases e : i = z
    · subst e
      rw [if_pos rfl, pk_us, pk_us]
      exact ⟨hn, rfl, rfl⟩
    · rw [if_neg e, pk_un (by omega)]
      obtain ⟨c1, c2, c3⟩ := a4 i (by omega)
      have := hne i (by omega)
      rw [pk_un (by omega)]
      exact ⟨c1, c2, c3⟩
  · by_cases e : m = n
    · exact Or.inr ⟨z, by omega, by unfold kap; rw [if_pos rfl, e]⟩
    · rw [pk_un (by omega)]
      rcases a5 m hm with c | ⟨i, hi, c⟩
      · exact Or.inl c
      · exact Or.inr ⟨i, by omega, by unfold kap; rw [if_neg (by omega)]; exact c⟩
theorem RX_lk (H : RX zs ls ks ps s z κ b) (hn : n < 8) (ha : ¬ ps (s * 8 + n) = -1) : RX zs (upd ls s (b ||| ((1 : Int32) <<< (nI n &&& 31)))) ks ps s z κ (b ||| ((1 : Int32) <<< (nI n &&& 31))) := by
  obtain ⟨a1, a2, a3, a4, a5⟩ := H
  refine ⟨a1, a2, pk_us, a4, fun m hm => ?_⟩
  rcases a5 m hm with ⟨c1, c2⟩ | c
  · refine Or.inl ⟨c1, fun h => ?_⟩
    rw [lb_or hm hn] at h
    rcases h with h | h
    · exact c2 h
    · subst h
      exact ha c1
  · exact Or.inr c
/-- what a cut of the slot at p leaves -/
theorem RX_rm (H : RX zs ls ks ps s z κ b) {p : Nat} (hp : p < z)
    (hk : ∀ i, i < 8 → ks' (s * 8 + i) = if p ≤ i ∧ i + 1 < z then ks (s * 8 + i + 1) else ks (s * 8 + i))
    (hs1 : ∀ j, p ≤ j → j + 1 < z → ps' (s * 8 + κ (j + 1)) = nI j)
    (hs2 : ∀ m, m < 8 → (∀ j, p ≤ j → j + 1 < z → m ≠ κ (j + 1)) → ps' (s * 8 + m) = ps (s * 8 + m)) :
    RX (upd zs s (nI (z - 1))) (upd ls s (b &&& (((1 : Int32) <<< (nI (κ p) &&& 31)) ^^^ (-1)))) ks' (upd ps' (s * 8 + κ p) (-1)) s (z - 1) (krm κ p) (b &&& (((1 : Int32) <<< (nI (κ p) &&& 31)) ^^^ (-1))) := by
  have hI := @RX_inj zs ls ks ps s z κ b H
  obtain ⟨a1, a2, a3, a4, a5⟩ := H
  have hp8 := (a4 p hp).1
  refine ⟨by omega, pk_us, pk_us, fun i hi => ?_, fun m hm => ?_⟩
  · have hk' := hk i (by omega)
    unfold krm
    by_cases e : i < p
    · rw [if_pos e]
      obtain ⟨c1, c2, c3⟩ := a4 i (by omega)
      rw [if_neg (by omega)] at hk'
      have d1 : κ i ≠ κ p := fun z => by have := hI (by omega) hp z; omega
      rw [pk_un (by omega), hs2 (κ i) c1 (fun j hj hj2 z => by have := hI (by omega) (by omega) z; omega)]
      exact ⟨c1, hk'.trans c2, c3⟩
    · rw [if_neg e]
      obtain ⟨c1, c2, c3⟩ := a4 (i + 1) (by omega)
      rw [if_pos (by omega)] at hk'
      have d1 : κ (i + 1) ≠ κ p := fun z => by have := hI (by omega) hp z; omega
      rw [pk_un (by omega), hs1 i (by omega) (by omega)]
      exact ⟨c1, hk'.trans c2, rfl⟩
  · by_cases e : m = κ p
    · subst e
      rw [pk_us]
      refine Or.inl ⟨rfl, fun h => ?_⟩
      rw [lb_cl hm hm] at h
      exact h.2 rfl
    · rw [pk_un (by omega)]
      rcases a5 m hm with ⟨c1, c2⟩ | ⟨i, hi, c⟩
      · refine Or.inl ⟨?_, fun h => ?_⟩
        · rw [hs2 m hm (fun j hj hj2 z => ?_)]
          · exact c1
          · have := (a4 (j + 1) (by omega)).2.2
            rw [← z, c1] at this
            exact zn_m1 (by omega) this.symm
        · rw [lb_cl hm hp8] at h
          exact c2 h.1
      · refine Or.inr ?_
        have hip : i ≠ p := fun z => e (by rw [← c, z])
        by_cases d : i < p
        · exact ⟨i, by omega, by unfold krm; rw [if_pos d]; exact c⟩
        · refine ⟨i - 1, by omega, ?_⟩
          unfold krm
          rw [if_neg (by omega), show i - 1 + 1 = i from by omega]
          exact c
end
/-! the reference's object under the same three changes -/
section
variable {sz ky lo sz' ky' lo' : Nat → Int32} {q r z n : Nat} {κ : Nat → Nat} {b : Int32}
theorem RY_cg (H : RY sz ky lo q z κ b) (hz : z ≤ 8) (h1 : sz' q = sz q) (h2 : ∀ i, i < 8 → ky' (q * 8 + i) = ky (q * 8 + i) ∧ lo' (q * 8 + i) = lo (q * 8 + i)) : RY sz' ky' lo' q z κ b := by
  obtain ⟨a1, a2⟩ := H
  refine ⟨h1.trans a1, fun i hi => ?_⟩
  rw [(h2 i (by omega)).1, (h2 i (by omega)).2]
  exact a2 i hi
theorem RY_ap (H : RY sz ky lo q z κ b) (hz : z < 8) (hb : ¬ lb b n) : RY (upd sz q (nI (z + 1))) (upd ky (q * 8 + z) (nI n)) (upd lo (q * 8 + z) 0) q (z + 1) (kap κ z n) b := by
  obtain ⟨a1, a2⟩ := H
  refine ⟨pk_us, fun i hi => ?_⟩
  unfold kap
  by_cases e : i = z
  · subst e
    rw [if_pos rfl, pk_us, pk_us]
    exact ⟨rfl, Or.inr ⟨hb, rfl⟩⟩
  · rw [if_neg e, pk_un (by omega), pk_un (by omega)]
    exact a2 i (by omega)
theorem RY_lk (H : RY sz ky lo q z κ b) (hn : n < 8) {p : Nat} (hp : p < z) (hk : ∀ i, i < z → κ i < 8) (e : κ p = n) (hi : ∀ i, i < z → κ i = n → i = p) : RY sz ky (upd lo (q * 8 + p) 1) q z κ (b ||| ((1 : Int32) <<< (nI n &&& 31))) := by
  obtain ⟨a1, a2⟩ := H
  refine ⟨a1, fun i hi2 => ?_⟩
  by_cases d : i = p
  · subst d
    rw [pk_us]
    exact ⟨(a2 i hp).1, Or.inl ⟨(lb_or (hk i hp) hn).mpr (Or.inr e), rfl⟩⟩
  · rw [pk_un (by omega)]
    obtain ⟨c1, c2⟩ := a2 i hi2
    refine ⟨c1, ?_⟩
    rw [lb_or (hk i hi2) hn]
    rcases c2 with ⟨c, c3⟩ | ⟨c, c3⟩
    · exact Or.inl ⟨Or.inl c, c3⟩
    · refine Or.inr ⟨fun h => ?_, c3⟩
      rcases h with h | h
      · exact c h
      · exact d (hi i hi2 h)
theorem RY_rm (H : RY sz ky lo q z κ b) {p : Nat} (hp : p < z) (hz : z ≤ 8) (hk : ∀ i, i < z → κ i < 8) (hI : ∀ i j, i < z → j < z → κ i = κ j → i = j)
    (h1 : ∀ i, i < 8 → ky' (q * 8 + i) = if p ≤ i ∧ i + 1 < z then ky (q * 8 + i + 1) else ky (q * 8 + i))
    (h2 : ∀ i, i < 8 → lo' (q * 8 + i) = if p ≤ i ∧ i + 1 < z then lo (q * 8 + i + 1) else lo (q * 8 + i)) :
    RY (upd sz q (nI (z - 1))) ky' lo' q (z - 1) (krm κ p) (b &&& (((1 : Int32) <<< (nI (κ p) &&& 31)) ^^^ (-1))) := by
  obtain ⟨a1, a2⟩ := H
  refine ⟨pk_us, fun i hi => ?_⟩
  have e1 := h1 i (by omega)
  have e2 := h2 i (by omega)
  unfold krm
  by_cases d : i < p
  · rw [if_neg (by omega)] at e1 e2
    rw [if_pos d, e1, e2, lb_cl (hk i (by omega)) (hk p hp)]
    obtain ⟨c1, c2⟩ := a2 i (by omega)
    refine ⟨c1, ?_⟩
    rcases c2 with ⟨c, c3⟩ | ⟨c, c3⟩
    · exact Or.inl ⟨⟨c, fun h => by have := hI i p (by omega) hp h; omega⟩, c3⟩
    · exact Or.inr ⟨fun h => c h.1, c3⟩
  · rw [if_pos (by omega)] at e1 e2
    rw [if_neg d, e1, e2, lb_cl (hk (i + 1) (by omega)) (hk p hp)]
    obtain ⟨c1, c2⟩ := a2 (i + 1) (by omega)
    refine ⟨c1, ?_⟩
    rcases c2 with ⟨c, c3⟩ | ⟨c, c3⟩
    · exact Or.inl ⟨⟨c, fun h => by have := hI (i + 1) p (by omega) hp h; omega⟩, c3⟩
    · exact Or.inr ⟨fun h => c h.1, c3⟩
end
end
section
/-! the invariant's parts -/
def LM (NL DL : Nat) : Prop := 2 ≤ NL ∧ NL ≤ 8 ∧ 1 ≤ DL ∧ DL ≤ 8
def XE (zs ls ks ps : Nat → Int32) (s n t : Nat) : Prop := ∀ z κ b, RX zs ls ks ps s z κ b → RX zs ls ks ps t (z + 1) (kap κ z n) b
def XL (zs ls ks ps : Nat → Int32) (s n t : Nat) : Prop := ∀ z κ b, RX zs ls ks ps s z κ b → RX zs ls ks ps t z κ (b ||| ((1 : Int32) <<< (nI n &&& 31)))
/-- the tree of shapes -/
def TR (ST : Nat) (zs ls ks ps an ln : Nat → Int32) : Prop :=
  1 ≤ ST ∧ ST ≤ 64 ∧ (∀ s, s < ST → ∃ z κ b, RX zs ls ks ps s z κ b) ∧ zs 0 = 0
  ∧ (∀ s n, s < 64 → n < 8 → an (s * 8 + n) = 0 ∨ (s < ST ∧ ∃ t, t < ST ∧ t ≠ 0 ∧ an (s * 8 + n) = nI t ∧ XE zs ls ks ps s n t))
  ∧ (∀ s n, s < 64 → n < 8 → ln (s * 8 + n) = 0 ∨ (s < ST ∧ ∃ t, t < ST ∧ t ≠ 0 ∧ ln (s * 8 + n) = nI t ∧ XL zs ls ks ps s n t))
/-- each object: its shape and the reference's object hold one layout -/
def OQ (T ST : Nat) (so zs ls ks ps sz ky lo : Nat → Int32) : Prop :=
  ∀ q, q < T → ∃ s z κ b, s < 76 ∧ so q = nI s ∧ (s < ST ∨ s = 64 + q) ∧ RX zs ls ks ps s z κ b ∧ RY sz ky lo q z κ b
def AR (T : Nat) (pa ar : Nat → Int32) : Prop := (∀ q p, q < T → p < T → pa q = nI p → ¬ ar q = 0 → ¬ ar p = 0) ∧ ∀ q, T ≤ q → ar q = 0
def CE (CB : Nat) (ce : Nat → Int64) : Prop := ∀ q, ∃ c, c ≤ CB ∧ ce q = lN c
def BK (T : Nat) (pa : Nat → Int32) (ce : Nat → Int64) (ar : Nat → Int32) (o : Nat) (ce' : Nat → Int64) (ar' : Nat → Int32) : Prop :=
  ∀ q, (q < T ∧ ¬ ar q = 0 ∧ inh pa (nI o) 12 (nI q) ∧ ce' q = ce q + 1 ∧ ar' q = 0) ∨ (¬ (q < T ∧ ¬ ar q = 0 ∧ inh pa (nI o) 12 (nI q)) ∧ ce' q = ce q ∧ ar' q = ar q)
def wo (ps so : Nat → Int32) (n q : Nat) : Int32 := ps ((so q).toNatClampNeg * 8 + n)
def wl (ls so : Nat → Int32) (n q : Nat) : Prop := lb (ls (so q).toNatClampNeg) n
/-- a remembered outcome behind the holder h found from the prototype -/
def OC (T ST : Nat) (so ls ps an : Nat → Int32) (op n s : Nat) (h kd dt : Int32) : Prop :=
  (op ≠ 7 ∧ ((h = -1 ∧ kd = 2) ∨ (∃ p, p < T ∧ h = nI p ∧ kd = 1 ∧ dt = h * 8 + wo ps so n p)))
  ∨ (op = 7 ∧ ((∃ p, p < T ∧ h = nI p ∧ wl ls so n p ∧ kd = 3) ∨ ((h = -1 ∨ ∃ p, p < T ∧ h = nI p ∧ ¬ wl ls so n p) ∧ kd = 4 ∧ ∃ t, t < ST ∧ t ≠ 0 ∧ an (s * 8 + n) = nI t ∧ dt = nI t)))
def EI (T ST : Nat) (pa so : Nat → Int32) (ce : Nat → Int64) (ar ls ps an : Nat → Int32) (op n : Nat) (S ch pr : Int32) (st : Int64) (kd dt : Int32) : Prop :=
  ∃ s, s < ST ∧ S = nI s ∧
   ((ch = 0 ∧ ∃ i, i < 8 ∧ ps (s * 8 + n) = nI i ∧ ((kd = 0 ∧ dt = nI i ∧ (op = 7 → ¬ lb (ls s) n)) ∨ (op = 7 ∧ kd = 3 ∧ lb (ls s) n)))
    ∨ (ch = 1 ∧ ps (s * 8 + n) = -1 ∧
      ((pr = -1 ∧ OC T ST so ls ps an op n s (-1) kd dt)
       ∨ (∃ p c d, p < T ∧ pr = nI p ∧ ce p = lN c ∧ st = lN d ∧ d ≤ c ∧ c < 2 ^ 30 ∧ (d = c → ¬ ar p = 0 ∧ OC T ST so ls ps an op n s (hol pa (wo ps so n) 12 (nI p)) kd dt)))))
def EM (MT : Nat) (le : Nat → Int32) (a : Nat) : Prop := ∃ m j l, m < MT ∧ a = m * 10 + j ∧ j < 10 ∧ le m = nI l ∧ j < l ∧ l ≤ 10
def CA (T ST MT : Nat) (pa so : Nat → Int32) (ce : Nat → Int64) (ar ls ps an le co cc ss es ec ep : Nat → Int32) (et : Nat → Int64) (ek ed : Nat → Int32) : Prop :=
  ∀ a, a < 60 → ∃ st, st ≤ 5 ∧ ss a = nI st ∧ (st = 0 ∨ EM MT le a) ∧ ∃ op n, op ≤ 12 ∧ n < 8 ∧ co a = nI op ∧ cc a = nI n ∧
    ∀ i, i < st → i < 4 → EI T ST pa so ce ar ls ps an op n (es (a * 4 + i)) (ec (a * 4 + i)) (ep (a * 4 + i)) (et (a * 4 + i)) (ek (a * 4 + i)) (ed (a * 4 + i))
def WI (NL : Nat) (co ca cb cc : Nat → Int32) (a : Nat) : Prop :=
  ∃ op ra c, op ≤ 12 ∧ co a = nI op ∧ ra < 4 ∧ ca a = nI ra ∧ c < 8 ∧ cc a = nI c ∧ (op ≠ 0 → ∃ b, b ≤ 10 ∧ cb a = nI b ∧ (op ≠ 5 → b < 4)) ∧ (op = 2 ∨ op = 3 ∨ op = 4 → c < 4) ∧ (op = 6 ∨ op = 7 ∨ op = 8 ∨ op = 11 → c < NL)
def CO (MT NL : Nat) (le co ca cb cc yc : Nat → Int32) : Prop :=
  MT ≤ 6 ∧ (∀ m, m < 6 → ∃ l, l ≤ 10 ∧ le m = nI l ∧ (MT ≤ m → l = 0)) ∧ ∀ a, a < 60 → WI NL co ca cb cc a ∧ yc (a * 4) = co a ∧ yc (a * 4 + 1) = ca a ∧ yc (a * 4 + 2) = cb a ∧ yc (a * 4 + 3) = cc a
def IV (CB : Nat) (T : Nat) (OL : Nat) (NL : Nat) (DL : Nat) (ST : Nat) (MT : Nat) (pa : Nat → Int32) (so : Nat → Int32) (ce : Nat → Int64) (ar : Nat → Int32) (zs : Nat → Int32) (ls : Nat → Int32) (ks : Nat → Int32) (ps : Nat → Int32) (an : Nat → Int32) (ln : Nat → Int32) (le : Nat → Int32) (co : Nat → Int32) (ca : Nat → Int32) (cb : Nat → Int32) (cc : Nat → Int32) (ss : Nat → Int32) (es : Nat → Int32) (ec : Nat → Int32) (ep : Nat → Int32) (et : Nat → Int64) (ek : Nat → Int32) (ed : Nat → Int32) (sz : Nat → Int32) (ky : Nat → Int32) (lo : Nat → Int32) (yc : Nat → Int32) : Prop :=
  OB T OL pa ∧ LM NL DL ∧ TR ST zs ls ks ps an ln ∧ OQ T ST so zs ls ks ps sz ky lo ∧ AR T pa ar ∧ CE CB ce ∧ CA T ST MT pa so ce ar ls ps an le co cc ss es ec ep et ek ed ∧ CO MT NL le co ca cb cc yc
theorem XE_cg {zs ls ks ps zs' ls' ks' ps' : Nat → Int32} {s n t : Nat} (hs : SE zs ls ks ps zs' ls' ks' ps' s s) (ht : SE zs ls ks ps zs' ls' ks' ps' t t) (H : XE zs ls ks ps s n t) : XE zs' ls' ks' ps' s n t :=
  fun z κ b h => RX_cg ht (H z κ b (RX_cg (SE_symm hs) h))
theorem XL_cg {zs ls ks ps zs' ls' ks' ps' : Nat → Int32} {s n t : Nat} (hs : SE zs ls ks ps zs' ls' ks' ps' s s) (ht : SE zs ls ks ps zs' ls' ks' ps' t t) (H : XL zs ls ks ps s n t) : XL zs' ls' ks' ps' s n t :=
  fun z κ b h => RX_cg ht (H z κ b (RX_cg (SE_symm hs) h))
/-- the tree when only dictionaries change -/
theorem TR_keep {ST : Nat} {zs ls ks ps an ln zs' ls' ks' ps' : Nat → Int32} (H : TR ST zs ls ks ps an ln) (h : ∀ s, s < ST → SE zs ls ks ps zs' ls' ks' ps' s s) : TR ST zs' ls' ks' ps' an ln := by
  obtain ⟨a1, a2, a3, a4, a5, a6⟩ := H
  refine ⟨a1, a2, fun s hs => ?_, (h 0 (by omega)).1.trans a4, fun s n hs hn => ?_, fun s n hs hn => ?_⟩
  · obtain ⟨z, κ, b, c⟩ := a3 s hs
    exact ⟨z, κ, b, RX_cg (h s hs) c⟩
  · rcases a5 s n hs hn with c | ⟨c, t, c1, c2, c3, c4⟩
    · exact Or.inl c
    · exact Or.inr ⟨c, t, c1, c2, c3, XE_cg (h s c) (h t c1) c4⟩
  · rcases a6 s n hs hn with c | ⟨c, t, c1, c2, c3, c4⟩
    · exact Or.inl c
    · exact Or.inr ⟨c, t, c1, c2, c3, XL_cg (h s c) (h t c1) c4⟩
/-- the tree with one more shape: behind an add -/
theorem TR_add {ST : Nat} {zs ls ks ps an ln zs' ls' ks' ps' : Nat → Int32} (H : TR ST zs ls ks ps an ln) (h64 : ST < 64) (h : ∀ s, s < ST → SE zs ls ks ps zs' ls' ks' ps' s s) {s n : Nat} (hs : s < ST) (hn : n < 8) (hx : XE zs' ls' ks' ps' s n ST) : TR (ST + 1) zs' ls' ks' ps' (upd an (s * 8 + n) (nI ST)) ln := by
  obtain ⟨a1, a2, a3, a4, a5, a6⟩ := H
  refine ⟨by omega, by omega, fun r hr => ?_, (h 0 (by omega)).1.trans a4, fun r m hr hm => ?_, fun r m hr hm => ?_⟩
  · by_cases e : r = ST
    · subst e
      obtain ⟨z, κ, b, c⟩ := a3 s hs
      exact ⟨_, _, _, hx z κ b (RX_cg (h s hs) c)⟩
    · obtain ⟨z, κ, b, c⟩ := a3 r (by omega)
      exact ⟨z, κ, b, RX_cg (h r (by omega)) c⟩
  · by_cases e : r = s ∧ m = n
    · obtain ⟨e1, e2⟩ := e
      subst e1 e2
      rw [pk_us]
      exact Or.inr ⟨by omega, ST, by omega, by omega, rfl, hx⟩
    · rw [pk_un (by omega)]
      rcases a5 r m hr hm with c | ⟨c, t, c1, c2, c3, c4⟩
      · exact Or.inl c
      · exact Or.inr ⟨by omega, t, by omega, c2, c3, XE_cg (h r c) (h t c1) c4⟩
  · rcases a6 r m hr hm with c | ⟨c, t, c1, c2, c3, c4⟩
    · exact Or.inl c
    · exact Or.inr ⟨by omega, t, by omega, c2, c3, XL_cg (h r c) (h t c1) c4⟩
theorem TR_lock {ST : Nat} {zs ls ks ps an ln zs' ls' ks' ps' : Nat → Int32} (H : TR ST zs ls ks ps an ln) (h64 : ST < 64) (h : ∀ s, s < ST → SE zs ls ks ps zs' ls' ks' ps' s s) {s n : Nat} (hs : s < ST) (hn : n < 8) (hx : XL zs' ls' ks' ps' s n ST) : TR (ST + 1) zs' ls' ks' ps' an (upd ln (s * 8 + n) (nI ST)) := by
  obtain ⟨a1, a2, a3, a4, a5, a6⟩ := H
  refine ⟨by omega, by omega, fun r hr => ?_, (h 0 (by omega)).1.trans a4, fun r m hr hm => ?_, fun r m hr hm => ?_⟩
  · by_cases e : r = ST
    · subst e
      obtain ⟨z, κ, b, c⟩ := a3 s hs
      exact ⟨_, _, _, hx z κ b (RX_cg (h s hs) c)⟩
    · obtain ⟨z, κ, b, c⟩ := a3 r (by omega)
      exact ⟨z, κ, b, RX_cg (h r (by omega)) c⟩
  · rcases a5 r m hr hm with c | ⟨c, t, c1, c2, c3, c4⟩
    · exact Or.inl c
    · exact Or.inr ⟨by omega, t, by omega, c2, c3, XE_cg (h r c) (h t c1) c4⟩
  · by_cases e : r = s ∧ m = n
    · obtain ⟨e1, e2⟩ := e
      subst e1 e2
      rw [pk_us]
      exact Or.inr ⟨by omega, ST, by omega, by omega, rfl, hx⟩
    · rw [pk_un (by omega)]
      rcases a6 r m hr hm with c | ⟨c, t, c1, c2, c3, c4⟩
      · exact Or.inl c
      · exact Or.inr ⟨by omega, t, by omega, c2, c3, XL_cg (h r c) (h t c1) c4⟩
/-- objects, when only shapes that they don't use change -/
theorem OQ_keep {T ST ST' : Nat} {so zs ls ks ps sz ky lo zs' ls' ks' ps' : Nat → Int32} (H : OQ T ST so zs ls ks ps sz ky lo) (hST : ST ≤ ST') (h : ∀ s, s < ST → SE zs ls ks ps zs' ls' ks' ps' s s) (h2 : ∀ s, 64 ≤ s → s < 76 → SE zs ls ks ps zs' ls' ks' ps' s s) : OQ T ST' so zs' ls' ks' ps' sz ky lo := by
  intro q hq
  obtain ⟨s, z, κ, b, c1, c2, c3, c4, c5⟩ := H q hq
  refine ⟨s, z, κ, b, c1, c2, ?_, ?_, c5⟩
  · rcases c3 with c | c
    · exact Or.inl (by omega)
    · exact Or.inr c
  · rcases c3 with c | c
    · exact RX_cg (h s c) c4
    · exact RX_cg (h2 s (by omega) c1) c4
/-- objects, when object o alone gets another layout -/
theorem OQ_set {T ST ST' : Nat} {so zs ls ks ps sz ky lo zs' ls' ks' ps' sz' ky' lo' : Nat → Int32} (H : OQ T ST so zs ls ks ps sz ky lo) (hST : ST ≤ ST') (h : ∀ s, s < ST → SE zs ls ks ps zs' ls' ks' ps' s s) {o : Nat} (ho : o < T) (h2 : ∀ s, 64 ≤ s → s < 76 → s ≠ 64 + o → SE zs ls ks ps zs' ls' ks' ps' s s)
    (hy : ∀ q, q < T → q ≠ o → sz' q = sz q ∧ ∀ i, i < 8 → ky' (q * 8 + i) = ky (q * 8 + i) ∧ lo' (q * 8 + i) = lo (q * 8 + i))
    {s' z' : Nat} {κ' : Nat → Nat} {b' : Int32} (hs : s' < 76) (hs2 : s' < ST' ∨ s' = 64 + o) (hx : RX zs' ls' ks' ps' s' z' κ' b') (hy2 : RY sz' ky' lo' o z' κ' b') : OQ T ST' (upd so o (nI s')) zs' ls' ks' ps' sz' ky' lo' := by
  intro q hq
  by_cases e : q = o
  · subst e
    exact ⟨s', z', κ', b', hs, pk_us, hs2, hx, hy2⟩
  · rw [pk_un e]
    obtain ⟨s, z, κ, b, c1, c2, c3, c4, c5⟩ := H q hq
    refine ⟨s, z, κ, b, c1, c2, ?_, ?_, RY_cg c5 c4.1 (hy q hq e).1 (hy q hq e).2⟩
    · rcases c3 with c | c
      · exact Or.inl (by omega)
      · exact Or.inr c
    · rcases c3 with c | c
      · exact RX_cg (h s c) c4
      · exact RX_cg (h2 s (by omega) c1 (by omega)) c4
section
variable {T ST : Nat} {so zs ls ks ps sz ky lo : Nat → Int32}
theorem OQ_wo (H : OQ T ST so zs ls ks ps sz ky lo) {q n : Nat} (hq : q < T) (hn : n < 8) : wo ps so n q = -1 ∨ ∃ i, i < 8 ∧ wo ps so n q = nI i := by
  obtain ⟨s, z, κ, b, c1, c2, c3, c4, c5⟩ := H q hq
  unfold wo
  rw [c2, nI_clamp (by omega)]
  rcases RX_at c4 hn with ⟨c, _, _⟩ | ⟨i, hi, _, c⟩
  · exact Or.inl c
  · exact Or.inr ⟨i, by have := c4.1; omega, c⟩
theorem OQ_so (H : OQ T ST so zs ls ks ps sz ky lo) {q : Nat} (hq : q < T) : ∃ s, s < 76 ∧ so q = nI s ∧ (s < ST ∨ s = 64 + q) := by
  obtain ⟨s, z, κ, b, c1, c2, c3, c4, c5⟩ := H q hq
  exact ⟨s, c1, c2, c3⟩
theorem wo_s {q s n : Nat} (h : so q = nI s) (hs : s < 76) : wo ps so n q = ps (s * 8 + n) := by
  unfold wo
  rw [h, nI_clamp (by omega)]
theorem wl_s {q s n : Nat} (h : so q = nI s) (hs : s < 76) : wl ls so n q ↔ lb (ls s) n := by
  unfold wl
  rw [h, nI_clamp (by omega)]
end
/-! arming and breaking -/
section
variable {T : Nat} {pa ar ar' : Nat → Int32} {ce ce' : Nat → Int64} {rk : Nat → Nat} {o : Nat}
theorem AR_up (A : AR T pa ar) (R : RK T pa rk) (hT : T ≤ 12) (ho : o < T) : ∀ (k q : Nat), q < T → inh pa (nI o) k (nI q) → ¬ ar q = 0 → ¬ ar o = 0 := by
  intro k
  induction k with
  | zero => intro q _ h; exact absurd h (fun z => z)
  | succ k ih =>
    intro q hq h ha
    rw [inh_s (by omega)] at h
    rcases h with h | h
    · rw [← zn_inj (by omega) (by omega) h]; exact ha
    · rcases (R q hq).2 with e | ⟨p, hp, e, _⟩
      · rw [e] at h
        exact absurd h (inh_m1 _)
      · rw [e] at h
        exact ih p hp h (A.1 q p hq hp e ha)
/-- if o isn't armed there is nothing to break -/
theorem BK_none (A : AR T pa ar) (R : RK T pa rk) (hT : T ≤ 12) (ho : o < T) (h : ar o = 0) : BK T pa ce ar o ce ar :=
  fun q => Or.inr ⟨fun ⟨h1, h2, h3⟩ => AR_up A R hT ho 12 q h1 h3 h2 h, rfl, rfl⟩
theorem AR_bk {pa' : Nat → Int32} (A : AR T pa ar) (R : RK T pa rk) (hT : T ≤ 12) (ho : o < T) (B : BK T pa ce ar o ce' ar') (hp : ∀ q, q < T → q ≠ o → pa' q = pa q) : AR T pa' ar' := by
  constructor
  · intro q p hq hp' e ha
    rcases B q with ⟨_, _, _, _, c⟩ | ⟨c1, _, c3⟩
    · exact absurd c ha
    · rw [c3] at ha
      have hni : ¬ inh pa (nI o) 12 (nI q) := fun z => c1 ⟨hq, ha, z⟩
      have hne : q ≠ o := fun z => hni ((inh_eq R hT hq).mpr (Or.inl (congrArg nI z)))
      rw [hp q hq hne] at e
      have hap := A.1 q p hq hp' e ha
      rcases B p with ⟨_, _, d, _, _⟩ | ⟨_, _, d⟩
      · exact absurd ((inh_eq R hT hq).mpr (Or.inr (by rw [e]; exact d))) hni
      · rw [d]; exact hap
  · intro q hq
    rcases B q with ⟨c, _⟩ | ⟨_, _, c⟩
    · omega
    · rw [c]; exact A.2 q hq
theorem CE_bk {CB : Nat} (C : CE CB ce) (B : BK T pa ce ar o ce' ar') : CE (CB + 1) ce' := by
  intro q
  obtain ⟨c, hc, e⟩ := C q
  rcases B q with ⟨_, _, _, d, _⟩ | ⟨_, d, _⟩
  · exact ⟨c + 1, by omega, by rw [d, e, lN_1]⟩
  · exact ⟨c, by omega, by rw [d, e]⟩
theorem CE_up {CB CB' : Nat} (C : CE CB ce) (h : CB ≤ CB') : CE CB' ce := by
  intro q
  obtain ⟨c, hc, e⟩ := C q
  exact ⟨c, by omega, e⟩
end
/-! cache entries last -/
section
variable {T T' ST ST' : Nat} {pa so ar ls ps an pa' so' ar' ls' ps' an' : Nat → Int32} {ce ce' : Nat → Int64} {rk : Nat → Nat} {o CB : Nat}
/-- what a change off the chains of live entries must keep -/
def KP (T T' ST ST' CB : Nat) (pa so : Nat → Int32) (ce : Nat → Int64) (ar ls ps an pa' so' : Nat → Int32) (ce' : Nat → Int64) (ar' ls' ps' an' : Nat → Int32) (o : Nat) : Prop :=
  T ≤ T' ∧ ST ≤ ST' ∧ o < 2 ^ 31
  ∧ (∀ q, q < T → q ≠ o → pa' q = pa q ∧ ∀ n, n < 8 → wo ps' so' n q = wo ps so n q ∧ (wl ls' so' n q ↔ wl ls so n q))
  ∧ (∀ s, s < ST → ls' s = ls s ∧ ∀ n, n < 8 → ps' (s * 8 + n) = ps (s * 8 + n) ∧ (¬ an (s * 8 + n) = 0 → an' (s * 8 + n) = an (s * 8 + n)))
  ∧ (∀ p c, p < T → c < 2 ^ 30 → ce p = lN c → (∃ c', ce' p = lN c' ∧ c < c' ∧ c' < 2 ^ 30) ∨ (ce' p = ce p ∧ (¬ ar p = 0 → ¬ ar' p = 0 ∧ ¬ inh pa (nI o) 12 (nI p))))
theorem OC_keep (K : KP T T' ST ST' CB pa so ce ar ls ps an pa' so' ce' ar' ls' ps' an' o) {op n s : Nat} {h kd dt : Int32} (hS : ST ≤ 64) (hn : n < 8) (hs : s < ST) (hh : h = -1 ∨ ∃ p, p < T ∧ h = nI p ∧ p ≠ o) (hT : T ≤ 12) (H : OC T ST so ls ps an op n s h kd dt) : OC T' ST' so' ls' ps' an' op n s h kd dt := by
  obtain ⟨k1, k2, k3, k4, k5, k6⟩ := K
  have hm : ∀ p, p < T → h = nI p → p ≠ o := by
    intro p hp e
    rcases hh with h1 | ⟨p', h2, h3, h4⟩
    · rw [e] at h1
      exact absurd h1 (zn_m1 (by omega))
    · rw [e] at h3
      rw [zn_inj (by omega) (by omega) h3]; exact h4
  rcases H with ⟨a, H⟩ | ⟨a, H⟩
  · refine Or.inl ⟨a, ?_⟩
    rcases H with H | ⟨p, b1, b2, b3, b4⟩
    · exact Or.inl H
    · refine Or.inr ⟨p, by omega, b2, b3, ?_⟩
      rw [((k4 p b1 (hm p b1 b2)).2 n hn).1]; exact b4
  · refine Or.inr ⟨a, ?_⟩
    rcases H with ⟨p, b1, b2, b3, b4⟩ | ⟨b1, b2, t, b3, b4, b5, b6⟩
    · exact Or.inl ⟨p, by omega, b2, ((k4 p b1 (hm p b1 b2)).2 n hn).2.mpr b3, b4⟩
    · refine Or.inr ⟨?_, b2, t, by omega, b4, ?_, b6⟩
      · rcases b1 with b1 | ⟨p, c1, c2, c3⟩
        · exact Or.inl b1
        · exact Or.inr ⟨p, by omega, c2, fun z => c3 (((k4 p c1 (hm p c1 c2)).2 n hn).2.mp z)⟩
      · rw [((k5 s hs).2 n hn).2 (by rw [b5]; exact nI_ne0 (by omega) (by omega))]; exact b5
theorem EI_keep (K : KP T T' ST ST' CB pa so ce ar ls ps an pa' so' ce' ar' ls' ps' an' o) (R : RK T pa rk) (hT : T ≤ 12) (hS : ST ≤ 64) {op n : Nat} {S ch pr : Int32} {st : Int64} {kd dt : Int32} (hn : n < 8) (H : EI T ST pa so ce ar ls ps an op n S ch pr st kd dt) : EI T' ST' pa' so' ce' ar' ls' ps' an' op n S ch pr st kd dt := by
  have K' := K
  obtain ⟨k1, k2, k3, k4, k5, k6⟩ := K
  obtain ⟨s, hs, e, H⟩ := H
  refine ⟨s, by omega, e, ?_⟩
  rcases H with ⟨h0, i, hi, h1, h2⟩ | ⟨h0, h1, H⟩
  · refine Or.inl ⟨h0, i, hi, ?_, ?_⟩
    · rw [((k5 s hs).2 n hn).1]; exact h1
    · rw [(k5 s hs).1]; exact h2
  · refine Or.inr ⟨h0, ?_, ?_⟩
    · rw [((k5 s hs).2 n hn).1]; exact h1
    · rcases H with ⟨h2, h3⟩ | ⟨p, c, d, h2, h3, h4, h5, h6, h7, h8⟩
      · exact Or.inl ⟨h2, OC_keep K' hS hn hs (Or.inl rfl) hT h3⟩
      · refine Or.inr ?_
        rcases k6 p c h2 h7 h4 with ⟨c', e1, e2, e3⟩ | ⟨e1, e2⟩
        · exact ⟨p, c', d, by omega, h3, e1, h5, by omega, e3, fun z => by omega⟩
        · refine ⟨p, c, d, by omega, h3, e1.trans h4, h5, h6, h7, fun z => ?_⟩
          obtain ⟨f1, f2⟩ := h8 z
          obtain ⟨f3, f4⟩ := e2 f1
          refine ⟨f3, ?_⟩
          have hv : VP T (nI p) := Or.inr ⟨p, h2, rfl⟩
          rw [hol_loc (ow := wo ps so n) (ow' := wo ps' so' n) R hT k3 (fun q hq hne => ⟨(k4 q hq hne).1, ((k4 q hq hne).2 n hn).1⟩) 12 (nI p) hv f4]
          refine OC_keep K' hS hn hs ?_ hT f2
          rcases hol_vp (ow := wo ps so n) R hT 12 (nI p) hv with g | ⟨p', g1, g2, _, g4⟩
          · exact Or.inl g
          · exact Or.inr ⟨p', g1, g2, fun z => f4 (by rw [← z]; exact g4)⟩
theorem CA_keep {MT : Nat} {le co cc ss es ec ep ek ed : Nat → Int32} {et : Nat → Int64} (K : KP T T' ST ST' CB pa so ce ar ls ps an pa' so' ce' ar' ls' ps' an' o) (R : RK T pa rk) (hT : T ≤ 12) (hS : ST ≤ 64) (H : CA T ST MT pa so ce ar ls ps an le co cc ss es ec ep et ek ed) : CA T' ST' MT pa' so' ce' ar' ls' ps' an' le co cc ss es ec ep et ek ed := by
  intro a ha
  obtain ⟨st, h1, h2, h3, op, n, h4, h5, h6, h7, h8⟩ := H a ha
  exact ⟨st, h1, h2, h3, op, n, h4, h5, h6, h7, fun i hi hi4 => EI_keep K R hT hS h5 (h8 i hi hi4)⟩
/-- break behind a change at o -/
theorem KP_bk (hO : o < T) (hT : T ≤ 12) (hS : ST ≤ ST') (C : CE CB ce) (hC : CB + 1 < 2 ^ 30) (B : BK T pa ce ar o ce' ar')
    (h4 : ∀ q, q < T → q ≠ o → pa' q = pa q ∧ ∀ n, n < 8 → wo ps' so' n q = wo ps so n q ∧ (wl ls' so' n q ↔ wl ls so n q))
    (h5 : ∀ s, s < ST → ls' s = ls s ∧ ∀ n, n < 8 → ps' (s * 8 + n) = ps (s * 8 + n) ∧ (¬ an (s * 8 + n) = 0 → an' (s * 8 + n) = an (s * 8 + n))) :
    KP T T ST ST' CB pa so ce ar ls ps an pa' so' ce' ar' ls' ps' an' o := by
  refine ⟨Nat.le_refl _, hS, by omega, h4, h5, fun p c hp hc e => ?_⟩
  obtain ⟨c2, hc2, e2⟩ := C p
  have hcc : c = c2 := (lN_eq (by omega) (by omega)).mp (e.symm.trans e2)
  rcases B p with ⟨_, _, _, d, _⟩ | ⟨d1, d2, d3⟩
  · exact Or.inl ⟨c + 1, by rw [d, e, lN_1], by omega, by omega⟩
  · exact Or.inr ⟨d2, fun z => ⟨by rw [d3]; exact z, fun y => d1 ⟨hp, z, y⟩⟩⟩
/-- no change of chains at all -/
theorem KP_same (R : RK T pa rk) (hT : T ≤ 12) (hTT : T ≤ T') (hS : ST ≤ ST')
    (h4 : ∀ q, q < T → pa' q = pa q ∧ ∀ n, n < 8 → wo ps' so' n q = wo ps so n q ∧ (wl ls' so' n q ↔ wl ls so n q))
    (h5 : ∀ s, s < ST → ls' s = ls s ∧ ∀ n, n < 8 → ps' (s * 8 + n) = ps (s * 8 + n) ∧ (¬ an (s * 8 + n) = 0 → an' (s * 8 + n) = an (s * 8 + n)))
    (h6 : ∀ p, p < T → ¬ ar p = 0 → ¬ ar' p = 0) :
    KP T T' ST ST' CB pa so ce ar ls ps an pa' so' ce ar' ls' ps' an' T :=
  ⟨hTT, hS, by omega, fun q hq _ => h4 q hq, h5, fun p _ hp _ _ => Or.inr ⟨rfl, fun z => ⟨h6 p hp z, inh_out R hT 12 (nI p) (Or.inr ⟨p, hp, rfl⟩)⟩⟩⟩
end
theorem nI_div {n k : Nat} (hn : n < k) (hk : k < 2 ^ 31) : nI n < nI k := nI_lt hn hk
/-- one entry put -/
theorem CA_put {T : Nat} {ST : Nat} {MT : Nat} {pa : Nat → Int32} {so : Nat → Int32} {ce : Nat → Int64} {ar : Nat → Int32} {ls : Nat → Int32} {ps : Nat → Int32} {an : Nat → Int32} {le : Nat → Int32} {co : Nat → Int32} {cc : Nat → Int32} {ss : Nat → Int32} {es : Nat → Int32} {ec : Nat → Int32} {ep : Nat → Int32} {et : Nat → Int64} {ek : Nat → Int32} {ed : Nat → Int32} (H : CA T ST MT pa so ce ar ls ps an le co cc ss es ec ep et ek ed) {a i st' : Nat} (ha : a < 60) (hi : i < 4) (hem : EM MT le a) (hst : st' ≤ 5) (his : i < st') (hold : ∀ st, ss a = nI st → st ≤ 5 → ∀ j, j < st' → j ≠ i → j < st)
    {S ch pr kd dt : Int32} {st : Int64} (hE : ∀ op n, op ≤ 12 → n < 8 → co a = nI op → cc a = nI n → EI T ST pa so ce ar ls ps an op n S ch pr st kd dt) :
    CA T ST MT pa so ce ar ls ps an le co cc (upd ss a (nI st')) (upd es (a * 4 + i) S) (upd ec (a * 4 + i) ch) (upd ep (a * 4 + i) pr) (vp_updL et (a * 4 + i) st) (upd ek (a * 4 + i) kd) (upd ed (a * 4 + i) dt) := by
  intro r hr
  obtain ⟨s0, h1, h2, h3, op, n, h4, h5, h6, h7, h8⟩ := H r hr
  by_cases e : r = a
  · subst e
    refine ⟨st', hst, pk_us, Or.inr hem, op, n, h4, h5, h6, h7, fun j hj hj4 => ?_⟩
    by_cases d : j = i
    · subst d
      rw [pk_us, pk_us, pk_us, pk_uLs, pk_us, pk_us]
      exact hE op n h4 h5 h6 h7
    · rw [pk_un (by omega), pk_un (by omega), pk_un (by omega), pk_uLn (by omega), pk_un (by omega), pk_un (by omega)]
      exact h8 j (hold s0 h2 h1 j hj d) hj4
  · rw [pk_un e]
    refine ⟨s0, h1, h2, h3, op, n, h4, h5, h6, h7, fun j hj hj4 => ?_⟩
    rw [pk_un (by omega), pk_un (by omega), pk_un (by omega), pk_uLn (by omega), pk_un (by omega), pk_un (by omega)]
    exact h8 j hj hj4
/-- a site becomes megamorphic -/
theorem CA_mega {T : Nat} {ST : Nat} {MT : Nat} {pa : Nat → Int32} {so : Nat → Int32} {ce : Nat → Int64} {ar : Nat → Int32} {ls : Nat → Int32} {ps : Nat → Int32} {an : Nat → Int32} {le : Nat → Int32} {co : Nat → Int32} {cc : Nat → Int32} {ss : Nat → Int32} {es : Nat → Int32} {ec : Nat → Int32} {ep : Nat → Int32} {et : Nat → Int64} {ek : Nat → Int32} {ed : Nat → Int32} (H : CA T ST MT pa so ce ar ls ps an le co cc ss es ec ep et ek ed) {a : Nat} (ha : a < 60) (hem : EM MT le a) {st : Nat} (h0 : ss a = nI st) (h1 : 4 ≤ st) (h5 : st ≤ 5) : CA T ST MT pa so ce ar ls ps an le co cc (upd ss a 5) es ec ep et ek ed := by
  intro r hr
  obtain ⟨s0, h1, h2, h3, op, n, h4, h5, h6, h7, h8⟩ := H r hr
  by_cases e : r = a
  · subst e
    have : s0 = st := zn_inj (by omega) (by omega) (h2.symm.trans h0)
    refine ⟨5, Nat.le_refl _, pk_us, Or.inr hem, op, n, h4, h5, h6, h7, fun j hj hj4 => h8 j (by omega) hj4⟩
  · rw [pk_un e]
    exact ⟨s0, h1, h2, h3, op, n, h4, h5, h6, h7, h8⟩
end
section
/-! the component's reading methods -/
def slo (ow : Nat → Int32) (h : Int32) : Int32 := if h = -1 then -1 else h * 8 + ow h.toNatClampNeg
theorem slo_m1 {ow : Nat → Int32} : slo ow (-1) = -1 := if_pos rfl
theorem slo_nI {ow : Nat → Int32} {p : Nat} (h : p < 2 ^ 31) : slo ow (nI p) = nI p * 8 + ow p := by
  unfold slo
  rw [if_neg (zn_m1 h), nI_clamp h]
theorem slo_i {ow : Nat → Int32} {p i : Nat} (h : p < 2 ^ 31) (e : ow p = nI i) : slo ow (nI p) = nI (p * 8 + i) := by
  rw [slo_nI h, e, zn_8]
theorem zn_sh {p i : Nat} (hp : p < 12) (hi : i < 8) : nI (p * 8 + i) >>> ((3 : Int32) &&& 31) = nI p := by
  rw [pk_shrN (by omega) _ 3 (by decide)]
  exact congrArg nI (by omega)
theorem zn_and7 {p i : Nat} (hp : p < 12) (hi : i < 8) : nI (p * 8 + i) &&& 7 = nI i := by
  rw [pk_andN (by omega) 3 (by decide)]
  exact congrArg nI (by omega)
theorem zn_10n : ¬ (1 : Int32) = 0 := by decide
section
variable {OL NL DL T ST MT : Nat} {g0 g1 g2 g3 g4 g5 g6 g7 g8 g9 fr la : Int32} {pa so sv ar zs ls ks ps an ln le co ca cb cc ss es ec ep ek ed fm pc fd rg : Nat → Int32} {ce et : Nat → Int64}
variable {post : Int32 → Prop}
theorem x_isH_t {q : Nat} (h : q < T) (hT : T ≤ 12) (p : post 1) : wpX_isHandle post (g0, g1, g2, g3, g4, g5, g6, g7, g8, g9, nI OL, nI NL, nI DL, nI T, nI ST, nI MT, fr, la, pa, so, sv, ce, ar, zs, ls, ks, ps, an, ln, le, co, ca, cb, cc, ss, es, ec, ep, et, ek, ed, fm, pc, fd, rg) (nI q) := zh_t h (by omega) p
theorem x_isH_f {x : Int32} (h : NH T x) (p : post 0) : wpX_isHandle post (g0, g1, g2, g3, g4, g5, g6, g7, g8, g9, nI OL, nI NL, nI DL, nI T, nI ST, nI MT, fr, la, pa, so, sv, ce, ar, zs, ls, ks, ps, an, ln, le, co, ca, cb, cc, ss, es, ec, ep, et, ek, ed, fm, pc, fd, rg) x := zh_f h p
theorem x_isN_t {q : Nat} (h : q < NL) (hT : NL ≤ 8) (p : post 1) : wpX_isName post (g0, g1, g2, g3, g4, g5, g6, g7, g8, g9, nI OL, nI NL, nI DL, nI T, nI ST, nI MT, fr, la, pa, so, sv, ce, ar, zs, ls, ks, ps, an, ln, le, co, ca, cb, cc, ss, es, ec, ep, et, ek, ed, fm, pc, fd, rg) (nI q) := zh_t h (by omega) p
theorem x_isN_f {x : Int32} (h : NH NL x) (p : post 0) : wpX_isName post (g0, g1, g2, g3, g4, g5, g6, g7, g8, g9, nI OL, nI NL, nI DL, nI T, nI ST, nI MT, fr, la, pa, so, sv, ce, ar, zs, ls, ks, ps, an, ln, le, co, ca, cb, cc, ss, es, ec, ep, et, ek, ed, fm, pc, fd, rg) x := zh_f h p
theorem x_isC_t {q : Nat} (h : q < MT) (hT : MT ≤ 6) (p : post 1) : wpX_isCallable post (g0, g1, g2, g3, g4, g5, g6, g7, g8, g9, nI OL, nI NL, nI DL, nI T, nI ST, nI MT, fr, la, pa, so, sv, ce, ar, zs, ls, ks, ps, an, ln, le, co, ca, cb, cc, ss, es, ec, ep, et, ek, ed, fm, pc, fd, rg) (nI q) := zh_t h (by omega) p
theorem x_isC_f {x : Int32} (h : NH MT x) (p : post 0) : wpX_isCallable post (g0, g1, g2, g3, g4, g5, g6, g7, g8, g9, nI OL, nI NL, nI DL, nI T, nI ST, nI MT, fr, la, pa, so, sv, ce, ar, zs, ls, ks, ps, an, ln, le, co, ca, cb, cc, ss, es, ec, ep, et, ek, ed, fm, pc, fd, rg) x := zh_f h p
theorem x_isP_t {x : Int32} (h : VP T x) (hT : T ≤ 12) (p : post 1) : wpX_isProto post (g0, g1, g2, g3, g4, g5, g6, g7, g8, g9, nI OL, nI NL, nI DL, nI T, nI ST, nI MT, fr, la, pa, so, sv, ce, ar, zs, ls, ks, ps, an, ln, le, co, ca, cb, cc, ss, es, ec, ep, et, ek, ed, fm, pc, fd, rg) x := by
  rcases h with rfl | ⟨q, hq, rfl⟩
  · exact br_t rfl p
  · exact br_f (zn_m1 (by omega)) (x_isH_t hq hT (br_f zn_10n p))
theorem x_isP_f {x : Int32} (h : NH T x) (h1 : ¬ x = -1) (p : post 0) : wpX_isProto post (g0, g1, g2, g3, g4, g5, g6, g7, g8, g9, nI OL, nI NL, nI DL, nI T, nI ST, nI MT, fr, la, pa, so, sv, ce, ar, zs, ls, ks, ps, an, ln, le, co, ca, cb, cc, ss, es, ec, ep, et, ek, ed, fm, pc, fd, rg) x := br_f h1 (x_isH_f h (br_t rfl p))
theorem x_ck_o {o n : Int32} (h : NH T o) (p : post (-2)) : wpX_checkObjectAndName post (g0, g1, g2, g3, g4, g5, g6, g7, g8, g9, nI OL, nI NL, nI DL, nI T, nI ST, nI MT, fr, la, pa, so, sv, ce, ar, zs, ls, ks, ps, an, ln, le, co, ca, cb, cc, ss, es, ec, ep, et, ek, ed, fm, pc, fd, rg) o n := by
  unfold wpX_checkObjectAndName
  exact x_isH_f h (br_t rfl p)
theorem x_ck_n {q : Nat} {n : Int32} (hq : q < T) (hT : T ≤ 12) (h : NH NL n) (p : post (-3)) : wpX_checkObjectAndName post (g0, g1, g2, g3, g4, g5, g6, g7, g8, g9, nI OL, nI NL, nI DL, nI T, nI ST, nI MT, fr, la, pa, so, sv, ce, ar, zs, ls, ks, ps, an, ln, le, co, ca, cb, cc, ss, es, ec, ep, et, ek, ed, fm, pc, fd, rg) (nI q) n := by
  unfold wpX_checkObjectAndName
  exact x_isH_t hq hT (br_f zn_10n (x_isN_f h (br_t rfl p)))
theorem x_ck_t {q m : Nat} (hq : q < T) (hT : T ≤ 12) (hm : m < NL) (hN : NL ≤ 8) (p : post 0) : wpX_checkObjectAndName post (g0, g1, g2, g3, g4, g5, g6, g7, g8, g9, nI OL, nI NL, nI DL, nI T, nI ST, nI MT, fr, la, pa, so, sv, ce, ar, zs, ls, ks, ps, an, ln, le, co, ca, cb, cc, ss, es, ec, ep, et, ek, ed, fm, pc, fd, rg) (nI q) (nI m) := by
  unfold wpX_checkObjectAndName
  exact x_isH_t hq hT (br_f zn_10n (x_isN_t hm hN (br_f zn_10n p)))
theorem x_find5 (hT : T ≤ 12) (hP : ∀ q, q < T → VP T (pa q)) (hS : ∀ q, q < T → ∃ s, s < 76 ∧ so q = nI s) {m : Nat} (hm : m < 8) : ∀ (d j : Nat) (x : Int32), j + d = 12 → VP T x → ∀ N, d < N → ∀ post : Int32 → Prop, post (slo (wo ps so m) (hol pa (wo ps so m) d x)) → wX_findSlot_5 post (nI m) g0 g1 g2 g3 g4 g5 g6 g7 g8 g9 (nI OL) (nI NL) (nI DL) (nI T) (nI ST) (nI MT) fr la pa so sv ce ar zs ls ks ps an ln le co ca cb cc ss es ec ep et ek ed fm pc fd rg N x (nI j) := by
  intro d
  induction d with
  | zero =>
    intro j x hj _ N hN post hp
    obtain ⟨N, rfl⟩ : ∃ N', N = N' + 1 := ⟨N - 1, by omega⟩
    have h0 : hol pa (wo ps so m) 0 x = -1 := rfl
    rw [h0, slo_m1] at hp
    exact br_t (nI_le (a := 12) (by omega) (by omega)) hp
  | succ d ih =>
    intro j x hj hv N hN post hp
    obtain ⟨N, rfl⟩ : ∃ N', N = N' + 1 := ⟨N - 1, by omega⟩
    have hj2 : ¬ (12 : Int32) ≤ nI j := nI_ge (b := 12) (by omega) (by decide)
    rcases hv with rfl | ⟨p, hq, rfl⟩
    · rw [hol_m1, slo_m1] at hp
      exact br_f hj2 (br_t rfl hp)
    · obtain ⟨s, hs, eS⟩ := hS p hq
      have e0 : (nI p).toNatClampNeg = p := nI_clamp (by omega)
      have e1 : so (nI p).toNatClampNeg = nI s := by rw [e0, eS]
      have e2 : wo ps so m p = ps (s * 8 + m) := wo_s eS hs
      rw [hol_s (by omega)] at hp
      refine br_f hj2 (br_f (zn_m1 (by omega)) ⟨vp_in_nI (by omega) (by omega), by rw [e1, zn_8]; exact vp_in_nI (by omega) (by omega), nm_r (e' := wo ps so m p) (by rw [e1, zn_8, nI_clamp (by omega), e2]) (br_c (fun h => ?_) (fun h => ?_))⟩)
      · rw [if_pos h] at hp
        exact ⟨vp_in_nI (by omega) (by omega), nm_r (e' := pa p) (by rw [e0]) (nm_r (e' := nI (j + 1)) (nI_1 j) (ih (j + 1) (pa p) (by omega) (hP p hq) N (by omega) post hp))⟩
      · rw [if_neg h, slo_nI (by omega)] at hp
        exact hp
theorem x_find (hT : T ≤ 12) (hP : ∀ q, q < T → VP T (pa q)) (hS : ∀ q, q < T → ∃ s, s < 76 ∧ so q = nI s) {q m : Nat} (hm : m < 8) (hq : q < T) (hp : post (slo (wo ps so m) (hol pa (wo ps so m) 12 (nI q)))) : wpX_findSlot post (g0, g1, g2, g3, g4, g5, g6, g7, g8, g9, nI OL, nI NL, nI DL, nI T, nI ST, nI MT, fr, la, pa, so, sv, ce, ar, zs, ls, ks, ps, an, ln, le, co, ca, cb, cc, ss, es, ec, ep, et, ek, ed, fm, pc, fd, rg) (nI q) (nI m) :=
  ⟨13, x_find5 hT hP hS hm 12 0 (nI q) rfl (Or.inr ⟨q, hq, rfl⟩) 13 (by omega) post hp⟩
theorem x_inh5 (hT : T ≤ 12) (hP : ∀ q, q < T → VP T (pa q)) {o : Int32} : ∀ (d j : Nat) (x : Int32), j + d = 12 → VP T x → ∀ N, d < N → ∀ post : Int32 → Prop, (inh pa o d x → post 1) → (¬ inh pa o d x → post 0) → wX_inherits_5 post o g0 g1 g2 g3 g4 g5 g6 g7 g8 g9 (nI OL) (nI NL) (nI DL) (nI T) (nI ST) (nI MT) fr la pa so sv ce ar zs ls ks ps an ln le co ca cb cc ss es ec ep et ek ed fm pc fd rg N x (nI j) := by
  intro d
  induction d with
  | zero =>
    intro j x hj _ N hN post _ hp
    obtain ⟨N, rfl⟩ : ∃ N', N = N' + 1 := ⟨N - 1, by omega⟩
    exact br_t (nI_le (a := 12) (by omega) (by omega)) (hp (fun z => z))
  | succ d ih =>
    intro j x hj hv N hN post h1 h0
    obtain ⟨N, rfl⟩ : ∃ N', N = N' + 1 := ⟨N - 1, by omega⟩
    have hj2 : ¬ (12 : Int32) ≤ nI j := nI_ge (b := 12) (by omega) (by decide)
    rcases hv with rfl | ⟨p, hq, rfl⟩
    · exact br_f hj2 (br_t rfl (h0 (inh_m1 _)))
    · have e0 : (nI p).toNatClampNeg = p := nI_clamp (by omega)
      rw [inh_s (by omega)] at h1 h0
      refine br_f hj2 (br_f (zn_m1 (by omega)) (br_c (fun h => h1 (Or.inl h)) (fun h => ⟨vp_in_nI (by omega) (by omega), nm_r (e' := pa p) (by rw [e0]) (nm_r (e' := nI (j + 1)) (nI_1 j) (ih (j + 1) (pa p) (by omega) (hP p hq) N (by omega) post (fun z => h1 (Or.inr z)) (fun z => h0 (fun y => ?_))))⟩)))
      rcases y with y | y
      · exact h y
      · exact z y
theorem x_inh (hT : T ≤ 12) (hP : ∀ q, q < T → VP T (pa q)) {o x : Int32} (hx : VP T x) (h1 : inh pa o 12 x → post 1) (h0 : ¬ inh pa o 12 x → post 0) : wpX_inherits post (g0, g1, g2, g3, g4, g5, g6, g7, g8, g9, nI OL, nI NL, nI DL, nI T, nI ST, nI MT, fr, la, pa, so, sv, ce, ar, zs, ls, ks, ps, an, ln, le, co, ca, cb, cc, ss, es, ec, ep, et, ek, ed, fm, pc, fd, rg) x o :=
  ⟨13, x_inh5 hT hP 12 0 x rfl hx 13 (by omega) post h1 h0⟩
theorem x_lk_t (hT : T ≤ 12) {q m s : Nat} (hq : q < T) (eS : so q = nI s) (hs : s < 76) (h : wl ls so m q) (p : post 1) : wpX_isLocked post (g0, g1, g2, g3, g4, g5, g6, g7, g8, g9, nI OL, nI NL, nI DL, nI T, nI ST, nI MT, fr, la, pa, so, sv, ce, ar, zs, ls, ks, ps, an, ln, le, co, ca, cb, cc, ss, es, ec, ep, et, ek, ed, fm, pc, fd, rg) (nI q) (nI m) :=
  ⟨vp_in_nI (by omega) (by omega), by rw [nI_clamp (by omega), eS]; exact vp_in_nI (by omega) (by omega), br_f (by rw [nI_clamp (n := q) (by omega)]; exact h) p⟩
theorem x_lk_f (hT : T ≤ 12) {q m s : Nat} (hq : q < T) (eS : so q = nI s) (hs : s < 76) (h : ¬ wl ls so m q) (p : post 0) : wpX_isLocked post (g0, g1, g2, g3, g4, g5, g6, g7, g8, g9, nI OL, nI NL, nI DL, nI T, nI ST, nI MT, fr, la, pa, so, sv, ce, ar, zs, ls, ks, ps, an, ln, le, co, ca, cb, cc, ss, es, ec, ep, et, ek, ed, fm, pc, fd, rg) (nI q) (nI m) :=
  ⟨vp_in_nI (by omega) (by omega), by rw [nI_clamp (by omega), eS]; exact vp_in_nI (by omega) (by omega), br_t (by rw [nI_clamp (n := q) (by omega)]; exact Classical.not_not.mp h) p⟩
theorem x_own (hT : T ≤ 12) {q m s : Nat} (hq : q < T) (hm : m < 8) (eS : so q = nI s) (hs : s < 76) (p : post (wo ps so m q)) : wpX_ownPosition post (g0, g1, g2, g3, g4, g5, g6, g7, g8, g9, nI OL, nI NL, nI DL, nI T, nI ST, nI MT, fr, la, pa, so, sv, ce, ar, zs, ls, ks, ps, an, ln, le, co, ca, cb, cc, ss, es, ec, ep, et, ek, ed, fm, pc, fd, rg) (nI q) (nI m) := by
  have e0 : (nI q).toNatClampNeg = q := nI_clamp (by omega)
  have e1 : so (nI q).toNatClampNeg * 8 + nI m = nI (s * 8 + m) := by rw [e0, eS, zn_8]
  rw [wo_s eS hs] at p
  exact ⟨vp_in_nI (by omega) (by omega), by rw [e1]; exact vp_in_nI (by omega) (by omega), by rw [e1, nI_clamp (by omega)]; exact p⟩
theorem x_cos_o {o n : Int32} (h : NH T o) (p : post (-2)) : wpX_checkOwnSlot post (g0, g1, g2, g3, g4, g5, g6, g7, g8, g9, nI OL, nI NL, nI DL, nI T, nI ST, nI MT, fr, la, pa, so, sv, ce, ar, zs, ls, ks, ps, an, ln, le, co, ca, cb, cc, ss, es, ec, ep, et, ek, ed, fm, pc, fd, rg) o n := by
  unfold wpX_checkOwnSlot
  exact x_ck_o h (br_f (by decide) p)
theorem x_cos_n {q : Nat} {n : Int32} (hq : q < T) (hT : T ≤ 12) (h : NH NL n) (p : post (-3)) : wpX_checkOwnSlot post (g0, g1, g2, g3, g4, g5, g6, g7, g8, g9, nI OL, nI NL, nI DL, nI T, nI ST, nI MT, fr, la, pa, so, sv, ce, ar, zs, ls, ks, ps, an, ln, le, co, ca, cb, cc, ss, es, ec, ep, et, ek, ed, fm, pc, fd, rg) (nI q) n := by
  unfold wpX_checkOwnSlot
  exact x_ck_n hq hT h (br_f (by decide) p)
theorem x_cos_f {q m s : Nat} (hq : q < T) (hT : T ≤ 12) (hm : m < NL) (hN : NL ≤ 8) (eS : so q = nI s) (hs : s < 76) (h : wo ps so m q = -1) (p : post (-7)) : wpX_checkOwnSlot post (g0, g1, g2, g3, g4, g5, g6, g7, g8, g9, nI OL, nI NL, nI DL, nI T, nI ST, nI MT, fr, la, pa, so, sv, ce, ar, zs, ls, ks, ps, an, ln, le, co, ca, cb, cc, ss, es, ec, ep, et, ek, ed, fm, pc, fd, rg) (nI q) (nI m) := by
  unfold wpX_checkOwnSlot
  exact x_ck_t hq hT hm hN (br_t rfl (x_own hT hq (by omega) eS hs (br_t h p)))
theorem x_cos_t {q m s : Nat} (hq : q < T) (hT : T ≤ 12) (hm : m < NL) (hN : NL ≤ 8) (eS : so q = nI s) (hs : s < 76) (h : ¬ wo ps so m q = -1) (p : post 0) : wpX_checkOwnSlot post (g0, g1, g2, g3, g4, g5, g6, g7, g8, g9, nI OL, nI NL, nI DL, nI T, nI ST, nI MT, fr, la, pa, so, sv, ce, ar, zs, ls, ks, ps, an, ln, le, co, ca, cb, cc, ss, es, ec, ep, et, ek, ed, fm, pc, fd, rg) (nI q) (nI m) := by
  unfold wpX_checkOwnSlot
  exact x_ck_t hq hT hm hN (br_t rfl (x_own hT hq (by omega) eS hs (br_f h p)))
theorem x_wk_0 {o n : Int32} (p : post 4) : wpX_writeKind post (g0, g1, g2, g3, g4, g5, g6, g7, g8, g9, nI OL, nI NL, nI DL, nI T, nI ST, nI MT, fr, la, pa, so, sv, ce, ar, zs, ls, ks, ps, an, ln, le, co, ca, cb, cc, ss, es, ec, ep, et, ek, ed, fm, pc, fd, rg) o n (-1) := br_t rfl p
theorem x_wk (hT : T ≤ 12) {q m h i s : Nat} (hq : q < T) (hh : h < T) (hi : i < 8) (eS : so h = nI s) (hs : s < 76) (p3 : wl ls so m h → post 3) (p0 : ¬ wl ls so m h → h = q → post 0) (p4 : ¬ wl ls so m h → h ≠ q → post 4) : wpX_writeKind post (g0, g1, g2, g3, g4, g5, g6, g7, g8, g9, nI OL, nI NL, nI DL, nI T, nI ST, nI MT, fr, la, pa, so, sv, ce, ar, zs, ls, ks, ps, an, ln, le, co, ca, cb, cc, ss, es, ec, ep, et, ek, ed, fm, pc, fd, rg) (nI q) (nI m) (nI (h * 8 + i)) := by
  refine br_f (zn_m1 (by omega)) (nm_r (e' := nI h) (zn_sh (by omega) hi) ?_)
  by_cases w : wl ls so m h
  · exact x_lk_t hT hh eS hs w (br_f zn_10n (p3 w))
  · refine x_lk_f hT hh eS hs w (br_t rfl (br_c (fun e => p0 w (zn_inj (by omega) (by omega) e)) (fun e => p4 w (fun z => e (by rw [z])))))
/-- an entry's fields as a chained entry's reader needs them -/
def VE (ec ep : Nat → Int32) (e : Nat) : Prop := ec e = 0 ∨ ep e = -1 ∨ ∃ p, p < 12 ∧ ep e = nI p
def LE (ec ep : Nat → Int32) (et ce : Nat → Int64) (e : Nat) : Prop := ec e = 0 ∨ ep e = -1 ∨ ∃ p, p < 12 ∧ ep e = nI p ∧ et e = ce p
theorem x_dead {e : Nat} (he : e < 240) (V : VE ec ep e) (h0 : LE ec ep et ce e → post 0) (h1 : post 1) : wpX_isDead post (g0, g1, g2, g3, g4, g5, g6, g7, g8, g9, nI OL, nI NL, nI DL, nI T, nI ST, nI MT, fr, la, pa, so, sv, ce, ar, zs, ls, ks, ps, an, ln, le, co, ca, cb, cc, ss, es, ec, ep, et, ek, ed, fm, pc, fd, rg) (nI e) := by
  have e0 : (nI e).toNatClampNeg = e := nI_clamp (by omega)
  have hi : vp_in (nI e) 240 := vp_in_nI he (by omega)
  refine ⟨hi, br_c (fun h => h0 (Or.inl (by rw [e0] at h; exact h))) (fun h => ⟨hi, br_c (fun h' => h0 (Or.inr (Or.inl (by rw [e0] at h'; exact h')))) (fun h' => ?_)⟩)⟩
  rw [e0] at h h'
  rcases V with v | v | ⟨p, hp, v⟩
  · exact absurd v h
  · exact absurd v h'
  · have e1 : (ep (nI e).toNatClampNeg).toNatClampNeg = p := by rw [e0, v, nI_clamp (by omega)]
    refine ⟨hi, hi, by rw [e0, v]; exact vp_in_nI hp (by omega), br_c (fun h2 => h0 (Or.inr (Or.inr ⟨p, hp, v, ?_⟩))) (fun _ => h1)⟩
    rw [e1, e0] at h2
    exact h2
theorem x_dead1 {e : Nat} (he : e < 240) (V : LE ec ep et ce e) (h0 : post 0) : wpX_isDead post (g0, g1, g2, g3, g4, g5, g6, g7, g8, g9, nI OL, nI NL, nI DL, nI T, nI ST, nI MT, fr, la, pa, so, sv, ce, ar, zs, ls, ks, ps, an, ln, le, co, ca, cb, cc, ss, es, ec, ep, et, ek, ed, fm, pc, fd, rg) (nI e) := by
  have e0 : (nI e).toNatClampNeg = e := nI_clamp (by omega)
  have hi : vp_in (nI e) 240 := vp_in_nI he (by omega)
  refine ⟨hi, br_c (fun h => h0) (fun h => ⟨hi, br_c (fun h' => h0) (fun h' => ?_)⟩)⟩
  rw [e0] at h h'
  rcases V with v | v | ⟨p, hp, v, v2⟩
  · exact absurd v h
  · exact absurd v h'
  · have e1 : (ep (nI e).toNatClampNeg).toNatClampNeg = p := by rw [e0, v, nI_clamp (by omega)]
    exact ⟨hi, hi, by rw [e0, v]; exact vp_in_nI hp (by omega), br_t (by rw [e1, e0]; exact v2) h0⟩
/-- what probe answers -/
def PB (so pa ss es ec ep : Nat → Int32) (et ce : Nat → Int64) (a q : Nat) (r : Int32) : Prop :=
  r = -1 ∨ ∃ i st, i < 4 ∧ ss a = nI st ∧ st ≤ 5 ∧ i < st ∧ r = nI (a * 4 + i) ∧ es (a * 4 + i) = so q ∧ (ec (a * 4 + i) = 0 ∨ (ep (a * 4 + i) = pa q ∧ LE ec ep et ce (a * 4 + i)))
theorem x_probe33 {a q st : Nat} (ha : a < 60) (hst : st ≤ 5) (e5 : ss a = nI st) (hV : ∀ i, i < st → i < 4 → VE ec ep (a * 4 + i)) : ∀ (d j : Nat), j + d = 5 → ∀ N, d < N → ∃ r, PB so pa ss es ec ep et ce a q r ∧ ∀ post : Int32 → Prop, post r → wX_probe_33 post (nI a) (nI st) (so q) (pa q) g0 g1 g2 g3 g4 g5 g6 g7 g8 g9 (nI OL) (nI NL) (nI DL) (nI T) (nI ST) (nI MT) fr la pa so sv ce ar zs ls ks ps an ln le co ca cb cc ss es ec ep et ek ed fm pc fd rg N (nI j) := by
  intro d
  induction d with
  | zero =>
    intro j hj N hN
    obtain ⟨N, rfl⟩ : ∃ N', N = N' + 1 := ⟨N - 1, by omega⟩
    exact ⟨-1, Or.inl rfl, fun post hp => br_t (nI_le (by omega) (by omega)) hp⟩
  | succ d ih =>
    intro j hj N hN
    obtain ⟨N, rfl⟩ : ∃ N', N = N' + 1 := ⟨N - 1, by omega⟩
    by_cases h1 : st ≤ j
    · exact ⟨-1, Or.inl rfl, fun post hp => br_t (nI_le (by omega) (by omega)) hp⟩
    by_cases h4 : 4 ≤ j
    · exact ⟨-1, Or.inl rfl, fun post hp => br_f (nI_ge (by omega) (by omega)) (br_t (nI_le (a := 4) h4 (by omega)) hp)⟩
    have e7 : nI a * 4 + nI j = nI (a * 4 + j) := zn_4 a j
    have e0 : (nI (a * 4 + j)).toNatClampNeg = a * 4 + j := nI_clamp (by omega)
    have hin : vp_in (nI (a * 4 + j)) 240 := vp_in_nI (by omega) (by omega)
    have hst' : ¬ nI st ≤ nI j := nI_ge (by omega) (by omega)
    have h4' : ¬ (4 : Int32) ≤ nI j := nI_ge (b := 4) (by omega) (by decide)
    obtain ⟨r, hr, hw⟩ := ih (j + 1) (by omega) N (by omega)
    by_cases c1 : es (a * 4 + j) = so q
    · by_cases c2 : ec (a * 4 + j) = 0
      · refine ⟨nI (a * 4 + j), Or.inr ⟨j, st, by omega, e5, hst, by omega, rfl, c1, Or.inl c2⟩, fun post hp => ?_⟩
        exact br_f hst' (br_f h4' (nm_r (e' := nI (a * 4 + j)) e7 ⟨hin, br_t (by rw [e0]; exact c1) ⟨hin, br_t (by rw [e0]; exact c2) hp⟩⟩))
      · by_cases c3 : ep (a * 4 + j) = pa q
        · by_cases c4 : LE ec ep et ce (a * 4 + j)
          · refine ⟨nI (a * 4 + j), Or.inr ⟨j, st, by omega, e5, hst, by omega, rfl, c1, Or.inr ⟨c3, c4⟩⟩, fun post hp => ?_⟩
            refine br_f hst' (br_f h4' (nm_r (e' := nI (a * 4 + j)) e7 ⟨hin, br_t (by rw [e0]; exact c1) ⟨hin, br_f (by rw [e0]; exact c2) ⟨hin, br_t (by rw [e0]; exact c3) (x_dead1 (by omega) c4 (br_t rfl hp))⟩⟩⟩))
          · refine ⟨r, hr, fun post hp => ?_⟩
            refine br_f hst' (br_f h4' (nm_r (e' := nI (a * 4 + j)) e7 ⟨hin, br_t (by rw [e0]; exact c1) ⟨hin, br_f (by rw [e0]; exact c2) ⟨hin, br_t (by rw [e0]; exact c3) (x_dead (by omega) (hV j (by omega) (by omega)) (fun z => absurd z c4) (br_f zn_10n (nm_r (e' := nI (j + 1)) (nI_1 j) (hw post hp))))⟩⟩⟩))
        · refine ⟨r, hr, fun post hp => ?_⟩
          exact br_f hst' (br_f h4' (nm_r (e' := nI (a * 4 + j)) e7 ⟨hin, br_t (by rw [e0]; exact c1) ⟨hin, br_f (by rw [e0]; exact c2) ⟨hin, br_f (by rw [e0]; exact c3) (nm_r (e' := nI (j + 1)) (nI_1 j) (hw post hp))⟩⟩⟩))
    · refine ⟨r, hr, fun post hp => ?_⟩
      exact br_f hst' (br_f h4' (nm_r (e' := nI (a * 4 + j)) e7 ⟨hin, br_f (by rw [e0]; exact c1) (nm_r (e' := nI (j + 1)) (nI_1 j) (hw post hp))⟩))
theorem x_probe {a q st : Nat} (hT : T ≤ 12) (hq : q < T) (ha : a < 60) (hst : st ≤ 5) (e5 : ss a = nI st) (hV : ∀ i, i < st → i < 4 → VE ec ep (a * 4 + i)) : ∃ r, PB so pa ss es ec ep et ce a q r ∧ ∀ post : Int32 → Prop, post r → wpX_probe post (g0, g1, g2, g3, g4, g5, g6, g7, g8, g9, nI OL, nI NL, nI DL, nI T, nI ST, nI MT, fr, la, pa, so, sv, ce, ar, zs, ls, ks, ps, an, ln, le, co, ca, cb, cc, ss, es, ec, ep, et, ek, ed, fm, pc, fd, rg) (nI a) (nI q) := by
  have ea : (nI a).toNatClampNeg = a := nI_clamp (by omega)
  have eq : (nI q).toNatClampNeg = q := nI_clamp (by omega)
  have hin : vp_in (nI a) 60 := vp_in_nI ha (by omega)
  have hinq : vp_in (nI q) 12 := vp_in_nI (by omega) (by omega)
  by_cases h5 : st = 5
  · exact ⟨-1, Or.inl rfl, fun post hp => ⟨hin, nm_r (e' := nI st) (by rw [ea, e5]) (br_t (by rw [h5]; rfl) hp)⟩⟩
  · obtain ⟨r, hr, hw⟩ := x_probe33 (g0 := g0) (g1 := g1) (g2 := g2) (g3 := g3) (g4 := g4) (g5 := g5) (g6 := g6) (g7 := g7) (g8 := g8) (g9 := g9) (OL := OL) (NL := NL) (DL := DL) (T := T) (ST := ST) (MT := MT) (fr := fr) (la := la) (pa := pa) (so := so) (sv := sv) (ce := ce) (ar := ar) (zs := zs) (ls := ls) (ks := ks) (ps := ps) (an := an) (ln := ln) (le := le) (co := co) (ca := ca) (cb := cb) (cc := cc) (ss := ss) (es := es) (ec := ec) (ep := ep) (et := et) (ek := ek) (ed := ed) (fm := fm) (pc := pc) (fd := fd) (rg := rg) ha hst e5 hV 5 0 rfl 6 (by omega)
    refine ⟨r, hr, fun post hp => ⟨hin, nm_r (e' := nI st) (by rw [ea, e5]) (br_f (fun z => h5 (zn_inj (by omega) (by omega) z)) ⟨hinq, nm_r (e' := so q) (by rw [eq]) ⟨hinq, nm_r (e' := pa q) (by rw [eq]) ⟨6, hw post hp⟩⟩⟩)⟩⟩
end
end
section
/-! the component's writing helpers: cells, shapes -/
theorem zn_b0 : vp_nar .boolean 0 = 0 := by rfl
theorem zn_b1 : vp_nar .boolean 1 = 1 := by rfl
section
variable {OL NL DL T ST MT : Nat} {g0 g1 g2 g3 g4 g5 g6 g7 g8 g9 fr la : Int32} {pa so sv ar zs ls ks ps an ln le co ca cb cc ss es ec ep ek ed fm pc fd rg : Nat → Int32} {ce et : Nat → Int64}
def BKj (j T : Nat) (pa : Nat → Int32) (ce : Nat → Int64) (ar : Nat → Int32) (o : Nat) (ce' : Nat → Int64) (ar' : Nat → Int32) : Prop :=
  ∀ q, (j ≤ q ∧ q < T ∧ ¬ ar q = 0 ∧ inh pa (nI o) 12 (nI q) ∧ ce' q = ce q + 1 ∧ ar' q = 0) ∨ (¬ (j ≤ q ∧ q < T ∧ ¬ ar q = 0 ∧ inh pa (nI o) 12 (nI q)) ∧ ce' q = ce q ∧ ar' q = ar q)
theorem BKj_skip {j T : Nat} {pa : Nat → Int32} {ce ce' : Nat → Int64} {ar ar' : Nat → Int32} {o : Nat} (h : ar j = 0 ∨ ¬ inh pa (nI o) 12 (nI j)) (B : BKj (j + 1) T pa ce ar o ce' ar') : BKj j T pa ce ar o ce' ar' := by
  intro q
  rcases B q with ⟨b1, b2⟩ | ⟨b1, b2⟩
  · exact Or.inl ⟨by omega, b2⟩
  · refine Or.inr ⟨fun ⟨c1, c2, c3, c4⟩ => ?_, b2⟩
    by_cases e : q = j
    · subst e
      rcases h with h | h
      · exact c3 h
      · exact h c4
    · exact b1 ⟨by omega, c2, c3, c4⟩
theorem BKj_hit {j T : Nat} {pa : Nat → Int32} {ce ce' : Nat → Int64} {ar ar' : Nat → Int32} {o : Nat} (hj : j < T) (h1 : ¬ ar j = 0) (h2 : inh pa (nI o) 12 (nI j)) (B : BKj (j + 1) T pa (vp_updL ce j (ce j + 1)) (upd ar j 0) o ce' ar') : BKj j T pa ce ar o ce' ar' := by
  intro q
  by_cases e : q = j
  · subst e
    rcases B q with ⟨b1, b2⟩ | ⟨b1, b2, b3⟩
    · omega
    · rw [pk_uLs] at b2
      rw [pk_us] at b3
      exact Or.inl ⟨Nat.le_refl _, hj, h1, h2, b2, b3⟩
  · rcases B q with ⟨b1, b2, b3, b4, b5, b6⟩ | ⟨b1, b2, b3⟩
    · rw [pk_un e] at b3
      rw [pk_uLn e] at b5
      exact Or.inl ⟨by omega, b2, b3, b4, b5, b6⟩
    · rw [pk_un e] at b1 b3
      rw [pk_uLn e] at b2
      exact Or.inr ⟨fun ⟨c1, c2⟩ => b1 ⟨by omega, c2⟩, b2, b3⟩
theorem x_brk12 (hT : T ≤ 12) (hP : ∀ q, q < T → VP T (pa q)) {o : Nat} : ∀ (d j : Nat) (ce : Nat → Int64) (ar : Nat → Int32), j + d = T → ∀ N, d < N → ∃ ce' ar', BKj j T pa ce ar o ce' ar' ∧ ∀ post : SX → Prop, post (g0, g1, g2, g3, g4, g5, g6, g7, g8, g9, nI OL, nI NL, nI DL, nI T, nI ST, nI MT, fr, la, pa, so, sv, ce', ar', zs, ls, ks, ps, an, ln, le, co, ca, cb, cc, ss, es, ec, ep, et, ek, ed, fm, pc, fd, rg) → wX_breakCells_12 post (nI o) g0 g1 g2 g3 g4 g5 g6 g7 g8 g9 (nI OL) (nI NL) (nI DL) (nI T) (nI ST) (nI MT) fr la N (nI j) pa so sv ce ar zs ls ks ps an ln le co ca cb cc ss es ec ep et ek ed fm pc fd rg := by
  intro d
  induction d with
  | zero =>
    intro j ce ar hj N hN
    obtain ⟨N, rfl⟩ : ∃ N', N = N' + 1 := ⟨N - 1, by omega⟩
    exact ⟨ce, ar, fun q => Or.inr ⟨fun z => by omega, rfl, rfl⟩, fun post hp => br_t (nI_le (by omega) (by omega)) hp⟩
  | succ d ih =>
    intro j ce ar hj N hN
    obtain ⟨N, rfl⟩ : ∃ N', N = N' + 1 := ⟨N - 1, by omega⟩
    have hj2 : ¬ nI T ≤ nI j := nI_ge (by omega) (by omega)
    have e0 : (nI j).toNatClampNeg = j := nI_clamp (by omega)
    have hin : vp_in (nI j) 12 := vp_in_nI (by omega) (by omega)
    by_cases c1 : ar j = 0
    · obtain ⟨ce', ar', hB, hw⟩ := ih (j + 1) ce ar (by omega) N (by omega)
      exact ⟨ce', ar', BKj_skip (Or.inl c1) hB, fun post hp => br_f hj2 ⟨hin, br_t (by rw [e0]; exact c1) (nm_r (e' := nI (j + 1)) (nI_1 j) (hw post hp))⟩⟩
    · by_cases c2 : inh pa (nI o) 12 (nI j)
      · obtain ⟨ce', ar', hB, hw⟩ := ih (j + 1) (vp_updL ce j (ce j + 1)) (upd ar j 0) (by omega) N (by omega)
        refine ⟨ce', ar', BKj_hit (by omega) c1 c2 hB, fun post hp => br_f hj2 ⟨hin, br_f (by rw [e0]; exact c1) (x_inh hT hP (Or.inr ⟨j, by omega, rfl⟩) (fun _ => br_f zn_10n ⟨hin, hin, ?_⟩) (fun z => absurd c2 z))⟩⟩
        exact nm_r (e' := vp_updL ce j (ce j + 1)) (by rw [e0]) ⟨hin, nm_r (e' := upd ar j 0) (by rw [e0, zn_b0]) (nm_r (e' := nI (j + 1)) (nI_1 j) (hw post hp))⟩
      · obtain ⟨ce', ar', hB, hw⟩ := ih (j + 1) ce ar (by omega) N (by omega)
        exact ⟨ce', ar', BKj_skip (Or.inr c2) hB, fun post hp => br_f hj2 ⟨hin, br_f (by rw [e0]; exact c1) (x_inh hT hP (Or.inr ⟨j, by omega, rfl⟩) (fun z => absurd z c2) (fun _ => br_t rfl (nm_r (e' := nI (j + 1)) (nI_1 j) (hw post hp))))⟩⟩
theorem x_brk {rk : Nat → Nat} (hT : T ≤ 12) (R : RK T pa rk) (A : AR T pa ar) {o : Nat} (ho : o < T) : ∃ ce' ar', BK T pa ce ar o ce' ar' ∧ ∀ post : SX → Prop, post (g0, g1, g2, g3, g4, g5, g6, g7, g8, g9, nI OL, nI NL, nI DL, nI T, nI ST, nI MT, fr, la, pa, so, sv, ce', ar', zs, ls, ks, ps, an, ln, le, co, ca, cb, cc, ss, es, ec, ep, et, ek, ed, fm, pc, fd, rg) → wpX_breakCells post (g0, g1, g2, g3, g4, g5, g6, g7, g8, g9, nI OL, nI NL, nI DL, nI T, nI ST, nI MT, fr, la, pa, so, sv, ce, ar, zs, ls, ks, ps, an, ln, le, co, ca, cb, cc, ss, es, ec, ep, et, ek, ed, fm, pc, fd, rg) (nI o) := by
  have e0 : (nI o).toNatClampNeg = o := nI_clamp (by omega)
  have hin : vp_in (nI o) 12 := vp_in_nI (by omega) (by omega)
  by_cases c : ar o = 0
  · exact ⟨ce, ar, BK_none A R hT ho c, fun post hp => ⟨hin, br_t (by rw [e0]; exact c) hp⟩⟩
  · obtain ⟨ce', ar', hB, hw⟩ := x_brk12 (g0 := g0) (g1 := g1) (g2 := g2) (g3 := g3) (g4 := g4) (g5 := g5) (g6 := g6) (g7 := g7) (g8 := g8) (g9 := g9) (OL := OL) (NL := NL) (DL := DL) (T := T) (ST := ST) (MT := MT) (fr := fr) (la := la) (pa := pa) (so := so) (sv := sv) (zs := zs) (ls := ls) (ks := ks) (ps := ps) (an := an) (ln := ln) (le := le) (co := co) (ca := ca) (cb := cb) (cc := cc) (ss := ss) (es := es) (ec := ec) (ep := ep) (et := et) (ek := ek) (ed := ed) (fm := fm) (pc := pc) (fd := fd) (rg := rg) (o := o) hT (fun q hq => RK_vp R hq) T 0 ce ar (by omega) (T + 1) (by omega)
    refine ⟨ce', ar', fun q => ?_, fun post hp => ⟨hin, br_f (by rw [e0]; exact c) ⟨T + 1, hw post hp⟩⟩⟩
    rcases hB q with ⟨_, b⟩ | ⟨b1, b2⟩
    · exact Or.inl b
    · exact Or.inr ⟨fun z => b1 ⟨Nat.zero_le _, z⟩, b2⟩
/-! copies of shapes -/
def CPj (s t j : Nat) (f f' : Nat → Int32) : Prop := ∀ x, f' x = if t * 8 + j ≤ x ∧ x < t * 8 + 8 then f (s * 8 + (x - t * 8)) else f x
theorem CPj_step {s t j : Nat} {f f' : Nat → Int32} (hst : s ≠ t) (hj : j < 8) (h : CPj s t (j + 1) (upd f (t * 8 + j) (f (s * 8 + j))) f') : CPj s t j f f' := by
  intro x
  rw [h x]
  by_cases c : t * 8 + (j + 1) ≤ x ∧ x < t * 8 + 8
  · rw [if_pos c, if_pos (by omega), pk_un (by omega)]
  · rw [if_neg c]
    by_cases d : x = t * 8 + j
    · subst d
      rw [pk_us, if_pos (by omega)]
      exact congrArg f (by omega)
    · rw [pk_un d, if_neg (by omega)]
theorem x_cp26 {s t : Nat} (hs : s < 76) (ht : t < 76) (hst : s ≠ t) : ∀ (d j : Nat) (ks ps : Nat → Int32), j + d = 8 → ∀ N, d < N → ∃ ks' ps', CPj s t j ks ks' ∧ CPj s t j ps ps' ∧ ∀ post : SX → Prop, post (g0, g1, g2, g3, g4, g5, g6, g7, g8, g9, nI OL, nI NL, nI DL, nI T, nI ST, nI MT, fr, la, pa, so, sv, ce, ar, zs, ls, ks', ps', an, ln, le, co, ca, cb, cc, ss, es, ec, ep, et, ek, ed, fm, pc, fd, rg) → wX_copyShape_26 post (nI s) (nI t) g0 g1 g2 g3 g4 g5 g6 g7 g8 g9 (nI OL) (nI NL) (nI DL) (nI T) (nI ST) (nI MT) fr la N (nI j) pa so sv ce ar zs ls ks ps an ln le co ca cb cc ss es ec ep et ek ed fm pc fd rg := by
  intro d
  induction d with
  | zero =>
    intro j ks ps hj N hN
    obtain ⟨N, rfl⟩ : ∃ N', N = N' + 1 := ⟨N - 1, by omega⟩
    exact ⟨ks, ps, fun x => by rw [if_neg (by omega)], fun x => by rw [if_neg (by omega)], fun post hp => br_t (nI_le (a := 8) (by omega) (by omega)) hp⟩
  | succ d ih =>
    intro j ks ps hj N hN
    obtain ⟨N, rfl⟩ : ∃ N', N = N' + 1 := ⟨N - 1, by omega⟩
    have hj2 : ¬ (8 : Int32) ≤ nI j := nI_ge (b := 8) (by omega) (by decide)
    have eS : nI s * 8 + nI j = nI (s * 8 + j) := zn_8 s j
    have eT : nI t * 8 + nI j = nI (t * 8 + j) := zn_8 t j
    have is : vp_in (nI s * 8 + nI j) 608 := by rw [eS]; exact vp_in_nI (by omega) (by omega)
    have it : vp_in (nI t * 8 + nI j) 608 := by rw [eT]; exact vp_in_nI (by omega) (by omega)
    have cs : (nI s * 8 + nI j).toNatClampNeg = s * 8 + j := by rw [eS, nI_clamp (by omega)]
    have ct : (nI t * 8 + nI j).toNatClampNeg = t * 8 + j := by rw [eT, nI_clamp (by omega)]
    obtain ⟨ks', ps', h1, h2, hw⟩ := ih (j + 1) (upd ks (t * 8 + j) (ks (s * 8 + j))) (upd ps (t * 8 + j) (ps (s * 8 + j))) (by omega) N (by omega)
    exact ⟨ks', ps', CPj_step hst (by omega) h1, CPj_step hst (by omega) h2, fun post hp => br_f hj2 ⟨is, it, nm_r (e' := upd ks (t * 8 + j) (ks (s * 8 + j))) (by rw [cs, ct]) ⟨is, it, nm_r (e' := upd ps (t * 8 + j) (ps (s * 8 + j))) (by rw [cs, ct]) (nm_r (e' := nI (j + 1)) (nI_1 j) (hw post hp))⟩⟩⟩
theorem x_cp {s t : Nat} (hs : s < 76) (ht : t < 76) (hst : s ≠ t) : ∃ zs' ls' ks' ps', SE zs ls ks ps zs' ls' ks' ps' s t ∧ (∀ r, r ≠ t → SE zs ls ks ps zs' ls' ks' ps' r r) ∧ ∀ post : SX → Prop, post (g0, g1, g2, g3, g4, g5, g6, g7, g8, g9, nI OL, nI NL, nI DL, nI T, nI ST, nI MT, fr, la, pa, so, sv, ce, ar, zs', ls', ks', ps', an, ln, le, co, ca, cb, cc, ss, es, ec, ep, et, ek, ed, fm, pc, fd, rg) → wpX_copyShape post (g0, g1, g2, g3, g4, g5, g6, g7, g8, g9, nI OL, nI NL, nI DL, nI T, nI ST, nI MT, fr, la, pa, so, sv, ce, ar, zs, ls, ks, ps, an, ln, le, co, ca, cb, cc, ss, es, ec, ep, et, ek, ed, fm, pc, fd, rg) (nI s) (nI t) := by
  have cs : (nI s).toNatClampNeg = s := nI_clamp (by omega)
  have ct : (nI t).toNatClampNeg = t := nI_clamp (by omega)
  have is : vp_in (nI s) 76 := vp_in_nI hs (by omega)
  have it : vp_in (nI t) 76 := vp_in_nI ht (by omega)
  obtain ⟨ks', ps', h1, h2, hw⟩ := x_cp26 (g0 := g0) (g1 := g1) (g2 := g2) (g3 := g3) (g4 := g4) (g5 := g5) (g6 := g6) (g7 := g7) (g8 := g8) (g9 := g9) (OL := OL) (NL := NL) (DL := DL) (T := T) (ST := ST) (MT := MT) (fr := fr) (la := la) (pa := pa) (so := so) (sv := sv) (ce := ce) (ar := ar) (zs := upd zs t (zs s)) (ls := upd ls t (ls s)) (an := an) (ln := ln) (le := le) (co := co) (ca := ca) (cb := cb) (cc := cc) (ss := ss) (es := es) (ec := ec) (ep := ep) (et := et) (ek := ek) (ed := ed) (fm := fm) (pc := pc) (fd := fd) (rg := rg) hs ht hst 8 0 ks ps rfl 9 (by omega)
  refine ⟨upd zs t (zs s), upd ls t (ls s), ks', ps', ⟨pk_us, pk_us, fun i hi => ⟨?_, ?_⟩⟩, fun r hr => ⟨pk_un hr, pk_un hr, fun i hi => ⟨?_, ?_⟩⟩, fun post hp => ⟨is, it, nm_r (e' := upd zs t (zs s)) (by rw [cs, ct]) ⟨is, it, nm_r (e' := upd ls t (ls s)) (by rw [cs, ct]) ⟨9, hw post hp⟩⟩⟩⟩
  · rw [h1, if_pos (by omega)]; exact congrArg ks (by omega)
  · rw [h2, if_pos (by omega)]; exact congrArg ps (by omega)
  · rw [h1, if_neg (by omega)]
  · rw [h2, if_neg (by omega)]
theorem x_ext {post : SX → Prop} {t n z : Nat} (ht : t < 76) (hn : n < 8) (hz : z < 8) (ez : zs t = nI z) (hp : post (g0, g1, g2, g3, g4, g5, g6, g7, g8, g9, nI OL, nI NL, nI DL, nI T, nI ST, nI MT, fr, la, pa, so, sv, ce, ar, upd zs t (nI (z + 1)), ls, upd ks (t * 8 + z) (nI n), upd ps (t * 8 + n) (nI z), an, ln, le, co, ca, cb, cc, ss, es, ec, ep, et, ek, ed, fm, pc, fd, rg)) : wpX_extend post (g0, g1, g2, g3, g4, g5, g6, g7, g8, g9, nI OL, nI NL, nI DL, nI T, nI ST, nI MT, fr, la, pa, so, sv, ce, ar, zs, ls, ks, ps, an, ln, le, co, ca, cb, cc, ss, es, ec, ep, et, ek, ed, fm, pc, fd, rg) (nI t) (nI n) := by
  have ct : (nI t).toNatClampNeg = t := nI_clamp (by omega)
  have it : vp_in (nI t) 76 := vp_in_nI ht (by omega)
  refine ⟨it, nm_r (e' := nI z) (by rw [ct, ez]) ⟨by rw [zn_8]; exact vp_in_nI (by omega) (by omega), nm_r (e' := upd ks (t * 8 + z) (nI n)) (by rw [zn_8, nI_clamp (by omega)]) ⟨by rw [zn_8]; exact vp_in_nI (by omega) (by omega), nm_r (e' := upd ps (t * 8 + n) (nI z)) (by rw [zn_8, nI_clamp (by omega)]) ⟨it, nm_r (e' := upd zs t (nI (z + 1))) (by rw [ct, nI_1]) hp⟩⟩⟩⟩
/-- a new shape equal to s -/
theorem x_der {s : Nat} (hs : s < 64) (hsT : s < ST) (h64 : ST < 64) : ∃ zs' ls' ks' ps', SE zs ls ks ps zs' ls' ks' ps' s ST ∧ (∀ r, r ≠ ST → SE zs ls ks ps zs' ls' ks' ps' r r) ∧ ∀ post : Int32 → SX → Prop, post (nI ST) (g0, g1, g2, g3, g4, g5, g6, g7, g8, g9, nI OL, nI NL, nI DL, nI T, nI (ST + 1), nI MT, fr, la, pa, so, sv, ce, ar, zs', ls', ks', ps', an, ln, le, co, ca, cb, cc, ss, es, ec, ep, et, ek, ed, fm, pc, fd, rg) → wpX_deriveShape post (g0, g1, g2, g3, g4, g5, g6, g7, g8, g9, nI OL, nI NL, nI DL, nI T, nI ST, nI MT, fr, la, pa, so, sv, ce, ar, zs, ls, ks, ps, an, ln, le, co, ca, cb, cc, ss, es, ec, ep, et, ek, ed, fm, pc, fd, rg) (nI s) := by
  obtain ⟨zs', ls', ks', ps', h1, h2, hw⟩ := x_cp (g0 := g0) (g1 := g1) (g2 := g2) (g3 := g3) (g4 := g4) (g5 := g5) (g6 := g6) (g7 := g7) (g8 := g8) (g9 := g9) (OL := OL) (NL := NL) (DL := DL) (T := T) (ST := ST + 1) (MT := MT) (fr := fr) (la := la) (pa := pa) (so := so) (sv := sv) (ce := ce) (ar := ar) (zs := zs) (ls := ls) (ks := ks) (ps := ps) (an := an) (ln := ln) (le := le) (co := co) (ca := ca) (cb := cb) (cc := cc) (ss := ss) (es := es) (ec := ec) (ep := ep) (et := et) (ek := ek) (ed := ed) (fm := fm) (pc := pc) (fd := fd) (rg := rg) (s := s) (t := ST) (by omega) (by omega) (by omega)
  refine ⟨zs', ls', ks', ps', h1, h2, fun post hp => br_t (nI_lt (b := 64) h64 (by decide)) (nm_r (e' := nI (ST + 1)) (nI_1 ST) (hw _ hp))⟩
theorem x_der_full {post : Int32 → SX → Prop} {s : Int32} (h64 : ST = 64) (hp : post (-1) (g0, g1, g2, g3, g4, g5, g6, g7, g8, g9, nI OL, nI NL, nI DL, nI T, nI ST, nI MT, fr, la, pa, so, sv, ce, ar, zs, ls, ks, ps, an, ln, le, co, ca, cb, cc, ss, es, ec, ep, et, ek, ed, fm, pc, fd, rg)) : wpX_deriveShape post (g0, g1, g2, g3, g4, g5, g6, g7, g8, g9, nI OL, nI NL, nI DL, nI T, nI ST, nI MT, fr, la, pa, so, sv, ce, ar, zs, ls, ks, ps, an, ln, le, co, ca, cb, cc, ss, es, ec, ep, et, ek, ed, fm, pc, fd, rg) s := br_f (by rw [h64]; decide) hp
/-- what addTransition leaves -/
def AT (s n ST ST' : Nat) (zs ls ks ps an zs' ls' ks' ps' an' : Nat → Int32) (dt : Int32) : Prop :=
  ST ≤ ST' ∧ (∀ r, r < ST → SE zs ls ks ps zs' ls' ks' ps' r r) ∧ (∀ r, 64 ≤ r → SE zs ls ks ps zs' ls' ks' ps' r r)
  ∧ (∀ r m, r < ST → m < 8 → ¬ an (r * 8 + m) = 0 → an' (r * 8 + m) = an (r * 8 + m))
  ∧ (dt = -1 ∨ (s < ST ∧ ∃ t, t < ST' ∧ t ≠ 0 ∧ dt = nI t ∧ an' (s * 8 + n) = nI t ∧ XE zs' ls' ks' ps' s n t))
theorem AT_rfl {s n ST : Nat} {zs ls ks ps an : Nat → Int32} : AT s n ST ST zs ls ks ps an zs ls ks ps an (-1) :=
  ⟨Nat.le_refl _, fun _ _ => SE_rfl, fun _ _ => SE_rfl, fun _ _ _ _ _ => rfl, Or.inl rfl⟩
theorem x_add {s n z : Nat} {κ : Nat → Nat} {b : Int32} (H : TR ST zs ls ks ps an ln) (hn : n < 8) (hs : s < ST ∨ (64 ≤ s ∧ s < 76)) (hx : RX zs ls ks ps s z κ b) (ha : ps (s * 8 + n) = -1) :
    ∃ dt ST' zs' ls' ks' ps' an', AT s n ST ST' zs ls ks ps an zs' ls' ks' ps' an' dt ∧ TR ST' zs' ls' ks' ps' an' ln ∧ ∀ post : Int32 → SX → Prop, post dt (g0, g1, g2, g3, g4, g5, g6, g7, g8, g9, nI OL, nI NL, nI DL, nI T, nI ST', nI MT, fr, la, pa, so, sv, ce, ar, zs', ls', ks', ps', an', ln, le, co, ca, cb, cc, ss, es, ec, ep, et, ek, ed, fm, pc, fd, rg) → wpX_addTransition post (g0, g1, g2, g3, g4, g5, g6, g7, g8, g9, nI OL, nI NL, nI DL, nI T, nI ST, nI MT, fr, la, pa, so, sv, ce, ar, zs, ls, ks, ps, an, ln, le, co, ca, cb, cc, ss, es, ec, ep, et, ek, ed, fm, pc, fd, rg) (nI s) (nI n) := by
  have hST := H.2.1
  by_cases h64 : 64 ≤ s
  · exact ⟨-1, ST, zs, ls, ks, ps, an, AT_rfl, H, fun post hp => br_f (nI_nlt (b := 64) h64 (by omega)) hp⟩
  have hs2 : s < ST := by omega
  have h0 : nI s < 64 := nI_lt (b := 64) (by omega) (by decide)
  have e1 : nI s * 8 + nI n = nI (s * 8 + n) := zn_8 s n
  have i1 : vp_in (nI (s * 8 + n)) 512 := vp_in_nI (by omega) (by omega)
  have c1 : (nI (s * 8 + n)).toNatClampNeg = s * 8 + n := nI_clamp (by omega)
  rcases H.2.2.2.2.1 s n (by omega) hn with h | ⟨_, t, t1, t2, t3, t4⟩
  · by_cases hf : ST < 64
    · obtain ⟨zs', ls', ks', ps', g1, g2, gw⟩ := x_der (g0 := g0) (g1 := g1) (g2 := g2) (g3 := g3) (g4 := g4) (g5 := g5) (g6 := g6) (g7 := g7) (g8 := g8) (g9 := g9) (OL := OL) (NL := NL) (DL := DL) (T := T) (ST := ST) (MT := MT) (fr := fr) (la := la) (pa := pa) (so := so) (sv := sv) (ce := ce) (ar := ar) (zs := zs) (ls := ls) (ks := ks) (ps := ps) (an := an) (ln := ln) (le := le) (co := co) (ca := ca) (cb := cb) (cc := cc) (ss := ss) (es := es) (ec := ec) (ep := ep) (et := et) (ek := ek) (ed := ed) (fm := fm) (pc := pc) (fd := fd) (rg := rg) (s := s) (by omega) hs2 hf
      have r1 : RX zs' ls' ks' ps' ST z κ b := RX_cg g1 hx
      have a1 : ps' (ST * 8 + n) = -1 := ((g1.2.2 n hn).2).trans ha
      have z8 : z < 8 := RX_room r1 hn a1
      have f1 : ∀ r, r ≠ ST → SE zs' ls' ks' ps' (upd zs' ST (nI (z + 1))) ls' (upd ks' (ST * 8 + z) (nI n)) (upd ps' (ST * 8 + n) (nI z)) r r :=
        fun r hr => ⟨pk_un hr, rfl, fun i hi => ⟨pk_un (by omega), pk_un (by omega)⟩⟩
      have f2 : ∀ r, r ≠ ST → SE zs ls ks ps (upd zs' ST (nI (z + 1))) ls' (upd ks' (ST * 8 + z) (nI n)) (upd ps' (ST * 8 + n) (nI z)) r r := fun r hr => SE_trans (g2 r hr) (f1 r hr)
      have f3 : XE (upd zs' ST (nI (z + 1))) ls' (upd ks' (ST * 8 + z) (nI n)) (upd ps' (ST * 8 + n) (nI z)) s n ST := by
        intro z2 κ2 b2 h2
        have h3 : RX zs ls ks ps s z2 κ2 b2 := RX_cg (SE_symm (f2 s (by omega))) h2
        have ez : z2 = z := zn_inj (by have := h3.1; omega) (by omega) (h3.2.1.symm.trans hx.2.1)
        subst ez
        exact RX_ap (RX_cg g1 h3) hn a1
      refine ⟨nI ST, ST + 1, _, _, _, _, upd an (s * 8 + n) (nI ST), ⟨by omega, fun r hr => f2 r (by omega), fun r hr => f2 r (by omega), fun r m hr hm hne => ?_, Or.inr ⟨hs2, ST, by omega, by have := H.1; omega, rfl, pk_us, f3⟩⟩, TR_add H hf (fun r hr => f2 r (by omega)) hs2 hn f3, fun post hp => br_t h0 (nm_r (e' := nI (s * 8 + n)) e1 ⟨i1, br_t (by rw [c1]; exact h) (gw _ (br_f (zn_m1 (by omega)) (x_ext (by omega) hn z8 r1.2.1 ⟨i1, nm_r (e' := upd an (s * 8 + n) (nI ST)) (by rw [c1]) ⟨i1, by rw [c1, pk_us]; exact hp⟩⟩)))⟩)⟩
      rw [pk_un]
      intro e
      have e3 : r = s ∧ m = n := by omega
      exact hne (by rw [e3.1, e3.2]; exact h)
    · exact ⟨-1, ST, zs, ls, ks, ps, an, AT_rfl, H, fun post hp => br_t h0 (nm_r (e' := nI (s * 8 + n)) e1 ⟨i1, br_t (by rw [c1]; exact h) (x_der_full (by omega) (br_t rfl hp))⟩)⟩
  · have hne : ¬ an (s * 8 + n) = 0 := by rw [t3]; exact nI_ne0 (by omega) (by omega)
    refine ⟨nI t, ST, zs, ls, ks, ps, an, ⟨Nat.le_refl _, fun _ _ => SE_rfl, fun _ _ => SE_rfl, fun _ _ _ _ _ => rfl, Or.inr ⟨hs2, t, t1, t2, rfl, t3, t4⟩⟩, H, fun post hp => br_t h0 (nm_r (e' := nI (s * 8 + n)) e1 ⟨i1, br_f (by rw [c1]; exact hne) ⟨i1, by rw [c1, t3]; exact hp⟩⟩)⟩
/-- what lockTransition leaves -/
def LT (s n ST ST' : Nat) (zs ls ks ps zs' ls' ks' ps' : Nat → Int32) (dt : Int32) : Prop :=
  ST ≤ ST' ∧ (∀ r, r < ST → SE zs ls ks ps zs' ls' ks' ps' r r) ∧ (∀ r, 64 ≤ r → SE zs ls ks ps zs' ls' ks' ps' r r)
  ∧ (dt = -1 ∨ (s < ST ∧ ∃ t, t < ST' ∧ t ≠ 0 ∧ dt = nI t ∧ XL zs' ls' ks' ps' s n t))
theorem LT_rfl {s n ST : Nat} {zs ls ks ps : Nat → Int32} : LT s n ST ST zs ls ks ps zs ls ks ps (-1) :=
  ⟨Nat.le_refl _, fun _ _ => SE_rfl, fun _ _ => SE_rfl, Or.inl rfl⟩
theorem x_lkt {s n z : Nat} {κ : Nat → Nat} {b : Int32} (H : TR ST zs ls ks ps an ln) (hn : n < 8) (hs : s < ST ∨ (64 ≤ s ∧ s < 76)) (hx : RX zs ls ks ps s z κ b) (ha : ¬ ps (s * 8 + n) = -1) :
    ∃ dt ST' zs' ls' ks' ps' ln', LT s n ST ST' zs ls ks ps zs' ls' ks' ps' dt ∧ TR ST' zs' ls' ks' ps' an ln' ∧ ∀ post : Int32 → SX → Prop, post dt (g0, g1, g2, g3, g4, g5, g6, g7, g8, g9, nI OL, nI NL, nI DL, nI T, nI ST', nI MT, fr, la, pa, so, sv, ce, ar, zs', ls', ks', ps', an, ln', le, co, ca, cb, cc, ss, es, ec, ep, et, ek, ed, fm, pc, fd, rg) → wpX_lockTransition post (g0, g1, g2, g3, g4, g5, g6, g7, g8, g9, nI OL, nI NL, nI DL, nI T, nI ST, nI MT, fr, la, pa, so, sv, ce, ar, zs, ls, ks, ps, an, ln, le, co, ca, cb, cc, ss, es, ec, ep, et, ek, ed, fm, pc, fd, rg) (nI s) (nI n) := by
  have hST := H.2.1
  by_cases h64 : 64 ≤ s
  · exact ⟨-1, ST, zs, ls, ks, ps, ln, LT_rfl, H, fun post hp => br_f (nI_nlt (b := 64) h64 (by omega)) hp⟩
  have hs2 : s < ST := by omega
  have h0 : nI s < 64 := nI_lt (b := 64) (by omega) (by decide)
  have e1 : nI s * 8 + nI n = nI (s * 8 + n) := zn_8 s n
  have i1 : vp_in (nI (s * 8 + n)) 512 := vp_in_nI (by omega) (by omega)
  have c1 : (nI (s * 8 + n)).toNatClampNeg = s * 8 + n := nI_clamp (by omega)
  rcases H.2.2.2.2.2 s n (by omega) hn with h | ⟨_, t, t1, t2, t3, t4⟩
  · by_cases hf : ST < 64
    · obtain ⟨zs', ls', ks', ps', g1, g2, gw⟩ := x_der (g0 := g0) (g1 := g1) (g2 := g2) (g3 := g3) (g4 := g4) (g5 := g5) (g6 := g6) (g7 := g7) (g8 := g8) (g9 := g9) (OL := OL) (NL := NL) (DL := DL) (T := T) (ST := ST) (MT := MT) (fr := fr) (la := la) (pa := pa) (so := so) (sv := sv) (ce := ce) (ar := ar) (zs := zs) (ls := ls) (ks := ks) (ps := ps) (an := an) (ln := ln) (le := le) (co := co) (ca := ca) (cb := cb) (cc := cc) (ss := ss) (es := es) (ec := ec) (ep := ep) (et := et) (ek := ek) (ed := ed) (fm := fm) (pc := pc) (fd := fd) (rg := rg) (s := s) (by omega) hs2 hf
      have cT : (nI ST).toNatClampNeg = ST := nI_clamp (by omega)
      have iT : vp_in (nI ST) 76 := vp_in_nI (by omega) (by omega)
      have eb : ls' ST = b := g1.2.1.trans hx.2.2.1
      have f1 : ∀ r, r ≠ ST → SE zs' ls' ks' ps' zs' (upd ls' ST (b ||| ((1 : Int32) <<< (nI n &&& 31)))) ks' ps' r r :=
        fun r hr => ⟨rfl, pk_un hr, fun i hi => ⟨rfl, rfl⟩⟩
      have f2 : ∀ r, r ≠ ST → SE zs ls ks ps zs' (upd ls' ST (b ||| ((1 : Int32) <<< (nI n &&& 31)))) ks' ps' r r := fun r hr => SE_trans (g2 r hr) (f1 r hr)
      have f3 : XL zs' (upd ls' ST (b ||| ((1 : Int32) <<< (nI n &&& 31)))) ks' ps' s n ST := by
        intro z2 κ2 b2 h2
        have h3 : RX zs ls ks ps s z2 κ2 b2 := RX_cg (SE_symm (f2 s (by omega))) h2
        have ez : b2 = b := h3.2.2.1.symm.trans hx.2.2.1
        subst ez
        exact RX_lk (RX_cg g1 h3) hn (by rw [(g1.2.2 n hn).2]; exact ha)
      exact ⟨nI ST, ST + 1, _, _, _, _, upd ln (s * 8 + n) (nI ST), ⟨by omega, fun r hr => f2 r (by omega), fun r hr => f2 r (by omega), Or.inr ⟨hs2, ST, by omega, by have := H.1; omega, rfl, f3⟩⟩, TR_lock H hf (fun r hr => f2 r (by omega)) hs2 hn f3, fun post hp => br_t h0 (nm_r (e' := nI (s * 8 + n)) e1 ⟨i1, br_t (by rw [c1]; exact h) (gw _ (br_f (zn_m1 (by omega)) ⟨iT, iT, nm_r (e' := upd ls' ST (b ||| ((1 : Int32) <<< (nI n &&& 31)))) (by rw [cT, eb]) ⟨i1, nm_r (e' := upd ln (s * 8 + n) (nI ST)) (by rw [c1]) ⟨i1, by rw [c1, pk_us]; exact hp⟩⟩⟩))⟩)⟩
    · exact ⟨-1, ST, zs, ls, ks, ps, ln, LT_rfl, H, fun post hp => br_t h0 (nm_r (e' := nI (s * 8 + n)) e1 ⟨i1, br_t (by rw [c1]; exact h) (x_der_full (by omega) (br_t rfl hp))⟩)⟩
  · have hne : ¬ ln (s * 8 + n) = 0 := by rw [t3]; exact nI_ne0 (by omega) (by omega)
    refine ⟨nI t, ST, zs, ls, ks, ps, ln, ⟨Nat.le_refl _, fun _ _ => SE_rfl, fun _ _ => SE_rfl, Or.inr ⟨hs2, t, t1, t2, rfl, t4⟩⟩, H, fun post hp => br_t h0 (nm_r (e' := nI (s * 8 + n)) e1 ⟨i1, br_f (by rw [c1]; exact hne) ⟨i1, by rw [c1, t3]; exact hp⟩⟩)⟩
/-- an object gets its dictionary -/
theorem x_toD (hT : T ≤ 12) (hST : ST ≤ 64) {q s : Nat} (hq : q < T) (eS : so q = nI s) (hs : s < ST ∨ s = 64 + q) : ∃ zs' ls' ks' ps', SE zs ls ks ps zs' ls' ks' ps' s (64 + q) ∧ (∀ r, r ≠ 64 + q → SE zs ls ks ps zs' ls' ks' ps' r r) ∧ ∀ post : SX → Prop, post (g0, g1, g2, g3, g4, g5, g6, g7, g8, g9, nI OL, nI NL, nI DL, nI T, nI ST, nI MT, fr, la, pa, upd so q (nI (64 + q)), sv, ce, ar, zs', ls', ks', ps', an, ln, le, co, ca, cb, cc, ss, es, ec, ep, et, ek, ed, fm, pc, fd, rg) → wpX_toDictionary post (g0, g1, g2, g3, g4, g5, g6, g7, g8, g9, nI OL, nI NL, nI DL, nI T, nI ST, nI MT, fr, la, pa, so, sv, ce, ar, zs, ls, ks, ps, an, ln, le, co, ca, cb, cc, ss, es, ec, ep, et, ek, ed, fm, pc, fd, rg) (nI q) := by
  have cq : (nI q).toNatClampNeg = q := nI_clamp (by omega)
  have iq : vp_in (nI q) 12 := vp_in_nI (by omega) (by omega)
  by_cases h64 : 64 ≤ s
  · have e : s = 64 + q := by omega
    subst e
    exact ⟨zs, ls, ks, ps, SE_rfl, fun _ _ => SE_rfl, fun post hp => ⟨iq, nm_r (e' := nI (64 + q)) (by rw [cq, eS]) (br_t (nI_le (a := 64) h64 (by omega)) (by rw [zn_up eS] at hp; exact hp))⟩⟩
  · obtain ⟨zs', ls', ks', ps', h1, h2, hw⟩ := x_cp (g0 := g0) (g1 := g1) (g2 := g2) (g3 := g3) (g4 := g4) (g5 := g5) (g6 := g6) (g7 := g7) (g8 := g8) (g9 := g9) (OL := OL) (NL := NL) (DL := DL) (T := T) (ST := ST) (MT := MT) (fr := fr) (la := la) (pa := pa) (so := so) (sv := sv) (ce := ce) (ar := ar) (zs := zs) (ls := ls) (ks := ks) (ps := ps) (an := an) (ln := ln) (le := le) (co := co) (ca := ca) (cb := cb) (cc := cc) (ss := ss) (es := es) (ec := ec) (ep := ep) (et := et) (ek := ek) (ed := ed) (fm := fm) (pc := pc) (fd := fd) (rg := rg) (s := s) (t := 64 + q) (by omega) (by omega) (by omega)
    exact ⟨zs', ls', ks', ps', h1, h2, fun post hp => ⟨iq, nm_r (e' := nI s) (by rw [cq, eS]) (br_f (nI_ge (b := 64) (by omega) (by decide)) (nm_r (e' := nI (64 + q)) (nI_add 64 q) (hw _ ⟨iq, nm_r (e' := upd so q (nI (64 + q))) (by rw [cq]) hp⟩)))⟩⟩
end
end
section
/-! inline caches: claim, arm, remember, siteRead -/
theorem zn_upLL {f : Nat → Int64} {k : Nat} {x y : Int64} : vp_updL (vp_updL f k x) k y = vp_updL f k y := by
  funext j
  unfold vp_updL
  by_cases e : j = k
  · rw [if_pos e, if_pos e]
  · rw [if_neg e, if_neg e, if_neg e]
def CL (a st : Nat) (ss : Nat → Int32) (r : Int32) (ss' : Nat → Int32) : Prop :=
  (r = -1 ∧ ss' = upd ss a 5 ∧ 4 ≤ st) ∨ ∃ i st', i < 4 ∧ r = nI (a * 4 + i) ∧ ss' = upd ss a (nI st') ∧ i < st' ∧ st' ≤ 5 ∧ ∀ j, j < st' → j ≠ i → j < st
theorem CA_ve {T : Nat} {ST : Nat} {MT : Nat} {pa : Nat → Int32} {so : Nat → Int32} {ce : Nat → Int64} {ar : Nat → Int32} {ls : Nat → Int32} {ps : Nat → Int32} {an : Nat → Int32} {le : Nat → Int32} {co : Nat → Int32} {cc : Nat → Int32} {ss : Nat → Int32} {es : Nat → Int32} {ec : Nat → Int32} {ep : Nat → Int32} {et : Nat → Int64} {ek : Nat → Int32} {ed : Nat → Int32} (H : CA T ST MT pa so ce ar ls ps an le co cc ss es ec ep et ek ed) (hT : T ≤ 12) {a : Nat} (ha : a < 60) : ∃ st, st ≤ 5 ∧ ss a = nI st ∧ ∀ i, i < st → i < 4 → VE ec ep (a * 4 + i) := by
  obtain ⟨st, h1, h2, _, op, n, _, _, _, _, h8⟩ := H a ha
  refine ⟨st, h1, h2, fun i hi hi4 => ?_⟩
  obtain ⟨s, _, _, h⟩ := h8 i hi hi4
  rcases h with ⟨h, _⟩ | ⟨_, _, h⟩
  · exact Or.inl h
  · rcases h with ⟨h, _⟩ | ⟨p, c, d, hp, h, _⟩
    · exact Or.inr (Or.inl h)
    · exact Or.inr (Or.inr ⟨p, by omega, h⟩)
section
variable {OL NL DL T ST MT : Nat} {g0 g1 g2 g3 g4 g5 g6 g7 g8 g9 fr la : Int32} {pa so sv ar zs ls ks ps an ln le co ca cb cc ss es ec ep ek ed fm pc fd rg : Nat → Int32} {ce et : Nat → Int64}
theorem x_claim44 {a st : Nat} (ha : a < 60) (hst : st ≤ 5) : ∃ r ss', CL a st ss r ss' ∧ ∀ post : Int32 → SX → Prop, post r (g0, g1, g2, g3, g4, g5, g6, g7, g8, g9, nI OL, nI NL, nI DL, nI T, nI ST, nI MT, fr, la, pa, so, sv, ce, ar, zs, ls, ks, ps, an, ln, le, co, ca, cb, cc, ss', es, ec, ep, et, ek, ed, fm, pc, fd, rg) → wX_claimEntry_44 post (nI a) (nI st) g0 g1 g2 g3 g4 g5 g6 g7 g8 g9 (nI OL) (nI NL) (nI DL) (nI T) (nI ST) (nI MT) fr la pa so sv ce ar zs ls ks ps an ln le co ca cb cc ss es ec ep et ek ed fm pc fd rg := by
  have ca' : (nI a).toNatClampNeg = a := nI_clamp (by omega)
  have ia : vp_in (nI a) 60 := vp_in_nI ha (by omega)
  by_cases h : st < 4
  · exact ⟨nI (a * 4 + st), upd ss a (nI (st + 1)), Or.inr ⟨st, st + 1, h, rfl, rfl, by omega, by omega, fun j _ _ => by omega⟩, fun post hp => br_t (nI_lt (b := 4) h (by decide)) ⟨ia, nm_r (e' := upd ss a (nI (st + 1))) (by rw [ca', nI_1]) (by rw [zn_4]; exact hp)⟩⟩
  · exact ⟨-1, upd ss a 5, Or.inl ⟨rfl, rfl, by omega⟩, fun post hp => br_f (nI_nlt (b := 4) (by omega) (by omega)) ⟨ia, nm_r (e' := upd ss a 5) (by rw [ca']) hp⟩⟩
theorem x_claim9 {a st : Nat} (ha : a < 60) (hst : st ≤ 5) (e5 : ss a = nI st) (hV : ∀ i, i < st → i < 4 → VE ec ep (a * 4 + i)) : ∀ (d j : Nat), j + d = 5 → ∀ N, d < N → ∃ r ss', CL a st ss r ss' ∧ ∀ post : Int32 → SX → Prop, post r (g0, g1, g2, g3, g4, g5, g6, g7, g8, g9, nI OL, nI NL, nI DL, nI T, nI ST, nI MT, fr, la, pa, so, sv, ce, ar, zs, ls, ks, ps, an, ln, le, co, ca, cb, cc, ss', es, ec, ep, et, ek, ed, fm, pc, fd, rg) → wX_claimEntry_9 post (nI a) (nI st) g0 g1 g2 g3 g4 g5 g6 g7 g8 g9 (nI OL) (nI NL) (nI DL) (nI T) (nI ST) (nI MT) fr la pa so sv ce ar zs ls ks ps an ln le co ca cb cc ss es ec ep et ek ed fm pc fd rg N (nI j) := by
  intro d
  induction d with
  | zero =>
    intro j hj N hN
    obtain ⟨N, rfl⟩ : ∃ N', N = N' + 1 := ⟨N - 1, by omega⟩
    obtain ⟨r, ss', hr, hw⟩ := x_claim44 (g0 := g0) (g1 := g1) (g2 := g2) (g3 := g3) (g4 := g4) (g5 := g5) (g6 := g6) (g7 := g7) (g8 := g8) (g9 := g9) (OL := OL) (NL := NL) (DL := DL) (T := T) (ST := ST) (MT := MT) (fr := fr) (la := la) (pa := pa) (so := so) (sv := sv) (ce := ce) (ar := ar) (zs := zs) (ls := ls) (ks := ks) (ps := ps) (an := an) (ln := ln) (le := le) (co := co) (ca := ca) (cb := cb) (cc := cc) (ss := ss) (es := es) (ec := ec) (ep := ep) (et := et) (ek := ek) (ed := ed) (fm := fm) (pc := pc) (fd := fd) (rg := rg) ha hst
    exact ⟨r, ss', hr, fun post hp => br_t (nI_le (by omega) (by omega)) (hw post hp)⟩
  | succ d ih =>
    intro j hj N hN
    obtain ⟨N, rfl⟩ : ∃ N', N = N' + 1 := ⟨N - 1, by omega⟩
    by_cases h1 : st ≤ j
    · obtain ⟨r, ss', hr, hw⟩ := x_claim44 (g0 := g0) (g1 := g1) (g2 := g2) (g3 := g3) (g4 := g4) (g5 := g5) (g6 := g6) (g7 := g7) (g8 := g8) (g9 := g9) (OL := OL) (NL := NL) (DL := DL) (T := T) (ST := ST) (MT := MT) (fr := fr) (la := la) (pa := pa) (so := so) (sv := sv) (ce := ce) (ar := ar) (zs := zs) (ls := ls) (ks := ks) (ps := ps) (an := an) (ln := ln) (le := le) (co := co) (ca := ca) (cb := cb) (cc := cc) (ss := ss) (es := es) (ec := ec) (ep := ep) (et := et) (ek := ek) (ed := ed) (fm := fm) (pc := pc) (fd := fd) (rg := rg) ha hst
      exact ⟨r, ss', hr, fun post hp => br_t (nI_le (by omega) (by omega)) (hw post hp)⟩
    by_cases h4 : 4 ≤ j
    · obtain ⟨r, ss', hr, hw⟩ := x_claim44 (g0 := g0) (g1 := g1) (g2 := g2) (g3 := g3) (g4 := g4) (g5 := g5) (g6 := g6) (g7 := g7) (g8 := g8) (g9 := g9) (OL := OL) (NL := NL) (DL := DL) (T := T) (ST := ST) (MT := MT) (fr := fr) (la := la) (pa := pa) (so := so) (sv := sv) (ce := ce) (ar := ar) (zs := zs) (ls := ls) (ks := ks) (ps := ps) (an := an) (ln := ln) (le := le) (co := co) (ca := ca) (cb := cb) (cc := cc) (ss := ss) (es := es) (ec := ec) (ep := ep) (et := et) (ek := ek) (ed := ed) (fm := fm) (pc := pc) (fd := fd) (rg := rg) ha hst
      exact ⟨r, ss', hr, fun post hp => br_f (nI_ge (by omega) (by omega)) (br_t (nI_le (a := 4) h4 (by omega)) (hw post hp))⟩
    have e7 : nI a * 4 + nI j = nI (a * 4 + j) := zn_4 a j
    have hst' : ¬ nI st ≤ nI j := nI_ge (by omega) (by omega)
    have h4' : ¬ (4 : Int32) ≤ nI j := nI_ge (b := 4) (by omega) (by decide)
    by_cases c : LE ec ep et ce (a * 4 + j)
    · obtain ⟨r, ss', hr, hw⟩ := ih (j + 1) (by omega) N (by omega)
      exact ⟨r, ss', hr, fun post hp => br_f hst' (br_f h4' (nm_r (e' := nI (a * 4 + j)) e7 (x_dead1 (by omega) c (br_t rfl (nm_r (e' := nI (j + 1)) (nI_1 j) (hw post hp))))))⟩
    · refine ⟨nI (a * 4 + j), ss, Or.inr ⟨j, st, by omega, rfl, (zn_up e5).symm, by omega, hst, fun i hi _ => hi⟩, fun post hp => br_f hst' (br_f h4' (nm_r (e' := nI (a * 4 + j)) e7 (x_dead (by omega) (hV j (by omega) (by omega)) (fun z => absurd z c) (br_f zn_10n hp))))⟩
theorem x_claim {a st : Nat} (ha : a < 60) (hst : st ≤ 5) (e5 : ss a = nI st) (hV : ∀ i, i < st → i < 4 → VE ec ep (a * 4 + i)) : ∃ r ss', CL a st ss r ss' ∧ ∀ post : Int32 → SX → Prop, post r (g0, g1, g2, g3, g4, g5, g6, g7, g8, g9, nI OL, nI NL, nI DL, nI T, nI ST, nI MT, fr, la, pa, so, sv, ce, ar, zs, ls, ks, ps, an, ln, le, co, ca, cb, cc, ss', es, ec, ep, et, ek, ed, fm, pc, fd, rg) → wpX_claimEntry post (g0, g1, g2, g3, g4, g5, g6, g7, g8, g9, nI OL, nI NL, nI DL, nI T, nI ST, nI MT, fr, la, pa, so, sv, ce, ar, zs, ls, ks, ps, an, ln, le, co, ca, cb, cc, ss, es, ec, ep, et, ek, ed, fm, pc, fd, rg) (nI a) := by
  obtain ⟨r, ss', hr, hw⟩ := x_claim9 (g0 := g0) (g1 := g1) (g2 := g2) (g3 := g3) (g4 := g4) (g5 := g5) (g6 := g6) (g7 := g7) (g8 := g8) (g9 := g9) (OL := OL) (NL := NL) (DL := DL) (T := T) (ST := ST) (MT := MT) (fr := fr) (la := la) (pa := pa) (so := so) (sv := sv) (ce := ce) (ar := ar) (zs := zs) (ls := ls) (ks := ks) (ps := ps) (an := an) (ln := ln) (le := le) (co := co) (ca := ca) (cb := cb) (cc := cc) (ss := ss) (es := es) (ec := ec) (ep := ep) (et := et) (ek := ek) (ed := ed) (fm := fm) (pc := pc) (fd := fd) (rg := rg) ha hst e5 hV 5 0 rfl 6 (by omega)
  exact ⟨r, ss', hr, fun post hp => ⟨vp_in_nI ha (by omega), nm_r (e' := nI st) (by rw [nI_clamp (by omega), e5]) ⟨6, hw post hp⟩⟩⟩
/-- armed but for the frontier x -/
def AF (T : Nat) (pa ar : Nat → Int32) (x : Int32) : Prop := (∀ q p, q < T → p < T → pa q = nI p → ¬ ar q = 0 → ¬ ar p = 0 ∨ nI p = x) ∧ ∀ q, T ≤ q → ar q = 0
theorem x_arm4 {rk : Nat → Nat} (hT : T ≤ 12) (R : RK T pa rk) : ∀ (d j : Nat) (x : Int32) (ar : Nat → Int32), j + d = 12 → RB T rk x d → AF T pa ar x → ∀ N, d < N → ∃ ar', (∀ q, ¬ ar q = 0 → ¬ ar' q = 0) ∧ AR T pa ar' ∧ (∀ p, p < T → x = nI p → ¬ ar' p = 0) ∧ ∀ post : SX → Prop, post (g0, g1, g2, g3, g4, g5, g6, g7, g8, g9, nI OL, nI NL, nI DL, nI T, nI ST, nI MT, fr, la, pa, so, sv, ce, ar', zs, ls, ks, ps, an, ln, le, co, ca, cb, cc, ss, es, ec, ep, et, ek, ed, fm, pc, fd, rg) → wX_arm_4 post g0 g1 g2 g3 g4 g5 g6 g7 g8 g9 (nI OL) (nI NL) (nI DL) (nI T) (nI ST) (nI MT) fr la N x (nI j) pa so sv ce ar zs ls ks ps an ln le co ca cb cc ss es ec ep et ek ed fm pc fd rg := by
  intro d
  induction d with
  | zero =>
    intro j x ar hj hx hA N hN
    obtain ⟨N, rfl⟩ : ∃ N', N = N' + 1 := ⟨N - 1, by omega⟩
    rcases hx with rfl | ⟨p, _, _, hx⟩
    · refine ⟨ar, fun _ h => h, ⟨fun q p hq hp e h => ?_, hA.2⟩, fun p hp e => absurd e.symm (zn_m1 (by omega)), fun post hp => br_t (nI_le (a := 12) (by omega) (by omega)) hp⟩
      rcases hA.1 q p hq hp e h with h | h
      · exact h
      · exact absurd h (zn_m1 (by omega))
    · exact absurd hx (Nat.not_lt_zero _)
  | succ d ih =>
    intro j x ar hj hx hA N hN
    obtain ⟨N, rfl⟩ : ∃ N', N = N' + 1 := ⟨N - 1, by omega⟩
    have hj2 : ¬ (12 : Int32) ≤ nI j := nI_ge (b := 12) (by omega) (by decide)
    rcases hx with rfl | ⟨p, hp, rfl, hx⟩
    · refine ⟨ar, fun _ h => h, ⟨fun q p hq hp e h => ?_, hA.2⟩, fun p hp e => absurd e.symm (zn_m1 (by omega)), fun post hp => br_f hj2 (br_t rfl hp)⟩
      rcases hA.1 q p hq hp e h with h | h
      · exact h
      · exact absurd h (zn_m1 (by omega))
    · have e0 : (nI p).toNatClampNeg = p := nI_clamp (by omega)
      have hin : vp_in (nI p) 12 := vp_in_nI (by omega) (by omega)
      by_cases c : ar p = 0
      · have hA2 : AF T pa (upd ar p 1) (pa p) := by
          refine ⟨fun q r hq hr e h => ?_, fun q hq => ?_⟩
          · by_cases d1 : q = p
            · subst d1
              exact Or.inr e.symm
            · rw [pk_un d1] at h
              refine Or.inl ?_
              by_cases d2 : r = p
              · rw [d2, pk_us]; exact zn_10n
              · rw [pk_un d2]
                rcases hA.1 q r hq hr e h with h | h
                · exact h
                · exact absurd (zn_inj (by omega) (by omega) h) d2
          · rw [pk_un (by omega)]; exact hA.2 q hq
        obtain ⟨ar', h1, h2, _, hw⟩ := ih (j + 1) (pa p) (upd ar p 1) (by omega) (RK_rb R hp hx) hA2 N (by omega)
        refine ⟨ar', fun q hq => ?_, h2, fun r hr e => ?_, fun post hpp => br_f hj2 (br_f (zn_m1 (by omega)) ⟨hin, br_t (by rw [e0]; exact c) ⟨hin, nm_r (e' := upd ar p 1) (by rw [e0, zn_b1]) ⟨hin, nm_r (e' := pa p) (by rw [e0]) (nm_r (e' := nI (j + 1)) (nI_1 j) (hw post hpp))⟩⟩⟩)⟩
        · apply h1
          by_cases d1 : q = p
          · rw [d1, pk_us]; exact zn_10n
          · rw [pk_un d1]; exact hq
        · have e2 := zn_inj (by omega) (by omega) e
          subst e2
          apply h1
          rw [pk_us]; exact zn_10n
      · refine ⟨ar, fun _ h => h, ⟨fun q r hq hr e h => ?_, hA.2⟩, fun r hr e => ?_, fun post hpp => br_f hj2 (br_f (zn_m1 (by omega)) ⟨hin, br_f (by rw [e0]; exact c) hpp⟩)⟩
        · rcases hA.1 q r hq hr e h with h | h
          · exact h
          · rw [zn_inj (by omega) (by omega) h]; exact c
        · rw [← zn_inj (by omega) (by omega) e]; exact c
theorem x_arm {rk : Nat → Nat} (hT : T ≤ 12) (R : RK T pa rk) (A : AR T pa ar) {p : Nat} (hp : p < T) : ∃ ar', (∀ q, ¬ ar q = 0 → ¬ ar' q = 0) ∧ AR T pa ar' ∧ ¬ ar' p = 0 ∧ ∀ post : SX → Prop, post (g0, g1, g2, g3, g4, g5, g6, g7, g8, g9, nI OL, nI NL, nI DL, nI T, nI ST, nI MT, fr, la, pa, so, sv, ce, ar', zs, ls, ks, ps, an, ln, le, co, ca, cb, cc, ss, es, ec, ep, et, ek, ed, fm, pc, fd, rg) → wpX_arm post (g0, g1, g2, g3, g4, g5, g6, g7, g8, g9, nI OL, nI NL, nI DL, nI T, nI ST, nI MT, fr, la, pa, so, sv, ce, ar, zs, ls, ks, ps, an, ln, le, co, ca, cb, cc, ss, es, ec, ep, et, ek, ed, fm, pc, fd, rg) (nI p) := by
  obtain ⟨ar', h1, h2, h3, hw⟩ := x_arm4 (g0 := g0) (g1 := g1) (g2 := g2) (g3 := g3) (g4 := g4) (g5 := g5) (g6 := g6) (g7 := g7) (g8 := g8) (g9 := g9) (OL := OL) (NL := NL) (DL := DL) (T := T) (ST := ST) (MT := MT) (fr := fr) (la := la) (pa := pa) (so := so) (sv := sv) (ce := ce) (zs := zs) (ls := ls) (ks := ks) (ps := ps) (an := an) (ln := ln) (le := le) (co := co) (ca := ca) (cb := cb) (cc := cc) (ss := ss) (es := es) (ec := ec) (ep := ep) (et := et) (ek := ek) (ed := ed) (fm := fm) (pc := pc) (fd := fd) (rg := rg) hT R 12 0 (nI p) ar rfl (RK_rb12 R (Or.inr ⟨p, hp, rfl⟩)) ⟨fun q r hq hr e h => Or.inl (A.1 q r hq hr e h), A.2⟩ 13 (by omega)
  exact ⟨ar', h1, h2, h3 p hp rfl, fun post hpp => ⟨13, hw post hpp⟩⟩
/-- remember: an outcome that is right now -/
theorem x_rem {rk : Nat → Nat} (hT : T ≤ 12) (R : RK T pa rk) (hST : ST ≤ 64) (A : AR T pa ar) (C : CA T ST MT pa so ce ar ls ps an le co cc ss es ec ep et ek ed) {a q s : Nat} (hem : EM MT le a) (ha : a < 60) (hq : q < T) (es0 : so q = nI s) (hs : s < ST ∨ 64 ≤ s) (hs76 : s < 76) {kd dt ch : Int32} (hch : ch = 0 ∨ ch = 1)
    (hE : s < ST → ∀ (ar' : Nat → Int32) (st : Int64), (ch = 1 → ∀ p, p < T → pa q = nI p → ¬ ar' p = 0 ∧ st = ce p) → ∀ op n, op ≤ 12 → n < 8 → co a = nI op → cc a = nI n → EI T ST pa so ce ar' ls ps an op n (nI s) ch (pa q) st kd dt) :
    ∃ ar' ss' es' ec' ep' et' ek' ed', AR T pa ar' ∧ CA T ST MT pa so ce ar' ls ps an le co cc ss' es' ec' ep' et' ek' ed' ∧ ∀ post : SX → Prop, post (g0, g1, g2, g3, g4, g5, g6, g7, g8, g9, nI OL, nI NL, nI DL, nI T, nI ST, nI MT, fr, la, pa, so, sv, ce, ar', zs, ls, ks, ps, an, ln, le, co, ca, cb, cc, ss', es', ec', ep', et', ek', ed', fm, pc, fd, rg) → wpX_remember post (g0, g1, g2, g3, g4, g5, g6, g7, g8, g9, nI OL, nI NL, nI DL, nI T, nI ST, nI MT, fr, la, pa, so, sv, ce, ar, zs, ls, ks, ps, an, ln, le, co, ca, cb, cc, ss, es, ec, ep, et, ek, ed, fm, pc, fd, rg) (nI a) (nI q) kd dt ch := by
  have cq : (nI q).toNatClampNeg = q := nI_clamp (by omega)
  have iq : vp_in (nI q) 12 := vp_in_nI (by omega) (by omega)
  have cA : (nI a).toNatClampNeg = a := nI_clamp (by omega)
  have iA : vp_in (nI a) 60 := vp_in_nI ha (by omega)
  by_cases h64 : 64 ≤ s
  · exact ⟨ar, ss, es, ec, ep, et, ek, ed, A, C, fun post hp => ⟨iq, br_t (by rw [cq, es0]; exact nI_le (a := 64) h64 (by omega)) hp⟩⟩
  have hs2 : s < ST := by omega
  have n64 : ¬ (64 : Int32) ≤ so (nI q).toNatClampNeg := by rw [cq, es0]; exact nI_ge (b := 64) (by omega) (by decide)
  obtain ⟨st, st5, e5, hV⟩ := CA_ve C hT ha
  by_cases h5 : st = 5
  · exact ⟨ar, ss, es, ec, ep, et, ek, ed, A, C, fun post hp => ⟨iq, br_f n64 ⟨iA, br_t (by rw [cA, e5, h5]; rfl) hp⟩⟩⟩
  have n5 : ¬ ss (nI a).toNatClampNeg = 5 := by
    rw [cA, e5]
    exact fun z => h5 (zn_inj (b := 5) (by omega) (by omega) z)
  obtain ⟨r, ss', hr, hw⟩ := x_claim (g0 := g0) (g1 := g1) (g2 := g2) (g3 := g3) (g4 := g4) (g5 := g5) (g6 := g6) (g7 := g7) (g8 := g8) (g9 := g9) (OL := OL) (NL := NL) (DL := DL) (T := T) (ST := ST) (MT := MT) (fr := fr) (la := la) (pa := pa) (so := so) (sv := sv) (ce := ce) (ar := ar) (zs := zs) (ls := ls) (ks := ks) (ps := ps) (an := an) (ln := ln) (le := le) (co := co) (ca := ca) (cb := cb) (cc := cc) (ss := ss) (es := es) (ec := ec) (ep := ep) (et := et) (ek := ek) (ed := ed) (fm := fm) (pc := pc) (fd := fd) (rg := rg) ha st5 e5 hV
  rcases hr with ⟨rfl, rfl, h4⟩ | ⟨i, st', hi, rfl, rfl, hi2, hst', hold⟩
  · exact ⟨ar, _, es, ec, ep, et, ek, ed, A, CA_mega C ha hem e5 h4 st5, fun post hp => ⟨iq, br_f n64 ⟨iA, br_f n5 (hw _ (br_t rfl hp))⟩⟩⟩
  have ie : vp_in (nI (a * 4 + i)) 240 := vp_in_nI (by omega) (by omega)
  have cE : (nI (a * 4 + i)).toNatClampNeg = a * 4 + i := nI_clamp (by omega)
  have hold2 : ∀ st0, ss a = nI st0 → st0 ≤ 5 → ∀ j, j < st' → j ≠ i → j < st0 := by
    intro st0 e0 h0 j hj hne
    have : st0 = st := zn_inj (by omega) (by omega) (e0.symm.trans e5)
    rw [this]
    exact hold j hj hne
  have ech : vp_nar .boolean ch = ch := by
    rcases hch with rfl | rfl
    · exact zn_b0
    · exact zn_b1
  -- the walk up to the choice of the stamp
  have walk : ∀ post : SX → Prop, ((ch = 0 → post (g0, g1, g2, g3, g4, g5, g6, g7, g8, g9, nI OL, nI NL, nI DL, nI T, nI ST, nI MT, fr, la, pa, so, sv, ce, ar, zs, ls, ks, ps, an, ln, le, co, ca, cb, cc, upd ss a (nI st'), upd es (a * 4 + i) (nI s), upd ec (a * 4 + i) ch, upd ep (a * 4 + i) (pa q), vp_updL et (a * 4 + i) 0, upd ek (a * 4 + i) kd, upd ed (a * 4 + i) dt, fm, pc, fd, rg)) ∧ (¬ ch = 0 → ((pa q = -1 → post (g0, g1, g2, g3, g4, g5, g6, g7, g8, g9, nI OL, nI NL, nI DL, nI T, nI ST, nI MT, fr, la, pa, so, sv, ce, ar, zs, ls, ks, ps, an, ln, le, co, ca, cb, cc, upd ss a (nI st'), upd es (a * 4 + i) (nI s), upd ec (a * 4 + i) ch, upd ep (a * 4 + i) (pa q), vp_updL et (a * 4 + i) 0, upd ek (a * 4 + i) kd, upd ed (a * 4 + i) dt, fm, pc, fd, rg)) ∧ (¬ pa q = -1 → (vp_in (pa q) 12 ∧ (wpX_arm post (g0, g1, g2, g3, g4, g5, g6, g7, g8, g9, nI OL, nI NL, nI DL, nI T, nI ST, nI MT, fr, la, pa, so, sv, ce, ar, zs, ls, ks, ps, an, ln, le, co, ca, cb, cc, upd ss a (nI st'), upd es (a * 4 + i) (nI s), upd ec (a * 4 + i) ch, upd ep (a * 4 + i) (pa q), vp_updL et (a * 4 + i) (ce (pa q).toNatClampNeg), upd ek (a * 4 + i) kd, upd ed (a * 4 + i) dt, fm, pc, fd, rg) (pa q))))))) → wpX_remember post (g0, g1, g2, g3, g4, g5, g6, g7, g8, g9, nI OL, nI NL, nI DL, nI T, nI ST, nI MT, fr, la, pa, so, sv, ce, ar, zs, ls, ks, ps, an, ln, le, co, ca, cb, cc, ss, es, ec, ep, et, ek, ed, fm, pc, fd, rg) (nI a) (nI q) kd dt ch := by
    intro post hp
    refine ⟨iq, br_f n64 ⟨iA, br_f n5 (hw _ (br_f (zn_m1 (by omega)) ⟨iq, nm_r (e' := pa q) (by rw [cq]) ⟨iq, ie, nm_r (e' := upd es (a * 4 + i) (nI s)) (by rw [cE, cq, es0]) ⟨ie, nm_r (e' := upd ek (a * 4 + i) kd) (by rw [cE]) ⟨ie, nm_r (e' := upd ed (a * 4 + i) dt) (by rw [cE]) ⟨ie, nm_r (e' := upd ec (a * 4 + i) ch) (by rw [cE, ech]) ⟨ie, nm_r (e' := upd ep (a * 4 + i) (pa q)) (by rw [cE]) ⟨ie, nm_r (e' := vp_updL et (a * 4 + i) 0) (by rw [cE]) ⟨hp.1, fun z => ⟨(hp.2 z).1, fun y => ⟨((hp.2 z).2 y).1, ie, nm_r (e' := vp_updL et (a * 4 + i) (ce (pa q).toNatClampNeg)) (by rw [cE, zn_upLL]) ((hp.2 z).2 y).2⟩⟩⟩⟩⟩⟩⟩⟩⟩⟩))⟩⟩
  by_cases hc : ch = 1 ∧ ¬ pa q = -1
  · obtain ⟨hc1, hc2⟩ := hc
    obtain ⟨p, hp, ep0⟩ : ∃ p, p < T ∧ pa q = nI p := by
      rcases RK_vp R hq with h | h
      · exact absurd h hc2
      · exact h
    obtain ⟨ar', g1, g2, g3, gw⟩ := x_arm (g0 := g0) (g1 := g1) (g2 := g2) (g3 := g3) (g4 := g4) (g5 := g5) (g6 := g6) (g7 := g7) (g8 := g8) (g9 := g9) (OL := OL) (NL := NL) (DL := DL) (T := T) (ST := ST) (MT := MT) (fr := fr) (la := la) (pa := pa) (so := so) (sv := sv) (ce := ce) (ar := ar) (zs := zs) (ls := ls) (ks := ks) (ps := ps) (an := an) (ln := ln) (le := le) (co := co) (ca := ca) (cb := cb) (cc := cc) (ss := upd ss a (nI st')) (es := upd es (a * 4 + i) (nI s)) (ec := upd ec (a * 4 + i) ch) (ep := upd ep (a * 4 + i) (pa q)) (et := vp_updL et (a * 4 + i) (ce (pa q).toNatClampNeg)) (ek := upd ek (a * 4 + i) kd) (ed := upd ed (a * 4 + i) dt) (fm := fm) (pc := pc) (fd := fd) (rg := rg) hT R A hp
    refine ⟨ar', upd ss a (nI st'), _, _, _, _, _, _, g2, CA_put (CA_keep (KP_same (CB := 0) R hT (Nat.le_refl _) (Nat.le_refl _) (fun _ _ => ⟨rfl, fun _ _ => ⟨rfl, Iff.rfl⟩⟩) (fun _ _ => ⟨rfl, fun _ _ => ⟨rfl, fun _ => rfl⟩⟩) (fun p _ => g1 p)) R hT hST C) ha hi hem hst' hi2 hold2 (hE hs2 ar' (ce (pa q).toNatClampNeg) (fun _ p' hp' e' => ?_)), fun post hpp => walk post (br_f (by rw [hc1]; exact zn_10n) (br_f hc2 ⟨by rw [ep0]; exact vp_in_nI (by omega) (by omega), ?_⟩))⟩
    · have : p' = p := zn_inj (by omega) (by omega) (e'.symm.trans ep0)
      subst this
      exact ⟨g3, by rw [e', nI_clamp (by omega)]⟩
    · have h2 := gw post hpp
      rw [← ep0] at h2
      exact h2
  · refine ⟨ar, upd ss a (nI st'), _, _, _, _, _, _, A, CA_put C ha hi hem hst' hi2 hold2 (hE hs2 ar 0 (fun h1 p hp e => absurd ⟨h1, by rw [e]; exact zn_m1 (by omega)⟩ hc)), fun post hpp => walk post (br_c (fun _ => hpp) (fun z => br_t ?_ hpp))⟩
    rcases hch with h | h
    · exact absurd h z
    · exact Classical.byContradiction (fun y => hc ⟨h, y⟩)
/-- siteRead is findSlot -/
theorem x_sr {rk : Nat → Nat} {CB : Nat} {sz ky lo : Nat → Int32} (hT : T ≤ 12) (R : RK T pa rk) (hST : ST ≤ 64) (Q : OQ T ST so zs ls ks ps sz ky lo) (A : AR T pa ar) (E : CE CB ce) (hCB : CB < 2 ^ 30) (C : CA T ST MT pa so ce ar ls ps an le co cc ss es ec ep et ek ed) {a q op n : Nat} (hem : EM MT le a) (ha : a < 60) (hq : q < T) (hop : co a = nI op) (hop12 : op ≤ 12) (h7 : op ≠ 7) (hn : n < 8) (hcc : cc a = nI n) :
    ∃ ar' ss' es' ec' ep' et' ek' ed', AR T pa ar' ∧ CA T ST MT pa so ce ar' ls ps an le co cc ss' es' ec' ep' et' ek' ed' ∧ ∀ post : Int32 → SX → Prop, post (slo (wo ps so n) (hol pa (wo ps so n) 12 (nI q))) (g0, g1, g2, g3, g4, g5, g6, g7, g8, g9, nI OL, nI NL, nI DL, nI T, nI ST, nI MT, fr, la, pa, so, sv, ce, ar', zs, ls, ks, ps, an, ln, le, co, ca, cb, cc, ss', es', ec', ep', et', ek', ed', fm, pc, fd, rg) → wpX_siteRead post (g0, g1, g2, g3, g4, g5, g6, g7, g8, g9, nI OL, nI NL, nI DL, nI T, nI ST, nI MT, fr, la, pa, so, sv, ce, ar, zs, ls, ks, ps, an, ln, le, co, ca, cb, cc, ss, es, ec, ep, et, ek, ed, fm, pc, fd, rg) (nI a) (nI q) := by
  obtain ⟨st, st5, e5, hV⟩ := CA_ve C hT ha
  obtain ⟨r, hr, hw⟩ := x_probe (g0 := g0) (g1 := g1) (g2 := g2) (g3 := g3) (g4 := g4) (g5 := g5) (g6 := g6) (g7 := g7) (g8 := g8) (g9 := g9) (OL := OL) (NL := NL) (DL := DL) (T := T) (ST := ST) (MT := MT) (fr := fr) (la := la) (pa := pa) (so := so) (sv := sv) (ce := ce) (ar := ar) (zs := zs) (ls := ls) (ks := ks) (ps := ps) (an := an) (ln := ln) (le := le) (co := co) (ca := ca) (cb := cb) (cc := cc) (ss := ss) (es := es) (ec := ec) (ep := ep) (et := et) (ek := ek) (ed := ed) (fm := fm) (pc := pc) (fd := fd) (rg := rg) hT hq ha st5 e5 hV
  obtain ⟨s, hs76, es0, hs⟩ := OQ_so Q hq
  have cA : (nI a).toNatClampNeg = a := nI_clamp (by omega)
  have iA : vp_in (nI a) 60 := vp_in_nI ha (by omega)
  have hwo : wo ps so n q = ps (s * 8 + n) := wo_s es0 hs76
  have hho := hol_eq (ow := wo ps so n) R hT hq
  rcases hr with rfl | ⟨i, st1, hi, e51, st15, his, rfl, g1, g2⟩
  · -- a miss
    have find : ∀ post : Int32 → Prop, post (slo (wo ps so n) (hol pa (wo ps so n) 12 (nI q))) → wpX_findSlot post (g0, g1, g2, g3, g4, g5, g6, g7, g8, g9, nI OL, nI NL, nI DL, nI T, nI ST, nI MT, fr, la, pa, so, sv, ce, ar, zs, ls, ks, ps, an, ln, le, co, ca, cb, cc, ss, es, ec, ep, et, ek, ed, fm, pc, fd, rg) (nI q) (cc (nI a).toNatClampNeg) := by
      intro post hp
      rw [cA, hcc]
      exact x_find hT (fun q hq => RK_vp R hq) (fun q hq => by obtain ⟨s, a, b, _⟩ := OQ_so Q hq; exact ⟨s, a, b⟩) hn hq hp
    have hs' : s < ST ∨ 64 ≤ s := by omega
    have one : ∀ op' n', op' ≤ 12 → n' < 8 → co a = nI op' → cc a = nI n' → op' = op ∧ n' = n := fun op' n' h1 h2 h3 h4 => ⟨zn_inj (by omega) (by omega) (h3.symm.trans hop), zn_inj (by omega) (by omega) (h4.symm.trans hcc)⟩
    have far : ps (s * 8 + n) = -1 → ∀ kd dt : Int32, OC T ST so ls ps an op n s (hol pa (wo ps so n) 12 (pa q)) kd dt → s < ST → ∀ (ar' : Nat → Int32) (st : Int64), ((1 : Int32) = 1 → ∀ p, p < T → pa q = nI p → ¬ ar' p = 0 ∧ st = ce p) → ∀ op' n', op' ≤ 12 → n' < 8 → co a = nI op' → cc a = nI n' → EI T ST pa so ce ar' ls ps an op' n' (nI s) 1 (pa q) st kd dt := by
      intro hab kd dt hoc hsT ar' st hst op' n' h1 h2 h3 h4
      obtain ⟨rfl, rfl⟩ := one op' n' h1 h2 h3 h4
      refine ⟨s, hsT, rfl, Or.inr ⟨rfl, hab, ?_⟩⟩
      rcases RK_vp R hq with h | ⟨p, hp, h⟩
      · rw [h, hol_m1] at hoc
        exact Or.inl ⟨h, hoc⟩
      · obtain ⟨c, hc, e⟩ := E p
        rw [h] at hoc
        obtain ⟨k1, k2⟩ := hst rfl p hp h
        exact Or.inr ⟨p, c, c, hp, h, e, by rw [k2, e], Nat.le_refl _, by omega, fun _ => ⟨k1, hoc⟩⟩
    rcases hol_vp (ow := wo ps so n) R hT 12 (nI q) (Or.inr ⟨q, hq, rfl⟩) with h | ⟨p, hp, h, h2, _⟩
    · -- nothing found
      have hab : ps (s * 8 + n) = -1 := by
        rw [← hwo]
        refine Classical.byContradiction (fun z => ?_)
        rw [hho, if_neg z] at h
        exact zn_m1 (by omega) h
      have hpar : hol pa (wo ps so n) 12 (pa q) = -1 := by
        rw [hho, if_pos (hwo.trans hab)] at h
        exact h
      obtain ⟨ar', ss', es', ec', ep', et', ek', ed', w1, w2, w3⟩ := x_rem (g0 := g0) (g1 := g1) (g2 := g2) (g3 := g3) (g4 := g4) (g5 := g5) (g6 := g6) (g7 := g7) (g8 := g8) (g9 := g9) (OL := OL) (NL := NL) (DL := DL) (T := T) (ST := ST) (MT := MT) (fr := fr) (la := la) (pa := pa) (so := so) (sv := sv) (ce := ce) (ar := ar) (zs := zs) (ls := ls) (ks := ks) (ps := ps) (an := an) (ln := ln) (le := le) (co := co) (ca := ca) (cb := cb) (cc := cc) (ss := ss) (es := es) (ec := ec) (ep := ep) (et := et) (ek := ek) (ed := ed) (fm := fm) (pc := pc) (fd := fd) (rg := rg) hT R hST A C hem ha hq es0 hs' hs76 (kd := 2) (dt := 0) (ch := 1) (Or.inr rfl) (far hab 2 0 (by rw [hpar]; exact Or.inl ⟨h7, Or.inl ⟨rfl, rfl⟩⟩))
      refine ⟨ar', ss', es', ec', ep', et', ek', ed', w1, w2, fun post hp => ?_⟩
      unfold wpX_siteRead
      refine hw _ (br_t rfl ⟨iA, find _ ?_⟩)
      rw [h, slo_m1] at hp ⊢
      exact br_t rfl (w3 _ hp)
    · obtain ⟨i, hi, hwi⟩ : ∃ i, i < 8 ∧ wo ps so n p = nI i := by
        rcases OQ_wo Q hp hn with z | z
        · exact absurd z h2
        · exact z
      have hsl : slo (wo ps so n) (hol pa (wo ps so n) 12 (nI q)) = nI (p * 8 + i) := by rw [h, slo_i (by omega) hwi]
      by_cases hpq : p = q
      · subst hpq
        obtain ⟨ar', ss', es', ec', ep', et', ek', ed', w1, w2, w3⟩ := x_rem (g0 := g0) (g1 := g1) (g2 := g2) (g3 := g3) (g4 := g4) (g5 := g5) (g6 := g6) (g7 := g7) (g8 := g8) (g9 := g9) (OL := OL) (NL := NL) (DL := DL) (T := T) (ST := ST) (MT := MT) (fr := fr) (la := la) (pa := pa) (so := so) (sv := sv) (ce := ce) (ar := ar) (zs := zs) (ls := ls) (ks := ks) (ps := ps) (an := an) (ln := ln) (le := le) (co := co) (ca := ca) (cb := cb) (cc := cc) (ss := ss) (es := es) (ec := ec) (ep := ep) (et := et) (ek := ek) (ed := ed) (fm := fm) (pc := pc) (fd := fd) (rg := rg) hT R hST A C hem ha hq es0 hs' hs76 (kd := 0) (dt := nI i) (ch := 0) (Or.inl rfl) (fun hsT ar' st _ op' n' h1 h2 h3 h4 => by
          obtain ⟨rfl, rfl⟩ := one op' n' h1 h2 h3 h4
          exact ⟨s, hsT, rfl, Or.inl ⟨rfl, i, hi, hwo.symm.trans hwi, Or.inl ⟨rfl, rfl, fun z => absurd z h7⟩⟩⟩)
        refine ⟨ar', ss', es', ec', ep', et', ek', ed', w1, w2, fun post hp => ?_⟩
        unfold wpX_siteRead
        refine hw _ (br_t rfl ⟨iA, find _ ?_⟩)
        rw [hsl] at hp ⊢
        exact br_f (zn_m1 (by omega)) (br_t (zn_sh (by omega) hi) (by rw [zn_and7 (by omega) hi]; exact w3 _ hp))
      · have hab : ps (s * 8 + n) = -1 := by
          rw [← hwo]
          refine Classical.byContradiction (fun z => ?_)
          rw [hho, if_neg z] at h
          exact hpq (zn_inj (by omega) (by omega) h).symm
        have hpar : hol pa (wo ps so n) 12 (pa q) = nI p := by
          rw [hho, if_pos (hwo.trans hab)] at h
          exact h
        obtain ⟨ar', ss', es', ec', ep', et', ek', ed', w1, w2, w3⟩ := x_rem (g0 := g0) (g1 := g1) (g2 := g2) (g3 := g3) (g4 := g4) (g5 := g5) (g6 := g6) (g7 := g7) (g8 := g8) (g9 := g9) (OL := OL) (NL := NL) (DL := DL) (T := T) (ST := ST) (MT := MT) (fr := fr) (la := la) (pa := pa) (so := so) (sv := sv) (ce := ce) (ar := ar) (zs := zs) (ls := ls) (ks := ks) (ps := ps) (an := an) (ln := ln) (le := le) (co := co) (ca := ca) (cb := cb) (cc := cc) (ss := ss) (es := es) (ec := ec) (ep := ep) (et := et) (ek := ek) (ed := ed) (fm := fm) (pc := pc) (fd := fd) (rg := rg) hT R hST A C hem ha hq es0 hs' hs76 (kd := 1) (dt := nI (p * 8 + i)) (ch := 1) (Or.inr rfl) (far hab 1 (nI (p * 8 + i)) (by rw [hpar]; exact Or.inl ⟨h7, Or.inr ⟨p, hp, rfl, rfl, by rw [hwi, zn_8]⟩⟩))
        refine ⟨ar', ss', es', ec', ep', et', ek', ed', w1, w2, fun post hp => ?_⟩
        unfold wpX_siteRead
        refine hw _ (br_t rfl ⟨iA, find _ ?_⟩)
        rw [hsl] at hp ⊢
        exact br_f (zn_m1 (by omega)) (br_f (by rw [zn_sh (by omega) hi]; exact fun z => hpq (zn_inj (by omega) (by omega) z)) (w3 _ hp))
  · -- a hit
    refine ⟨ar, ss, es, ec, ep, et, ek, ed, A, C, fun post hp => ?_⟩
    unfold wpX_siteRead
    refine hw _ (br_f (zn_m1 (by omega)) ?_)
    have ie : vp_in (nI (a * 4 + i)) 240 := vp_in_nI (by omega) (by omega)
    have cE : (nI (a * 4 + i)).toNatClampNeg = a * 4 + i := nI_clamp (by omega)
    obtain ⟨st2, _, e52, _, op', n', h1, h2, h3, h4, h8⟩ := C a ha
    have hst2 : st2 = st1 := zn_inj (by omega) (by omega) (e52.symm.trans e51)
    obtain ⟨s', hs', k1, K⟩ := h8 i (by omega) hi
    have hop' : op' = op := zn_inj (by omega) (by omega) (h3.symm.trans hop)
    have hn' : n' = n := zn_inj (by omega) (by omega) (h4.symm.trans hcc)
    subst hop' hn'
    have hss : s' = s := zn_inj (by omega) (by omega) (k1.symm.trans (g1.trans es0))
    subst hss
    rcases K with ⟨k2, i0, hi0, k3, K⟩ | ⟨k2, k3, K⟩
    · rcases K with ⟨k4, k5, _⟩ | ⟨k4, _⟩
      · rw [hho, hwo, if_neg (by rw [k3]; exact zn_m1 (by omega)), slo_nI (by omega), hwo, k3] at hp
        exact ⟨ie, br_t (by rw [cE]; exact k4) ⟨ie, by rw [cE, k5]; exact hp⟩⟩
      · exact absurd k4 h7
    · have hpar : hol pa (wo ps so n') 12 (nI q) = hol pa (wo ps so n') 12 (pa q) := by rw [hho, if_pos (hwo.trans k3)]
      rw [hpar] at hp
      have hep : ep (a * 4 + i) = pa q ∧ LE ec ep et ce (a * 4 + i) := by
        rcases g2 with g | g
        · rw [k2] at g
          exact absurd g zn_10n
        · exact g
      have hoc : OC T ST so ls ps an op' n' s' (hol pa (wo ps so n') 12 (pa q)) (ek (a * 4 + i)) (ed (a * 4 + i)) := by
        rcases K with ⟨k4, k5⟩ | ⟨p, c, d, k4, k5, k6, k7, k8, k9, k10⟩
        · rw [← hep.1, k4, hol_m1]; exact k5
        · rw [← hep.1, k5]
          refine (k10 ?_).2
          rcases hep.2 with z | z | ⟨p', z1, z2, z3⟩
          · rw [k2] at z
            exact absurd z zn_10n
          · rw [k5] at z
            exact absurd z (zn_m1 (by omega))
          · have : p' = p := zn_inj (by omega) (by omega) (z2.symm.trans k5)
            subst this
            rw [k7, k6] at z3
            exact (lN_eq (by omega) (by omega)).mp z3
      rcases hoc with ⟨_, o⟩ | ⟨o, _⟩
      · rcases o with ⟨o1, o2⟩ | ⟨p, o1, o2, o3, o4⟩
        · rw [o1, slo_m1] at hp
          exact ⟨ie, br_f (by rw [cE, o2]; decide) ⟨ie, br_f (by rw [cE, o2]; decide) hp⟩⟩
        · rw [o2, slo_nI (by omega), ← o2, ← o4] at hp
          exact ⟨ie, br_f (by rw [cE, o3]; decide) ⟨ie, br_t (by rw [cE]; exact o3) ⟨ie, by rw [cE]; exact hp⟩⟩⟩
      · exact absurd o h7
end
end
section
/-! the reference's reading methods -/
def gv (sv : Nat → Int32) (r : Int32) : Int32 := if r = -1 then -2147483648 else sv r.toNatClampNeg
theorem gv_m1 {sv : Nat → Int32} : gv sv (-1) = -2147483648 := if_pos rfl
theorem gv_nI {sv : Nat → Int32} {k : Nat} (h : k < 2 ^ 31) : gv sv (nI k) = sv k := by
  unfold gv
  rw [if_neg (zn_m1 h), nI_clamp h]
theorem zn_nlt0 {n : Nat} (h : n < 2 ^ 31) : ¬ nI n < 0 := nI_pos h
section
variable {OL NL DL T MT : Nat} {la : Int32} {pa sz ky sv lo le yc fm pc rg : Nat → Int32}
variable {post : Int32 → Prop} {ST : Nat} {so zs ls ks ps : Nat → Int32}
theorem y_isH_t {q : Nat} (h : q < T) (hT : T ≤ 12) (p : post 1) : wpY_isHandle post (nI OL, nI NL, nI DL, nI T, nI MT, la, pa, sz, ky, sv, lo, le, yc, fm, pc, rg) (nI q) := zh_t h (by omega) p
theorem y_isH_f {x : Int32} (h : NH T x) (p : post 0) : wpY_isHandle post (nI OL, nI NL, nI DL, nI T, nI MT, la, pa, sz, ky, sv, lo, le, yc, fm, pc, rg) x := zh_f h p
theorem y_isN_t {q : Nat} (h : q < NL) (hT : NL ≤ 8) (p : post 1) : wpY_isName post (nI OL, nI NL, nI DL, nI T, nI MT, la, pa, sz, ky, sv, lo, le, yc, fm, pc, rg) (nI q) := zh_t h (by omega) p
theorem y_isN_f {x : Int32} (h : NH NL x) (p : post 0) : wpY_isName post (nI OL, nI NL, nI DL, nI T, nI MT, la, pa, sz, ky, sv, lo, le, yc, fm, pc, rg) x := zh_f h p
theorem y_isC_t {q : Nat} (h : q < MT) (hT : MT ≤ 6) (p : post 1) : wpY_isCallable post (nI OL, nI NL, nI DL, nI T, nI MT, la, pa, sz, ky, sv, lo, le, yc, fm, pc, rg) (nI q) := zh_t h (by omega) p
theorem y_isC_f {x : Int32} (h : NH MT x) (p : post 0) : wpY_isCallable post (nI OL, nI NL, nI DL, nI T, nI MT, la, pa, sz, ky, sv, lo, le, yc, fm, pc, rg) x := zh_f h p
theorem y_pos24 (hT : T ≤ 12) {q z n : Nat} {κ : Nat → Nat} {b : Int32} (hq : q < T) (Y : RY sz ky lo q z κ b) (hz : z ≤ 8) (hk : ∀ i, i < z → κ i < 8) (hn : n < 8) : ∀ (d i : Nat), i + d = z → ∀ N, d < N → ∃ r, ((r = -1 ∧ ∀ j, i ≤ j → j < z → κ j ≠ n) ∨ ∃ j, i ≤ j ∧ j < z ∧ κ j = n ∧ r = nI j) ∧ ∀ post : Int32 → Prop, post r → wY_positionOf_24 post (nI q) (nI n) (nI OL) (nI NL) (nI DL) (nI T) (nI MT) la pa sz ky sv lo le yc fm pc rg N (nI i) := by
  have cq : (nI q).toNatClampNeg = q := nI_clamp (by omega)
  have iq : vp_in (nI q) 12 := vp_in_nI (by omega) (by omega)
  intro d
  induction d with
  | zero =>
    intro i hi N hN
    obtain ⟨N, rfl⟩ : ∃ N', N = N' + 1 := ⟨N - 1, by omega⟩
    exact ⟨-1, Or.inl ⟨rfl, fun j h1 h2 => by omega⟩, fun post hp => ⟨iq, br_t (by rw [cq, Y.1]; exact nI_le (by omega) (by omega)) hp⟩⟩
  | succ d ih =>
    intro i hi N hN
    obtain ⟨N, rfl⟩ : ∃ N', N = N' + 1 := ⟨N - 1, by omega⟩
    have h1 : ¬ sz (nI q).toNatClampNeg ≤ nI i := by rw [cq, Y.1]; exact nI_ge (by omega) (by omega)
    have e1 : nI q * 8 + nI i = nI (q * 8 + i) := zn_8 q i
    have i1 : vp_in (nI q * 8 + nI i) 96 := by rw [e1]; exact vp_in_nI (by omega) (by omega)
    have k1 : ky (nI q * 8 + nI i).toNatClampNeg = nI (κ i) := by rw [e1, nI_clamp (by omega)]; exact (Y.2 i (by omega)).1
    by_cases c : κ i = n
    · exact ⟨nI i, Or.inr ⟨i, Nat.le_refl _, by omega, c, rfl⟩, fun post hp => ⟨iq, br_f h1 ⟨i1, br_t (by rw [k1, c]) hp⟩⟩⟩
    · obtain ⟨r, hr, hw⟩ := ih (i + 1) (by omega) N (by omega)
      refine ⟨r, ?_, fun post hp => ⟨iq, br_f h1 ⟨i1, br_f (by rw [k1]; exact fun z => c (zn_inj (by have := hk i (by omega); omega) (by omega) z)) (nm_r (e' := nI (i + 1)) (nI_1 i) (hw post hp))⟩⟩⟩
      rcases hr with ⟨hr, h⟩ | ⟨j, h1, h2⟩
      · refine Or.inl ⟨hr, fun j hj hj2 => ?_⟩
        by_cases e : j = i
        · rw [e]; exact c
        · exact h j (by omega) hj2
      · exact Or.inr ⟨j, by omega, h2⟩
theorem y_pos (hT : T ≤ 12) (hN : NL ≤ 8) (Q : OQ T ST so zs ls ks ps sz ky lo) {q n : Nat} (hq : q < T) (hn : n < NL) (hp : post (wo ps so n q)) : wpY_positionOf post (nI OL, nI NL, nI DL, nI T, nI MT, la, pa, sz, ky, sv, lo, le, yc, fm, pc, rg) (nI q) (nI n) := by
  obtain ⟨s, z, κ, b, h76, eS, _, X, Y⟩ := Q q hq
  rw [wo_s eS h76] at hp
  obtain ⟨r, hr, hw⟩ := y_pos24 (OL := OL) (NL := NL) (DL := DL) (T := T) (MT := MT) (la := la) (pa := pa) (sz := sz) (ky := ky) (sv := sv) (lo := lo) (le := le) (yc := yc) (fm := fm) (pc := pc) (rg := rg) hT hq Y X.1 (fun i hi => (X.2.2.2.1 i hi).1) (n := n) (by omega) z 0 (by omega) (z + 1) (by omega)
  have e : r = ps (s * 8 + n) := by
    rcases RX_at X (m := n) (by omega) with ⟨c1, c2, c3⟩ | ⟨i, c1, c2, c3⟩
    · rcases hr with ⟨hr, _⟩ | ⟨j, _, h2, h3, _⟩
      · rw [hr, c1]
      · exact absurd h3 (c3 j h2)
    · rcases hr with ⟨_, hr⟩ | ⟨j, _, h2, h3, h4⟩
      · exact absurd c2 (hr i (Nat.zero_le _) c1)
      · rw [c3, h4, RX_inj X h2 c1 (h3.trans c2.symm)]
  rw [← e] at hp
  unfold wpY_positionOf
  exact y_isH_t hq hT (br_f zn_10n (y_isN_t hn hN (br_f zn_10n ⟨z + 1, hw post hp⟩)))
theorem y_pos_o {o n : Int32} (h : NH T o) (p : post (-2)) : wpY_positionOf post (nI OL, nI NL, nI DL, nI T, nI MT, la, pa, sz, ky, sv, lo, le, yc, fm, pc, rg) o n := by
  unfold wpY_positionOf
  exact y_isH_f h (br_t rfl p)
theorem y_pos_n (hT : T ≤ 12) {q : Nat} {n : Int32} (hq : q < T) (h : NH NL n) (p : post (-3)) : wpY_positionOf post (nI OL, nI NL, nI DL, nI T, nI MT, la, pa, sz, ky, sv, lo, le, yc, fm, pc, rg) (nI q) n := by
  unfold wpY_positionOf
  exact y_isH_t hq hT (br_f zn_10n (y_isN_f h (br_t rfl p)))
theorem y_hol27 (hT : T ≤ 12) (hN : NL ≤ 8) (Q : OQ T ST so zs ls ks ps sz ky lo) (hP : ∀ q, q < T → VP T (pa q)) {n : Nat} (hn : n < NL) : ∀ (d j : Nat) (x : Int32), j + d = 12 → VP T x → ∀ N, d < N → ∀ post : Int32 → Prop, post (hol pa (wo ps so n) d x) → wY_holder_27 post (nI n) (nI OL) (nI NL) (nI DL) (nI T) (nI MT) la pa sz ky sv lo le yc fm pc rg N x (nI j) := by
  intro d
  induction d with
  | zero =>
    intro j x hj _ N hN post hp
    obtain ⟨N, rfl⟩ : ∃ N', N = N' + 1 := ⟨N - 1, by omega⟩
    exact br_t (nI_le (a := 12) (by omega) (by omega)) hp
  | succ d ih =>
    intro j x hj hv N hN post hp
    obtain ⟨N, rfl⟩ : ∃ N', N = N' + 1 := ⟨N - 1, by omega⟩
    have hj2 : ¬ (12 : Int32) ≤ nI j := nI_ge (b := 12) (by omega) (by decide)
    rcases hv with rfl | ⟨p, hq, rfl⟩
    · rw [hol_m1] at hp
      exact br_f hj2 (br_t rfl hp)
    · have e0 : (nI p).toNatClampNeg = p := nI_clamp (by omega)
      rw [hol_s (by omega)] at hp
      refine br_f hj2 (br_f (zn_m1 (by omega)) (y_pos hT (by assumption) Q hq hn ?_))
      rcases OQ_wo Q hq (n := n) (by omega) with h | ⟨i, hi, h⟩
      · rw [if_pos h] at hp
        exact br_t (by rw [h]; exact zn_neg1) ⟨vp_in_nI (by omega) (by omega), nm_r (e' := pa p) (by rw [e0]) (nm_r (e' := nI (j + 1)) (nI_1 j) (ih (j + 1) (pa p) (by omega) (hP p hq) N (by omega) post hp))⟩
      · rw [if_neg (by rw [h]; exact zn_m1 (by omega))] at hp
        exact br_f (by rw [h]; exact nI_pos (by omega)) hp
theorem y_hol (hT : T ≤ 12) (hN : NL ≤ 8) (Q : OQ T ST so zs ls ks ps sz ky lo) (hP : ∀ q, q < T → VP T (pa q)) {q n : Nat} (hq : q < T) (hn : n < NL) (hp : post (hol pa (wo ps so n) 12 (nI q))) : wpY_holder post (nI OL, nI NL, nI DL, nI T, nI MT, la, pa, sz, ky, sv, lo, le, yc, fm, pc, rg) (nI q) (nI n) := by
  unfold wpY_holder
  exact y_isH_t hq hT (br_f zn_10n (y_isN_t hn hN (br_f zn_10n ⟨13, y_hol27 hT hN Q hP hn 12 0 (nI q) rfl (Or.inr ⟨q, hq, rfl⟩) 13 (by omega) post hp⟩)))
theorem y_hol_o {o n : Int32} (h : NH T o) (p : post (-2)) : wpY_holder post (nI OL, nI NL, nI DL, nI T, nI MT, la, pa, sz, ky, sv, lo, le, yc, fm, pc, rg) o n := by
  unfold wpY_holder
  exact y_isH_f h (br_t rfl p)
theorem y_hol_n (hT : T ≤ 12) {q : Nat} {n : Int32} (hq : q < T) (h : NH NL n) (p : post (-3)) : wpY_holder post (nI OL, nI NL, nI DL, nI T, nI MT, la, pa, sz, ky, sv, lo, le, yc, fm, pc, rg) (nI q) n := by
  unfold wpY_holder
  exact y_isH_t hq hT (br_f zn_10n (y_isN_f h (br_t rfl p)))
/-- a present name's place, its lock and the reference's lock -/
theorem OQ_lo {T ST : Nat} {so zs ls ks ps sz ky lo : Nat → Int32} (Q : OQ T ST so zs ls ks ps sz ky lo) {q n i : Nat} (hq : q < T) (hn : n < 8) (hi : i < 8) (h : wo ps so n q = nI i) : (wl ls so n q ∧ lo (q * 8 + i) = 1) ∨ (¬ wl ls so n q ∧ lo (q * 8 + i) = 0) := by
  obtain ⟨s, z, κ, b, h76, eS, _, X, Y⟩ := Q q hq
  rw [wo_s eS h76] at h
  rw [wl_s eS h76, X.2.2.1]
  rcases RX_at X hn with ⟨c1, _⟩ | ⟨j, c1, c2, c3⟩
  · rw [c1] at h
    exact absurd h.symm (zn_m1 (by omega))
  · have hz := X.1
    have e : i = j := zn_inj (by omega) (by omega) (h.symm.trans c3)
    subst e
    have := (Y.2 i c1).2
    rw [c2] at this
    exact this
theorem OQ_sz {T ST : Nat} {so zs ls ks ps sz ky lo : Nat → Int32} (Q : OQ T ST so zs ls ks ps sz ky lo) {q n i : Nat} (hq : q < T) (hn : n < 8) (hi : i < 8) (h : wo ps so n q = nI i) : ∃ z, z ≤ 8 ∧ sz q = nI z ∧ i < z := by
  obtain ⟨s, z, κ, b, h76, eS, _, X, Y⟩ := Q q hq
  rw [wo_s eS h76] at h
  have hz := X.1
  rcases RX_at X hn with ⟨c1, _⟩ | ⟨j, c1, c2, c3⟩
  · rw [c1] at h
    exact absurd h.symm (zn_m1 (by omega))
  · have e : i = j := zn_inj (by omega) (by omega) (h.symm.trans c3)
    subst e
    exact ⟨z, hz, Y.1, c1⟩
/-- an absent name isn't locked -/
theorem OQ_abs {T ST : Nat} {so zs ls ks ps sz ky lo : Nat → Int32} (Q : OQ T ST so zs ls ks ps sz ky lo) {q n : Nat} (hq : q < T) (hn : n < 8) (h : wo ps so n q = -1) : ¬ wl ls so n q := by
  obtain ⟨s, z, κ, b, h76, eS, _, X, Y⟩ := Q q hq
  rw [wo_s eS h76] at h
  rw [wl_s eS h76, X.2.2.1]
  rcases RX_at X hn with ⟨_, c, _⟩ | ⟨j, c1, c2, c3⟩
  · exact c
  · have hz := X.1
    rw [c3] at h
    exact absurd h (zn_m1 (by omega))
theorem y_lck (hT : T ≤ 12) (hN : NL ≤ 8) (Q : OQ T ST so zs ls ks ps sz ky lo) {q n : Nat} (hq : q < T) (hn : n < NL) (h1 : wl ls so n q → post 1) (h0 : ¬ wl ls so n q → post 0) : wpY_locked post (nI OL, nI NL, nI DL, nI T, nI MT, la, pa, sz, ky, sv, lo, le, yc, fm, pc, rg) (nI q) (nI n) := by
  unfold wpY_locked
  refine y_pos hT hN Q hq hn ?_
  rcases OQ_wo Q hq (n := n) (by omega) with h | ⟨i, hi, h⟩
  · exact br_f (by rw [h]; decide) (h0 (OQ_abs Q hq (by omega) h))
  · have e1 : nI q * 8 + wo ps so n q = nI (q * 8 + i) := by rw [h, zn_8]
    refine br_t (by rw [h]; exact nI_pos' (by omega)) ⟨by rw [e1]; exact vp_in_nI (by omega) (by omega), ?_⟩
    rw [e1, nI_clamp (by omega)]
    rcases OQ_lo Q hq (by omega) hi h with ⟨c1, c2⟩ | ⟨c1, c2⟩
    · rw [c2]; exact ⟨by rfl, h1 c1⟩
    · rw [c2]; exact ⟨by rfl, h0 c1⟩
theorem y_val (hT : T ≤ 12) {q i z : Nat} (hq : q < T) (hz : z ≤ 8) (ez : sz q = nI z) (hi : i < z) (p : post (sv (q * 8 + i))) : wpY_valueAt post (nI OL, nI NL, nI DL, nI T, nI MT, la, pa, sz, ky, sv, lo, le, yc, fm, pc, rg) (nI q) (nI i) := by
  have cq : (nI q).toNatClampNeg = q := nI_clamp (by omega)
  have iq : vp_in (nI q) 12 := vp_in_nI (by omega) (by omega)
  unfold wpY_valueAt
  refine y_isH_t hq hT (br_f zn_10n (br_f (nI_pos (by omega)) ⟨iq, br_t (by rw [cq, ez]; exact nI_lt hi (by omega)) ⟨by rw [zn_8]; exact vp_in_nI (by omega) (by omega), by rw [zn_8, nI_clamp (by omega)]; exact p⟩⟩))
theorem y_get (hT : T ≤ 12) (hN : NL ≤ 8) (Q : OQ T ST so zs ls ks ps sz ky lo) {rk : Nat → Nat} (R : RK T pa rk) {q n : Nat} (hq : q < T) (hn : n < NL) (hp : post (gv sv (slo (wo ps so n) (hol pa (wo ps so n) 12 (nI q))))) : wpY_get post (nI OL, nI NL, nI DL, nI T, nI MT, la, pa, sz, ky, sv, lo, le, yc, fm, pc, rg) (nI q) (nI n) := by
  unfold wpY_get
  refine y_hol hT hN Q (fun q hq => RK_vp R hq) hq hn ?_
  rcases hol_vp (ow := wo ps so n) R hT 12 (nI q) (Or.inr ⟨q, hq, rfl⟩) with h | ⟨p, hp', h, h2, _⟩
  · rw [h, slo_m1, gv_m1] at hp
    exact br_f (by rw [h]; decide) hp
  · rcases OQ_wo Q hp' (n := n) (by omega) with e | ⟨i, hi, e⟩
    · exact absurd e h2
    · obtain ⟨z, hz, ez, hiz⟩ := OQ_sz Q hp' (by omega) hi e
      rw [h, slo_i (by omega) e, gv_nI (by omega)] at hp
      rw [h]
      refine br_t (nI_pos' (by omega)) (y_pos hT hN Q hp' hn ?_)
      rw [e]
      exact y_val hT hp' hz ez hiz hp
theorem y_get_o {o n : Int32} (h : NH T o) (p : post (-2147483648)) : wpY_get post (nI OL, nI NL, nI DL, nI T, nI MT, la, pa, sz, ky, sv, lo, le, yc, fm, pc, rg) o n := by
  unfold wpY_get
  exact y_hol_o h (br_f (by decide) p)
theorem y_get_n (hT : T ≤ 12) {q : Nat} {n : Int32} (hq : q < T) (h : NH NL n) (p : post (-2147483648)) : wpY_get post (nI OL, nI NL, nI DL, nI T, nI MT, la, pa, sz, ky, sv, lo, le, yc, fm, pc, rg) (nI q) n := by
  unfold wpY_get
  exact y_hol_n hT hq h (br_f (by decide) p)
end
end
section
/-! the relation -/
def RL (CB : Nat) (g0 : Int32) (g1 : Int32) (g2 : Int32) (g3 : Int32) (g4 : Int32) (g5 : Int32) (g6 : Int32) (g7 : Int32) (g8 : Int32) (g9 : Int32) (OL : Nat) (NL : Nat) (DL : Nat) (MT : Nat) (fr : Int32) (la : Int32) (le : Nat → Int32) (co : Nat → Int32) (ca : Nat → Int32) (cb : Nat → Int32) (cc : Nat → Int32) (fm : Nat → Int32) (pc : Nat → Int32) (fd : Nat → Int32) (rg : Nat → Int32) (yc : Nat → Int32) (u : SX) (v : SY) : Prop := ∃ (T : Nat) (ST : Nat) (pa : Nat → Int32) (so : Nat → Int32) (sv : Nat → Int32) (ce : Nat → Int64) (ar : Nat → Int32) (zs : Nat → Int32) (ls : Nat → Int32) (ks : Nat → Int32) (ps : Nat → Int32) (an : Nat → Int32) (ln : Nat → Int32) (ss : Nat → Int32) (es : Nat → Int32) (ec : Nat → Int32) (ep : Nat → Int32) (et : Nat → Int64) (ek : Nat → Int32) (ed : Nat → Int32) (sz : Nat → Int32) (ky : Nat → Int32) (lo : Nat → Int32), u = (g0, g1, g2, g3, g4, g5, g6, g7, g8, g9, nI OL, nI NL, nI DL, nI T, nI ST, nI MT, fr, la, pa, so, sv, ce, ar, zs, ls, ks, ps, an, ln, le, co, ca, cb, cc, ss, es, ec, ep, et, ek, ed, fm, pc, fd, rg) ∧ v = (nI OL, nI NL, nI DL, nI T, nI MT, la, pa, sz, ky, sv, lo, le, yc, fm, pc, rg) ∧ IV CB T OL NL DL ST MT pa so ce ar zs ls ks ps an ln le co ca cb cc ss es ec ep et ek ed sz ky lo yc
def i_Rel (k : Nat) (u : SX) (v : SY) : Prop := ∃ (g0 : Int32) (g1 : Int32) (g2 : Int32) (g3 : Int32) (g4 : Int32) (g5 : Int32) (g6 : Int32) (g7 : Int32) (g8 : Int32) (g9 : Int32) (OL : Nat) (NL : Nat) (DL : Nat) (MT : Nat) (fr : Int32) (la : Int32) (le : Nat → Int32) (co : Nat → Int32) (ca : Nat → Int32) (cb : Nat → Int32) (cc : Nat → Int32) (fm : Nat → Int32) (pc : Nat → Int32) (fd : Nat → Int32) (rg : Nat → Int32) (yc : Nat → Int32), RL (400 * k) g0 g1 g2 g3 g4 g5 g6 g7 g8 g9 OL NL DL MT fr la le co ca cb cc fm pc fd rg yc u v
section
variable {CB OL NL DL T ST MT : Nat} {g0 g1 g2 g3 g4 g5 g6 g7 g8 g9 fr la : Int32} {pa so sv ar zs ls ks ps an ln le co ca cb cc ss es ec ep ek ed fm pc fd rg sz ky lo yc : Nat → Int32} {ce et : Nat → Int64}
theorem RL_el {P : SX → SY → Prop} {u : SX} {v : SY} (h : ∀ (T : Nat) (ST : Nat) (pa : Nat → Int32) (so : Nat → Int32) (sv : Nat → Int32) (ce : Nat → Int64) (ar : Nat → Int32) (zs : Nat → Int32) (ls : Nat → Int32) (ks : Nat → Int32) (ps : Nat → Int32) (an : Nat → Int32) (ln : Nat → Int32) (ss : Nat → Int32) (es : Nat → Int32) (ec : Nat → Int32) (ep : Nat → Int32) (et : Nat → Int64) (ek : Nat → Int32) (ed : Nat → Int32) (sz : Nat → Int32) (ky : Nat → Int32) (lo : Nat → Int32), IV CB T OL NL DL ST MT pa so ce ar zs ls ks ps an ln le co ca cb cc ss es ec ep et ek ed sz ky lo yc → P (g0, g1, g2, g3, g4, g5, g6, g7, g8, g9, nI OL, nI NL, nI DL, nI T, nI ST, nI MT, fr, la, pa, so, sv, ce, ar, zs, ls, ks, ps, an, ln, le, co, ca, cb, cc, ss, es, ec, ep, et, ek, ed, fm, pc, fd, rg) (nI OL, nI NL, nI DL, nI T, nI MT, la, pa, sz, ky, sv, lo, le, yc, fm, pc, rg)) (I : RL CB g0 g1 g2 g3 g4 g5 g6 g7 g8 g9 OL NL DL MT fr la le co ca cb cc fm pc fd rg yc u v) : P u v := by
  obtain ⟨T, ST, pa, so, sv, ce, ar, zs, ls, ks, ps, an, ln, ss, es, ec, ep, et, ek, ed, sz, ky, lo, hu, hv, I⟩ := I
  rw [hu, hv]
  exact h T ST pa so sv ce ar zs ls ks ps an ln ss es ec ep et ek ed sz ky lo I
theorem RL_in (I : IV CB T OL NL DL ST MT pa so ce ar zs ls ks ps an ln le co ca cb cc ss es ec ep et ek ed sz ky lo yc) : RL CB g0 g1 g2 g3 g4 g5 g6 g7 g8 g9 OL NL DL MT fr la le co ca cb cc fm pc fd rg yc (g0, g1, g2, g3, g4, g5, g6, g7, g8, g9, nI OL, nI NL, nI DL, nI T, nI ST, nI MT, fr, la, pa, so, sv, ce, ar, zs, ls, ks, ps, an, ln, le, co, ca, cb, cc, ss, es, ec, ep, et, ek, ed, fm, pc, fd, rg) (nI OL, nI NL, nI DL, nI T, nI MT, la, pa, sz, ky, sv, lo, le, yc, fm, pc, rg) := ⟨T, ST, pa, so, sv, ce, ar, zs, ls, ks, ps, an, ln, ss, es, ec, ep, et, ek, ed, sz, ky, lo, rfl, rfl, I⟩
theorem IV_up {CB' : Nat} (I : IV CB T OL NL DL ST MT pa so ce ar zs ls ks ps an ln le co ca cb cc ss es ec ep et ek ed sz ky lo yc) (h : CB ≤ CB') : IV CB' T OL NL DL ST MT pa so ce ar zs ls ks ps an ln le co ca cb cc ss es ec ep et ek ed sz ky lo yc := ⟨I.1, I.2.1, I.2.2.1, I.2.2.2.1, I.2.2.2.2.1, CE_up I.2.2.2.2.2.1 h, I.2.2.2.2.2.2⟩
theorem RL_rel {k : Nat} {u : SX} {v : SY} (I : RL CB g0 g1 g2 g3 g4 g5 g6 g7 g8 g9 OL NL DL MT fr la le co ca cb cc fm pc fd rg yc u v) (h : CB ≤ 400 * k) : i_Rel k u v :=
  RL_el (P := fun u v => i_Rel k u v) (fun T ST pa so sv ce ar zs ls ks ps an ln ss es ec ep et ek ed sz ky lo I => ⟨g0, g1, g2, g3, g4, g5, g6, g7, g8, g9, OL, NL, DL, MT, fr, la, le, co, ca, cb, cc, fm, pc, fd, rg, yc, RL_in (IV_up I h)⟩) I
theorem RL_up {CB' : Nat} {u : SX} {v : SY} (I : RL CB g0 g1 g2 g3 g4 g5 g6 g7 g8 g9 OL NL DL MT fr la le co ca cb cc fm pc fd rg yc u v) (h : CB ≤ CB') : RL CB' g0 g1 g2 g3 g4 g5 g6 g7 g8 g9 OL NL DL MT fr la le co ca cb cc fm pc fd rg yc u v :=
  RL_el (P := fun u v => RL CB' g0 g1 g2 g3 g4 g5 g6 g7 g8 g9 OL NL DL MT fr la le co ca cb cc fm pc fd rg yc u v) (fun T ST pa so sv ce ar zs ls ks ps an ln ss es ec ep et ek ed sz ky lo I => RL_in (IV_up I h)) I
end
theorem REL_el {k : Nat} {P : SX → SY → Prop} {u : SX} {v : SY} (h : ∀ (g0 : Int32) (g1 : Int32) (g2 : Int32) (g3 : Int32) (g4 : Int32) (g5 : Int32) (g6 : Int32) (g7 : Int32) (g8 : Int32) (g9 : Int32) (OL : Nat) (NL : Nat) (DL : Nat) (MT : Nat) (fr : Int32) (la : Int32) (le : Nat → Int32) (co : Nat → Int32) (ca : Nat → Int32) (cb : Nat → Int32) (cc : Nat → Int32) (fm : Nat → Int32) (pc : Nat → Int32) (fd : Nat → Int32) (rg : Nat → Int32) (yc : Nat → Int32) (T : Nat) (ST : Nat) (pa : Nat → Int32) (so : Nat → Int32) (sv : Nat → Int32) (ce : Nat → Int64) (ar : Nat → Int32) (zs : Nat → Int32) (ls : Nat → Int32) (ks : Nat → Int32) (ps : Nat → Int32) (an : Nat → Int32) (ln : Nat → Int32) (ss : Nat → Int32) (es : Nat → Int32) (ec : Nat → Int32) (ep : Nat → Int32) (et : Nat → Int64) (ek : Nat → Int32) (ed : Nat → Int32) (sz : Nat → Int32) (ky : Nat → Int32) (lo : Nat → Int32), IV (400 * k) T OL NL DL ST MT pa so ce ar zs ls ks ps an ln le co ca cb cc ss es ec ep et ek ed sz ky lo yc → P (g0, g1, g2, g3, g4, g5, g6, g7, g8, g9, nI OL, nI NL, nI DL, nI T, nI ST, nI MT, fr, la, pa, so, sv, ce, ar, zs, ls, ks, ps, an, ln, le, co, ca, cb, cc, ss, es, ec, ep, et, ek, ed, fm, pc, fd, rg) (nI OL, nI NL, nI DL, nI T, nI MT, la, pa, sz, ky, sv, lo, le, yc, fm, pc, rg)) (I : i_Rel k u v) : P u v := by
  obtain ⟨g0, g1, g2, g3, g4, g5, g6, g7, g8, g9, OL, NL, DL, MT, fr, la, le, co, ca, cb, cc, fm, pc, fd, rg, yc, I⟩ := I
  exact RL_el (h g0 g1 g2 g3 g4 g5 g6 g7 g8 g9 OL NL DL MT fr la le co ca cb cc fm pc fd rg yc) I
theorem i_up {k : Nat} {u : SX} {v : SY} (h : i_Rel k u v) : i_Rel (k + 5) u v :=
  REL_el (P := fun u v => i_Rel (k + 5) u v) (fun g0 g1 g2 g3 g4 g5 g6 g7 g8 g9 OL NL DL MT fr la le co ca cb cc fm pc fd rg yc T ST pa so sv ce ar zs ls ks ps an ln ss es ec ep et ek ed sz ky lo I => RL_rel (RL_in I) (by omega)) h
end
section
/-! the calls that only read -/
section
variable {OL NL DL T ST MT : Nat} {g0 g1 g2 g3 g4 g5 g6 g7 g8 g9 fr la : Int32} {pa so sv ar zs ls ks ps an ln le co ca cb cc ss es ec ep ek ed fm pc fd rg : Nat → Int32} {ce et : Nat → Int64}
variable {post : Int32 → Prop}
theorem x_same70 {s t z : Nat} {κ κ' : Nat → Nat} {b b' : Int32} (hs : s < 76) (ht : t < 76) (X : RX zs ls ks ps s z κ b) (X' : RX zs ls ks ps t z κ' b') : ∀ (d i : Nat), i + d = z → ∀ N, d < N → ∀ post : Int32 → Prop, ((∀ j, i ≤ j → j < z → κ j = κ' j) → post 1) → ((∃ j, i ≤ j ∧ j < z ∧ κ j ≠ κ' j) → post 0) → wX_sameLayout_70 post (nI s) (nI t) (nI z) g0 g1 g2 g3 g4 g5 g6 g7 g8 g9 (nI OL) (nI NL) (nI DL) (nI T) (nI ST) (nI MT) fr la pa so sv ce ar zs ls ks ps an ln le co ca cb cc ss es ec ep et ek ed fm pc fd rg N (nI i) := by
  have hz := X.1
  intro d
  induction d with
  | zero =>
    intro i hi N hN post h1 _
    obtain ⟨N, rfl⟩ : ∃ N', N = N' + 1 := ⟨N - 1, by omega⟩
    exact br_t (nI_le (by omega) (by omega)) (h1 (fun j _ _ => by omega))
  | succ d ih =>
    intro i hi N hN post h1 h0
    obtain ⟨N, rfl⟩ : ∃ N', N = N' + 1 := ⟨N - 1, by omega⟩
    have e1 : ks (nI s * 8 + nI i).toNatClampNeg = nI (κ i) := by rw [zn_8, nI_clamp (by omega)]; exact (X.2.2.2.1 i (by omega)).2.1
    have e2 : ks (nI t * 8 + nI i).toNatClampNeg = nI (κ' i) := by rw [zn_8, nI_clamp (by omega)]; exact (X'.2.2.2.1 i (by omega)).2.1
    have k1 := (X.2.2.2.1 i (by omega)).1
    have k2 := (X'.2.2.2.1 i (by omega)).1
    refine br_f (nI_ge (by omega) (by omega)) ⟨by rw [zn_8]; exact vp_in_nI (by omega) (by omega), by rw [zn_8]; exact vp_in_nI (by omega) (by omega), ?_⟩
    rw [e1, e2]
    by_cases c : κ i = κ' i
    · refine br_t (by rw [c]) (nm_r (e' := nI (i + 1)) (nI_1 i) (ih (i + 1) (by omega) N (by omega) post (fun h => h1 (fun j hj hj2 => ?_)) (fun ⟨j, a, b⟩ => h0 ⟨j, by omega, b⟩)))
      by_cases e : j = i
      · rw [e]; exact c
      · exact h j (by omega) hj2
    · exact br_f (fun z => c (zn_inj (by omega) (by omega) z)) (h0 ⟨i, Nat.le_refl _, by omega, c⟩)
end
section
variable {OL NL DL T MT : Nat} {la : Int32} {pa sz ky sv lo le yc fm pc rg : Nat → Int32}
theorem y_same37 (hT : T ≤ 12) {q p z : Nat} {κ κ' : Nat → Nat} {b b' : Int32} (hq : q < T) (hp : p < T) (hz : z ≤ 8) (hk : ∀ i, i < z → κ i < 8) (hk' : ∀ i, i < z → κ' i < 8) (Y : RY sz ky lo q z κ b) (Y' : RY sz ky lo p z κ' b') : ∀ (d i : Nat), i + d = z → ∀ N, d < N → ∀ post : Int32 → Prop, ((∀ j, i ≤ j → j < z → κ j = κ' j) → post 1) → ((∃ j, i ≤ j ∧ j < z ∧ κ j ≠ κ' j) → post 0) → wY_sameLayout_37 post (nI q) (nI p) (nI OL) (nI NL) (nI DL) (nI T) (nI MT) la pa sz ky sv lo le yc fm pc rg N (nI i) := by
  have cq : (nI q).toNatClampNeg = q := nI_clamp (by omega)
  have iq : vp_in (nI q) 12 := vp_in_nI (by omega) (by omega)
  intro d
  induction d with
  | zero =>
    intro i hi N hN post h1 _
    obtain ⟨N, rfl⟩ : ∃ N', N = N' + 1 := ⟨N - 1, by omega⟩
    exact ⟨iq, br_t (by rw [cq, Y.1]; exact nI_le (by omega) (by omega)) (h1 (fun j _ _ => by omega))⟩
  | succ d ih =>
    intro i hi N hN post h1 h0
    obtain ⟨N, rfl⟩ : ∃ N', N = N' + 1 := ⟨N - 1, by omega⟩
    have e1 : ky (nI q * 8 + nI i).toNatClampNeg = nI (κ i) := by rw [zn_8, nI_clamp (by omega)]; exact (Y.2 i (by omega)).1
    have e2 : ky (nI p * 8 + nI i).toNatClampNeg = nI (κ' i) := by rw [zn_8, nI_clamp (by omega)]; exact (Y'.2 i (by omega)).1
    have k1 := hk i (by omega)
    have k2 := hk' i (by omega)
    refine ⟨iq, br_f (by rw [cq, Y.1]; exact nI_ge (by omega) (by omega)) ⟨by rw [zn_8]; exact vp_in_nI (by omega) (by omega), by rw [zn_8]; exact vp_in_nI (by omega) (by omega), ?_⟩⟩
    rw [e1, e2]
    by_cases c : κ i = κ' i
    · refine br_t (by rw [c]) (nm_r (e' := nI (i + 1)) (nI_1 i) (ih (i + 1) (by omega) N (by omega) post (fun h => h1 (fun j hj hj2 => ?_)) (fun ⟨j, a, b⟩ => h0 ⟨j, by omega, b⟩)))
      by_cases e : j = i
      · rw [e]; exact c
      · exact h j (by omega) hj2
    · exact br_f (fun z => c (zn_inj (by omega) (by omega) z)) (h0 ⟨i, Nat.le_refl _, by omega, c⟩)
end
section
variable {CB OL NL DL T ST MT : Nat} {g0 g1 g2 g3 g4 g5 g6 g7 g8 g9 fr la : Int32} {pa so sv ar zs ls ks ps an ln le co ca cb cc ss es ec ep ek ed fm pc fd rg sz ky lo yc : Nat → Int32} {ce et : Nat → Int64}
variable {J : Prop}
theorem a_get (I : IV CB T OL NL DL ST MT pa so ce ar zs ls ks ps an ln le co ca cb cc ss es ec ep et ek ed sz ky lo yc) (j : J) (v1 v2 : Int32) : wpX_get (fun r => wpY_get (fun r' => r' = r ∧ J) (nI OL, nI NL, nI DL, nI T, nI MT, la, pa, sz, ky, sv, lo, le, yc, fm, pc, rg) v1 v2) (g0, g1, g2, g3, g4, g5, g6, g7, g8, g9, nI OL, nI NL, nI DL, nI T, nI ST, nI MT, fr, la, pa, so, sv, ce, ar, zs, ls, ks, ps, an, ln, le, co, ca, cb, cc, ss, es, ec, ep, et, ek, ed, fm, pc, fd, rg) v1 v2 := by
  obtain ⟨⟨hTO, hOL, rk, R⟩, ⟨_, hNL, _, _⟩, hTR, Q, hA, hE, hC, hCO⟩ := I
  have hT : T ≤ 12 := by omega
  unfold wpX_get
  rcases zh_c T (by omega) v1 with h | ⟨q, hq, rfl⟩
  · exact x_ck_o h (br_f (by decide) (y_get_o h ⟨rfl, j⟩))
  rcases zh_c NL (by omega) v2 with h | ⟨n, hn, rfl⟩
  · exact x_ck_n hq hT h (br_f (by decide) (y_get_n hT hq h ⟨rfl, j⟩))
  refine x_ck_t hq hT hn hNL (br_t rfl (x_find hT (fun q hq => RK_vp R hq) (fun q hq => by obtain ⟨s, a, b, _⟩ := OQ_so Q hq; exact ⟨s, a, b⟩) (by omega) hq ?_))
  have yg : ∀ post : Int32 → Prop, post (gv sv (slo (wo ps so n) (hol pa (wo ps so n) 12 (nI q)))) → wpY_get post (nI OL, nI NL, nI DL, nI T, nI MT, la, pa, sz, ky, sv, lo, le, yc, fm, pc, rg) (nI q) (nI n) := fun post hp => y_get hT hNL Q R hq hn hp
  rcases hol_vp (ow := wo ps so n) R hT 12 (nI q) (Or.inr ⟨q, hq, rfl⟩) with h | ⟨p, hp, h, h2, _⟩
  · rw [h, slo_m1] at yg ⊢
    rw [gv_m1] at yg
    exact br_t rfl (yg _ ⟨rfl, j⟩)
  · rcases OQ_wo Q hp (n := n) (by omega) with e | ⟨i, hi, e⟩
    · exact absurd e h2
    · rw [h, slo_i (by omega) e] at yg ⊢
      rw [gv_nI (by omega)] at yg
      exact br_f (zn_m1 (by omega)) ⟨vp_in_nI (by omega) (by omega), by rw [nI_clamp (by omega)]; exact yg _ ⟨rfl, j⟩⟩
theorem a_holder (I : IV CB T OL NL DL ST MT pa so ce ar zs ls ks ps an ln le co ca cb cc ss es ec ep et ek ed sz ky lo yc) (j : J) (v1 v2 : Int32) : wpX_holder (fun r => wpY_holder (fun r' => r' = r ∧ J) (nI OL, nI NL, nI DL, nI T, nI MT, la, pa, sz, ky, sv, lo, le, yc, fm, pc, rg) v1 v2) (g0, g1, g2, g3, g4, g5, g6, g7, g8, g9, nI OL, nI NL, nI DL, nI T, nI ST, nI MT, fr, la, pa, so, sv, ce, ar, zs, ls, ks, ps, an, ln, le, co, ca, cb, cc, ss, es, ec, ep, et, ek, ed, fm, pc, fd, rg) v1 v2 := by
  obtain ⟨⟨hTO, hOL, rk, R⟩, ⟨_, hNL, _, _⟩, hTR, Q, hA, hE, hC, hCO⟩ := I
  have hT : T ≤ 12 := by omega
  unfold wpX_holder
  rcases zh_c T (by omega) v1 with h | ⟨q, hq, rfl⟩
  · exact x_ck_o h (br_f (by decide) (y_hol_o h ⟨rfl, j⟩))
  rcases zh_c NL (by omega) v2 with h | ⟨n, hn, rfl⟩
  · exact x_ck_n hq hT h (br_f (by decide) (y_hol_n hT hq h ⟨rfl, j⟩))
  refine x_ck_t hq hT hn hNL (br_t rfl (x_find hT (fun q hq => RK_vp R hq) (fun q hq => by obtain ⟨s, a, b, _⟩ := OQ_so Q hq; exact ⟨s, a, b⟩) (by omega) hq ?_))
  have yg : ∀ post : Int32 → Prop, post (hol pa (wo ps so n) 12 (nI q)) → wpY_holder post (nI OL, nI NL, nI DL, nI T, nI MT, la, pa, sz, ky, sv, lo, le, yc, fm, pc, rg) (nI q) (nI n) := fun post hp => y_hol hT hNL Q (fun q hq => RK_vp R hq) hq hn hp
  rcases hol_vp (ow := wo ps so n) R hT 12 (nI q) (Or.inr ⟨q, hq, rfl⟩) with h | ⟨p, hp, h, h2, _⟩
  · rw [h] at yg ⊢
    rw [slo_m1]
    exact br_t rfl (yg _ ⟨rfl, j⟩)
  · rcases OQ_wo Q hp (n := n) (by omega) with e | ⟨i, hi, e⟩
    · exact absurd e h2
    · rw [h] at yg ⊢
      rw [slo_i (by omega) e]
      exact br_f (zn_m1 (by omega)) (yg _ ⟨(zn_sh (by omega) hi).symm, j⟩)
theorem a_protoOf (I : IV CB T OL NL DL ST MT pa so ce ar zs ls ks ps an ln le co ca cb cc ss es ec ep et ek ed sz ky lo yc) (j : J) (v1 : Int32) : wpX_protoOf (fun r => wpY_protoOf (fun r' => r' = r ∧ J) (nI OL, nI NL, nI DL, nI T, nI MT, la, pa, sz, ky, sv, lo, le, yc, fm, pc, rg) v1) (g0, g1, g2, g3, g4, g5, g6, g7, g8, g9, nI OL, nI NL, nI DL, nI T, nI ST, nI MT, fr, la, pa, so, sv, ce, ar, zs, ls, ks, ps, an, ln, le, co, ca, cb, cc, ss, es, ec, ep, et, ek, ed, fm, pc, fd, rg) v1 := by
  obtain ⟨⟨hTO, hOL, rk, R⟩, _⟩ := I
  have hT : T ≤ 12 := by omega
  unfold wpX_protoOf
  rcases zh_c T (by omega) v1 with h | ⟨q, hq, rfl⟩
  · refine x_isH_f h (br_t rfl ?_)
    unfold wpY_protoOf
    exact y_isH_f h (br_t rfl ⟨rfl, j⟩)
  · refine x_isH_t hq hT (br_f zn_10n ⟨vp_in_nI (by omega) (by omega), ?_⟩)
    unfold wpY_protoOf
    exact y_isH_t hq hT (br_f zn_10n ⟨vp_in_nI (by omega) (by omega), rfl, j⟩)
theorem a_keyCount (I : IV CB T OL NL DL ST MT pa so ce ar zs ls ks ps an ln le co ca cb cc ss es ec ep et ek ed sz ky lo yc) (j : J) (v1 : Int32) : wpX_keyCount (fun r => wpY_keyCount (fun r' => r' = r ∧ J) (nI OL, nI NL, nI DL, nI T, nI MT, la, pa, sz, ky, sv, lo, le, yc, fm, pc, rg) v1) (g0, g1, g2, g3, g4, g5, g6, g7, g8, g9, nI OL, nI NL, nI DL, nI T, nI ST, nI MT, fr, la, pa, so, sv, ce, ar, zs, ls, ks, ps, an, ln, le, co, ca, cb, cc, ss, es, ec, ep, et, ek, ed, fm, pc, fd, rg) v1 := by
  obtain ⟨⟨hTO, hOL, rk, R⟩, _, hTR, Q, _⟩ := I
  have hT : T ≤ 12 := by omega
  unfold wpX_keyCount
  rcases zh_c T (by omega) v1 with h | ⟨q, hq, rfl⟩
  · refine x_isH_f h (br_t rfl ?_)
    unfold wpY_keyCount
    exact y_isH_f h (br_t rfl ⟨rfl, j⟩)
  · obtain ⟨s, z, κ, b, h76, eS, _, X, Y⟩ := Q q hq
    have cq : (nI q).toNatClampNeg = q := nI_clamp (by omega)
    refine x_isH_t hq hT (br_f zn_10n ⟨vp_in_nI (by omega) (by omega), by rw [cq, eS]; exact vp_in_nI (by omega) (by omega), ?_⟩)
    unfold wpY_keyCount
    exact y_isH_t hq hT (br_f zn_10n ⟨vp_in_nI (by omega) (by omega), by rw [cq, eS, nI_clamp (by omega), X.2.1, Y.1], j⟩)
theorem a_keyAt (I : IV CB T OL NL DL ST MT pa so ce ar zs ls ks ps an ln le co ca cb cc ss es ec ep et ek ed sz ky lo yc) (j : J) (v1 v2 : Int32) : wpX_keyAt (fun r => wpY_keyAt (fun r' => r' = r ∧ J) (nI OL, nI NL, nI DL, nI T, nI MT, la, pa, sz, ky, sv, lo, le, yc, fm, pc, rg) v1 v2) (g0, g1, g2, g3, g4, g5, g6, g7, g8, g9, nI OL, nI NL, nI DL, nI T, nI ST, nI MT, fr, la, pa, so, sv, ce, ar, zs, ls, ks, ps, an, ln, le, co, ca, cb, cc, ss, es, ec, ep, et, ek, ed, fm, pc, fd, rg) v1 v2 := by
  obtain ⟨⟨hTO, hOL, rk, R⟩, _, hTR, Q, _⟩ := I
  have hT : T ≤ 12 := by omega
  unfold wpX_keyAt
  rcases zh_c T (by omega) v1 with h | ⟨q, hq, rfl⟩
  · refine x_isH_f h (br_t rfl ?_)
    unfold wpY_keyAt
    exact y_isH_f h (br_t rfl ⟨rfl, j⟩)
  · obtain ⟨s, z, κ, b, h76, eS, _, X, Y⟩ := Q q hq
    have hz := X.1
    have cq : (nI q).toNatClampNeg = q := nI_clamp (by omega)
    have iq : vp_in (nI q) 12 := vp_in_nI (by omega) (by omega)
    have e1 : zs (nI s).toNatClampNeg = nI z := by rw [nI_clamp (by omega), X.2.1]
    have e2 : sz (nI q).toNatClampNeg = nI z := by rw [cq, Y.1]
    have yk : ∀ post : Int32 → Prop, ((v2 < 0 → post (-15)) ∧ (¬ v2 < 0 → (v2 < nI z → vp_in (nI q * 8 + v2) 96 ∧ post (ky (nI q * 8 + v2).toNatClampNeg)) ∧ (¬ v2 < nI z → post (-15)))) → wpY_keyAt post (nI OL, nI NL, nI DL, nI T, nI MT, la, pa, sz, ky, sv, lo, le, yc, fm, pc, rg) (nI q) v2 := by
      intro post hp
      unfold wpY_keyAt
      refine y_isH_t hq hT (br_f zn_10n ⟨hp.1, fun h => ⟨iq, ?_⟩⟩)
      rw [e2]
      exact hp.2 h
    refine x_isH_t hq hT (br_f zn_10n ⟨iq, nm_r (e' := nI s) (by rw [cq, eS]) ?_⟩)
    by_cases c1 : v2 < 0
    · exact br_t c1 (yk _ (br_t c1 ⟨rfl, j⟩))
    refine br_f c1 ⟨vp_in_nI h76 (by omega), ?_⟩
    rw [e1]
    by_cases c2 : v2 < nI z
    · obtain ⟨i, hi, rfl⟩ := nI_of c1
      have hi2 : i < z := (nI_ltI hi (by omega)).mp c2
      refine br_t c2 ⟨by rw [zn_8]; exact vp_in_nI (by omega) (by omega), yk _ (br_f c1 (br_t c2 ⟨by rw [zn_8]; exact vp_in_nI (by omega) (by omega), ?_, j⟩))⟩
      rw [zn_8, zn_8, nI_clamp (by omega), nI_clamp (by omega), (Y.2 i hi2).1, (X.2.2.2.1 i hi2).2.1]
    · exact br_f c2 (yk _ (br_f c1 (br_f c2 ⟨rfl, j⟩)))
theorem a_valueAt (I : IV CB T OL NL DL ST MT pa so ce ar zs ls ks ps an ln le co ca cb cc ss es ec ep et ek ed sz ky lo yc) (j : J) (v1 v2 : Int32) : wpX_valueAt (fun r => wpY_valueAt (fun r' => r' = r ∧ J) (nI OL, nI NL, nI DL, nI T, nI MT, la, pa, sz, ky, sv, lo, le, yc, fm, pc, rg) v1 v2) (g0, g1, g2, g3, g4, g5, g6, g7, g8, g9, nI OL, nI NL, nI DL, nI T, nI ST, nI MT, fr, la, pa, so, sv, ce, ar, zs, ls, ks, ps, an, ln, le, co, ca, cb, cc, ss, es, ec, ep, et, ek, ed, fm, pc, fd, rg) v1 v2 := by
  obtain ⟨⟨hTO, hOL, rk, R⟩, _, hTR, Q, _⟩ := I
  have hT : T ≤ 12 := by omega
  unfold wpX_valueAt
  rcases zh_c T (by omega) v1 with h | ⟨q, hq, rfl⟩
  · refine x_isH_f h (br_t rfl ?_)
    unfold wpY_valueAt
    exact y_isH_f h (br_t rfl ⟨rfl, j⟩)
  · obtain ⟨s, z, κ, b, h76, eS, _, X, Y⟩ := Q q hq
    have hz := X.1
    have cq : (nI q).toNatClampNeg = q := nI_clamp (by omega)
    have iq : vp_in (nI q) 12 := vp_in_nI (by omega) (by omega)
    have e1 : zs (so (nI q).toNatClampNeg).toNatClampNeg = nI z := by rw [cq, eS, nI_clamp (by omega), X.2.1]
    have e2 : sz (nI q).toNatClampNeg = nI z := by rw [cq, Y.1]
    have yk : ∀ post : Int32 → Prop, ((v2 < 0 → post (-2147483648)) ∧ (¬ v2 < 0 → (v2 < nI z → vp_in (nI q * 8 + v2) 96 ∧ post (sv (nI q * 8 + v2).toNatClampNeg)) ∧ (¬ v2 < nI z → post (-2147483648)))) → wpY_valueAt post (nI OL, nI NL, nI DL, nI T, nI MT, la, pa, sz, ky, sv, lo, le, yc, fm, pc, rg) (nI q) v2 := by
      intro post hp
      unfold wpY_valueAt
      refine y_isH_t hq hT (br_f zn_10n ⟨hp.1, fun h => ⟨iq, ?_⟩⟩)
      rw [e2]
      exact hp.2 h
    refine x_isH_t hq hT (br_f zn_10n ?_)
    by_cases c1 : v2 < 0
    · exact br_t c1 (yk _ (br_t c1 ⟨rfl, j⟩))
    refine br_f c1 ⟨iq, by rw [cq, eS]; exact vp_in_nI h76 (by omega), ?_⟩
    rw [e1]
    by_cases c2 : v2 < nI z
    · obtain ⟨i, hi, rfl⟩ := nI_of c1
      have hi2 : i < z := (nI_ltI hi (by omega)).mp c2
      exact br_t c2 ⟨by rw [zn_8]; exact vp_in_nI (by omega) (by omega), yk _ (br_f c1 (br_t c2 ⟨by rw [zn_8]; exact vp_in_nI (by omega) (by omega), rfl, j⟩))⟩
    · exact br_f c2 (yk _ (br_f c1 (br_f c2 ⟨rfl, j⟩)))
theorem a_positionOf (I : IV CB T OL NL DL ST MT pa so ce ar zs ls ks ps an ln le co ca cb cc ss es ec ep et ek ed sz ky lo yc) (j : J) (v1 v2 : Int32) : wpX_positionOf (fun r => wpY_positionOf (fun r' => r' = r ∧ J) (nI OL, nI NL, nI DL, nI T, nI MT, la, pa, sz, ky, sv, lo, le, yc, fm, pc, rg) v1 v2) (g0, g1, g2, g3, g4, g5, g6, g7, g8, g9, nI OL, nI NL, nI DL, nI T, nI ST, nI MT, fr, la, pa, so, sv, ce, ar, zs, ls, ks, ps, an, ln, le, co, ca, cb, cc, ss, es, ec, ep, et, ek, ed, fm, pc, fd, rg) v1 v2 := by
  obtain ⟨⟨hTO, hOL, rk, R⟩, ⟨_, hNL, _, _⟩, hTR, Q, hA, hE, hC, hCO⟩ := I
  have hT : T ≤ 12 := by omega
  unfold wpX_positionOf
  rcases zh_c T (by omega) v1 with h | ⟨q, hq, rfl⟩
  · exact x_ck_o h (br_f (by decide) (y_pos_o h ⟨rfl, j⟩))
  rcases zh_c NL (by omega) v2 with h | ⟨n, hn, rfl⟩
  · exact x_ck_n hq hT h (br_f (by decide) (y_pos_n hT hq h ⟨rfl, j⟩))
  obtain ⟨s, h76, eS, _⟩ := OQ_so Q hq
  exact x_ck_t hq hT hn hNL (br_t rfl (x_own hT hq (by omega) eS h76 (y_pos hT hNL Q hq hn ⟨rfl, j⟩)))
theorem a_locked (I : IV CB T OL NL DL ST MT pa so ce ar zs ls ks ps an ln le co ca cb cc ss es ec ep et ek ed sz ky lo yc) (j : J) (v1 v2 : Int32) : wpX_locked (fun r => wpY_locked (fun r' => r' = r ∧ J) (nI OL, nI NL, nI DL, nI T, nI MT, la, pa, sz, ky, sv, lo, le, yc, fm, pc, rg) v1 v2) (g0, g1, g2, g3, g4, g5, g6, g7, g8, g9, nI OL, nI NL, nI DL, nI T, nI ST, nI MT, fr, la, pa, so, sv, ce, ar, zs, ls, ks, ps, an, ln, le, co, ca, cb, cc, ss, es, ec, ep, et, ek, ed, fm, pc, fd, rg) v1 v2 := by
  obtain ⟨⟨hTO, hOL, rk, R⟩, ⟨_, hNL, _, _⟩, hTR, Q, hA, hE, hC, hCO⟩ := I
  have hT : T ≤ 12 := by omega
  unfold wpX_locked
  rcases zh_c T (by omega) v1 with h | ⟨q, hq, rfl⟩
  · refine x_cos_o h (br_f (by decide) ?_)
    unfold wpY_locked
    exact y_pos_o h (br_f (by decide) ⟨rfl, j⟩)
  rcases zh_c NL (by omega) v2 with h | ⟨n, hn, rfl⟩
  · refine x_cos_n hq hT h (br_f (by decide) ?_)
    unfold wpY_locked
    exact y_pos_n hT hq h (br_f (by decide) ⟨rfl, j⟩)
  obtain ⟨s, h76, eS, _⟩ := OQ_so Q hq
  by_cases c : wo ps so n q = -1
  · exact x_cos_f hq hT hn hNL eS h76 c (br_f (by decide) (y_lck hT hNL Q hq hn (fun z => absurd z (OQ_abs Q hq (by omega) c)) (fun _ => ⟨rfl, j⟩)))
  · refine x_cos_t hq hT hn hNL eS h76 c (br_t rfl ?_)
    by_cases w : wl ls so n q
    · exact x_lk_t hT hq eS h76 w (br_f zn_10n (y_lck hT hNL Q hq hn (fun _ => ⟨rfl, j⟩) (fun z => absurd w z)))
    · exact x_lk_f hT hq eS h76 w (br_t rfl (y_lck hT hNL Q hq hn (fun z => absurd z w) (fun _ => ⟨rfl, j⟩)))
theorem a_sameLayout (I : IV CB T OL NL DL ST MT pa so ce ar zs ls ks ps an ln le co ca cb cc ss es ec ep et ek ed sz ky lo yc) (j : J) (v1 v2 : Int32) : wpX_sameLayout (fun r => wpY_sameLayout (fun r' => r' = r ∧ J) (nI OL, nI NL, nI DL, nI T, nI MT, la, pa, sz, ky, sv, lo, le, yc, fm, pc, rg) v1 v2) (g0, g1, g2, g3, g4, g5, g6, g7, g8, g9, nI OL, nI NL, nI DL, nI T, nI ST, nI MT, fr, la, pa, so, sv, ce, ar, zs, ls, ks, ps, an, ln, le, co, ca, cb, cc, ss, es, ec, ep, et, ek, ed, fm, pc, fd, rg) v1 v2 := by
  obtain ⟨⟨hTO, hOL, rk, R⟩, ⟨_, hNL, _, _⟩, hTR, Q, hA, hE, hC, hCO⟩ := I
  have hT : T ≤ 12 := by omega
  unfold wpX_sameLayout
  rcases zh_c T (by omega) v1 with h | ⟨q, hq, rfl⟩
  · refine x_isH_f h (br_t rfl ?_)
    unfold wpY_sameLayout
    exact y_isH_f h (br_t rfl ⟨rfl, j⟩)
  rcases zh_c T (by omega) v2 with h | ⟨p, hp, rfl⟩
  · refine x_isH_t hq hT (br_f zn_10n (x_isH_f h (br_t rfl ?_)))
    unfold wpY_sameLayout
    exact y_isH_t hq hT (br_f zn_10n (y_isH_f h (br_t rfl ⟨rfl, j⟩)))
  obtain ⟨s, z, κ, b, h76, eS, _, X, Y⟩ := Q q hq
  obtain ⟨t, w, κ', b', t76, et', _, X', Y'⟩ := Q p hp
  have hz := X.1
  have hw := X'.1
  have cq : (nI q).toNatClampNeg = q := nI_clamp (by omega)
  have cp : (nI p).toNatClampNeg = p := nI_clamp (by omega)
  have cs : (nI s).toNatClampNeg = s := nI_clamp (by omega)
  have ct : (nI t).toNatClampNeg = t := nI_clamp (by omega)
  have iq : vp_in (nI q) 12 := vp_in_nI (by omega) (by omega)
  have ip : vp_in (nI p) 12 := vp_in_nI (by omega) (by omega)
  have is : vp_in (nI s) 76 := vp_in_nI (by omega) (by omega)
  have it : vp_in (nI t) 76 := vp_in_nI (by omega) (by omega)
  have yk : ∀ post : Int32 → Prop, ((nI z = nI w → ∃ N, wY_sameLayout_37 post (nI q) (nI p) (nI OL) (nI NL) (nI DL) (nI T) (nI MT) la pa sz ky sv lo le yc fm pc rg N 0) ∧ (¬ nI z = nI w → post 0)) → wpY_sameLayout post (nI OL, nI NL, nI DL, nI T, nI MT, la, pa, sz, ky, sv, lo, le, yc, fm, pc, rg) (nI q) (nI p) := by
    intro post hpp
    unfold wpY_sameLayout
    refine y_isH_t hq hT (br_f zn_10n (y_isH_t hp hT (br_f zn_10n ⟨iq, ip, ?_⟩)))
    rw [cq, cp, Y.1, Y'.1]
    exact hpp
  refine x_isH_t hq hT (br_f zn_10n (x_isH_t hp hT (br_f zn_10n ⟨iq, nm_r (e' := nI s) (by rw [cq, eS]) ⟨ip, nm_r (e' := nI t) (by rw [cp, et']) ?_⟩⟩)))
  by_cases c : s = t
  · subst c
    have ezw : z = w := zn_inj (by omega) (by omega) (X.2.1.symm.trans X'.2.1)
    subst ezw
    refine br_t rfl (yk _ (br_t rfl ⟨z + 1, y_same37 hT hq hp hz (fun i hi => (X.2.2.2.1 i hi).1) (fun i hi => (X'.2.2.2.1 i hi).1) Y Y' z 0 (by omega) (z + 1) (by omega) _ (fun _ => ⟨rfl, j⟩) (fun ⟨i, _, hi, hne⟩ => absurd ?_ hne)⟩))
    have k1 := (X.2.2.2.1 i hi)
    have k2 := (X'.2.2.2.1 i hi)
    exact zn_inj (by omega) (by omega) (k1.2.1.symm.trans k2.2.1)
  · refine br_f (fun z => c (zn_inj (by omega) (by omega) z)) ⟨is, it, ?_⟩
    rw [cs, ct, X.2.1, X'.2.1]
    by_cases d : z = w
    · subst d
      refine br_t rfl ⟨is, nm_r (e' := nI z) rfl ⟨z + 1, x_same70 h76 t76 X X' z 0 (by omega) (z + 1) (by omega) _ (fun he => ?_) (fun hne => ?_)⟩⟩
      · exact yk _ (br_t rfl ⟨z + 1, y_same37 hT hq hp hz (fun i hi => (X.2.2.2.1 i hi).1) (fun i hi => (X'.2.2.2.1 i hi).1) Y Y' z 0 (by omega) (z + 1) (by omega) _ (fun _ => ⟨rfl, j⟩) (fun ⟨i, h1, hi, hne⟩ => absurd (he i h1 hi) hne)⟩)
      · refine yk _ (br_t rfl ⟨z + 1, y_same37 hT hq hp hz (fun i hi => (X.2.2.2.1 i hi).1) (fun i hi => (X'.2.2.2.1 i hi).1) Y Y' z 0 (by omega) (z + 1) (by omega) _ (fun he => ?_) (fun _ => ⟨rfl, j⟩)⟩)
        obtain ⟨i, h1, hi, hne⟩ := hne
        exact absurd (he i h1 hi) hne
    · have nd : ¬ nI z = nI w := fun y => d (zn_inj (by omega) (by omega) y)
      exact br_f nd (yk _ (br_f nd ⟨rfl, j⟩))
theorem a_methodLength (I : IV CB T OL NL DL ST MT pa so ce ar zs ls ks ps an ln le co ca cb cc ss es ec ep et ek ed sz ky lo yc) (j : J) (v1 : Int32) : wpX_methodLength (fun r => wpY_methodLength (fun r' => r' = r ∧ J) (nI OL, nI NL, nI DL, nI T, nI MT, la, pa, sz, ky, sv, lo, le, yc, fm, pc, rg) v1) (g0, g1, g2, g3, g4, g5, g6, g7, g8, g9, nI OL, nI NL, nI DL, nI T, nI ST, nI MT, fr, la, pa, so, sv, ce, ar, zs, ls, ks, ps, an, ln, le, co, ca, cb, cc, ss, es, ec, ep, et, ek, ed, fm, pc, fd, rg) v1 := by
  obtain ⟨_, _, _, _, _, _, _, ⟨hMT, _, _⟩⟩ := I
  unfold wpX_methodLength
  rcases zh_c MT (by omega) v1 with h | ⟨q, hq, rfl⟩
  · refine x_isC_f h (br_t rfl ?_)
    unfold wpY_methodLength
    exact y_isC_f h (br_t rfl ⟨rfl, j⟩)
  · refine x_isC_t hq hMT (br_f zn_10n ⟨vp_in_nI (by omega) (by omega), ?_⟩)
    unfold wpY_methodLength
    exact y_isC_t hq hMT (br_f zn_10n ⟨vp_in_nI (by omega) (by omega), rfl, j⟩)
theorem a_field (I : IV CB T OL NL DL ST MT pa so ce ar zs ls ks ps an ln le co ca cb cc ss es ec ep et ek ed sz ky lo yc) (j : J) (v1 v2 v3 : Int32) : wpX_field (fun r => wpY_field (fun r' => r' = r ∧ J) (nI OL, nI NL, nI DL, nI T, nI MT, la, pa, sz, ky, sv, lo, le, yc, fm, pc, rg) v1 v2 v3) (g0, g1, g2, g3, g4, g5, g6, g7, g8, g9, nI OL, nI NL, nI DL, nI T, nI ST, nI MT, fr, la, pa, so, sv, ce, ar, zs, ls, ks, ps, an, ln, le, co, ca, cb, cc, ss, es, ec, ep, et, ek, ed, fm, pc, fd, rg) v1 v2 v3 := by
  obtain ⟨_, _, _, _, _, _, _, ⟨hMT, hle, hW⟩⟩ := I
  unfold wpX_field
  rcases zh_c MT (by omega) v1 with h | ⟨m, hm, rfl⟩
  · refine x_isC_f h (br_t rfl ?_)
    unfold wpY_field
    exact y_isC_f h (br_t rfl ⟨rfl, j⟩)
  obtain ⟨l, hl, el, _⟩ := hle m (by omega)
  have cm : (nI m).toNatClampNeg = m := nI_clamp (by omega)
  have im : vp_in (nI m) 6 := vp_in_nI (by omega) (by omega)
  have yk : ∀ post : Int32 → Prop, ((v2 < 0 → post (-2147483648)) ∧ (¬ v2 < 0 → ((v2 < nI l → ((v3 < 0 → post (-2147483648)) ∧ (¬ v3 < 0 → ((v3 ≤ 3 → (vp_in (((nI m * 10 + v2) * 4) + v3) 240 ∧ post (yc (((nI m * 10 + v2) * 4) + v3).toNatClampNeg))) ∧ (¬ v3 ≤ 3 → post (-2147483648)))))) ∧ (¬ v2 < nI l → post (-2147483648))))) → wpY_field post (nI OL, nI NL, nI DL, nI T, nI MT, la, pa, sz, ky, sv, lo, le, yc, fm, pc, rg) (nI m) v2 v3 := by
    intro post hp
    unfold wpY_field
    refine y_isC_t hm hMT (br_f zn_10n ⟨hp.1, fun h => ⟨im, ?_⟩⟩)
    rw [cm, el]
    exact hp.2 h
  refine x_isC_t hm hMT (br_f zn_10n ?_)
  by_cases c1 : v2 < 0
  · exact br_t c1 (yk _ (br_t c1 ⟨rfl, j⟩))
  refine br_f c1 ⟨im, ?_⟩
  rw [cm, el]
  by_cases c2 : v2 < nI l
  · obtain ⟨i, hi, rfl⟩ := nI_of c1
    have hi2 : i < l := (nI_ltI hi (by omega)).mp c2
    refine br_t c2 (nm_r (e' := nI (m * 10 + i)) (zn_10 m i) ?_)
    by_cases c3 : v3 < 0
    · exact br_t c3 (yk _ (br_f c1 (br_t c2 (br_t c3 ⟨rfl, j⟩))))
    obtain ⟨f, hf, rfl⟩ := nI_of c3
    obtain ⟨hWI, w0, w1, w2, w3⟩ := hW (m * 10 + i) (by omega)
    have ia : vp_in (nI (m * 10 + i)) 60 := vp_in_nI (by omega) (by omega)
    have cA : (nI (m * 10 + i)).toNatClampNeg = m * 10 + i := nI_clamp (by omega)
    by_cases c4 : f ≤ 3
    · have l3 : nI f ≤ 3 := nI_le (b := 3) c4 (by decide)
      have e1 : nI m * 10 + nI i = nI (m * 10 + i) := zn_10 m i
      have e2 : (nI m * 10 + nI i) * 4 + nI f = nI ((m * 10 + i) * 4 + f) := by rw [e1, zn_4]
      have yk2 : ∀ post : Int32 → Prop, post (yc ((m * 10 + i) * 4 + f)) → wpY_field post (nI OL, nI NL, nI DL, nI T, nI MT, la, pa, sz, ky, sv, lo, le, yc, fm, pc, rg) (nI m) (nI i) (nI f) := fun post hp => yk post (br_f c1 (br_t c2 (br_f c3 (br_t l3 ⟨by rw [e2]; exact vp_in_nI (by omega) (by omega), by rw [e2, nI_clamp (by omega)]; exact hp⟩))))
      refine br_f c3 (br_f (nI_nlt (a := 3) (b := f) c4 (by decide) |> fun h => h) ?_)
      rcases (show f = 0 ∨ f = 1 ∨ f = 2 ∨ f = 3 by omega) with rfl | rfl | rfl | rfl
      · exact br_t rfl ⟨ia, yk2 _ ⟨by rw [cA]; exact w0, j⟩⟩
      · exact br_f (by decide) (br_t rfl ⟨ia, yk2 _ ⟨by rw [cA]; exact w1, j⟩⟩)
      · exact br_f (by decide) (br_f (by decide) (br_t rfl ⟨ia, yk2 _ ⟨by rw [cA]; exact w2, j⟩⟩))
      · exact br_f (by decide) (br_f (by decide) (br_f (by decide) (br_t rfl ⟨ia, yk2 _ ⟨by rw [cA]; exact w3, j⟩⟩)))
    · exact br_f c3 (br_t (nI_lt (a := 3) (b := f) (by omega) (by omega)) (yk _ (br_f c1 (br_t c2 (br_f c3 (br_f (nI_ge (a := 3) (b := f) (by omega) (by omega)) ⟨rfl, j⟩))))))
  · exact br_f c2 (yk _ (br_f c1 (br_f c2 ⟨rfl, j⟩)))
end
end
section
/-! create, setProto, newMethod, emit -/
section
variable {OL NL DL T MT : Nat} {la : Int32} {pa sz ky sv lo le yc fm pc rg : Nat → Int32}
theorem y_cr16 {post : Int32 → SY → Prop} {x : Int32} (hT : T ≤ 12) (hOL : OL ≤ 12) (h : T < OL) (hp : post (nI T) (nI OL, nI NL, nI DL, nI (T + 1), nI MT, la, upd pa T x, upd sz T 0, ky, sv, lo, le, yc, fm, pc, rg)) : wY_create_16 post x (nI OL) (nI NL) (nI DL) (nI T) (nI MT) la pa sz ky sv lo le yc fm pc rg := by
  have cT : (nI T).toNatClampNeg = T := nI_clamp (by omega)
  have iT : vp_in (nI T) 12 := vp_in_nI (by omega) (by omega)
  exact br_t (nI_lt h (by omega)) ⟨iT, nm_r (e' := upd pa T x) (by rw [cT]) ⟨iT, nm_r (e' := upd sz T 0) (by rw [cT]) (nm_r (e' := nI (T + 1)) (nI_1 T) (by rw [nI_pred]; exact hp))⟩⟩
theorem y_sp32 (hT : T ≤ 12) (hP : ∀ q, q < T → VP T (pa q)) {o : Nat} {p : Int32} (ho : o < T) : ∀ (d j : Nat) (x : Int32), j + d = 12 → VP T x → ∀ N, d < N → ∀ post : Int32 → SY → Prop, (inh pa (nI o) d x → post (-5) (nI OL, nI NL, nI DL, nI T, nI MT, la, pa, sz, ky, sv, lo, le, yc, fm, pc, rg)) → (¬ inh pa (nI o) d x → post 0 (nI OL, nI NL, nI DL, nI T, nI MT, la, upd pa o p, sz, ky, sv, lo, le, yc, fm, pc, rg)) → wY_setProto_32 post (nI o) p (nI OL) (nI NL) (nI DL) (nI T) (nI MT) la pa sz ky sv lo le yc fm pc rg N x (nI j) := by
  have co' : (nI o).toNatClampNeg = o := nI_clamp (by omega)
  have io : vp_in (nI o) 12 := vp_in_nI (by omega) (by omega)
  intro d
  induction d with
  | zero =>
    intro j x hj _ N hN post _ hp
    obtain ⟨N, rfl⟩ : ∃ N', N = N' + 1 := ⟨N - 1, by omega⟩
    exact br_t (nI_le (a := 12) (by omega) (by omega)) ⟨io, nm_r (e' := upd pa o p) (by rw [co']) (hp (fun z => z))⟩
  | succ d ih =>
    intro j x hj hv N hN post h1 h0
    obtain ⟨N, rfl⟩ : ∃ N', N = N' + 1 := ⟨N - 1, by omega⟩
    have hj2 : ¬ (12 : Int32) ≤ nI j := nI_ge (b := 12) (by omega) (by decide)
    rcases hv with rfl | ⟨q, hq, rfl⟩
    · exact br_f hj2 (br_t rfl ⟨io, nm_r (e' := upd pa o p) (by rw [co']) (h0 (inh_m1 _))⟩)
    · have e0 : (nI q).toNatClampNeg = q := nI_clamp (by omega)
      rw [inh_s (by omega)] at h1 h0
      refine br_f hj2 (br_f (zn_m1 (by omega)) (br_c (fun h => h1 (Or.inl h)) (fun h => ⟨vp_in_nI (by omega) (by omega), nm_r (e' := pa q) (by rw [e0]) (nm_r (e' := nI (j + 1)) (nI_1 j) (ih (j + 1) (pa q) (by omega) (hP q hq) N (by omega) post (fun z => h1 (Or.inr z)) (fun z => h0 (fun y => ?_))))⟩)))
      rcases y with y | y
      · exact h y
      · exact z y
end
theorem OQ_new {T ST : Nat} {so zs ls ks ps sz ky lo an ln : Nat → Int32} (Q : OQ T ST so zs ls ks ps sz ky lo) (H : TR ST zs ls ks ps an ln) (hT : T < 12) : OQ (T + 1) ST (upd so T 0) zs ls ks ps (upd sz T 0) ky lo := by
  intro q hq
  by_cases e : q = T
  · subst e
    obtain ⟨z, κ, b, X⟩ := H.2.2.1 0 (by have := H.1; omega)
    have ez : z = 0 := zn_inj (b := 0) (by have := X.1; omega) (by omega) (X.2.1.symm.trans H.2.2.2.1)
    subst ez
    exact ⟨0, 0, κ, b, by omega, pk_us, Or.inl (by have := H.1; omega), X, pk_us, fun i hi => by omega⟩
  · rw [pk_un e]
    obtain ⟨s, z, κ, b, c1, c2, c3, c4, c5⟩ := Q q (by omega)
    exact ⟨s, z, κ, b, c1, c2, c3, c4, RY_cg c5 c4.1 (pk_un e) (fun _ _ => ⟨rfl, rfl⟩)⟩
section
variable {CB OL NL DL T ST MT : Nat} {g0 g1 g2 g3 g4 g5 g6 g7 g8 g9 fr la : Int32} {pa so sv ar zs ls ks ps an ln le co ca cb cc ss es ec ep ek ed fm pc fd rg sz ky lo yc : Nat → Int32} {ce et : Nat → Int64}
theorem l_create (I : IV CB T OL NL DL ST MT pa so ce ar zs ls ks ps an ln le co ca cb cc ss es ec ep et ek ed sz ky lo yc) (x : Int32) : ∃ r u' v', RL CB g0 g1 g2 g3 g4 g5 g6 g7 g8 g9 OL NL DL MT fr la le co ca cb cc fm pc fd rg yc u' v' ∧ (∀ post : Int32 → SX → Prop, post r u' → wpX_create post (g0, g1, g2, g3, g4, g5, g6, g7, g8, g9, nI OL, nI NL, nI DL, nI T, nI ST, nI MT, fr, la, pa, so, sv, ce, ar, zs, ls, ks, ps, an, ln, le, co, ca, cb, cc, ss, es, ec, ep, et, ek, ed, fm, pc, fd, rg) x) ∧ (∀ post : Int32 → SY → Prop, post r v' → wpY_create post (nI OL, nI NL, nI DL, nI T, nI MT, la, pa, sz, ky, sv, lo, le, yc, fm, pc, rg) x) := by
  have I' := I
  obtain ⟨hO, hL, hTR, Q, hA, hE, hC, hCO⟩ := I
  have hO' := hO
  obtain ⟨hTO, hOL, rk, R⟩ := hO
  have hT : T ≤ 12 := by omega
  have vp : VP T x ∨ (NH T x ∧ ¬ x = -1) := by
    by_cases e : x = -1
    · exact Or.inl (Or.inl e)
    · rcases zh_c T (by omega) x with h | h
      · exact Or.inr ⟨h, e⟩
      · exact Or.inl (Or.inr h)
  rcases vp with vp | ⟨h, e⟩
  · have ykk : ∀ post : Int32 → SY → Prop, wY_create_16 post x (nI OL) (nI NL) (nI DL) (nI T) (nI MT) la pa sz ky sv lo le yc fm pc rg → wpY_create post (nI OL, nI NL, nI DL, nI T, nI MT, la, pa, sz, ky, sv, lo, le, yc, fm, pc, rg) x := by
      intro post hp
      rcases vp with e | ⟨q, hq, e⟩
      · exact br_t e hp
      · subst e
        exact br_f (zn_m1 (by omega)) (y_isH_t hq hT (br_f zn_10n hp))
    by_cases hf : T < OL
    · have cT : (nI T).toNatClampNeg = T := nI_clamp (by omega)
      have iT : vp_in (nI T) 12 := vp_in_nI (by omega) (by omega)
      refine ⟨nI T, (g0, g1, g2, g3, g4, g5, g6, g7, g8, g9, nI OL, nI NL, nI DL, nI (T + 1), nI ST, nI MT, fr, la, upd pa T x, upd so T 0, sv, ce, ar, zs, ls, ks, ps, an, ln, le, co, ca, cb, cc, ss, es, ec, ep, et, ek, ed, fm, pc, fd, rg), (nI OL, nI NL, nI DL, nI (T + 1), nI MT, la, upd pa T x, upd sz T 0, ky, sv, lo, le, yc, fm, pc, rg), RL_in ⟨OB_new hO' hf vp, hL, hTR, OQ_new Q hTR (by omega), ⟨fun q p hq hp e h => ?_, fun q hq => hA.2 q (by omega)⟩, hE, CA_keep (KP_same (CB := 0) R hT (by omega) (Nat.le_refl _) (fun q hq => ⟨pk_un (by omega), fun n hn => ?_⟩) (fun _ _ => ⟨rfl, fun _ _ => ⟨rfl, fun _ => rfl⟩⟩) (fun p _ h => h)) R hT hTR.2.1 hC, hCO⟩, fun post hp => ?_, fun post hp => ykk post (y_cr16 hT hOL hf hp)⟩
      · by_cases d : q = T
        · subst d
          exact absurd (hA.2 q (Nat.le_refl _)) h
        · rw [pk_un d] at e
          rcases RK_vp R (q := q) (by omega) with z | ⟨p', hp', z⟩
          · rw [e] at z
            exact absurd z (zn_m1 (by omega))
          · have := zn_inj (by omega) (by omega) (e.symm.trans z)
            subst this
            exact hA.1 q p (by omega) hp' e h
      · unfold wo wl
        rw [pk_un (by omega)]
        exact ⟨rfl, Iff.rfl⟩
      · unfold wpX_create
        exact x_isP_t vp hT (br_f zn_10n (br_t (nI_lt hf (by omega)) ⟨iT, nm_r (e' := upd pa T x) (by rw [cT]) ⟨iT, nm_r (e' := upd so T 0) (by rw [cT]) (nm_r (e' := nI (T + 1)) (nI_1 T) hp)⟩⟩))
    · refine ⟨-8, (g0, g1, g2, g3, g4, g5, g6, g7, g8, g9, nI OL, nI NL, nI DL, nI T, nI ST, nI MT, fr, la, pa, so, sv, ce, ar, zs, ls, ks, ps, an, ln, le, co, ca, cb, cc, ss, es, ec, ep, et, ek, ed, fm, pc, fd, rg), (nI OL, nI NL, nI DL, nI T, nI MT, la, pa, sz, ky, sv, lo, le, yc, fm, pc, rg), RL_in I', fun post hp => ?_, fun post hp => ykk post (br_f (nI_nlt (by omega) (by omega)) hp)⟩
      unfold wpX_create
      exact x_isP_t vp hT (br_f zn_10n (br_f (nI_nlt (by omega) (by omega)) hp))
  · refine ⟨-4, (g0, g1, g2, g3, g4, g5, g6, g7, g8, g9, nI OL, nI NL, nI DL, nI T, nI ST, nI MT, fr, la, pa, so, sv, ce, ar, zs, ls, ks, ps, an, ln, le, co, ca, cb, cc, ss, es, ec, ep, et, ek, ed, fm, pc, fd, rg), (nI OL, nI NL, nI DL, nI T, nI MT, la, pa, sz, ky, sv, lo, le, yc, fm, pc, rg), RL_in I', fun post hp => ?_, fun post hp => br_f e (y_isH_f h (br_t rfl hp))⟩
    unfold wpX_create
    exact x_isP_f h e (br_t rfl hp)
theorem l_setProto (I : IV CB T OL NL DL ST MT pa so ce ar zs ls ks ps an ln le co ca cb cc ss es ec ep et ek ed sz ky lo yc) (hCB : CB + 1 < 2 ^ 30) (v1 v2 : Int32) : ∃ r u' v', (r = 0 ∨ r < 0) ∧ RL (CB + 1) g0 g1 g2 g3 g4 g5 g6 g7 g8 g9 OL NL DL MT fr la le co ca cb cc fm pc fd rg yc u' v' ∧ (∀ post : Int32 → SX → Prop, post r u' → wpX_setProto post (g0, g1, g2, g3, g4, g5, g6, g7, g8, g9, nI OL, nI NL, nI DL, nI T, nI ST, nI MT, fr, la, pa, so, sv, ce, ar, zs, ls, ks, ps, an, ln, le, co, ca, cb, cc, ss, es, ec, ep, et, ek, ed, fm, pc, fd, rg) v1 v2) ∧ (∀ post : Int32 → SY → Prop, post r v' → wpY_setProto post (nI OL, nI NL, nI DL, nI T, nI MT, la, pa, sz, ky, sv, lo, le, yc, fm, pc, rg) v1 v2) := by
  have I' := I
  obtain ⟨hO, hL, hTR, Q, hA, hE, hC, hCO⟩ := I
  have hO' := hO
  obtain ⟨hTO, hOL, rk, R⟩ := hO
  have hT : T ≤ 12 := by omega
  have hP : ∀ q, q < T → VP T (pa q) := fun q hq => RK_vp R hq
  rcases zh_c T (by omega) v1 with h | ⟨o, ho, rfl⟩
  · refine ⟨-2, (g0, g1, g2, g3, g4, g5, g6, g7, g8, g9, nI OL, nI NL, nI DL, nI T, nI ST, nI MT, fr, la, pa, so, sv, ce, ar, zs, ls, ks, ps, an, ln, le, co, ca, cb, cc, ss, es, ec, ep, et, ek, ed, fm, pc, fd, rg), (nI OL, nI NL, nI DL, nI T, nI MT, la, pa, sz, ky, sv, lo, le, yc, fm, pc, rg), Or.inr (by decide), RL_in (IV_up I' (by omega)), fun post hp => ?_, fun post hp => ?_⟩
    · unfold wpX_setProto
      exact x_isH_f h (br_t rfl hp)
    · unfold wpY_setProto
      exact y_isH_f h (br_t rfl hp)
  have vp : VP T v2 ∨ (NH T v2 ∧ ¬ v2 = -1) := by
    by_cases e : v2 = -1
    · exact Or.inl (Or.inl e)
    · rcases zh_c T (by omega) v2 with h | h
      · exact Or.inr ⟨h, e⟩
      · exact Or.inl (Or.inr h)
  rcases vp with vp | ⟨h, e⟩
  rotate_left
  · refine ⟨-4, (g0, g1, g2, g3, g4, g5, g6, g7, g8, g9, nI OL, nI NL, nI DL, nI T, nI ST, nI MT, fr, la, pa, so, sv, ce, ar, zs, ls, ks, ps, an, ln, le, co, ca, cb, cc, ss, es, ec, ep, et, ek, ed, fm, pc, fd, rg), (nI OL, nI NL, nI DL, nI T, nI MT, la, pa, sz, ky, sv, lo, le, yc, fm, pc, rg), Or.inr (by decide), RL_in (IV_up I' (by omega)), fun post hp => ?_, fun post hp => ?_⟩
    · unfold wpX_setProto
      exact x_isH_t ho hT (br_f zn_10n (x_isP_f h e (br_t rfl hp)))
    · unfold wpY_setProto
      exact y_isH_t ho hT (br_f zn_10n (br_f e (y_isH_f h (br_t rfl hp))))
  have yk : ∀ post : Int32 → SY → Prop, (∃ N, wY_setProto_32 post (nI o) v2 (nI OL) (nI NL) (nI DL) (nI T) (nI MT) la pa sz ky sv lo le yc fm pc rg N v2 0) → wpY_setProto post (nI OL, nI NL, nI DL, nI T, nI MT, la, pa, sz, ky, sv, lo, le, yc, fm, pc, rg) (nI o) v2 := by
    intro post hp
    unfold wpY_setProto
    refine y_isH_t ho hT (br_f zn_10n ?_)
    rcases vp with e | ⟨q, hq, e⟩
    · exact br_t e hp
    · subst e
      exact br_f (zn_m1 (by omega)) (y_isH_t hq hT (br_f zn_10n hp))
  by_cases hi : inh pa (nI o) 12 v2
  · refine ⟨-5, (g0, g1, g2, g3, g4, g5, g6, g7, g8, g9, nI OL, nI NL, nI DL, nI T, nI ST, nI MT, fr, la, pa, so, sv, ce, ar, zs, ls, ks, ps, an, ln, le, co, ca, cb, cc, ss, es, ec, ep, et, ek, ed, fm, pc, fd, rg), (nI OL, nI NL, nI DL, nI T, nI MT, la, pa, sz, ky, sv, lo, le, yc, fm, pc, rg), Or.inr (by decide), RL_in (IV_up I' (by omega)), fun post hp => ?_, fun post hp => yk post ⟨13, y_sp32 hT hP ho 12 0 v2 rfl vp 13 (by omega) post (fun _ => hp) (fun z => absurd hi z)⟩⟩
    unfold wpX_setProto
    exact x_isH_t ho hT (br_f zn_10n (x_isP_t vp hT (br_f zn_10n (x_inh hT hP vp (fun _ => br_f zn_10n hp) (fun z => absurd hi z)))))
  have cO : (nI o).toNatClampNeg = o := nI_clamp (by omega)
  have iO : vp_in (nI o) 12 := vp_in_nI (by omega) (by omega)
  by_cases he : pa o = v2
  · refine ⟨0, (g0, g1, g2, g3, g4, g5, g6, g7, g8, g9, nI OL, nI NL, nI DL, nI T, nI ST, nI MT, fr, la, pa, so, sv, ce, ar, zs, ls, ks, ps, an, ln, le, co, ca, cb, cc, ss, es, ec, ep, et, ek, ed, fm, pc, fd, rg), (nI OL, nI NL, nI DL, nI T, nI MT, la, pa, sz, ky, sv, lo, le, yc, fm, pc, rg), Or.inl rfl, RL_in (IV_up I' (by omega)), fun post hp => ?_, fun post hp => yk post ⟨13, y_sp32 hT hP ho 12 0 v2 rfl vp 13 (by omega) post (fun z => absurd z hi) (fun _ => by rw [zn_up he]; exact hp)⟩⟩
    unfold wpX_setProto
    exact x_isH_t ho hT (br_f zn_10n (x_isP_t vp hT (br_f zn_10n (x_inh hT hP vp (fun z => absurd z hi) (fun _ => br_t rfl ⟨iO, br_t (by rw [cO]; exact he) hp⟩)))))
  · obtain ⟨ce', ar', B, hw⟩ := x_brk (g0 := g0) (g1 := g1) (g2 := g2) (g3 := g3) (g4 := g4) (g5 := g5) (g6 := g6) (g7 := g7) (g8 := g8) (g9 := g9) (OL := OL) (NL := NL) (DL := DL) (T := T) (ST := ST) (MT := MT) (fr := fr) (la := la) (pa := pa) (so := so) (sv := sv) (ce := ce) (ar := ar) (zs := zs) (ls := ls) (ks := ks) (ps := ps) (an := an) (ln := ln) (le := le) (co := co) (ca := ca) (cb := cb) (cc := cc) (ss := ss) (es := es) (ec := ec) (ep := ep) (et := et) (ek := ek) (ed := ed) (fm := fm) (pc := pc) (fd := fd) (rg := rg) hT R hA ho
    refine ⟨0, (g0, g1, g2, g3, g4, g5, g6, g7, g8, g9, nI OL, nI NL, nI DL, nI T, nI ST, nI MT, fr, la, upd pa o v2, so, sv, ce', ar', zs, ls, ks, ps, an, ln, le, co, ca, cb, cc, ss, es, ec, ep, et, ek, ed, fm, pc, fd, rg), (nI OL, nI NL, nI DL, nI T, nI MT, la, upd pa o v2, sz, ky, sv, lo, le, yc, fm, pc, rg), Or.inl rfl, RL_in ⟨OB_set hO' ho vp hi, hL, hTR, Q, AR_bk hA R hT ho B (fun q _ hne => pk_un hne), CE_bk hE B, CA_keep (KP_bk ho hT (Nat.le_refl _) hE hCB B (fun q _ hne => ⟨pk_un hne, fun _ _ => ⟨rfl, Iff.rfl⟩⟩) (fun _ _ => ⟨rfl, fun _ _ => ⟨rfl, fun _ => rfl⟩⟩)) R hT hTR.2.1 hC, hCO⟩, fun post hp => ?_, fun post hp => yk post ⟨13, y_sp32 hT hP ho 12 0 v2 rfl vp 13 (by omega) post (fun z => absurd z hi) (fun _ => hp)⟩⟩
    unfold wpX_setProto
    exact x_isH_t ho hT (br_f zn_10n (x_isP_t vp hT (br_f zn_10n (x_inh hT hP vp (fun z => absurd z hi) (fun _ => br_t rfl ⟨iO, br_f (by rw [cO]; exact he) (hw _ ⟨iO, nm_r (e' := upd pa o v2) (by rw [cO]) hp⟩)⟩)))))
theorem l_newMethod {k : Nat} (I : IV (400 * k) T OL NL DL ST MT pa so ce ar zs ls ks ps an ln le co ca cb cc ss es ec ep et ek ed sz ky lo yc) : ∃ r u' v', i_Rel (k + 5) u' v' ∧ (∀ post : Int32 → SX → Prop, post r u' → wpX_newMethod post (g0, g1, g2, g3, g4, g5, g6, g7, g8, g9, nI OL, nI NL, nI DL, nI T, nI ST, nI MT, fr, la, pa, so, sv, ce, ar, zs, ls, ks, ps, an, ln, le, co, ca, cb, cc, ss, es, ec, ep, et, ek, ed, fm, pc, fd, rg)) ∧ (∀ post : Int32 → SY → Prop, post r v' → wpY_newMethod post (nI OL, nI NL, nI DL, nI T, nI MT, la, pa, sz, ky, sv, lo, le, yc, fm, pc, rg)) := by
  have I' := I
  obtain ⟨hO, hL, hTR, Q, hA, hE, hC, hCO⟩ := I
  obtain ⟨hMT, hle, hW⟩ := hCO
  by_cases h : MT < 6
  · obtain ⟨l, hl, el, e0⟩ := hle MT h
    have el0 : le MT = 0 := by rw [el, e0 (Nat.le_refl _)]; rfl
    refine ⟨nI MT, (g0, g1, g2, g3, g4, g5, g6, g7, g8, g9, nI OL, nI NL, nI DL, nI T, nI ST, nI (MT + 1), fr, la, pa, so, sv, ce, ar, zs, ls, ks, ps, an, ln, le, co, ca, cb, cc, ss, es, ec, ep, et, ek, ed, fm, pc, fd, rg), (nI OL, nI NL, nI DL, nI T, nI (MT + 1), la, pa, sz, ky, sv, lo, le, yc, fm, pc, rg), RL_rel (CB := 400 * k) (RL_in ⟨hO, hL, hTR, Q, hA, hE, fun a ha => ?_, ⟨by omega, fun m hm => ?_, hW⟩⟩) (by omega), fun post hp => br_t (nI_lt (b := 6) h (by decide)) (nm_r (e' := nI (MT + 1)) (nI_1 MT) hp), fun post hp => br_t (nI_lt (b := 6) h (by decide)) ⟨vp_in_nI h (by omega), nm_r (e' := le) (by rw [nI_clamp (by omega), zn_up el0]) (nm_r (e' := nI (MT + 1)) (nI_1 MT) (by rw [nI_pred]; exact hp))⟩⟩
    · obtain ⟨st, h1, h2, h3, h4⟩ := hC a ha
      refine ⟨st, h1, h2, ?_, h4⟩
      rcases h3 with h3 | ⟨m, j, l, k1, k2⟩
      · exact Or.inl h3
      · exact Or.inr ⟨m, j, l, by omega, k2⟩
    · obtain ⟨l, hl, el, e0⟩ := hle m hm
      exact ⟨l, hl, el, fun z => e0 (by omega)⟩
  · exact ⟨-8, (g0, g1, g2, g3, g4, g5, g6, g7, g8, g9, nI OL, nI NL, nI DL, nI T, nI ST, nI MT, fr, la, pa, so, sv, ce, ar, zs, ls, ks, ps, an, ln, le, co, ca, cb, cc, ss, es, ec, ep, et, ek, ed, fm, pc, fd, rg), (nI OL, nI NL, nI DL, nI T, nI MT, la, pa, sz, ky, sv, lo, le, yc, fm, pc, rg), RL_rel (CB := 400 * k) (RL_in I') (by omega), fun post hp => br_f (nI_nlt (b := 6) (by omega) (by omega)) hp, fun post hp => br_f (nI_nlt (b := 6) (by omega) (by omega)) hp⟩
end
end
section
/-! emit -/
theorem zn_ne {a b : Nat} (ha : a < 2 ^ 31) (hb : b < 2 ^ 31) (h : a ≠ b) : ¬ nI a = nI b := fun z => h (zn_inj ha hb z)
def NR (x : Int32) : Prop := x < 0 ∨ (¬ x < 0 ∧ 3 < x)
theorem zr_c (x : Int32) : NR x ∨ ∃ j, j < 4 ∧ x = nI j := by
  by_cases h : x < 0
  · exact Or.inl (Or.inl h)
  · obtain ⟨j, hj, rfl⟩ := nI_of h
    by_cases h2 : j < 4
    · exact Or.inr ⟨j, h2, rfl⟩
    · exact Or.inl (Or.inr ⟨h, nI_lt (a := 3) (by omega) hj⟩)
def N10 (x : Int32) : Prop := x < 0 ∨ (¬ x < 0 ∧ 10 < x)
theorem z10_c (x : Int32) : N10 x ∨ ∃ j, j ≤ 10 ∧ x = nI j := by
  by_cases h : x < 0
  · exact Or.inl (Or.inl h)
  · obtain ⟨j, hj, rfl⟩ := nI_of h
    by_cases h2 : j ≤ 10
    · exact Or.inr ⟨j, h2, rfl⟩
    · exact Or.inl (Or.inr ⟨h, nI_lt (a := 10) (by omega) hj⟩)
def OKB (k : Nat) (b : Int32) : Prop := k = 0 ∨ k = 8 ∨ k = 12 ∨ (k = 5 ∧ ∃ j, j ≤ 10 ∧ b = nI j) ∨ (k ≠ 0 ∧ k ≠ 8 ∧ k ≠ 12 ∧ k ≠ 5 ∧ ∃ j, j < 4 ∧ b = nI j)
def BDB (k : Nat) (b : Int32) : Prop := k ≠ 0 ∧ k ≠ 8 ∧ k ≠ 12 ∧ ((k = 5 ∧ N10 b) ∨ (k ≠ 5 ∧ NR b))
theorem zb_c (k : Nat) (b : Int32) : OKB k b ∨ BDB k b := by
  by_cases h0 : k = 0
  · exact Or.inl (Or.inl h0)
  by_cases h8 : k = 8
  · exact Or.inl (Or.inr (Or.inl h8))
  by_cases h12 : k = 12
  · exact Or.inl (Or.inr (Or.inr (Or.inl h12)))
  by_cases h5 : k = 5
  · rcases z10_c b with h | h
    · exact Or.inr ⟨h0, h8, h12, Or.inl ⟨h5, h⟩⟩
    · exact Or.inl (Or.inr (Or.inr (Or.inr (Or.inl ⟨h5, h⟩))))
  · rcases zr_c b with h | h
    · exact Or.inr ⟨h0, h8, h12, Or.inr ⟨h5, h⟩⟩
    · exact Or.inl (Or.inr (Or.inr (Or.inr (Or.inr ⟨h0, h8, h12, h5, h⟩))))
def RC (k : Nat) : Prop := k = 2 ∨ k = 3 ∨ k = 4
def NC (k : Nat) : Prop := k = 6 ∨ k = 7 ∨ k = 8 ∨ k = 11
def OKC (NL k : Nat) (c : Int32) : Prop := (RC k ∧ ∃ j, j < 4 ∧ c = nI j) ∨ (NC k ∧ ∃ j, j < NL ∧ c = nI j) ∨ (¬ RC k ∧ ¬ NC k)
def BDC (NL k : Nat) (c : Int32) : Prop := (RC k ∧ NR c) ∨ (NC k ∧ NH NL c)
theorem zc_c (NL k : Nat) (hN : NL ≤ 8) (c : Int32) : OKC NL k c ∨ BDC NL k c := by
  by_cases h1 : RC k
  · rcases zr_c c with h | h
    · exact Or.inr (Or.inl ⟨h1, h⟩)
    · exact Or.inl (Or.inl ⟨h1, h⟩)
  by_cases h2 : NC k
  · rcases zh_c NL (by omega) c with h | h
    · exact Or.inr (Or.inr ⟨h2, h⟩)
    · exact Or.inl (Or.inr (Or.inl ⟨h2, h⟩))
  · exact Or.inl (Or.inr (Or.inr ⟨h1, h2⟩))
section
variable {OL NL DL T ST MT : Nat} {g0 g1 g2 g3 g4 g5 g6 g7 g8 g9 fr la : Int32} {pa so sv ar zs ls ks ps an ln le co ca cb cc ss es ec ep ek ed fm pc fd rg : Nat → Int32} {ce et : Nat → Int64}
variable {post : Int32 → Prop}
theorem x_reg_t {j : Nat} (h : j < 4) (p : post 1) : wpX_isReg post (g0, g1, g2, g3, g4, g5, g6, g7, g8, g9, nI OL, nI NL, nI DL, nI T, nI ST, nI MT, fr, la, pa, so, sv, ce, ar, zs, ls, ks, ps, an, ln, le, co, ca, cb, cc, ss, es, ec, ep, et, ek, ed, fm, pc, fd, rg) (nI j) := br_f (nI_pos (by omega)) (br_f (nI_nlt (a := 3) (by omega) (by decide)) p)
theorem x_reg_f {x : Int32} (h : NR x) (p : post 0) : wpX_isReg post (g0, g1, g2, g3, g4, g5, g6, g7, g8, g9, nI OL, nI NL, nI DL, nI T, nI ST, nI MT, fr, la, pa, so, sv, ce, ar, zs, ls, ks, ps, an, ln, le, co, ca, cb, cc, ss, es, ec, ep, et, ek, ed, fm, pc, fd, rg) x := by
  rcases h with h | ⟨h, h'⟩
  · exact br_t h p
  · exact br_f h (br_t h' p)
theorem x_fb_t {k : Nat} {b : Int32} (hk : k ≤ 12) (h : OKB k b) (p : post 1) : wpX_fitsB post (g0, g1, g2, g3, g4, g5, g6, g7, g8, g9, nI OL, nI NL, nI DL, nI T, nI ST, nI MT, fr, la, pa, so, sv, ce, ar, zs, ls, ks, ps, an, ln, le, co, ca, cb, cc, ss, es, ec, ep, et, ek, ed, fm, pc, fd, rg) (nI k) b := by
  rcases h with rfl | rfl | rfl | ⟨rfl, j, hj, rfl⟩ | ⟨h0, h8, h12, h5, j, hj, rfl⟩
  · exact br_t rfl p
  · exact br_f (by decide) (br_t rfl p)
  · exact br_f (by decide) (br_f (by decide) (br_t rfl p))
  · exact br_f (by decide) (br_f (by decide) (br_f (by decide) (br_t rfl (br_f (nI_pos (by omega)) (br_f (nI_nlt (a := 10) hj (by decide)) p)))))
  · exact br_f (zn_ne (b := 0) (by omega) (by omega) h0) (br_f (zn_ne (b := 8) (by omega) (by omega) h8) (br_f (zn_ne (b := 12) (by omega) (by omega) h12) (br_f (zn_ne (b := 5) (by omega) (by omega) h5) (x_reg_t hj ⟨rfl, p⟩))))
theorem x_fb_f {k : Nat} {b : Int32} (hk : k ≤ 12) (h : BDB k b) (p : post 0) : wpX_fitsB post (g0, g1, g2, g3, g4, g5, g6, g7, g8, g9, nI OL, nI NL, nI DL, nI T, nI ST, nI MT, fr, la, pa, so, sv, ce, ar, zs, ls, ks, ps, an, ln, le, co, ca, cb, cc, ss, es, ec, ep, et, ek, ed, fm, pc, fd, rg) (nI k) b := by
  obtain ⟨h0, h8, h12, h⟩ := h
  refine br_f (zn_ne (b := 0) (by omega) (by omega) h0) (br_f (zn_ne (b := 8) (by omega) (by omega) h8) (br_f (zn_ne (b := 12) (by omega) (by omega) h12) ?_))
  rcases h with ⟨rfl, h | ⟨h, h'⟩⟩ | ⟨h5, h⟩
  · exact br_t rfl (br_t h p)
  · exact br_t rfl (br_f h (br_t h' p))
  · exact br_f (zn_ne (b := 5) (by omega) (by omega) h5) (x_reg_f h ⟨rfl, p⟩)
theorem x_hrc_t {k : Nat} (h : RC k) (p : post 1) : wpX_hasRegC post (g0, g1, g2, g3, g4, g5, g6, g7, g8, g9, nI OL, nI NL, nI DL, nI T, nI ST, nI MT, fr, la, pa, so, sv, ce, ar, zs, ls, ks, ps, an, ln, le, co, ca, cb, cc, ss, es, ec, ep, et, ek, ed, fm, pc, fd, rg) (nI k) := by
  rcases h with rfl | rfl | rfl
  · exact br_t rfl p
  · exact br_f (by decide) (br_t rfl p)
  · exact br_f (by decide) (br_f (by decide) (br_t rfl p))
theorem x_hrc_f {k : Nat} (hk : k ≤ 12) (h : ¬ RC k) (p : post 0) : wpX_hasRegC post (g0, g1, g2, g3, g4, g5, g6, g7, g8, g9, nI OL, nI NL, nI DL, nI T, nI ST, nI MT, fr, la, pa, so, sv, ce, ar, zs, ls, ks, ps, an, ln, le, co, ca, cb, cc, ss, es, ec, ep, et, ek, ed, fm, pc, fd, rg) (nI k) := by
  unfold RC at h
  exact br_f (zn_ne (b := 2) (by omega) (by omega) (by omega)) (br_f (zn_ne (b := 3) (by omega) (by omega) (by omega)) (br_f (zn_ne (b := 4) (by omega) (by omega) (by omega)) p))
theorem x_hnc_t {k : Nat} (h : NC k) (p : post 1) : wpX_hasNameC post (g0, g1, g2, g3, g4, g5, g6, g7, g8, g9, nI OL, nI NL, nI DL, nI T, nI ST, nI MT, fr, la, pa, so, sv, ce, ar, zs, ls, ks, ps, an, ln, le, co, ca, cb, cc, ss, es, ec, ep, et, ek, ed, fm, pc, fd, rg) (nI k) := by
  rcases h with rfl | rfl | rfl | rfl
  · exact br_t rfl p
  · exact br_f (by decide) (br_t rfl p)
  · exact br_f (by decide) (br_f (by decide) (br_t rfl p))
  · exact br_f (by decide) (br_f (by decide) (br_f (by decide) (br_t rfl p)))
theorem x_hnc_f {k : Nat} (hk : k ≤ 12) (h : ¬ NC k) (p : post 0) : wpX_hasNameC post (g0, g1, g2, g3, g4, g5, g6, g7, g8, g9, nI OL, nI NL, nI DL, nI T, nI ST, nI MT, fr, la, pa, so, sv, ce, ar, zs, ls, ks, ps, an, ln, le, co, ca, cb, cc, ss, es, ec, ep, et, ek, ed, fm, pc, fd, rg) (nI k) := by
  unfold NC at h
  exact br_f (zn_ne (b := 6) (by omega) (by omega) (by omega)) (br_f (zn_ne (b := 7) (by omega) (by omega) (by omega)) (br_f (zn_ne (b := 8) (by omega) (by omega) (by omega)) (br_f (zn_ne (b := 11) (by omega) (by omega) (by omega)) p)))
theorem RN_no {k : Nat} (h : NC k) : ¬ RC k := by
  unfold NC at h
  unfold RC
  omega
theorem x_fc_t {k : Nat} {c : Int32} (hk : k ≤ 12) (hN : NL ≤ 8) (h : OKC NL k c) (p : post 1) : wpX_fitsC post (g0, g1, g2, g3, g4, g5, g6, g7, g8, g9, nI OL, nI NL, nI DL, nI T, nI ST, nI MT, fr, la, pa, so, sv, ce, ar, zs, ls, ks, ps, an, ln, le, co, ca, cb, cc, ss, es, ec, ep, et, ek, ed, fm, pc, fd, rg) (nI k) c := by
  unfold wpX_fitsC
  rcases h with ⟨h, j, hj, rfl⟩ | ⟨h, j, hj, rfl⟩ | ⟨h, h'⟩
  · exact x_hrc_t h (br_f zn_10n (x_reg_t hj ⟨rfl, p⟩))
  · exact x_hrc_f hk (RN_no h) (br_t rfl (x_hnc_t h (br_f zn_10n (x_isN_t hj hN ⟨rfl, p⟩))))
  · exact x_hrc_f hk h (br_t rfl (x_hnc_f hk h' (br_t rfl p)))
theorem x_fc_f {k : Nat} {c : Int32} (hk : k ≤ 12) (h : BDC NL k c) (p : post 0) : wpX_fitsC post (g0, g1, g2, g3, g4, g5, g6, g7, g8, g9, nI OL, nI NL, nI DL, nI T, nI ST, nI MT, fr, la, pa, so, sv, ce, ar, zs, ls, ks, ps, an, ln, le, co, ca, cb, cc, ss, es, ec, ep, et, ek, ed, fm, pc, fd, rg) (nI k) c := by
  unfold wpX_fitsC
  rcases h with ⟨h, hc⟩ | ⟨h, hc⟩
  · exact x_hrc_t h (br_f zn_10n (x_reg_f hc ⟨rfl, p⟩))
  · exact x_hrc_f hk (RN_no h) (br_t rfl (x_hnc_t h (br_f zn_10n (x_isN_f hc ⟨rfl, p⟩))))
end
section
variable {OL NL DL T ST MT : Nat} {g0 g1 g2 g3 g4 g5 g6 g7 g8 g9 fr la : Int32} {pa so sv ar zs ls ks ps an ln le co ca cb cc ss es ec ep ek ed fm pc fd rg : Nat → Int32} {ce et : Nat → Int64}
variable {post : Int32 → SX → Prop}
theorem x_e158 {m l a : Nat} {sc : Int32} (hm : m < 6) (ha : a < 60) (hp : post (nI l) (g0, g1, g2, g3, g4, g5, g6, g7, g8, g9, nI OL, nI NL, nI DL, nI T, nI ST, nI MT, fr, la, pa, so, sv, ce, ar, zs, ls, ks, ps, an, ln, upd le m (nI (l + 1)), co, ca, cb, upd cc a sc, ss, es, ec, ep, et, ek, ed, fm, pc, fd, rg)) : wX_emit_158 post (nI m) (nI l) sc (nI a) g0 g1 g2 g3 g4 g5 g6 g7 g8 g9 (nI OL) (nI NL) (nI DL) (nI T) (nI ST) (nI MT) fr la pa so sv ce ar zs ls ks ps an ln le co ca cb cc ss es ec ep et ek ed fm pc fd rg :=
  ⟨vp_in_nI ha (by omega), nm_r (e' := upd cc a sc) (by rw [nI_clamp (by omega)]) ⟨vp_in_nI hm (by omega), nm_r (e' := upd le m (nI (l + 1))) (by rw [nI_clamp (by omega), nI_1]) hp⟩⟩
theorem x_e129 {k m l a : Nat} {c sb sc : Int32} (hk : k ≤ 12) (hm : m < 6) (ha : a < 60) (h1 : RC k ∨ NC k → sc = c) (h0 : ¬ (RC k ∨ NC k) → sc = 0) (hp : post (nI l) (g0, g1, g2, g3, g4, g5, g6, g7, g8, g9, nI OL, nI NL, nI DL, nI T, nI ST, nI MT, fr, la, pa, so, sv, ce, ar, zs, ls, ks, ps, an, ln, upd le m (nI (l + 1)), co, ca, upd cb a sb, upd cc a sc, ss, es, ec, ep, et, ek, ed, fm, pc, fd, rg)) : wX_emit_129 post (nI k) c (nI m) (nI l) (nI a) sb (nI a) g0 g1 g2 g3 g4 g5 g6 g7 g8 g9 (nI OL) (nI NL) (nI DL) (nI T) (nI ST) (nI MT) fr la pa so sv ce ar zs ls ks ps an ln le co ca cb cc ss es ec ep et ek ed fm pc fd rg := by
  refine ⟨vp_in_nI ha (by omega), nm_r (e' := upd cb a sb) (by rw [nI_clamp (by omega)]) ?_⟩
  by_cases r : RC k
  · refine x_hrc_t r (br_f zn_10n ?_)
    rw [h1 (Or.inl r)] at hp
    exact x_e158 hm ha hp
  · refine x_hrc_f hk r (br_t rfl ?_)
    by_cases n : NC k
    · rw [h1 (Or.inr n)] at hp
      exact x_hnc_t n (br_f zn_10n (x_e158 hm ha hp))
    · rw [h0 (fun z => z.elim r n)] at hp
      exact x_hnc_f hk n (br_t rfl (x_e158 hm ha hp))
theorem x_emit {k ra m l : Nat} {b c sb sc : Int32} (hMT : MT = m + 1) (hm : m < 6) (el : le m = nI l) (hl : l < 10) (hk : k ≤ 12) (hr : ra < 4) (hb : OKB k b) (hN : NL ≤ 8) (hc : OKC NL k c) (s1 : k = 8 ∨ k = 12 → sb = 0) (s2 : ¬ (k = 8 ∨ k = 12) → sb = b) (h1 : RC k ∨ NC k → sc = c) (h0 : ¬ (RC k ∨ NC k) → sc = 0)
    (hp : post (nI l) (g0, g1, g2, g3, g4, g5, g6, g7, g8, g9, nI OL, nI NL, nI DL, nI T, nI ST, nI MT, fr, la, pa, so, sv, ce, ar, zs, ls, ks, ps, an, ln, upd le m (nI (l + 1)), upd co (m * 10 + l) (nI k), upd ca (m * 10 + l) (nI ra), upd cb (m * 10 + l) sb, upd cc (m * 10 + l) sc, ss, es, ec, ep, et, ek, ed, fm, pc, fd, rg)) : wpX_emit post (g0, g1, g2, g3, g4, g5, g6, g7, g8, g9, nI OL, nI NL, nI DL, nI T, nI ST, nI MT, fr, la, pa, so, sv, ce, ar, zs, ls, ks, ps, an, ln, le, co, ca, cb, cc, ss, es, ec, ep, et, ek, ed, fm, pc, fd, rg) (nI k) (nI ra) b c := by
  have ha : m * 10 + l < 60 := by omega
  have ia : vp_in (nI (m * 10 + l)) 60 := vp_in_nI ha (by omega)
  have cA : (nI (m * 10 + l)).toNatClampNeg = m * 10 + l := nI_clamp (by omega)
  have cm : (nI m).toNatClampNeg = m := nI_clamp (by omega)
  subst hMT
  refine br_f (nI_ne0 (by omega) (by omega)) (nm_r (e' := nI m) (nI_pred m) ⟨vp_in_nI hm (by omega), nm_r (e' := nI l) (by rw [cm, el]) (br_t (nI_lt (b := 10) hl (by decide)) (br_f (nI_pos (by omega)) (br_t (nI_le (b := 12) hk (by decide)) (x_reg_t hr (br_f zn_10n (x_fb_t hk hb (br_f zn_10n (x_fc_t hk hN hc (br_f zn_10n (nm_r (e' := nI (m * 10 + l)) (zn_10 m l) ⟨ia, nm_r (e' := upd co (m * 10 + l) (nI k)) (by rw [cA]) ⟨ia, nm_r (e' := upd ca (m * 10 + l) (nI ra)) (by rw [cA]) ?_⟩⟩))))))))))⟩)
  by_cases h8 : k = 8
  · rw [s1 (Or.inl h8)] at hp
    exact br_t (by rw [h8]; rfl) (x_e129 hk hm ha h1 h0 hp)
  · refine br_f (zn_ne (b := 8) (by omega) (by omega) h8) ?_
    by_cases h12 : k = 12
    · rw [s1 (Or.inr h12)] at hp
      exact br_t (by rw [h12]; rfl) (x_e129 hk hm ha h1 h0 hp)
    · rw [s2 (by omega)] at hp
      exact br_f (zn_ne (b := 12) (by omega) (by omega) h12) (x_e129 hk hm ha h1 h0 hp)
theorem x_emit_bad {k ra m l : Nat} {b c : Int32} (hMT : MT = m + 1) (hm : m < 6) (el : le m = nI l) (hl : l < 10) (hk : k ≤ 12) (hr : ra < 4) (h : BDB k b ∨ (OKB k b ∧ BDC NL k c)) (hp : post (-14) (g0, g1, g2, g3, g4, g5, g6, g7, g8, g9, nI OL, nI NL, nI DL, nI T, nI ST, nI MT, fr, la, pa, so, sv, ce, ar, zs, ls, ks, ps, an, ln, le, co, ca, cb, cc, ss, es, ec, ep, et, ek, ed, fm, pc, fd, rg)) : wpX_emit post (g0, g1, g2, g3, g4, g5, g6, g7, g8, g9, nI OL, nI NL, nI DL, nI T, nI ST, nI MT, fr, la, pa, so, sv, ce, ar, zs, ls, ks, ps, an, ln, le, co, ca, cb, cc, ss, es, ec, ep, et, ek, ed, fm, pc, fd, rg) (nI k) (nI ra) b c := by
  have cm : (nI m).toNatClampNeg = m := nI_clamp (by omega)
  subst hMT
  refine br_f (nI_ne0 (by omega) (by omega)) (nm_r (e' := nI m) (nI_pred m) ⟨vp_in_nI hm (by omega), nm_r (e' := nI l) (by rw [cm, el]) (br_t (nI_lt (b := 10) hl (by decide)) (br_f (nI_pos (by omega)) (br_t (nI_le (b := 12) hk (by decide)) (x_reg_t hr (br_f zn_10n ?_)))))⟩)
  rcases h with h | ⟨h, h'⟩
  · exact x_fb_f hk h (br_t rfl hp)
  · exact x_fb_t hk h (br_f zn_10n (x_fc_f hk h' (br_t rfl hp)))
end
section
variable {OL NL DL T MT : Nat} {la : Int32} {pa sz ky sv lo le yc fm pc rg : Nat → Int32}
variable {post : Int32 → SY → Prop}
theorem y_e196 {k ra m l : Nat} {sb sc : Int32} (hm : m < 6) (el : le m = nI l) (hl : l < 10) (hp : post (nI l) (nI OL, nI NL, nI DL, nI T, nI MT, la, pa, sz, ky, sv, lo, upd le m (nI (l + 1)), upd (upd (upd (upd yc ((m * 10 + l) * 4) (nI k)) ((m * 10 + l) * 4 + 1) (nI ra)) ((m * 10 + l) * 4 + 2) sb) ((m * 10 + l) * 4 + 3) sc, fm, pc, rg)) : wY_emit_196 post (nI k) (nI ra) (nI m) (nI l) sb sc (nI OL) (nI NL) (nI DL) (nI T) (nI MT) la pa sz ky sv lo le yc fm pc rg := by
  have e1 : (nI m * 10 + nI l) * 4 = nI ((m * 10 + l) * 4) := by
    rw [zn_10, show (4 : Int32) = nI 4 from rfl, pk_mul]
  have q1 : nI ((m * 10 + l) * 4) + 1 = nI ((m * 10 + l) * 4 + 1) := nI_1 _
  have q2 : nI ((m * 10 + l) * 4) + 2 = nI ((m * 10 + l) * 4 + 2) := nI_add _ 2
  have q3 : nI ((m * 10 + l) * 4) + 3 = nI ((m * 10 + l) * 4 + 3) := nI_add _ 3
  have im : vp_in (nI m) 6 := vp_in_nI hm (by omega)
  refine nm_r (e' := nI ((m * 10 + l) * 4)) e1 ⟨vp_in_nI (by omega) (by omega), nm_r (e' := upd yc ((m * 10 + l) * 4) (nI k)) (by rw [nI_clamp (by omega)]) ⟨by rw [q1]; exact vp_in_nI (by omega) (by omega), nm_r (e' := upd (upd yc ((m * 10 + l) * 4) (nI k)) ((m * 10 + l) * 4 + 1) (nI ra)) (by rw [q1, nI_clamp (by omega)]) ⟨by rw [q2]; exact vp_in_nI (by omega) (by omega), nm_r (e' := upd (upd (upd yc ((m * 10 + l) * 4) (nI k)) ((m * 10 + l) * 4 + 1) (nI ra)) ((m * 10 + l) * 4 + 2) sb) (by rw [q2, nI_clamp (by omega)]) ⟨by rw [q3]; exact vp_in_nI (by omega) (by omega), nm_r (e' := upd (upd (upd (upd yc ((m * 10 + l) * 4) (nI k)) ((m * 10 + l) * 4 + 1) (nI ra)) ((m * 10 + l) * 4 + 2) sb) ((m * 10 + l) * 4 + 3) sc) (by rw [q3, nI_clamp (by omega)]) ⟨im, im, nm_r (e' := upd le m (nI (l + 1))) (by rw [nI_clamp (by omega), el, nI_1]) hp⟩⟩⟩⟩⟩
theorem y_e117 {k : Nat} {a m l c sb sc : Int32} (hk : k ≤ 12) (hN : NL ≤ 8) (hc : OKC NL k c) (h1 : RC k ∨ NC k → sc = c) (h0 : ¬ (RC k ∨ NC k) → sc = 0) (hp : wY_emit_196 post (nI k) a m l sb sc (nI OL) (nI NL) (nI DL) (nI T) (nI MT) la pa sz ky sv lo le yc fm pc rg) : wY_emit_117 post (nI k) a c m l sb (nI OL) (nI NL) (nI DL) (nI T) (nI MT) la pa sz ky sv lo le yc fm pc rg := by
  rcases hc with ⟨h, j, hj, rfl⟩ | ⟨h, j, hj, rfl⟩ | ⟨h, h'⟩
  · rw [h1 (Or.inl h)] at hp
    have t : wY_emit_135 post (nI k) a (nI j) m l sb (nI OL) (nI NL) (nI DL) (nI T) (nI MT) la pa sz ky sv lo le yc fm pc rg := br_f (nI_pos (by omega)) (br_t (nI_le (b := 3) (by omega) (by decide)) hp)
    rcases h with rfl | rfl | rfl
    · exact br_t rfl t
    · exact br_f (by decide) (br_t rfl t)
    · exact br_f (by decide) (br_f (by decide) (br_t rfl t))
  · rw [h1 (Or.inr h)] at hp
    have t : wY_emit_180 post (nI k) a (nI j) m l sb (nI OL) (nI NL) (nI DL) (nI T) (nI MT) la pa sz ky sv lo le yc fm pc rg := y_isN_t hj hN (br_f zn_10n hp)
    rcases h with rfl | rfl | rfl | rfl
    · exact br_f (by decide) (br_f (by decide) (br_f (by decide) (br_t rfl t)))
    · exact br_f (by decide) (br_f (by decide) (br_f (by decide) (br_f (by decide) (br_t rfl t))))
    · exact br_f (by decide) (br_f (by decide) (br_f (by decide) (br_f (by decide) (br_f (by decide) (br_t rfl t)))))
    · exact br_f (by decide) (br_f (by decide) (br_f (by decide) (br_f (by decide) (br_f (by decide) (br_f (by decide) (br_t rfl t))))))
  · rw [h0 (fun z => z.elim h h')] at hp
    unfold RC at h
    unfold NC at h'
    exact br_f (zn_ne (b := 2) (by omega) (by omega) (by omega)) (br_f (zn_ne (b := 3) (by omega) (by omega) (by omega)) (br_f (zn_ne (b := 4) (by omega) (by omega) (by omega)) (br_f (zn_ne (b := 6) (by omega) (by omega) (by omega)) (br_f (zn_ne (b := 7) (by omega) (by omega) (by omega)) (br_f (zn_ne (b := 8) (by omega) (by omega) (by omega)) (br_f (zn_ne (b := 11) (by omega) (by omega) (by omega)) hp))))))
theorem y_e117_bad {k : Nat} {a m l c sb : Int32} (hc : BDC NL k c) (hp : post (-14) (nI OL, nI NL, nI DL, nI T, nI MT, la, pa, sz, ky, sv, lo, le, yc, fm, pc, rg)) : wY_emit_117 post (nI k) a c m l sb (nI OL) (nI NL) (nI DL) (nI T) (nI MT) la pa sz ky sv lo le yc fm pc rg := by
  rcases hc with ⟨h, hc⟩ | ⟨h, hc⟩
  · have t : wY_emit_135 post (nI k) a c m l sb (nI OL) (nI NL) (nI DL) (nI T) (nI MT) la pa sz ky sv lo le yc fm pc rg := by
      rcases hc with hc | ⟨hc, hc'⟩
      · exact br_t hc hp
      · exact br_f hc (br_f (fun z => Int32.not_le.mpr hc' z) hp)
    rcases h with rfl | rfl | rfl
    · exact br_t rfl t
    · exact br_f (by decide) (br_t rfl t)
    · exact br_f (by decide) (br_f (by decide) (br_t rfl t))
  · have t : wY_emit_180 post (nI k) a c m l sb (nI OL) (nI NL) (nI DL) (nI T) (nI MT) la pa sz ky sv lo le yc fm pc rg := y_isN_f hc (br_t rfl hp)
    rcases h with rfl | rfl | rfl | rfl
    · exact br_f (by decide) (br_f (by decide) (br_f (by decide) (br_t rfl t)))
    · exact br_f (by decide) (br_f (by decide) (br_f (by decide) (br_f (by decide) (br_t rfl t))))
    · exact br_f (by decide) (br_f (by decide) (br_f (by decide) (br_f (by decide) (br_f (by decide) (br_t rfl t)))))
    · exact br_f (by decide) (br_f (by decide) (br_f (by decide) (br_f (by decide) (br_f (by decide) (br_f (by decide) (br_t rfl t))))))
theorem y_eb {k ra m l : Nat} {b c sb : Int32} (hMT : MT = m + 1) (hm : m < 6) (el : le m = nI l) (hl : l < 10) (hk : k ≤ 12) (hr : ra < 4) (hb : OKB k b) (s1 : k = 8 ∨ k = 12 → sb = 0) (s2 : ¬ (k = 8 ∨ k = 12) → sb = b) (hp : wY_emit_117 post (nI k) (nI ra) c (nI m) (nI l) sb (nI OL) (nI NL) (nI DL) (nI T) (nI MT) la pa sz ky sv lo le yc fm pc rg) : wpY_emit post (nI OL, nI NL, nI DL, nI T, nI MT, la, pa, sz, ky, sv, lo, le, yc, fm, pc, rg) (nI k) (nI ra) b c := by
  have cm : (nI m).toNatClampNeg = m := nI_clamp (by omega)
  subst hMT
  refine br_f (nI_ne0 (by omega) (by omega)) (nm_r (e' := nI m) (nI_pred m) ⟨vp_in_nI hm (by omega), nm_r (e' := nI l) (by rw [cm, el]) (br_t (nI_lt (b := 10) hl (by decide)) (br_f (nI_pos (by omega)) (br_t (nI_le (b := 12) hk (by decide)) (br_f (nI_pos (by omega)) (br_t (nI_le (b := 3) (by omega) (by decide)) ?_)))))⟩)
  rcases hb with h | h | h | ⟨h, j, hj, e⟩ | ⟨n0, n8, n12, n5, j, hj, e⟩
  · rw [s2 (by omega)] at hp
    subst h
    exact br_f (by decide) (br_f (by decide) (br_f (by decide) (br_t rfl hp)))
  · rw [s1 (by omega)] at hp
    subst h
    exact br_t rfl hp
  · rw [s1 (by omega)] at hp
    subst h
    exact br_f (by decide) (br_t rfl hp)
  · rw [s2 (by omega)] at hp
    subst h e
    exact br_f (by decide) (br_f (by decide) (br_t rfl (br_f (nI_pos (by omega)) (br_t (nI_le (b := 10) hj (by decide)) hp))))
  · rw [s2 (by omega)] at hp
    subst e
    exact br_f (zn_ne (b := 8) (by omega) (by omega) n8) (br_f (zn_ne (b := 12) (by omega) (by omega) n12) (br_f (zn_ne (b := 5) (by omega) (by omega) n5) (br_f (zn_ne (b := 0) (by omega) (by omega) n0) (br_f (nI_pos (by omega)) (br_t (nI_le (b := 3) (by omega) (by decide)) hp)))))
theorem y_eb_bad {k ra m l : Nat} {b c : Int32} (hMT : MT = m + 1) (hm : m < 6) (el : le m = nI l) (hl : l < 10) (hk : k ≤ 12) (hr : ra < 4) (hb : BDB k b) (hp : post (-14) (nI OL, nI NL, nI DL, nI T, nI MT, la, pa, sz, ky, sv, lo, le, yc, fm, pc, rg)) : wpY_emit post (nI OL, nI NL, nI DL, nI T, nI MT, la, pa, sz, ky, sv, lo, le, yc, fm, pc, rg) (nI k) (nI ra) b c := by
  have cm : (nI m).toNatClampNeg = m := nI_clamp (by omega)
  subst hMT
  obtain ⟨n0, n8, n12, h⟩ := hb
  refine br_f (nI_ne0 (by omega) (by omega)) (nm_r (e' := nI m) (nI_pred m) ⟨vp_in_nI hm (by omega), nm_r (e' := nI l) (by rw [cm, el]) (br_t (nI_lt (b := 10) hl (by decide)) (br_f (nI_pos (by omega)) (br_t (nI_le (b := 12) hk (by decide)) (br_f (nI_pos (by omega)) (br_t (nI_le (b := 3) (by omega) (by decide)) (br_f (zn_ne (b := 8) (by omega) (by omega) n8) (br_f (zn_ne (b := 12) (by omega) (by omega) n12) ?_)))))))⟩)
  rcases h with ⟨rfl, h | ⟨h, h'⟩⟩ | ⟨n5, h⟩
  · exact br_t rfl (br_t h hp)
  · exact br_t rfl (br_f h (br_f (fun z => Int32.not_le.mpr h' z) hp))
  · refine br_f (zn_ne (b := 5) (by omega) (by omega) n5) (br_f (zn_ne (b := 0) (by omega) (by omega) n0) ?_)
    rcases h with h | ⟨h, h'⟩
    · exact br_t h hp
    · exact br_f h (br_f (fun z => Int32.not_le.mpr h' z) hp)
end
section
variable {CB OL NL DL T ST MT : Nat} {g0 g1 g2 g3 g4 g5 g6 g7 g8 g9 fr la : Int32} {pa so sv ar zs ls ks ps an ln le co ca cb cc ss es ec ep ek ed fm pc fd rg sz ky lo yc : Nat → Int32} {ce et : Nat → Int64}
theorem CO_emit {k ra m l : Nat} {b c sb sc : Int32} (H : CO MT NL le co ca cb cc yc) (hN : NL ≤ 8) (hN2 : 2 ≤ NL) (hm : m < MT) (el : le m = nI l) (hl : l < 10) (hk : k ≤ 12) (hr : ra < 4) (hb : OKB k b) (hc : OKC NL k c) (s1 : k = 8 ∨ k = 12 → sb = 0) (s2 : ¬ (k = 8 ∨ k = 12) → sb = b) (h1 : RC k ∨ NC k → sc = c) (h0 : ¬ (RC k ∨ NC k) → sc = 0) :
    CO MT NL (upd le m (nI (l + 1))) (upd co (m * 10 + l) (nI k)) (upd ca (m * 10 + l) (nI ra)) (upd cb (m * 10 + l) sb) (upd cc (m * 10 + l) sc) (upd (upd (upd (upd yc ((m * 10 + l) * 4) (nI k)) ((m * 10 + l) * 4 + 1) (nI ra)) ((m * 10 + l) * 4 + 2) sb) ((m * 10 + l) * 4 + 3) sc) := by
  obtain ⟨hMT, hle, hW⟩ := H
  refine ⟨hMT, fun r hr' => ?_, fun a ha => ?_⟩
  · by_cases e : r = m
    · subst e
      exact ⟨l + 1, by omega, pk_us, fun z => by omega⟩
    · rw [pk_un e]
      exact hle r hr'
  · by_cases e : a = m * 10 + l
    · subst e
      refine ⟨⟨k, ra, ?_⟩, ?_, ?_, ?_, ?_⟩
      · rw [pk_us, pk_us, pk_us, pk_us]
        have hB : k ≠ 0 → ∃ b0, b0 ≤ 10 ∧ sb = nI b0 ∧ (k ≠ 5 → b0 < 4) := by
          intro n0
          rcases hb with h | h | h | ⟨h, j, hj, e⟩ | ⟨_, n8, n12, n5, j, hj, e⟩
          · exact absurd h n0
          · exact ⟨0, by omega, by rw [s1 (Or.inl h)]; rfl, fun _ => by omega⟩
          · exact ⟨0, by omega, by rw [s1 (Or.inr h)]; rfl, fun _ => by omega⟩
          · exact ⟨j, hj, by rw [s2 (by omega), e], fun z => absurd h z⟩
          · exact ⟨j, by omega, by rw [s2 (by omega), e], fun _ => hj⟩
        rcases hc with ⟨h, j, hj, e⟩ | ⟨h, j, hj, e⟩ | ⟨h, h'⟩
        · refine ⟨j, hk, rfl, hr, rfl, by omega, by rw [h1 (Or.inl h), e], hB, fun _ => hj, fun z => ?_⟩
          unfold RC at h
          omega
        · refine ⟨j, hk, rfl, hr, rfl, by omega, by rw [h1 (Or.inr h), e], hB, fun z => ?_, fun _ => hj⟩
          unfold NC at h
          omega
        · exact ⟨0, hk, rfl, hr, rfl, by omega, by rw [h0 (fun z => z.elim h h')]; rfl, hB, fun _ => by omega, fun _ => by omega⟩
      · rw [pk_un (by omega), pk_un (by omega), pk_un (by omega), pk_us, pk_us]
      · rw [pk_un (by omega), pk_un (by omega), pk_us, pk_us]
      · rw [pk_un (by omega), pk_us, pk_us]
      · rw [pk_us, pk_us]
    · obtain ⟨w, w0, w1, w2, w3⟩ := hW a ha
      refine ⟨?_, ?_, ?_, ?_, ?_⟩
      · unfold WI
        rw [pk_un e, pk_un e, pk_un e, pk_un e]
        exact w
      · rw [pk_un (by omega), pk_un (by omega), pk_un (by omega), pk_un (by omega), pk_un e]; exact w0
      · rw [pk_un (by omega), pk_un (by omega), pk_un (by omega), pk_un (by omega), pk_un e]; exact w1
      · rw [pk_un (by omega), pk_un (by omega), pk_un (by omega), pk_un (by omega), pk_un e]; exact w2
      · rw [pk_un (by omega), pk_un (by omega), pk_un (by omega), pk_un (by omega), pk_un e]; exact w3
theorem CA_emit {k m l c0 : Nat} (H : CA T ST MT pa so ce ar ls ps an le co cc ss es ec ep et ek ed) (el : le m = nI l) (hl : l < 10) (hk : k ≤ 12) (hc : c0 < 8) : CA T ST MT pa so ce ar ls ps an (upd le m (nI (l + 1))) (upd co (m * 10 + l) (nI k)) (upd cc (m * 10 + l) (nI c0)) ss es ec ep et ek ed := by
  intro a ha
  obtain ⟨st, h1, h2, h3, op, n, h4, h5, h6, h7, h8⟩ := H a ha
  by_cases e : a = m * 10 + l
  · have hst : st = 0 := by
      rcases h3 with h3 | ⟨m', j, l', k1, k2, k3, k4, k5, k6⟩
      · exact h3
      · exfalso
        have e1 : m' = m := by omega
        subst e1
        have e2 : l' = l := zn_inj (by omega) (by omega) (k4.symm.trans el)
        omega
    subst hst
    subst e
    exact ⟨0, by omega, h2, Or.inl rfl, k, c0, hk, hc, pk_us, pk_us, fun i hi => by omega⟩
  · refine ⟨st, h1, h2, ?_, op, n, h4, h5, by rw [pk_un e]; exact h6, by rw [pk_un e]; exact h7, h8⟩
    rcases h3 with h3 | ⟨m', j, l', k1, k2, k3, k4, k5, k6⟩
    · exact Or.inl h3
    · refine Or.inr ?_
      by_cases d : m' = m
      · subst d
        have e2 : l' = l := zn_inj (by omega) (by omega) (k4.symm.trans el)
        exact ⟨m', j, l + 1, k1, k2, k3, pk_us, by omega, by omega⟩
      · exact ⟨m', j, l', k1, k2, k3, by rw [pk_un d]; exact k4, k5, k6⟩
theorem l_emit {k : Nat} (I : IV (400 * k) T OL NL DL ST MT pa so ce ar zs ls ks ps an ln le co ca cb cc ss es ec ep et ek ed sz ky lo yc) (v1 v2 v3 v4 : Int32) : ∃ r u' v', i_Rel (k + 5) u' v' ∧ (∀ post : Int32 → SX → Prop, post r u' → wpX_emit post (g0, g1, g2, g3, g4, g5, g6, g7, g8, g9, nI OL, nI NL, nI DL, nI T, nI ST, nI MT, fr, la, pa, so, sv, ce, ar, zs, ls, ks, ps, an, ln, le, co, ca, cb, cc, ss, es, ec, ep, et, ek, ed, fm, pc, fd, rg) v1 v2 v3 v4) ∧ (∀ post : Int32 → SY → Prop, post r v' → wpY_emit post (nI OL, nI NL, nI DL, nI T, nI MT, la, pa, sz, ky, sv, lo, le, yc, fm, pc, rg) v1 v2 v3 v4) := by
  have I' := I
  obtain ⟨hO, hL, hTR, Q, hA, hE, hC, hCO⟩ := I
  have hCO' := hCO
  obtain ⟨hMT, hle, hW⟩ := hCO
  have same : i_Rel (k + 5) (g0, g1, g2, g3, g4, g5, g6, g7, g8, g9, nI OL, nI NL, nI DL, nI T, nI ST, nI MT, fr, la, pa, so, sv, ce, ar, zs, ls, ks, ps, an, ln, le, co, ca, cb, cc, ss, es, ec, ep, et, ek, ed, fm, pc, fd, rg) (nI OL, nI NL, nI DL, nI T, nI MT, la, pa, sz, ky, sv, lo, le, yc, fm, pc, rg) := RL_rel (CB := 400 * k) (RL_in I') (by omega)
  by_cases h0 : MT = 0
  · have e : nI MT = 0 := by rw [h0]; rfl
    exact ⟨-12, (g0, g1, g2, g3, g4, g5, g6, g7, g8, g9, nI OL, nI NL, nI DL, nI T, nI ST, nI MT, fr, la, pa, so, sv, ce, ar, zs, ls, ks, ps, an, ln, le, co, ca, cb, cc, ss, es, ec, ep, et, ek, ed, fm, pc, fd, rg), (nI OL, nI NL, nI DL, nI T, nI MT, la, pa, sz, ky, sv, lo, le, yc, fm, pc, rg), same, fun post hp => br_t e hp, fun post hp => br_t e hp⟩
  obtain ⟨m, em⟩ : ∃ m, MT = m + 1 := ⟨MT - 1, by omega⟩
  have hm : m < 6 := by omega
  have n0 : ¬ nI MT = 0 := nI_ne0 (by omega) (by omega)
  have ep' : nI MT - 1 = nI m := by rw [em]; exact nI_pred m
  have cm : (nI m).toNatClampNeg = m := nI_clamp (by omega)
  have im : vp_in (nI m) 6 := vp_in_nI hm (by omega)
  obtain ⟨l, hl10, el, _⟩ := hle m hm
  by_cases hl : l < 10
  rotate_left
  · have e10 : ¬ nI l < 10 := nI_nlt (b := 10) (by omega) (by omega)
    exact ⟨-8, (g0, g1, g2, g3, g4, g5, g6, g7, g8, g9, nI OL, nI NL, nI DL, nI T, nI ST, nI MT, fr, la, pa, so, sv, ce, ar, zs, ls, ks, ps, an, ln, le, co, ca, cb, cc, ss, es, ec, ep, et, ek, ed, fm, pc, fd, rg), (nI OL, nI NL, nI DL, nI T, nI MT, la, pa, sz, ky, sv, lo, le, yc, fm, pc, rg), same, fun post hp => br_f n0 (nm_r (e' := nI m) ep' ⟨im, nm_r (e' := nI l) (by rw [cm, el]) (br_f e10 hp)⟩), fun post hp => br_f n0 (nm_r (e' := nI m) ep' ⟨im, nm_r (e' := nI l) (by rw [cm, el]) (br_f e10 hp)⟩)⟩
  have e10 : nI l < 10 := nI_lt (b := 10) hl (by decide)
  by_cases o0 : v1 < 0
  · exact ⟨-13, (g0, g1, g2, g3, g4, g5, g6, g7, g8, g9, nI OL, nI NL, nI DL, nI T, nI ST, nI MT, fr, la, pa, so, sv, ce, ar, zs, ls, ks, ps, an, ln, le, co, ca, cb, cc, ss, es, ec, ep, et, ek, ed, fm, pc, fd, rg), (nI OL, nI NL, nI DL, nI T, nI MT, la, pa, sz, ky, sv, lo, le, yc, fm, pc, rg), same, fun post hp => br_f n0 (nm_r (e' := nI m) ep' ⟨im, nm_r (e' := nI l) (by rw [cm, el]) (br_t e10 (br_t o0 hp))⟩), fun post hp => br_f n0 (nm_r (e' := nI m) ep' ⟨im, nm_r (e' := nI l) (by rw [cm, el]) (br_t e10 (br_t o0 hp))⟩)⟩
  obtain ⟨op, hop, rfl⟩ := nI_of o0
  by_cases o12 : op ≤ 12
  rotate_left
  · have e12 : ¬ nI op ≤ 12 := nI_ge (a := 12) (by omega) (by omega)
    exact ⟨-13, (g0, g1, g2, g3, g4, g5, g6, g7, g8, g9, nI OL, nI NL, nI DL, nI T, nI ST, nI MT, fr, la, pa, so, sv, ce, ar, zs, ls, ks, ps, an, ln, le, co, ca, cb, cc, ss, es, ec, ep, et, ek, ed, fm, pc, fd, rg), (nI OL, nI NL, nI DL, nI T, nI MT, la, pa, sz, ky, sv, lo, le, yc, fm, pc, rg), same, fun post hp => br_f n0 (nm_r (e' := nI m) ep' ⟨im, nm_r (e' := nI l) (by rw [cm, el]) (br_t e10 (br_f o0 (br_f e12 hp)))⟩), fun post hp => br_f n0 (nm_r (e' := nI m) ep' ⟨im, nm_r (e' := nI l) (by rw [cm, el]) (br_t e10 (br_f o0 (br_f e12 hp)))⟩)⟩
  have e12 : nI op ≤ 12 := nI_le (b := 12) o12 (by decide)
  rcases zr_c v2 with hr | ⟨ra, hr, rfl⟩
  · refine ⟨-14, (g0, g1, g2, g3, g4, g5, g6, g7, g8, g9, nI OL, nI NL, nI DL, nI T, nI ST, nI MT, fr, la, pa, so, sv, ce, ar, zs, ls, ks, ps, an, ln, le, co, ca, cb, cc, ss, es, ec, ep, et, ek, ed, fm, pc, fd, rg), (nI OL, nI NL, nI DL, nI T, nI MT, la, pa, sz, ky, sv, lo, le, yc, fm, pc, rg), same, fun post hp => br_f n0 (nm_r (e' := nI m) ep' ⟨im, nm_r (e' := nI l) (by rw [cm, el]) (br_t e10 (br_f o0 (br_t e12 (x_reg_f hr (br_t rfl hp)))))⟩), fun post hp => br_f n0 (nm_r (e' := nI m) ep' ⟨im, nm_r (e' := nI l) (by rw [cm, el]) (br_t e10 (br_f o0 (br_t e12 ?_)))⟩)⟩
    rcases hr with hr | ⟨hr, hr'⟩
    · exact br_t hr hp
    · exact br_f hr (br_f (fun z => Int32.not_le.mpr hr' z) hp)
  rcases zb_c op v3 with hb | hb
  rotate_left
  · exact ⟨-14, (g0, g1, g2, g3, g4, g5, g6, g7, g8, g9, nI OL, nI NL, nI DL, nI T, nI ST, nI MT, fr, la, pa, so, sv, ce, ar, zs, ls, ks, ps, an, ln, le, co, ca, cb, cc, ss, es, ec, ep, et, ek, ed, fm, pc, fd, rg), (nI OL, nI NL, nI DL, nI T, nI MT, la, pa, sz, ky, sv, lo, le, yc, fm, pc, rg), same, fun post hp => x_emit_bad em hm el hl o12 hr (Or.inl hb) hp, fun post hp => y_eb_bad em hm el hl o12 hr hb hp⟩
  obtain ⟨sb, s1, s2⟩ : ∃ sb : Int32, (op = 8 ∨ op = 12 → sb = 0) ∧ (¬ (op = 8 ∨ op = 12) → sb = v3) := by
    by_cases d : op = 8 ∨ op = 12
    · exact ⟨0, fun _ => rfl, fun z => absurd d z⟩
    · exact ⟨v3, fun z => absurd z d, fun _ => rfl⟩
  rcases zc_c NL op hL.2.1 v4 with hc | hc
  rotate_left
  · exact ⟨-14, (g0, g1, g2, g3, g4, g5, g6, g7, g8, g9, nI OL, nI NL, nI DL, nI T, nI ST, nI MT, fr, la, pa, so, sv, ce, ar, zs, ls, ks, ps, an, ln, le, co, ca, cb, cc, ss, es, ec, ep, et, ek, ed, fm, pc, fd, rg), (nI OL, nI NL, nI DL, nI T, nI MT, la, pa, sz, ky, sv, lo, le, yc, fm, pc, rg), same, fun post hp => x_emit_bad em hm el hl o12 hr (Or.inr ⟨hb, hc⟩) hp, fun post hp => y_eb em hm el hl o12 hr hb s1 s2 (y_e117_bad hc hp)⟩
  obtain ⟨c0, hc8, h1, h0'⟩ : ∃ c0, c0 < 8 ∧ (RC op ∨ NC op → nI c0 = v4) ∧ (¬ (RC op ∨ NC op) → nI c0 = 0) := by
    have hN := hL.2.1
    rcases hc with ⟨h, j, hj, e⟩ | ⟨h, j, hj, e⟩ | ⟨h, h'⟩
    · exact ⟨j, by omega, fun _ => e.symm, fun z => absurd (Or.inl h) z⟩
    · exact ⟨j, by omega, fun _ => e.symm, fun z => absurd (Or.inr h) z⟩
    · exact ⟨0, by omega, fun z => absurd z (fun z => z.elim h h'), fun _ => rfl⟩
  exact ⟨nI l, _, _, RL_rel (CB := 400 * k) (RL_in ⟨hO, hL, hTR, Q, hA, hE, CA_emit hC el hl o12 hc8, CO_emit hCO' hL.2.1 hL.1 (by omega) el hl o12 hr hb hc s1 s2 h1 h0'⟩) (by omega), fun post hp => x_emit em hm el hl o12 hr hb hL.2.1 hc s1 s2 h1 h0' hp, fun post hp => y_eb em hm el hl o12 hr hb s1 s2 (y_e117 o12 hL.2.1 hc h1 h0' (y_e196 hm el hl hp))⟩
end
end
section
/-! set, lock, remove -/
section
variable {CB OL NL DL T ST MT : Nat} {g0 g1 g2 g3 g4 g5 g6 g7 g8 g9 fr la : Int32} {pa so sv ar zs ls ks ps an ln le co ca cb cc ss es ec ep ek ed fm pc fd rg sz ky lo yc : Nat → Int32} {ce et : Nat → Int64}
/-- object q alone gets another layout, its cells are broken -/
theorem IV_chg {q s' z' : Nat} {κ' : Nat → Nat} {b' : Int32} {zs' ls' ks' ps' sz' ky' lo' ar' : Nat → Int32} {ce' : Nat → Int64} (I : IV CB T OL NL DL ST MT pa so ce ar zs ls ks ps an ln le co ca cb cc ss es ec ep et ek ed sz ky lo yc) (hCB : CB + 1 < 2 ^ 30) (hq : q < T)
    (hS1 : ∀ s, s < ST → SE zs ls ks ps zs' ls' ks' ps' s s) (hS2 : ∀ s, 64 ≤ s → s < 76 → s ≠ 64 + q → SE zs ls ks ps zs' ls' ks' ps' s s)
    (hy : ∀ r, r < T → r ≠ q → sz' r = sz r ∧ ∀ i, i < 8 → ky' (r * 8 + i) = ky (r * 8 + i) ∧ lo' (r * 8 + i) = lo (r * 8 + i))
    (hs : s' < 76) (hs2 : s' < ST ∨ s' = 64 + q) (hx : RX zs' ls' ks' ps' s' z' κ' b') (hy2 : RY sz' ky' lo' q z' κ' b') (B : BK T pa ce ar q ce' ar') :
    IV (CB + 1) T OL NL DL ST MT pa (upd so q (nI s')) ce' ar' zs' ls' ks' ps' an ln le co ca cb cc ss es ec ep et ek ed sz' ky' lo' yc := by
  obtain ⟨hO, hL, hTR, Q, hA, hE, hC, hCO⟩ := I
  have hO' := hO
  obtain ⟨hTO, hOL, rk, R⟩ := hO
  have hT : T ≤ 12 := by omega
  refine ⟨hO', hL, TR_keep hTR hS1, OQ_set Q (Nat.le_refl _) hS1 hq hS2 hy hs hs2 hx hy2, AR_bk hA R hT hq B (fun _ _ _ => rfl), CE_bk hE B, CA_keep (KP_bk hq hT (Nat.le_refl _) hE hCB B (fun r hr hne => ⟨rfl, fun n hn => ?_⟩) (fun s hs => ⟨(hS1 s hs).2.1, fun n hn => ⟨((hS1 s hs).2.2 n hn).2, fun _ => rfl⟩⟩)) R hT hTR.2.1 hC, hCO⟩
  obtain ⟨s, h76, eS, hs⟩ := OQ_so Q hr
  have hse : SE zs ls ks ps zs' ls' ks' ps' s s := by
    rcases hs with h | h
    · exact hS1 s h
    · exact hS2 s (by omega) h76 (by omega)
  have eS' : upd so q (nI s') r = nI s := by rw [pk_un hne]; exact eS
  rw [wo_s eS h76, wo_s eS' h76, wl_s eS h76, wl_s eS' h76, hse.2.1, (hse.2.2 n hn).2]
  exact ⟨rfl, Iff.rfl⟩
/-- the tree grows -/
theorem IV_tree {ST' : Nat} {zs' ls' ks' ps' an' ln' : Nat → Int32} (I : IV CB T OL NL DL ST MT pa so ce ar zs ls ks ps an ln le co ca cb cc ss es ec ep et ek ed sz ky lo yc) (hT' : TR ST' zs' ls' ks' ps' an' ln') (hST : ST ≤ ST') (hS1 : ∀ s, s < ST → SE zs ls ks ps zs' ls' ks' ps' s s) (hS2 : ∀ s, 64 ≤ s → SE zs ls ks ps zs' ls' ks' ps' s s) (ha : ∀ s n, s < ST → n < 8 → ¬ an (s * 8 + n) = 0 → an' (s * 8 + n) = an (s * 8 + n)) :
    IV CB T OL NL DL ST' MT pa so ce ar zs' ls' ks' ps' an' ln' le co ca cb cc ss es ec ep et ek ed sz ky lo yc := by
  obtain ⟨hO, hL, hTR, Q, hA, hE, hC, hCO⟩ := I
  have hO' := hO
  obtain ⟨hTO, hOL, rk, R⟩ := hO
  have hT : T ≤ 12 := by omega
  refine ⟨hO', hL, hT', OQ_keep Q hST hS1 (fun s h _ => hS2 s h), hA, hE, CA_keep (KP_same (CB := 0) R hT (Nat.le_refl _) hST (fun r hr => ⟨rfl, fun n hn => ?_⟩) (fun s hs => ⟨(hS1 s hs).2.1, fun n hn => ⟨((hS1 s hs).2.2 n hn).2, ha s n hs hn⟩⟩) (fun _ _ h => h)) R hT hTR.2.1 hC, hCO⟩
  obtain ⟨s, h76, eS, hs⟩ := OQ_so Q hr
  have hse : SE zs ls ks ps zs' ls' ks' ps' s s := by
    rcases hs with h | h
    · exact hS1 s h
    · exact hS2 s (by omega)
  rw [wo_s eS h76, wo_s eS h76, wl_s eS h76, wl_s eS h76, hse.2.1, (hse.2.2 n hn).2]
  exact ⟨rfl, Iff.rfl⟩
theorem IV_cache {ar' ss' es' ec' ep' ek' ed' : Nat → Int32} {et' : Nat → Int64} (I : IV CB T OL NL DL ST MT pa so ce ar zs ls ks ps an ln le co ca cb cc ss es ec ep et ek ed sz ky lo yc) (hA : AR T pa ar') (hC : CA T ST MT pa so ce ar' ls ps an le co cc ss' es' ec' ep' et' ek' ed') : IV CB T OL NL DL ST MT pa so ce ar' zs ls ks ps an ln le co ca cb cc ss' es' ec' ep' et' ek' ed' sz ky lo yc :=
  ⟨I.1, I.2.1, I.2.2.1, I.2.2.2.1, hA, I.2.2.2.2.2.1, hC, I.2.2.2.2.2.2.2⟩
end
/-- the holder found from q is locked -/
def WK (T : Nat) (pa so ls ps : Nat → Int32) (n q : Nat) : Prop := ∃ p, p < T ∧ hol pa (wo ps so n) 12 (nI q) = nI p ∧ wl ls so n p
section
variable {OL NL DL T MT : Nat} {la : Int32} {pa sz ky sv lo le yc fm pc rg : Nat → Int32}
variable {post : Int32 → SY → Prop} {ST : Nat} {so zs ls ks ps : Nat → Int32}
theorem y_set_ro (hT : T ≤ 12) (hN : NL ≤ 8) (Q : OQ T ST so zs ls ks ps sz ky lo) {rk : Nat → Nat} (R : RK T pa rk) {q n : Nat} {v : Int32} (hq : q < T) (hn : n < NL) (h : WK T pa so ls ps n q) (hp : post (-6) (nI OL, nI NL, nI DL, nI T, nI MT, la, pa, sz, ky, sv, lo, le, yc, fm, pc, rg)) : wpY_set post (nI OL, nI NL, nI DL, nI T, nI MT, la, pa, sz, ky, sv, lo, le, yc, fm, pc, rg) (nI q) (nI n) v := by
  obtain ⟨p, hp', e, w⟩ := h
  unfold wpY_set
  refine y_isH_t hq hT (br_f zn_10n (y_isN_t hn hN (br_f zn_10n (y_hol hT hN Q (fun q hq => RK_vp R hq) hq hn ?_))))
  rw [e]
  exact br_f (zn_m1 (by omega)) (y_lck hT hN Q hp' hn (fun _ => br_f zn_10n hp) (fun z => absurd w z))
theorem y_set_go (hT : T ≤ 12) (hN : NL ≤ 8) (Q : OQ T ST so zs ls ks ps sz ky lo) {rk : Nat → Nat} (R : RK T pa rk) {q n : Nat} {v : Int32} (hq : q < T) (hn : n < NL) (h : ¬ WK T pa so ls ps n q) (hp : wY_set_49 post (nI q) (nI n) v (nI OL) (nI NL) (nI DL) (nI T) (nI MT) la pa sz ky sv lo le yc fm pc rg) : wpY_set post (nI OL, nI NL, nI DL, nI T, nI MT, la, pa, sz, ky, sv, lo, le, yc, fm, pc, rg) (nI q) (nI n) v := by
  unfold wpY_set
  refine y_isH_t hq hT (br_f zn_10n (y_isN_t hn hN (br_f zn_10n (y_hol hT hN Q (fun q hq => RK_vp R hq) hq hn ?_))))
  rcases hol_vp (ow := wo ps so n) R hT 12 (nI q) (Or.inr ⟨q, hq, rfl⟩) with e | ⟨p, hp', e, _, _⟩
  · exact br_t e hp
  · rw [e]
    exact br_f (zn_m1 (by omega)) (y_lck hT hN Q hp' hn (fun z => absurd ⟨p, hp', e, z⟩ h) (fun _ => br_t rfl hp))
theorem y_s49_own (hT : T ≤ 12) (hN : NL ≤ 8) (Q : OQ T ST so zs ls ks ps sz ky lo) {q n i : Nat} {v : Int32} (hq : q < T) (hn : n < NL) (hi : i < 8) (e : wo ps so n q = nI i) (hp : post 0 (nI OL, nI NL, nI DL, nI T, nI MT, la, pa, sz, ky, upd sv (q * 8 + i) v, lo, le, yc, fm, pc, rg)) : wY_set_49 post (nI q) (nI n) v (nI OL) (nI NL) (nI DL) (nI T) (nI MT) la pa sz ky sv lo le yc fm pc rg := by
  unfold wY_set_49
  refine y_pos hT hN Q hq hn ?_
  rw [e]
  exact br_f (nI_pos (by omega)) ⟨by rw [zn_8]; exact vp_in_nI (by omega) (by omega), nm_r (e' := upd sv (q * 8 + i) v) (by rw [zn_8, nI_clamp (by omega)]) hp⟩
theorem y_s49_app (hT : T ≤ 12) (hN : NL ≤ 8) (Q : OQ T ST so zs ls ks ps sz ky lo) {q n z : Nat} {v : Int32} (hq : q < T) (hn : n < NL) (hz : z < 8) (ez : sz q = nI z) (e : wo ps so n q = -1) (hp : post 0 (nI OL, nI NL, nI DL, nI T, nI MT, la, pa, upd sz q (nI (z + 1)), upd ky (q * 8 + z) (nI n), upd sv (q * 8 + z) v, upd lo (q * 8 + z) 0, le, yc, fm, pc, rg)) : wY_set_49 post (nI q) (nI n) v (nI OL) (nI NL) (nI DL) (nI T) (nI MT) la pa sz ky sv lo le yc fm pc rg := by
  unfold wY_set_49
  refine y_pos hT hN Q hq hn ?_
  have cq : (nI q).toNatClampNeg = q := nI_clamp (by omega)
  have iq : vp_in (nI q) 12 := vp_in_nI (by omega) (by omega)
  have i1 : vp_in (nI (q * 8 + z)) 96 := vp_in_nI (by omega) (by omega)
  have c1 : (nI (q * 8 + z)).toNatClampNeg = q * 8 + z := nI_clamp (by omega)
  rw [e]
  exact br_t zn_neg1 ⟨iq, nm_r (e' := nI (q * 8 + z)) (by rw [cq, ez, zn_8]) ⟨i1, nm_r (e' := upd ky (q * 8 + z) (nI n)) (by rw [c1]) ⟨i1, nm_r (e' := upd sv (q * 8 + z) v) (by rw [c1]) ⟨i1, nm_r (e' := upd lo (q * 8 + z) 0) (by rw [c1, zn_b0]) ⟨iq, iq, nm_r (e' := upd sz q (nI (z + 1))) (by rw [cq, ez, nI_1]) hp⟩⟩⟩⟩⟩
end
section
variable {CB OL NL DL T ST MT : Nat} {g0 g1 g2 g3 g4 g5 g6 g7 g8 g9 fr la : Int32} {pa so sv ar zs ls ks ps an ln le co ca cb cc ss es ec ep ek ed fm pc fd rg sz ky lo yc : Nat → Int32} {ce et : Nat → Int64}
/-- an append: to the next shape of the tree, or to the dictionary -/
theorem l_append (I : IV CB T OL NL DL ST MT pa so ce ar zs ls ks ps an ln le co ca cb cc ss es ec ep et ek ed sz ky lo yc) (hCB : CB + 1 < 2 ^ 30) {q n s : Nat} {dt v : Int32} (hq : q < T) (hn : n < NL) (ha : wo ps so n q = -1) (eS : so q = nI s) (h76 : s < 76)
    (hd : dt = -1 ∨ ∃ t, t < ST ∧ dt = nI t ∧ XE zs ls ks ps s n t) :
    ∃ z u', z < 8 ∧ sz q = nI z ∧ RL (CB + 1) g0 g1 g2 g3 g4 g5 g6 g7 g8 g9 OL NL DL MT fr la le co ca cb cc fm pc fd rg yc u' (nI OL, nI NL, nI DL, nI T, nI MT, la, pa, upd sz q (nI (z + 1)), upd ky (q * 8 + z) (nI n), upd sv (q * 8 + z) v, upd lo (q * 8 + z) 0, le, yc, fm, pc, rg) ∧ (∀ post : SX → Prop, post u' → wpX_append post (g0, g1, g2, g3, g4, g5, g6, g7, g8, g9, nI OL, nI NL, nI DL, nI T, nI ST, nI MT, fr, la, pa, so, sv, ce, ar, zs, ls, ks, ps, an, ln, le, co, ca, cb, cc, ss, es, ec, ep, et, ek, ed, fm, pc, fd, rg) (nI q) (nI n) v dt) := by
  have I' := I
  obtain ⟨⟨hTO, hOL, rk, R⟩, ⟨_, hN, _, _⟩, hTR, Q, hA, hE, hC, hCO⟩ := I
  have hT : T ≤ 12 := by omega
  have hST := hTR.2.1
  obtain ⟨s0, z, κ, b, _, eS0, hs, X, Y⟩ := Q q hq
  have : s0 = s := zn_inj (by omega) (by omega) (eS0.symm.trans eS)
  subst this
  rw [wo_s eS h76] at ha
  have hz : z < 8 := RX_room X (by omega) ha
  have nl : ¬ lb b n := by
    rcases RX_at X (m := n) (by omega) with ⟨_, c, _⟩ | ⟨i, hi, _, c⟩
    · exact c
    · rw [ha] at c
      exact absurd c.symm (zn_m1 (by omega))
  have cq : (nI q).toNatClampNeg = q := nI_clamp (by omega)
  have iq : vp_in (nI q) 12 := vp_in_nI (by omega) (by omega)
  have cs : (nI s0).toNatClampNeg = s0 := nI_clamp (by omega)
  have hy : ∀ r, r < T → r ≠ q → upd sz q (nI (z + 1)) r = sz r ∧ ∀ i, i < 8 → upd ky (q * 8 + z) (nI n) (r * 8 + i) = ky (r * 8 + i) ∧ upd lo (q * 8 + z) 0 (r * 8 + i) = lo (r * 8 + i) :=
    fun r _ hne => ⟨pk_un hne, fun i hi => ⟨pk_un (by omega), pk_un (by omega)⟩⟩
  have hy2 := RY_ap Y hz nl
  have i0 : vp_in (so (nI q).toNatClampNeg) 76 := by rw [cq, eS]; exact vp_in_nI h76 (by omega)
  have i2 : vp_in (nI q * 8 + nI z) 96 := by rw [zn_8]; exact vp_in_nI (by omega) (by omega)
  have e3 : zs (so (nI q).toNatClampNeg).toNatClampNeg = nI z := by rw [cq, eS, cs, X.2.1]
  have e4 : upd sv (nI q * 8 + nI z).toNatClampNeg v = upd sv (q * 8 + z) v := by rw [zn_8, nI_clamp (by omega)]
  rcases hd with e | ⟨t, ht, e, hx⟩
  · obtain ⟨zs1, ls1, ks1, ps1, k1, k2, kw⟩ := x_toD (g0 := g0) (g1 := g1) (g2 := g2) (g3 := g3) (g4 := g4) (g5 := g5) (g6 := g6) (g7 := g7) (g8 := g8) (g9 := g9) (OL := OL) (NL := NL) (DL := DL) (T := T) (ST := ST) (MT := MT) (fr := fr) (la := la) (pa := pa) (so := so) (sv := upd sv (q * 8 + z) v) (ce := ce) (ar := ar) (zs := zs) (ls := ls) (ks := ks) (ps := ps) (an := an) (ln := ln) (le := le) (co := co) (ca := ca) (cb := cb) (cc := cc) (ss := ss) (es := es) (ec := ec) (ep := ep) (et := et) (ek := ek) (ed := ed) (fm := fm) (pc := pc) (fd := fd) (rg := rg) hT hST hq eS hs
    have X1 : RX zs1 ls1 ks1 ps1 (64 + q) z κ b := RX_cg k1 X
    have a1 : ps1 ((64 + q) * 8 + n) = -1 := ((k1.2.2 n (by omega)).2).trans ha
    have X2 := RX_ap X1 (by omega) a1
    have f2 : ∀ r, r ≠ 64 + q → SE zs ls ks ps (upd zs1 (64 + q) (nI (z + 1))) ls1 (upd ks1 ((64 + q) * 8 + z) (nI n)) (upd ps1 ((64 + q) * 8 + n) (nI z)) r r :=
      fun r hr => SE_trans (k2 r hr) ⟨pk_un hr, rfl, fun i hi => ⟨pk_un (by omega), pk_un (by omega)⟩⟩
    obtain ⟨ce', ar', B, bw⟩ := x_brk (g0 := g0) (g1 := g1) (g2 := g2) (g3 := g3) (g4 := g4) (g5 := g5) (g6 := g6) (g7 := g7) (g8 := g8) (g9 := g9) (OL := OL) (NL := NL) (DL := DL) (T := T) (ST := ST) (MT := MT) (fr := fr) (la := la) (pa := pa) (so := upd so q (nI (64 + q))) (sv := upd sv (q * 8 + z) v) (ce := ce) (ar := ar) (zs := upd zs1 (64 + q) (nI (z + 1))) (ls := ls1) (ks := upd ks1 ((64 + q) * 8 + z) (nI n)) (ps := upd ps1 ((64 + q) * 8 + n) (nI z)) (an := an) (ln := ln) (le := le) (co := co) (ca := ca) (cb := cb) (cc := cc) (ss := ss) (es := es) (ec := ec) (ep := ep) (et := et) (ek := ek) (ed := ed) (fm := fm) (pc := pc) (fd := fd) (rg := rg) hT R hA hq
    refine ⟨z, _, hz, Y.1, RL_in (IV_chg I' hCB hq (fun s hs => f2 s (by omega)) (fun s _ _ hne => f2 s hne) hy (by omega) (Or.inr rfl) X2 hy2 B), fun post hp => ⟨iq, i0, nm_r (e' := nI z) e3 ⟨i2, nm_r (e' := upd sv (q * 8 + z) v) e4 (br_t e (kw _ ⟨iq, ?_⟩))⟩⟩⟩
    rw [cq, pk_us]
    refine x_ext (by omega) (by omega) hz X1.2.1 ?_
    show wX_append_59 post (nI q) g0 g1 g2 g3 g4 g5 g6 g7 g8 g9 (nI OL) (nI NL) (nI DL) (nI T) (nI ST) (nI MT) fr la pa (upd so q (nI (64 + q))) (upd sv (q * 8 + z) v) ce ar (upd zs1 (64 + q) (nI (z + 1))) ls1 (upd ks1 ((64 + q) * 8 + z) (nI n)) (upd ps1 ((64 + q) * 8 + n) (nI z)) an ln le co ca cb cc ss es ec ep et ek ed fm pc fd rg
    unfold wX_append_59
    exact bw _ hp
  · obtain ⟨ce', ar', B, bw⟩ := x_brk (g0 := g0) (g1 := g1) (g2 := g2) (g3 := g3) (g4 := g4) (g5 := g5) (g6 := g6) (g7 := g7) (g8 := g8) (g9 := g9) (OL := OL) (NL := NL) (DL := DL) (T := T) (ST := ST) (MT := MT) (fr := fr) (la := la) (pa := pa) (so := upd so q (nI t)) (sv := upd sv (q * 8 + z) v) (ce := ce) (ar := ar) (zs := zs) (ls := ls) (ks := ks) (ps := ps) (an := an) (ln := ln) (le := le) (co := co) (ca := ca) (cb := cb) (cc := cc) (ss := ss) (es := es) (ec := ec) (ep := ep) (et := et) (ek := ek) (ed := ed) (fm := fm) (pc := pc) (fd := fd) (rg := rg) hT R hA hq
    refine ⟨z, _, hz, Y.1, RL_in (IV_chg I' hCB hq (fun _ _ => SE_rfl) (fun _ _ _ _ => SE_rfl) hy (by omega) (Or.inl ht) (hx z κ b X) hy2 B), fun post hp => ⟨iq, i0, nm_r (e' := nI z) e3 ⟨i2, nm_r (e' := upd sv (q * 8 + z) v) e4 (br_f (by rw [e]; exact zn_m1 (by omega)) ⟨iq, nm_r (e' := upd so q (nI t)) (by rw [cq, e]) ?_⟩)⟩⟩⟩
    unfold wX_append_59
    exact bw _ hp
/-- the outcome kd, dt is right for a write of n through q -/
def AW (T ST : Nat) (pa so zs ls ks ps : Nat → Int32) (n q : Nat) (kd dt : Int32) : Prop :=
  (kd = 3 ∧ WK T pa so ls ps n q) ∨ (kd = 0 ∧ ¬ WK T pa so ls ps n q ∧ ∃ i, i < 8 ∧ wo ps so n q = nI i ∧ dt = nI i)
  ∨ (kd = 4 ∧ ¬ WK T pa so ls ps n q ∧ wo ps so n q = -1 ∧ ∃ s, s < 76 ∧ so q = nI s ∧ (dt = -1 ∨ ∃ t, t < ST ∧ dt = nI t ∧ XE zs ls ks ps s n t))
theorem l_apply (I : IV CB T OL NL DL ST MT pa so ce ar zs ls ks ps an ln le co ca cb cc ss es ec ep et ek ed sz ky lo yc) (hCB : CB + 1 < 2 ^ 30) {q n : Nat} {kd dt v : Int32} (hq : q < T) (hn : n < NL) (H : AW T ST pa so zs ls ks ps n q kd dt) :
    ∃ r u' v', (r = 0 ∨ r < 0) ∧ RL (CB + 1) g0 g1 g2 g3 g4 g5 g6 g7 g8 g9 OL NL DL MT fr la le co ca cb cc fm pc fd rg yc u' v' ∧ (∀ post : Int32 → SX → Prop, post r u' → wpX_applyWrite post (g0, g1, g2, g3, g4, g5, g6, g7, g8, g9, nI OL, nI NL, nI DL, nI T, nI ST, nI MT, fr, la, pa, so, sv, ce, ar, zs, ls, ks, ps, an, ln, le, co, ca, cb, cc, ss, es, ec, ep, et, ek, ed, fm, pc, fd, rg) kd (nI q) (nI n) v dt) ∧ (∀ post : Int32 → SY → Prop, post r v' → wpY_set post (nI OL, nI NL, nI DL, nI T, nI MT, la, pa, sz, ky, sv, lo, le, yc, fm, pc, rg) (nI q) (nI n) v) := by
  have I' := I
  obtain ⟨⟨hTO, hOL, rk, R⟩, ⟨_, hN, _, _⟩, hTR, Q, hA, hE, hC, hCO⟩ := I
  have hT : T ≤ 12 := by omega
  rcases H with ⟨rfl, w⟩ | ⟨rfl, w, i, hi, e, rfl⟩ | ⟨rfl, w, e, s, h76, eS, hd⟩
  · exact ⟨-6, (g0, g1, g2, g3, g4, g5, g6, g7, g8, g9, nI OL, nI NL, nI DL, nI T, nI ST, nI MT, fr, la, pa, so, sv, ce, ar, zs, ls, ks, ps, an, ln, le, co, ca, cb, cc, ss, es, ec, ep, et, ek, ed, fm, pc, fd, rg), (nI OL, nI NL, nI DL, nI T, nI MT, la, pa, sz, ky, sv, lo, le, yc, fm, pc, rg), Or.inr (by decide), RL_in (IV_up I' (by omega)), fun post hp => br_t rfl hp, fun post hp => y_set_ro hT hN Q R hq hn w hp⟩
  · exact ⟨0, (g0, g1, g2, g3, g4, g5, g6, g7, g8, g9, nI OL, nI NL, nI DL, nI T, nI ST, nI MT, fr, la, pa, so, upd sv (q * 8 + i) v, ce, ar, zs, ls, ks, ps, an, ln, le, co, ca, cb, cc, ss, es, ec, ep, et, ek, ed, fm, pc, fd, rg), (nI OL, nI NL, nI DL, nI T, nI MT, la, pa, sz, ky, upd sv (q * 8 + i) v, lo, le, yc, fm, pc, rg), Or.inl rfl, RL_in (IV_up I' (by omega)), fun post hp => br_f (by decide) (br_t rfl ⟨by rw [zn_8]; exact vp_in_nI (by omega) (by omega), nm_r (e' := upd sv (q * 8 + i) v) (by rw [zn_8, nI_clamp (by omega)]) hp⟩), fun post hp => y_set_go hT hN Q R hq hn w (y_s49_own hT hN Q hq hn hi e hp)⟩
  · obtain ⟨z, u', hz, ez, hr, hw⟩ := l_append (v := v) I' hCB hq hn e eS h76 hd
    exact ⟨0, u', _, Or.inl rfl, hr, fun post hp => br_f (by decide) (br_f (by decide) (hw _ hp)), fun post hp => y_set_go hT hN Q R hq hn w (y_s49_app hT hN Q hq hn hz ez e hp)⟩
/-- findSlot, writeKind, writeDetail: the outcome is right -/
theorem l_kind (I : IV CB T OL NL DL ST MT pa so ce ar zs ls ks ps an ln le co ca cb cc ss es ec ep et ek ed sz ky lo yc) {q n : Nat} (hq : q < T) (hn : n < NL) :
    ∃ kd dt ST' zs' ls' ks' ps' an', IV CB T OL NL DL ST' MT pa so ce ar zs' ls' ks' ps' an' ln le co ca cb cc ss es ec ep et ek ed sz ky lo yc ∧ AW T ST' pa so zs' ls' ks' ps' n q kd dt
      ∧ (∀ m r, m < 8 → r < T → wo ps' so m r = wo ps so m r ∧ (wl ls' so m r ↔ wl ls so m r))
      ∧ (kd = 4 → ¬ dt = -1 → ∃ s t, so q = nI s ∧ s < ST' ∧ t < ST' ∧ t ≠ 0 ∧ dt = nI t ∧ an' (s * 8 + n) = nI t)
      ∧ (∀ post : Int32 → SX → Prop, post dt (g0, g1, g2, g3, g4, g5, g6, g7, g8, g9, nI OL, nI NL, nI DL, nI T, nI ST', nI MT, fr, la, pa, so, sv, ce, ar, zs', ls', ks', ps', an', ln, le, co, ca, cb, cc, ss, es, ec, ep, et, ek, ed, fm, pc, fd, rg) → wpX_writeDetail post (g0, g1, g2, g3, g4, g5, g6, g7, g8, g9, nI OL, nI NL, nI DL, nI T, nI ST, nI MT, fr, la, pa, so, sv, ce, ar, zs, ls, ks, ps, an, ln, le, co, ca, cb, cc, ss, es, ec, ep, et, ek, ed, fm, pc, fd, rg) kd (nI q) (nI n) (slo (wo ps so n) (hol pa (wo ps so n) 12 (nI q))))
      ∧ (∀ post : Int32 → Prop, post kd → wpX_writeKind post (g0, g1, g2, g3, g4, g5, g6, g7, g8, g9, nI OL, nI NL, nI DL, nI T, nI ST, nI MT, fr, la, pa, so, sv, ce, ar, zs, ls, ks, ps, an, ln, le, co, ca, cb, cc, ss, es, ec, ep, et, ek, ed, fm, pc, fd, rg) (nI q) (nI n) (slo (wo ps so n) (hol pa (wo ps so n) 12 (nI q)))) := by
  have I' := I
  obtain ⟨⟨hTO, hOL, rk, R⟩, ⟨_, hN, _, _⟩, hTR, Q, hA, hE, hC, hCO⟩ := I
  have hT : T ≤ 12 := by omega
  have hho := hol_eq (ow := wo ps so n) R hT hq
  have add : ¬ WK T pa so ls ps n q → wo ps so n q = -1 → ∃ dt ST' zs' ls' ks' ps' an', IV CB T OL NL DL ST' MT pa so ce ar zs' ls' ks' ps' an' ln le co ca cb cc ss es ec ep et ek ed sz ky lo yc ∧ AW T ST' pa so zs' ls' ks' ps' n q 4 dt
      ∧ (∀ m r, m < 8 → r < T → wo ps' so m r = wo ps so m r ∧ (wl ls' so m r ↔ wl ls so m r))
      ∧ (¬ dt = -1 → ∃ s t, so q = nI s ∧ s < ST' ∧ t < ST' ∧ t ≠ 0 ∧ dt = nI t ∧ an' (s * 8 + n) = nI t)
      ∧ (∀ (x : Int32) (post : Int32 → SX → Prop), post dt (g0, g1, g2, g3, g4, g5, g6, g7, g8, g9, nI OL, nI NL, nI DL, nI T, nI ST', nI MT, fr, la, pa, so, sv, ce, ar, zs', ls', ks', ps', an', ln, le, co, ca, cb, cc, ss, es, ec, ep, et, ek, ed, fm, pc, fd, rg) → wpX_writeDetail post (g0, g1, g2, g3, g4, g5, g6, g7, g8, g9, nI OL, nI NL, nI DL, nI T, nI ST, nI MT, fr, la, pa, so, sv, ce, ar, zs, ls, ks, ps, an, ln, le, co, ca, cb, cc, ss, es, ec, ep, et, ek, ed, fm, pc, fd, rg) 4 (nI q) (nI n) x) := by
    intro hW ha
    obtain ⟨s, z, κ, b, h76, eS, hs, X, Y⟩ := Q q hq
    have hb : ps (s * 8 + n) = -1 := by rw [wo_s eS h76] at ha; exact ha
    obtain ⟨dt, ST', zs', ls', ks', ps', an', ⟨t1, t2, t3, t4, t5⟩, hTR', hw⟩ := x_add (g0 := g0) (g1 := g1) (g2 := g2) (g3 := g3) (g4 := g4) (g5 := g5) (g6 := g6) (g7 := g7) (g8 := g8) (g9 := g9) (OL := OL) (NL := NL) (DL := DL) (T := T) (ST := ST) (MT := MT) (fr := fr) (la := la) (pa := pa) (so := so) (sv := sv) (ce := ce) (ar := ar) (zs := zs) (ls := ls) (ks := ks) (ps := ps) (an := an) (ln := ln) (le := le) (co := co) (ca := ca) (cb := cb) (cc := cc) (ss := ss) (es := es) (ec := ec) (ep := ep) (et := et) (ek := ek) (ed := ed) (fm := fm) (pc := pc) (fd := fd) (rg := rg) hTR (n := n) (by omega) (by omega) X hb
    have same : ∀ m r, m < 8 → r < T → wo ps' so m r = wo ps so m r ∧ (wl ls' so m r ↔ wl ls so m r) := by
      intro m r hm hr
      obtain ⟨s2, h2, eS2, hs2⟩ := OQ_so Q hr
      have hse : SE zs ls ks ps zs' ls' ks' ps' s2 s2 := by
        rcases hs2 with h | h
        · exact t2 s2 h
        · exact t3 s2 (by omega)
      rw [wo_s eS2 h2, wo_s eS2 h2, wl_s eS2 h2, wl_s eS2 h2, hse.2.1, (hse.2.2 m hm).2]
      exact ⟨rfl, Iff.rfl⟩
    have hW' : ¬ WK T pa so ls' ps' n q := by
      intro ⟨p, hp, e, w⟩
      rw [hol_loc (ow := wo ps so n) (pa' := pa) (oo := T) R hT (by omega) (fun r hr _ => ⟨rfl, (same n r (by omega) hr).1⟩) 12 (nI q) (Or.inr ⟨q, hq, rfl⟩) (inh_out R hT 12 (nI q) (Or.inr ⟨q, hq, rfl⟩))] at e
      exact hW ⟨p, hp, e, (same n p (by omega) hp).2.mp w⟩
    have iq : vp_in (nI q) 12 := vp_in_nI (by omega) (by omega)
    have cq : (nI q).toNatClampNeg = q := nI_clamp (by omega)
    refine ⟨dt, ST', zs', ls', ks', ps', an', IV_tree I' hTR' t1 t2 t3 t4, Or.inr (Or.inr ⟨rfl, hW', by rw [(same n q (by omega) hq).1]; exact ha, s, h76, eS, ?_⟩), same, fun hd => ?_, fun x post hp => br_f (by decide) (br_t rfl ⟨iq, by rw [cq, eS]; exact hw _ hp⟩)⟩
    · rcases t5 with t5 | ⟨_, t, u1, u2, u3, u4, u5⟩
      · exact Or.inl t5
      · exact Or.inr ⟨t, u1, u3, u5⟩
    · rcases t5 with t5 | ⟨u0, t, u1, u2, u3, u4, u5⟩
      · exact absurd t5 hd
      · exact ⟨s, t, eS, by omega, u1, u2, u3, u4⟩
  rcases hol_vp (ow := wo ps so n) R hT 12 (nI q) (Or.inr ⟨q, hq, rfl⟩) with h | ⟨p, hp, h, h2, _⟩
  · have ha : wo ps so n q = -1 := by
      refine Classical.byContradiction (fun z => ?_)
      rw [hho, if_neg z] at h
      exact zn_m1 (by omega) h
    have hW : ¬ WK T pa so ls ps n q := by
      intro ⟨p, hp, e, _⟩
      rw [h] at e
      exact zn_m1 (by omega) e.symm
    obtain ⟨dt, ST', zs', ls', ks', ps', an', a1, a2, a3, a4, a5⟩ := add hW ha
    rw [h, slo_m1]
    exact ⟨4, dt, ST', zs', ls', ks', ps', an', a1, a2, a3, fun _ => a4, a5 (-1), fun post hp => x_wk_0 hp⟩
  · obtain ⟨i, hi, e⟩ : ∃ i, i < 8 ∧ wo ps so n p = nI i := by
      rcases OQ_wo Q hp (n := n) (by omega) with z | z
      · exact absurd z h2
      · exact z
    obtain ⟨sp, hsp, esp, _⟩ := OQ_so Q hp
    rw [h, slo_i (by omega) e]
    by_cases w : wl ls so n p
    · exact ⟨3, 0, ST, zs, ls, ks, ps, an, I', Or.inl ⟨rfl, p, hp, h, w⟩, fun _ _ _ _ => ⟨rfl, Iff.rfl⟩, fun z => absurd z (by decide), fun post hpp => br_f (by decide) (br_f (by decide) hpp), fun post hpp => x_wk hT hq hp hi esp hsp (fun _ => hpp) (fun z => absurd w z) (fun z => absurd w z)⟩
    · have hW : ¬ WK T pa so ls ps n q := by
        intro ⟨p', hp', e', w'⟩
        have : p' = p := zn_inj (by omega) (by omega) (e'.symm.trans h)
        subst this
        exact w w'
      by_cases hpq : p = q
      · subst hpq
        exact ⟨0, nI i, ST, zs, ls, ks, ps, an, I', Or.inr (Or.inl ⟨rfl, hW, i, hi, e, rfl⟩), fun _ _ _ _ => ⟨rfl, Iff.rfl⟩, fun z => absurd z (by decide), fun post hpp => br_t rfl (by rw [zn_and7 (by omega) hi]; exact hpp), fun post hpp => x_wk hT hq hp hi esp hsp (fun z => absurd z w) (fun _ _ => hpp) (fun _ z => absurd rfl z)⟩
      · have ha : wo ps so n q = -1 := by
          refine Classical.byContradiction (fun z => ?_)
          rw [hho, if_neg z] at h
          exact hpq (zn_inj (by omega) (by omega) h).symm
        obtain ⟨dt, ST', zs', ls', ks', ps', an', a1, a2, a3, a4, a5⟩ := add hW ha
        exact ⟨4, dt, ST', zs', ls', ks', ps', an', a1, a2, a3, fun _ => a4, a5 _, fun post hpp => x_wk hT hq hp hi esp hsp (fun z => absurd z w) (fun _ z => absurd z hpq) (fun _ _ => hpp)⟩
theorem l_set (I : IV CB T OL NL DL ST MT pa so ce ar zs ls ks ps an ln le co ca cb cc ss es ec ep et ek ed sz ky lo yc) (hCB : CB + 1 < 2 ^ 30) (v1 v2 v3 : Int32) :
    ∃ r u' v', (r = 0 ∨ r < 0) ∧ RL (CB + 1) g0 g1 g2 g3 g4 g5 g6 g7 g8 g9 OL NL DL MT fr la le co ca cb cc fm pc fd rg yc u' v' ∧ (∀ post : Int32 → SX → Prop, post r u' → wpX_set post (g0, g1, g2, g3, g4, g5, g6, g7, g8, g9, nI OL, nI NL, nI DL, nI T, nI ST, nI MT, fr, la, pa, so, sv, ce, ar, zs, ls, ks, ps, an, ln, le, co, ca, cb, cc, ss, es, ec, ep, et, ek, ed, fm, pc, fd, rg) v1 v2 v3) ∧ (∀ post : Int32 → SY → Prop, post r v' → wpY_set post (nI OL, nI NL, nI DL, nI T, nI MT, la, pa, sz, ky, sv, lo, le, yc, fm, pc, rg) v1 v2 v3) := by
  have I' := I
  obtain ⟨⟨hTO, hOL, rk, R⟩, ⟨_, hN, _, _⟩, hTR, Q, hA, hE, hC, hCO⟩ := I
  have hT : T ≤ 12 := by omega
  rcases zh_c T (by omega) v1 with h | ⟨q, hq, rfl⟩
  · refine ⟨-2, (g0, g1, g2, g3, g4, g5, g6, g7, g8, g9, nI OL, nI NL, nI DL, nI T, nI ST, nI MT, fr, la, pa, so, sv, ce, ar, zs, ls, ks, ps, an, ln, le, co, ca, cb, cc, ss, es, ec, ep, et, ek, ed, fm, pc, fd, rg), (nI OL, nI NL, nI DL, nI T, nI MT, la, pa, sz, ky, sv, lo, le, yc, fm, pc, rg), Or.inr (by decide), RL_in (IV_up I' (by omega)), fun post hp => ?_, fun post hp => ?_⟩
    · unfold wpX_set
      exact x_ck_o h (br_f (by decide) hp)
    · unfold wpY_set
      exact y_isH_f h (br_t rfl hp)
  rcases zh_c NL (by omega) v2 with h | ⟨n, hn, rfl⟩
  · refine ⟨-3, (g0, g1, g2, g3, g4, g5, g6, g7, g8, g9, nI OL, nI NL, nI DL, nI T, nI ST, nI MT, fr, la, pa, so, sv, ce, ar, zs, ls, ks, ps, an, ln, le, co, ca, cb, cc, ss, es, ec, ep, et, ek, ed, fm, pc, fd, rg), (nI OL, nI NL, nI DL, nI T, nI MT, la, pa, sz, ky, sv, lo, le, yc, fm, pc, rg), Or.inr (by decide), RL_in (IV_up I' (by omega)), fun post hp => ?_, fun post hp => ?_⟩
    · unfold wpX_set
      exact x_ck_n hq hT h (br_f (by decide) hp)
    · unfold wpY_set
      exact y_isH_t hq hT (br_f zn_10n (y_isN_f h (br_t rfl hp)))
  obtain ⟨kd, dt, ST', zs', ls', ks', ps', an', J, hAW, _, _, wD, wKd⟩ := l_kind (g0 := g0) (g1 := g1) (g2 := g2) (g3 := g3) (g4 := g4) (g5 := g5) (g6 := g6) (g7 := g7) (g8 := g8) (g9 := g9) (OL := OL) (NL := NL) (DL := DL) (T := T) (ST := ST) (MT := MT) (fr := fr) (la := la) (pa := pa) (so := so) (sv := sv) (ce := ce) (ar := ar) (zs := zs) (ls := ls) (ks := ks) (ps := ps) (an := an) (ln := ln) (le := le) (co := co) (ca := ca) (cb := cb) (cc := cc) (ss := ss) (es := es) (ec := ec) (ep := ep) (et := et) (ek := ek) (ed := ed) (fm := fm) (pc := pc) (fd := fd) (rg := rg) I' hq hn
  obtain ⟨r, u', v', hr, hRL, wA, wY⟩ := l_apply (g0 := g0) (g1 := g1) (g2 := g2) (g3 := g3) (g4 := g4) (g5 := g5) (g6 := g6) (g7 := g7) (g8 := g8) (g9 := g9) (OL := OL) (NL := NL) (DL := DL) (T := T) (ST := ST') (MT := MT) (fr := fr) (la := la) (pa := pa) (so := so) (sv := sv) (ce := ce) (ar := ar) (zs := zs') (ls := ls') (ks := ks') (ps := ps') (an := an') (ln := ln) (le := le) (co := co) (ca := ca) (cb := cb) (cc := cc) (ss := ss) (es := es) (ec := ec) (ep := ep) (et := et) (ek := ek) (ed := ed) (fm := fm) (pc := pc) (fd := fd) (rg := rg) (v := v3) J hCB hq hn hAW
  refine ⟨r, u', v', hr, hRL, fun post hp => ?_, wY⟩
  unfold wpX_set
  exact x_ck_t hq hT hn hN (br_t rfl (x_find hT (fun q hq => RK_vp R hq) (fun q hq => by obtain ⟨s, a, b, _⟩ := OQ_so Q hq; exact ⟨s, a, b⟩) (by omega) hq (wKd _ (wD _ (wA _ hp)))))
end
end
section
/-! lock and remove -/
def shf (f : Nat → Int32) (base : Nat) : Nat → Nat → (Nat → Int32)
  | _, 0 => f
  | j, d + 1 => shf (upd f (base + j) (f (base + j + 1))) base (j + 1) d
theorem shf_at (base : Nat) : ∀ (d j : Nat) (f : Nat → Int32) (x : Nat), shf f base j d x = if base + j ≤ x ∧ x < base + j + d then f (x + 1) else f x := by
  intro d
  induction d with
  | zero =>
    intro j f x
    rw [if_neg (by omega)]
    rfl
  | succ d ih =>
    intro j f x
    show shf (upd f (base + j) (f (base + j + 1))) base (j + 1) d x = _
    rw [ih]
    by_cases c : base + (j + 1) ≤ x ∧ x < base + (j + 1) + d
    · rw [if_pos c, if_pos (by omega), pk_un (by omega)]
    · rw [if_neg c]
      by_cases e : x = base + j
      · subst e
        rw [pk_us, if_pos (by omega)]
      · rw [pk_un e, if_neg (by omega)]
section
variable {OL NL DL T MT : Nat} {la : Int32} {pa sz ky sv lo le yc fm pc rg : Nat → Int32}
variable {ST : Nat} {so zs ls ks ps : Nat → Int32}
theorem y_lock_t {post : Int32 → SY → Prop} (hT : T ≤ 12) (hN : NL ≤ 8) (Q : OQ T ST so zs ls ks ps sz ky lo) {q n i : Nat} (hq : q < T) (hn : n < NL) (hi : i < 8) (e : wo ps so n q = nI i) (hp : post 0 (nI OL, nI NL, nI DL, nI T, nI MT, la, pa, sz, ky, sv, upd lo (q * 8 + i) 1, le, yc, fm, pc, rg)) : wpY_lock post (nI OL, nI NL, nI DL, nI T, nI MT, la, pa, sz, ky, sv, lo, le, yc, fm, pc, rg) (nI q) (nI n) := by
  unfold wpY_lock
  refine y_isH_t hq hT (br_f zn_10n (y_isN_t hn hN (br_f zn_10n (y_pos hT hN Q hq hn ?_))))
  rw [e]
  exact br_t (nI_pos' (by omega)) ⟨by rw [zn_8]; exact vp_in_nI (by omega) (by omega), nm_r (e' := upd lo (q * 8 + i) 1) (by rw [zn_8, nI_clamp (by omega), zn_b1]) hp⟩
theorem y_rm39 (hT : T ≤ 12) {q z : Nat} (hq : q < T) (hz : z ≤ 8) (ez : sz q = nI z) : ∀ (d j : Nat) (ky sv lo : Nat → Int32), j + d + 1 = z → (∀ i, j ≤ i → i < z → lo (q * 8 + i) = 0 ∨ lo (q * 8 + i) = 1) → ∀ N, d < N → ∀ post : Int32 → SY → Prop, post 0 (nI OL, nI NL, nI DL, nI T, nI MT, la, pa, upd sz q (nI (z - 1)), shf ky (q * 8) j d, shf sv (q * 8) j d, shf lo (q * 8) j d, le, yc, fm, pc, rg) → wY_remove_39 post (nI q) (nI OL) (nI NL) (nI DL) (nI T) (nI MT) la N (nI j) pa sz ky sv lo le yc fm pc rg := by
  have cq : (nI q).toNatClampNeg = q := nI_clamp (by omega)
  have iq : vp_in (nI q) 12 := vp_in_nI (by omega) (by omega)
  intro d
  induction d with
  | zero =>
    intro j ky sv lo hj _ N hN post hp
    obtain ⟨N, rfl⟩ : ∃ N', N = N' + 1 := ⟨N - 1, by omega⟩
    refine ⟨iq, br_t (by rw [cq, ez, nI_1]; exact nI_le (by omega) (by omega)) ⟨iq, iq, nm_r (e' := upd sz q (nI (z - 1))) ?_ hp⟩⟩
    have e2 : nI z - 1 = nI (z - 1) := by
      obtain ⟨y, rfl⟩ : ∃ y, z = y + 1 := ⟨z - 1, by omega⟩
      exact nI_pred y
    rw [cq, ez, e2]
  | succ d ih =>
    intro j ky sv lo hj hlo N hN post hp
    obtain ⟨N, rfl⟩ : ∃ N', N = N' + 1 := ⟨N - 1, by omega⟩
    have e1 : nI q * 8 + nI j = nI (q * 8 + j) := zn_8 q j
    have e2 : nI (q * 8 + j) + 1 = nI (q * 8 + j + 1) := nI_1 _
    have i1 : vp_in (nI (q * 8 + j)) 96 := vp_in_nI (by omega) (by omega)
    have i2 : vp_in (nI (q * 8 + j) + 1) 96 := by rw [e2]; exact vp_in_nI (by omega) (by omega)
    have c1 : (nI (q * 8 + j)).toNatClampNeg = q * 8 + j := nI_clamp (by omega)
    have c2 : (nI (q * 8 + j) + 1).toNatClampNeg = q * 8 + j + 1 := by rw [e2, nI_clamp (by omega)]
    have l1 : vp_nar .boolean (lo (q * 8 + j + 1)) = lo (q * 8 + j + 1) := by
      rcases hlo (j + 1) (by omega) (by omega) with h | h
      · rw [← Nat.add_assoc] at h
        rw [h]; exact zn_b0
      · rw [← Nat.add_assoc] at h
        rw [h]; exact zn_b1
    refine ⟨iq, br_f (by rw [cq, ez, nI_1]; exact nI_ge (by omega) (by omega)) (nm_r (e' := nI (q * 8 + j)) e1 ⟨i2, i1, nm_r (e' := upd ky (q * 8 + j) (ky (q * 8 + j + 1))) (by rw [c1, c2]) ⟨i2, i1, nm_r (e' := upd sv (q * 8 + j) (sv (q * 8 + j + 1))) (by rw [c1, c2]) ⟨i2, i1, nm_r (e' := upd lo (q * 8 + j) (lo (q * 8 + j + 1))) (by rw [c1, c2, l1]) (nm_r (e' := nI (j + 1)) (nI_1 j) (ih (j + 1) _ _ _ (by omega) (fun i hi hi2 => ?_) N (by omega) post hp))⟩⟩⟩)⟩
    rw [pk_un (by omega)]
    exact hlo i (by omega) hi2
theorem y_rm_t {post : Int32 → SY → Prop} (hT : T ≤ 12) (hN : NL ≤ 8) (Q : OQ T ST so zs ls ks ps sz ky lo) {q n i z : Nat} (hq : q < T) (hn : n < NL) (hz : z ≤ 8) (ez : sz q = nI z) (hi : i < z) (e : wo ps so n q = nI i) (hlo : ∀ i, i < z → lo (q * 8 + i) = 0 ∨ lo (q * 8 + i) = 1) (hp : post 0 (nI OL, nI NL, nI DL, nI T, nI MT, la, pa, upd sz q (nI (z - 1)), shf ky (q * 8) i (z - 1 - i), shf sv (q * 8) i (z - 1 - i), shf lo (q * 8) i (z - 1 - i), le, yc, fm, pc, rg)) : wpY_remove post (nI OL, nI NL, nI DL, nI T, nI MT, la, pa, sz, ky, sv, lo, le, yc, fm, pc, rg) (nI q) (nI n) := by
  unfold wpY_remove
  refine y_isH_t hq hT (br_f zn_10n (y_isN_t hn hN (br_f zn_10n (y_pos hT hN Q hq hn ?_))))
  rw [e]
  exact br_t (nI_pos' (by omega)) ⟨z - 1 - i + 1, y_rm39 hT hq hz ez (z - 1 - i) i ky sv lo (by omega) (fun i _ h => hlo i h) _ (by omega) post hp⟩
end
section
variable {OL NL DL T ST MT : Nat} {g0 g1 g2 g3 g4 g5 g6 g7 g8 g9 fr la : Int32} {pa so sv ar zs ls ks ps an ln le co ca cb cc ss es ec ep ek ed fm pc fd rg : Nat → Int32} {ce et : Nat → Int64}
theorem x_cut38 {q n s z : Nat} {κ : Nat → Nat} (hq : q < 12) (hn : n < 8) (hs : s < 76) (hz : z ≤ 8) (hk : ∀ i, i < z → κ i < 8) (hI : ∀ i j, i < z → j < z → κ i = κ j → i = j) : ∀ (d j : Nat) (sv ks ps : Nat → Int32), j + d + 1 = z → (∀ i, j ≤ i → i < z → ks (s * 8 + i) = nI (κ i)) → ∀ N, d < N → ∃ ps', (∀ i, j ≤ i → i + 1 < z → ps' (s * 8 + κ (i + 1)) = nI i) ∧ (∀ x, (∀ i, j ≤ i → i + 1 < z → x ≠ s * 8 + κ (i + 1)) → ps' x = ps x) ∧ ∀ post : SX → Prop, post (g0, g1, g2, g3, g4, g5, g6, g7, g8, g9, nI OL, nI NL, nI DL, nI T, nI ST, nI MT, fr, la, pa, so, shf sv (q * 8) j d, ce, ar, upd zs s (nI (z - 1)), upd ls s (ls s &&& (((1 : Int32) <<< (nI n &&& 31)) ^^^ (-1))), shf ks (s * 8) j d, upd ps' (s * 8 + n) (-1), an, ln, le, co, ca, cb, cc, ss, es, ec, ep, et, ek, ed, fm, pc, fd, rg) → wX_cutSlot_38 post (nI q) (nI n) (nI s) (nI (s * 8)) (nI (z - 1)) g0 g1 g2 g3 g4 g5 g6 g7 g8 g9 (nI OL) (nI NL) (nI DL) (nI T) (nI ST) (nI MT) fr la N (nI j) pa so sv ce ar zs ls ks ps an ln le co ca cb cc ss es ec ep et ek ed fm pc fd rg := by
  have cs : (nI s).toNatClampNeg = s := nI_clamp (by omega)
  have is : vp_in (nI s) 76 := vp_in_nI (by omega) (by omega)
  intro d
  induction d with
  | zero =>
    intro j sv ks ps hj _ N hN
    obtain ⟨N, rfl⟩ : ∃ N', N = N' + 1 := ⟨N - 1, by omega⟩
    have e1 : nI (s * 8) + nI n = nI (s * 8 + n) := nI_add _ _
    exact ⟨ps, fun i h1 h2 => by omega, fun _ _ => rfl, fun post hp => br_t (nI_le (by omega) (by omega)) ⟨by rw [e1]; exact vp_in_nI (by omega) (by omega), nm_r (e' := upd ps (s * 8 + n) (-1)) (by rw [e1, nI_clamp (by omega)]) ⟨is, is, nm_r (e' := upd ls s (ls s &&& (((1 : Int32) <<< (nI n &&& 31)) ^^^ (-1)))) (by rw [cs]) ⟨is, nm_r (e' := upd zs s (nI (z - 1))) (by rw [cs]) hp⟩⟩⟩⟩
  | succ d ih =>
    intro j sv ks ps hj hks N hN
    obtain ⟨N, rfl⟩ : ∃ N', N = N' + 1 := ⟨N - 1, by omega⟩
    have k1 := hk (j + 1) (by omega)
    have e1 : nI (s * 8) + nI j = nI (s * 8 + j) := nI_add _ _
    have e2 : nI (s * 8) + nI j + 1 = nI (s * 8 + j + 1) := by rw [e1, nI_1]
    have e3 : nI (s * 8) + nI (κ (j + 1)) = nI (s * 8 + κ (j + 1)) := nI_add _ _
    have e4 : nI q * 8 + nI j = nI (q * 8 + j) := zn_8 q j
    have e5 : nI q * 8 + nI j + 1 = nI (q * 8 + j + 1) := by rw [e4, nI_1]
    have c1 : (nI (s * 8) + nI j).toNatClampNeg = s * 8 + j := by rw [e1, nI_clamp (by omega)]
    have c2 : (nI (s * 8) + nI j + 1).toNatClampNeg = s * 8 + j + 1 := by rw [e2, nI_clamp (by omega)]
    have c3 : (nI (s * 8) + nI (κ (j + 1))).toNatClampNeg = s * 8 + κ (j + 1) := by rw [e3, nI_clamp (by omega)]
    have c4 : (nI q * 8 + nI j).toNatClampNeg = q * 8 + j := by rw [e4, nI_clamp (by omega)]
    have c5 : (nI q * 8 + nI j + 1).toNatClampNeg = q * 8 + j + 1 := by rw [e5, nI_clamp (by omega)]
    have km : ks (s * 8 + j + 1) = nI (κ (j + 1)) := hks (j + 1) (by omega) (by omega)
    obtain ⟨ps', h1, h2, hw⟩ := ih (j + 1) (upd sv (q * 8 + j) (sv (q * 8 + j + 1))) (upd ks (s * 8 + j) (ks (s * 8 + j + 1))) (upd ps (s * 8 + κ (j + 1)) (nI j)) (by omega) (fun i hi hi2 => by rw [pk_un (by omega)]; exact hks i (by omega) hi2) N (by omega)
    refine ⟨ps', fun i hi hi2 => ?_, fun x hx => ?_, fun post hp => br_f (nI_ge (by omega) (by omega)) ⟨by rw [e2]; exact vp_in_nI (by omega) (by omega), nm_r (e' := nI (κ (j + 1))) (by rw [c2, km]) ⟨by rw [e1]; exact vp_in_nI (by omega) (by omega), nm_r (e' := upd ks (s * 8 + j) (ks (s * 8 + j + 1))) (by rw [c1, km]) ⟨by rw [e3]; exact vp_in_nI (by omega) (by omega), nm_r (e' := upd ps (s * 8 + κ (j + 1)) (nI j)) (by rw [c3]) ⟨by rw [e5]; exact vp_in_nI (by omega) (by omega), by rw [e4]; exact vp_in_nI (by omega) (by omega), nm_r (e' := upd sv (q * 8 + j) (sv (q * 8 + j + 1))) (by rw [c4, c5]) (nm_r (e' := nI (j + 1)) (nI_1 j) (hw post hp))⟩⟩⟩⟩⟩
    · by_cases e : i = j
      · subst e
        rw [h2 (s * 8 + κ (i + 1)) (fun i' g1' g2' z => ?_), pk_us]
        have := hI (i + 1) (i' + 1) (by omega) g2' (by omega)
        omega
      · exact h1 i (by omega) hi2
    · rw [h2 x (fun i g1' g2' => hx i (by omega) g2'), pk_un (hx j (Nat.le_refl _) (by omega))]
end
section
variable {CB OL NL DL T ST MT : Nat} {g0 g1 g2 g3 g4 g5 g6 g7 g8 g9 fr la : Int32} {pa so sv ar zs ls ks ps an ln le co ca cb cc ss es ec ep ek ed fm pc fd rg sz ky lo yc : Nat → Int32} {ce et : Nat → Int64}
theorem l_lock (I : IV CB T OL NL DL ST MT pa so ce ar zs ls ks ps an ln le co ca cb cc ss es ec ep et ek ed sz ky lo yc) (hCB : CB + 1 < 2 ^ 30) (v1 v2 : Int32) :
    ∃ r u' v', (r = 0 ∨ r < 0) ∧ RL (CB + 1) g0 g1 g2 g3 g4 g5 g6 g7 g8 g9 OL NL DL MT fr la le co ca cb cc fm pc fd rg yc u' v' ∧ (∀ post : Int32 → SX → Prop, post r u' → wpX_lock post (g0, g1, g2, g3, g4, g5, g6, g7, g8, g9, nI OL, nI NL, nI DL, nI T, nI ST, nI MT, fr, la, pa, so, sv, ce, ar, zs, ls, ks, ps, an, ln, le, co, ca, cb, cc, ss, es, ec, ep, et, ek, ed, fm, pc, fd, rg) v1 v2) ∧ (∀ post : Int32 → SY → Prop, post r v' → wpY_lock post (nI OL, nI NL, nI DL, nI T, nI MT, la, pa, sz, ky, sv, lo, le, yc, fm, pc, rg) v1 v2) := by
  have I' := I
  obtain ⟨⟨hTO, hOL, rk, R⟩, ⟨_, hN, _, _⟩, hTR, Q, hA, hE, hC, hCO⟩ := I
  have hT : T ≤ 12 := by omega
  rcases zh_c T (by omega) v1 with h | ⟨q, hq, rfl⟩
  · refine ⟨-2, (g0, g1, g2, g3, g4, g5, g6, g7, g8, g9, nI OL, nI NL, nI DL, nI T, nI ST, nI MT, fr, la, pa, so, sv, ce, ar, zs, ls, ks, ps, an, ln, le, co, ca, cb, cc, ss, es, ec, ep, et, ek, ed, fm, pc, fd, rg), (nI OL, nI NL, nI DL, nI T, nI MT, la, pa, sz, ky, sv, lo, le, yc, fm, pc, rg), Or.inr (by decide), RL_in (IV_up I' (by omega)), fun post hp => ?_, fun post hp => ?_⟩
    · unfold wpX_lock
      exact x_cos_o h (br_f (by decide) hp)
    · unfold wpY_lock
      exact y_isH_f h (br_t rfl hp)
  rcases zh_c NL (by omega) v2 with h | ⟨n, hn, rfl⟩
  · refine ⟨-3, (g0, g1, g2, g3, g4, g5, g6, g7, g8, g9, nI OL, nI NL, nI DL, nI T, nI ST, nI MT, fr, la, pa, so, sv, ce, ar, zs, ls, ks, ps, an, ln, le, co, ca, cb, cc, ss, es, ec, ep, et, ek, ed, fm, pc, fd, rg), (nI OL, nI NL, nI DL, nI T, nI MT, la, pa, sz, ky, sv, lo, le, yc, fm, pc, rg), Or.inr (by decide), RL_in (IV_up I' (by omega)), fun post hp => ?_, fun post hp => ?_⟩
    · unfold wpX_lock
      exact x_cos_n hq hT h (br_f (by decide) hp)
    · unfold wpY_lock
      exact y_isH_t hq hT (br_f zn_10n (y_isN_f h (br_t rfl hp)))
  obtain ⟨s, z, κ, b, h76, eS, hs, X, Y⟩ := Q q hq
  have hz := X.1
  have cq : (nI q).toNatClampNeg = q := nI_clamp (by omega)
  have iq : vp_in (nI q) 12 := vp_in_nI (by omega) (by omega)
  rcases RX_at X (m := n) (by omega) with ⟨ha, _, _⟩ | ⟨i, hi, ki, ha⟩
  · have ha' : wo ps so n q = -1 := by rw [wo_s eS h76]; exact ha
    refine ⟨-7, (g0, g1, g2, g3, g4, g5, g6, g7, g8, g9, nI OL, nI NL, nI DL, nI T, nI ST, nI MT, fr, la, pa, so, sv, ce, ar, zs, ls, ks, ps, an, ln, le, co, ca, cb, cc, ss, es, ec, ep, et, ek, ed, fm, pc, fd, rg), (nI OL, nI NL, nI DL, nI T, nI MT, la, pa, sz, ky, sv, lo, le, yc, fm, pc, rg), Or.inr (by decide), RL_in (IV_up I' (by omega)), fun post hp => ?_, fun post hp => ?_⟩
    · unfold wpX_lock
      exact x_cos_f hq hT hn hN eS h76 ha' (br_f (by decide) hp)
    · unfold wpY_lock
      refine y_isH_t hq hT (br_f zn_10n (y_isN_t hn hN (br_f zn_10n (y_pos hT hN Q hq hn ?_))))
      rw [ha']
      exact br_f (by decide) hp
  have ha' : wo ps so n q = nI i := by rw [wo_s eS h76]; exact ha
  have hne : ¬ wo ps so n q = -1 := by rw [ha']; exact zn_m1 (by omega)
  have hne2 : ¬ ps (s * 8 + n) = -1 := by rw [ha]; exact zn_m1 (by omega)
  by_cases w : wl ls so n q
  · have hlo : lo (q * 8 + i) = 1 := by
      rcases OQ_lo Q hq (n := n) (by omega) (by omega) ha' with ⟨_, c⟩ | ⟨c, _⟩
      · exact c
      · exact absurd w c
    refine ⟨0, (g0, g1, g2, g3, g4, g5, g6, g7, g8, g9, nI OL, nI NL, nI DL, nI T, nI ST, nI MT, fr, la, pa, so, sv, ce, ar, zs, ls, ks, ps, an, ln, le, co, ca, cb, cc, ss, es, ec, ep, et, ek, ed, fm, pc, fd, rg), (nI OL, nI NL, nI DL, nI T, nI MT, la, pa, sz, ky, sv, lo, le, yc, fm, pc, rg), Or.inl rfl, RL_in (IV_up I' (by omega)), fun post hp => ?_, fun post hp => y_lock_t hT hN Q hq hn (by omega) ha' (by rw [zn_up hlo]; exact hp)⟩
    unfold wpX_lock
    exact x_cos_t hq hT hn hN eS h76 hne (br_t rfl (x_lk_t hT hq eS h76 w (br_f zn_10n hp)))
  have Y2 : RY sz ky (upd lo (q * 8 + i) 1) q z κ (b ||| ((1 : Int32) <<< (nI n &&& 31))) := RY_lk Y (by omega) hi (fun j hj => (X.2.2.2.1 j hj).1) ki (fun j hj e => RX_inj X hj hi (e.trans ki.symm))
  have hy : ∀ r, r < T → r ≠ q → sz r = sz r ∧ ∀ j, j < 8 → ky (r * 8 + j) = ky (r * 8 + j) ∧ upd lo (q * 8 + i) 1 (r * 8 + j) = lo (r * 8 + j) :=
    fun r _ hne => ⟨rfl, fun j hj => ⟨rfl, pk_un (by omega)⟩⟩
  obtain ⟨dt, ST', zs', ls', ks', ps', ln', ⟨t1, t2, t3, t4⟩, hTR', hw⟩ := x_lkt (g0 := g0) (g1 := g1) (g2 := g2) (g3 := g3) (g4 := g4) (g5 := g5) (g6 := g6) (g7 := g7) (g8 := g8) (g9 := g9) (OL := OL) (NL := NL) (DL := DL) (T := T) (ST := ST) (MT := MT) (fr := fr) (la := la) (pa := pa) (so := so) (sv := sv) (ce := ce) (ar := ar) (zs := zs) (ls := ls) (ks := ks) (ps := ps) (an := an) (ln := ln) (le := le) (co := co) (ca := ca) (cb := cb) (cc := cc) (ss := ss) (es := es) (ec := ec) (ep := ep) (et := et) (ek := ek) (ed := ed) (fm := fm) (pc := pc) (fd := fd) (rg := rg) hTR (n := n) (by omega) (by omega) X hne2
  have J := IV_tree I' hTR' t1 t2 t3 (fun _ _ _ _ _ => rfl)
  have hs' : s < ST' ∨ s = 64 + q := by omega
  have X' : RX zs' ls' ks' ps' s z κ b := by
    rcases hs with h | h
    · exact RX_cg (t2 s h) X
    · exact RX_cg (t3 s (by omega)) X
  have hp8 : ¬ ps' (s * 8 + n) = -1 := by
    rcases hs with h | h
    · rw [((t2 s h).2.2 n (by omega)).2]; exact hne2
    · rw [((t3 s (by omega)).2.2 n (by omega)).2]; exact hne2
  rcases t4 with e | ⟨t0, t, u1, u2, e, u3⟩
  · obtain ⟨zs1, ls1, ks1, ps1, k1, k2, kw⟩ := x_toD (g0 := g0) (g1 := g1) (g2 := g2) (g3 := g3) (g4 := g4) (g5 := g5) (g6 := g6) (g7 := g7) (g8 := g8) (g9 := g9) (OL := OL) (NL := NL) (DL := DL) (T := T) (ST := ST') (MT := MT) (fr := fr) (la := la) (pa := pa) (so := so) (sv := sv) (ce := ce) (ar := ar) (zs := zs') (ls := ls') (ks := ks') (ps := ps') (an := an) (ln := ln') (le := le) (co := co) (ca := ca) (cb := cb) (cc := cc) (ss := ss) (es := es) (ec := ec) (ep := ep) (et := et) (ek := ek) (ed := ed) (fm := fm) (pc := pc) (fd := fd) (rg := rg) hT hTR'.2.1 hq eS hs'
    have X1 : RX zs1 ls1 ks1 ps1 (64 + q) z κ b := RX_cg k1 X'
    have X2 := RX_lk (n := n) X1 (by omega) (by rw [(k1.2.2 n (by omega)).2]; exact hp8)
    have f2 : ∀ r, r ≠ 64 + q → SE zs' ls' ks' ps' zs1 (upd ls1 (64 + q) (b ||| ((1 : Int32) <<< (nI n &&& 31)))) ks1 ps1 r r :=
      fun r hr => SE_trans (k2 r hr) ⟨rfl, pk_un hr, fun i hi => ⟨rfl, rfl⟩⟩
    obtain ⟨ce', ar', B, bw⟩ := x_brk (g0 := g0) (g1 := g1) (g2 := g2) (g3 := g3) (g4 := g4) (g5 := g5) (g6 := g6) (g7 := g7) (g8 := g8) (g9 := g9) (OL := OL) (NL := NL) (DL := DL) (T := T) (ST := ST') (MT := MT) (fr := fr) (la := la) (pa := pa) (so := upd so q (nI (64 + q))) (sv := sv) (ce := ce) (ar := ar) (zs := zs1) (ls := upd ls1 (64 + q) (b ||| ((1 : Int32) <<< (nI n &&& 31)))) (ks := ks1) (ps := ps1) (an := an) (ln := ln') (le := le) (co := co) (ca := ca) (cb := cb) (cc := cc) (ss := ss) (es := es) (ec := ec) (ep := ep) (et := et) (ek := ek) (ed := ed) (fm := fm) (pc := pc) (fd := fd) (rg := rg) hT R hA hq
    have hST' := hTR'.2.1
    refine ⟨0, _, _, Or.inl rfl, RL_in (IV_chg J hCB hq (fun s hs => f2 s (by omega)) (fun s _ _ hne => f2 s hne) hy (by omega) (Or.inr rfl) X2 Y2 B), fun post hp => ?_, fun post hp => y_lock_t hT hN Q hq hn (by omega) ha' hp⟩
    unfold wpX_lock
    refine x_cos_t hq hT hn hN eS h76 hne (br_t rfl (x_lk_f hT hq eS h76 w (br_t rfl ⟨iq, ?_⟩)))
    rw [cq, eS]
    have c64 : (nI (64 + q)).toNatClampNeg = 64 + q := nI_clamp (by omega)
    have i64 : vp_in (upd so q (nI (64 + q)) q) 76 := by rw [pk_us]; exact vp_in_nI (by omega) (by omega)
    refine hw _ (br_t e (kw _ ⟨iq, i64, i64, nm_r (e' := upd ls1 (64 + q) (b ||| ((1 : Int32) <<< (nI n &&& 31)))) (by rw [pk_us, c64, X1.2.2.1]) ?_⟩))
    unfold wX_lock_76
    exact bw _ hp
  · have hST' := hTR'.2.1
    obtain ⟨ce', ar', B, bw⟩ := x_brk (g0 := g0) (g1 := g1) (g2 := g2) (g3 := g3) (g4 := g4) (g5 := g5) (g6 := g6) (g7 := g7) (g8 := g8) (g9 := g9) (OL := OL) (NL := NL) (DL := DL) (T := T) (ST := ST') (MT := MT) (fr := fr) (la := la) (pa := pa) (so := upd so q (nI t)) (sv := sv) (ce := ce) (ar := ar) (zs := zs') (ls := ls') (ks := ks') (ps := ps') (an := an) (ln := ln') (le := le) (co := co) (ca := ca) (cb := cb) (cc := cc) (ss := ss) (es := es) (ec := ec) (ep := ep) (et := et) (ek := ek) (ed := ed) (fm := fm) (pc := pc) (fd := fd) (rg := rg) hT R hA hq
    refine ⟨0, _, _, Or.inl rfl, RL_in (IV_chg J hCB hq (fun _ _ => SE_rfl) (fun _ _ _ _ => SE_rfl) hy (by omega) (Or.inl u1) (u3 z κ b X') Y2 B), fun post hp => ?_, fun post hp => y_lock_t hT hN Q hq hn (by omega) ha' hp⟩
    unfold wpX_lock
    refine x_cos_t hq hT hn hN eS h76 hne (br_t rfl (x_lk_f hT hq eS h76 w (br_t rfl ⟨iq, ?_⟩)))
    rw [cq, eS]
    refine hw _ (br_f (by rw [e]; exact zn_m1 (by omega)) ⟨iq, nm_r (e' := upd so q (nI t)) (by rw [e]) ?_⟩)
    unfold wX_lock_76
    exact bw _ hp
theorem l_remove (I : IV CB T OL NL DL ST MT pa so ce ar zs ls ks ps an ln le co ca cb cc ss es ec ep et ek ed sz ky lo yc) (hCB : CB + 1 < 2 ^ 30) (v1 v2 : Int32) :
    ∃ r u' v', (r = 0 ∨ r < 0) ∧ RL (CB + 1) g0 g1 g2 g3 g4 g5 g6 g7 g8 g9 OL NL DL MT fr la le co ca cb cc fm pc fd rg yc u' v' ∧ (∀ post : Int32 → SX → Prop, post r u' → wpX_remove post (g0, g1, g2, g3, g4, g5, g6, g7, g8, g9, nI OL, nI NL, nI DL, nI T, nI ST, nI MT, fr, la, pa, so, sv, ce, ar, zs, ls, ks, ps, an, ln, le, co, ca, cb, cc, ss, es, ec, ep, et, ek, ed, fm, pc, fd, rg) v1 v2) ∧ (∀ post : Int32 → SY → Prop, post r v' → wpY_remove post (nI OL, nI NL, nI DL, nI T, nI MT, la, pa, sz, ky, sv, lo, le, yc, fm, pc, rg) v1 v2) := by
  have I' := I
  obtain ⟨⟨hTO, hOL, rk, R⟩, ⟨_, hN, _, _⟩, hTR, Q, hA, hE, hC, hCO⟩ := I
  have hT : T ≤ 12 := by omega
  rcases zh_c T (by omega) v1 with h | ⟨q, hq, rfl⟩
  · refine ⟨-2, (g0, g1, g2, g3, g4, g5, g6, g7, g8, g9, nI OL, nI NL, nI DL, nI T, nI ST, nI MT, fr, la, pa, so, sv, ce, ar, zs, ls, ks, ps, an, ln, le, co, ca, cb, cc, ss, es, ec, ep, et, ek, ed, fm, pc, fd, rg), (nI OL, nI NL, nI DL, nI T, nI MT, la, pa, sz, ky, sv, lo, le, yc, fm, pc, rg), Or.inr (by decide), RL_in (IV_up I' (by omega)), fun post hp => ?_, fun post hp => ?_⟩
    · unfold wpX_remove
      exact x_cos_o h (br_f (by decide) hp)
    · unfold wpY_remove
      exact y_isH_f h (br_t rfl hp)
  rcases zh_c NL (by omega) v2 with h | ⟨n, hn, rfl⟩
  · refine ⟨-3, (g0, g1, g2, g3, g4, g5, g6, g7, g8, g9, nI OL, nI NL, nI DL, nI T, nI ST, nI MT, fr, la, pa, so, sv, ce, ar, zs, ls, ks, ps, an, ln, le, co, ca, cb, cc, ss, es, ec, ep, et, ek, ed, fm, pc, fd, rg), (nI OL, nI NL, nI DL, nI T, nI MT, la, pa, sz, ky, sv, lo, le, yc, fm, pc, rg), Or.inr (by decide), RL_in (IV_up I' (by omega)), fun post hp => ?_, fun post hp => ?_⟩
    · unfold wpX_remove
      exact x_cos_n hq hT h (br_f (by decide) hp)
    · unfold wpY_remove
      exact y_isH_t hq hT (br_f zn_10n (y_isN_f h (br_t rfl hp)))
  obtain ⟨s, z, κ, b, h76, eS, hs, X, Y⟩ := Q q hq
  have hz := X.1
  have cq : (nI q).toNatClampNeg = q := nI_clamp (by omega)
  have iq : vp_in (nI q) 12 := vp_in_nI (by omega) (by omega)
  rcases RX_at X (m := n) (by omega) with ⟨ha, _, _⟩ | ⟨p, hp8, kp, ha⟩
  · have ha' : wo ps so n q = -1 := by rw [wo_s eS h76]; exact ha
    refine ⟨-7, (g0, g1, g2, g3, g4, g5, g6, g7, g8, g9, nI OL, nI NL, nI DL, nI T, nI ST, nI MT, fr, la, pa, so, sv, ce, ar, zs, ls, ks, ps, an, ln, le, co, ca, cb, cc, ss, es, ec, ep, et, ek, ed, fm, pc, fd, rg), (nI OL, nI NL, nI DL, nI T, nI MT, la, pa, sz, ky, sv, lo, le, yc, fm, pc, rg), Or.inr (by decide), RL_in (IV_up I' (by omega)), fun post hp => ?_, fun post hp => ?_⟩
    · unfold wpX_remove
      exact x_cos_f hq hT hn hN eS h76 ha' (br_f (by decide) hp)
    · unfold wpY_remove
      refine y_isH_t hq hT (br_f zn_10n (y_isN_t hn hN (br_f zn_10n (y_pos hT hN Q hq hn ?_))))
      rw [ha']
      exact br_f (by decide) hp
  have ha' : wo ps so n q = nI p := by rw [wo_s eS h76]; exact ha
  have hne : ¬ wo ps so n q = -1 := by rw [ha']; exact zn_m1 (by omega)
  have hST := hTR.2.1
  have hlo : ∀ i, i < z → lo (q * 8 + i) = 0 ∨ lo (q * 8 + i) = 1 := by
    intro i hi
    rcases (Y.2 i hi).2 with ⟨_, c⟩ | ⟨_, c⟩
    · exact Or.inr c
    · exact Or.inl c
  have hk : ∀ i, i < z → κ i < 8 := fun i hi => (X.2.2.2.1 i hi).1
  have hI : ∀ i j, i < z → j < z → κ i = κ j → i = j := fun i j hi hj e => RX_inj X hi hj e
  obtain ⟨zs1, ls1, ks1, ps1, k1, k2, kw⟩ := x_toD (g0 := g0) (g1 := g1) (g2 := g2) (g3 := g3) (g4 := g4) (g5 := g5) (g6 := g6) (g7 := g7) (g8 := g8) (g9 := g9) (OL := OL) (NL := NL) (DL := DL) (T := T) (ST := ST) (MT := MT) (fr := fr) (la := la) (pa := pa) (so := so) (sv := sv) (ce := ce) (ar := ar) (zs := zs) (ls := ls) (ks := ks) (ps := ps) (an := an) (ln := ln) (le := le) (co := co) (ca := ca) (cb := cb) (cc := cc) (ss := ss) (es := es) (ec := ec) (ep := ep) (et := et) (ek := ek) (ed := ed) (fm := fm) (pc := pc) (fd := fd) (rg := rg) hT hST hq eS hs
  have X1 : RX zs1 ls1 ks1 ps1 (64 + q) z κ b := RX_cg k1 X
  obtain ⟨ps2, c1, c2, cw⟩ := x_cut38 (g0 := g0) (g1 := g1) (g2 := g2) (g3 := g3) (g4 := g4) (g5 := g5) (g6 := g6) (g7 := g7) (g8 := g8) (g9 := g9) (OL := OL) (NL := NL) (DL := DL) (T := T) (ST := ST) (MT := MT) (fr := fr) (la := la) (pa := pa) (so := upd so q (nI (64 + q))) (ce := ce) (ar := ar) (zs := zs1) (ls := ls1) (an := an) (ln := ln) (le := le) (co := co) (ca := ca) (cb := cb) (cc := cc) (ss := ss) (es := es) (ec := ec) (ep := ep) (et := et) (ek := ek) (ed := ed) (fm := fm) (pc := pc) (fd := fd) (rg := rg) (q := q) (n := n) (s := 64 + q) (by omega) (by omega) (by omega) hz hk hI (z - 1 - p) p sv ks1 ps1 (by omega) (fun i _ hi => (X1.2.2.2.1 i hi).2.1) (z - 1 - p + 1) (by omega)
  subst kp
  have X2 := RX_rm (ks' := shf ks1 ((64 + q) * 8) p (z - 1 - p)) (ps' := ps2) X1 hp8 (fun i hi => by
    rw [shf_at]
    by_cases d : p ≤ i ∧ i + 1 < z
    · rw [if_pos d, if_pos (by omega)]
    · rw [if_neg d, if_neg (by omega)]) c1 (fun m hm h => c2 _ (fun i hi hi2 e => h i hi hi2 (by omega)))
  have Y2 := RY_rm (ky' := shf ky (q * 8) p (z - 1 - p)) (lo' := shf lo (q * 8) p (z - 1 - p)) Y hp8 hz hk hI (fun i hi => by
    rw [shf_at]
    by_cases d : p ≤ i ∧ i + 1 < z
    · rw [if_pos d, if_pos (by omega)]
    · rw [if_neg d, if_neg (by omega)]) (fun i hi => by
    rw [shf_at]
    by_cases d : p ≤ i ∧ i + 1 < z
    · rw [if_pos d, if_pos (by omega)]
    · rw [if_neg d, if_neg (by omega)])
  have hy : ∀ r, r < T → r ≠ q → upd sz q (nI (z - 1)) r = sz r ∧ ∀ j, j < 8 → shf ky (q * 8) p (z - 1 - p) (r * 8 + j) = ky (r * 8 + j) ∧ shf lo (q * 8) p (z - 1 - p) (r * 8 + j) = lo (r * 8 + j) :=
    fun r _ hne => ⟨pk_un hne, fun j hj => ⟨by rw [shf_at, if_neg (by omega)], by rw [shf_at, if_neg (by omega)]⟩⟩
  have f2 : ∀ r, r ≠ 64 + q → SE zs ls ks ps (upd zs1 (64 + q) (nI (z - 1))) (upd ls1 (64 + q) (b &&& (((1 : Int32) <<< (nI (κ p) &&& 31)) ^^^ (-1)))) (shf ks1 ((64 + q) * 8) p (z - 1 - p)) (upd ps2 ((64 + q) * 8 + κ p) (-1)) r r := by
    intro r hr
    refine SE_trans (k2 r hr) ⟨pk_un hr, pk_un hr, fun i hi => ⟨by rw [shf_at, if_neg (by omega)], ?_⟩⟩
    have := hk p hp8
    rw [pk_un (by omega)]
    refine c2 _ (fun j _ hj e => ?_)
    have := hk (j + 1) hj
    omega
  have c64 : (nI (64 + q)).toNatClampNeg = 64 + q := nI_clamp (by omega)
  have i64 : vp_in (nI (64 + q)) 76 := vp_in_nI (by omega) (by omega)
  have e5 : nI (64 + q) * 8 = nI ((64 + q) * 8) := by rw [show (8 : Int32) = nI 8 from rfl, pk_mul]
  have e6 : nI ((64 + q) * 8) + nI (κ p) = nI ((64 + q) * 8 + κ p) := nI_add _ _
  have hkp := hk p hp8
  have e7 : nI z - 1 = nI (z - 1) := by
    obtain ⟨y, rfl⟩ : ∃ y, z = y + 1 := ⟨z - 1, by omega⟩
    exact nI_pred y
  have e8 : ps1 ((64 + q) * 8 + κ p) = nI p := (X1.2.2.2.1 p hp8).2.2
  -- the walk up to the test of the size
  have cut : ∀ post : SX → Prop, post (g0, g1, g2, g3, g4, g5, g6, g7, g8, g9, nI OL, nI NL, nI DL, nI T, nI ST, nI MT, fr, la, pa, upd so q (nI (64 + q)), shf sv (q * 8) p (z - 1 - p), ce, ar, upd zs1 (64 + q) (nI (z - 1)), upd ls1 (64 + q) (b &&& (((1 : Int32) <<< (nI (κ p) &&& 31)) ^^^ (-1))), shf ks1 ((64 + q) * 8) p (z - 1 - p), upd ps2 ((64 + q) * 8 + κ p) (-1), an, ln, le, co, ca, cb, cc, ss, es, ec, ep, et, ek, ed, fm, pc, fd, rg) → wpX_cutSlot post (g0, g1, g2, g3, g4, g5, g6, g7, g8, g9, nI OL, nI NL, nI DL, nI T, nI ST, nI MT, fr, la, pa, upd so q (nI (64 + q)), sv, ce, ar, zs1, ls1, ks1, ps1, an, ln, le, co, ca, cb, cc, ss, es, ec, ep, et, ek, ed, fm, pc, fd, rg) (nI q) (nI (κ p)) := by
    intro post hp
    rw [← X1.2.2.1] at hp
    exact ⟨iq, nm_r (e' := nI (64 + q)) (by rw [cq, pk_us]) (nm_r (e' := nI ((64 + q) * 8)) e5 ⟨by rw [e6]; exact vp_in_nI (by omega) (by omega), nm_r (e' := nI p) (by rw [e6, nI_clamp (by omega), e8]) ⟨i64, nm_r (e' := nI (z - 1)) (by rw [c64, X1.2.1, e7]) ⟨_, cw post hp⟩⟩⟩)⟩
  have iS : vp_in (upd so q (nI (64 + q)) (nI q).toNatClampNeg) 76 := by rw [cq, pk_us]; exact i64
  have eZ : upd zs1 (64 + q) (nI (z - 1)) (upd so q (nI (64 + q)) (nI q).toNatClampNeg).toNatClampNeg = nI (z - 1) := by rw [cq, pk_us, c64, pk_us]
  by_cases z1 : z = 1
  · have eZ0 : nI (z - 1) = 0 := by rw [z1]; rfl
    have eso : upd (upd so q (nI (64 + q))) q 0 = upd so q (nI 0) := by
      funext j
      unfold upd
      by_cases e : j = q
      · rw [if_pos e, if_pos e]; rfl
      · rw [if_neg e, if_neg e, if_neg e]
    obtain ⟨z0, κ0, b0, X0⟩ := hTR.2.2.1 0 (by have := hTR.1; omega)
    have ez0 : z0 = 0 := zn_inj (b := 0) (by have := X0.1; omega) (by omega) (X0.2.1.symm.trans hTR.2.2.2.1)
    subst ez0
    have X0' := RX_cg (f2 0 (by omega)) X0
    have Y0 : RY (upd sz q (nI (z - 1))) (shf ky (q * 8) p (z - 1 - p)) (shf lo (q * 8) p (z - 1 - p)) q 0 κ0 b0 := ⟨by rw [pk_us, z1], fun i hi => by omega⟩
    obtain ⟨ce', ar', B, bw⟩ := x_brk (g0 := g0) (g1 := g1) (g2 := g2) (g3 := g3) (g4 := g4) (g5 := g5) (g6 := g6) (g7 := g7) (g8 := g8) (g9 := g9) (OL := OL) (NL := NL) (DL := DL) (T := T) (ST := ST) (MT := MT) (fr := fr) (la := la) (pa := pa) (so := upd so q (nI 0)) (sv := shf sv (q * 8) p (z - 1 - p)) (ce := ce) (ar := ar) (zs := upd zs1 (64 + q) (nI (z - 1))) (ls := upd ls1 (64 + q) (b &&& (((1 : Int32) <<< (nI (κ p) &&& 31)) ^^^ (-1)))) (ks := shf ks1 ((64 + q) * 8) p (z - 1 - p)) (ps := upd ps2 ((64 + q) * 8 + κ p) (-1)) (an := an) (ln := ln) (le := le) (co := co) (ca := ca) (cb := cb) (cc := cc) (ss := ss) (es := es) (ec := ec) (ep := ep) (et := et) (ek := ek) (ed := ed) (fm := fm) (pc := pc) (fd := fd) (rg := rg) hT R hA hq
    refine ⟨0, _, _, Or.inl rfl, RL_in (IV_chg I' hCB hq (fun s hs => f2 s (by omega)) (fun s _ _ hne => f2 s hne) hy (by omega) (Or.inl (by have := hTR.1; omega)) X0' Y0 B), fun post hp => ?_, fun post hp => y_rm_t hT hN Q hq hn hz Y.1 hp8 ha' hlo hp⟩
    unfold wpX_remove
    refine x_cos_t hq hT hn hN eS h76 hne (br_t rfl (kw _ (cut _ ⟨iq, iS, br_t (by rw [eZ]; exact eZ0) ⟨iq, nm_r (e' := upd so q (nI 0)) (by rw [cq, eso]) ?_⟩⟩)))
    unfold wX_remove_45
    exact bw _ hp
  · obtain ⟨ce', ar', B, bw⟩ := x_brk (g0 := g0) (g1 := g1) (g2 := g2) (g3 := g3) (g4 := g4) (g5 := g5) (g6 := g6) (g7 := g7) (g8 := g8) (g9 := g9) (OL := OL) (NL := NL) (DL := DL) (T := T) (ST := ST) (MT := MT) (fr := fr) (la := la) (pa := pa) (so := upd so q (nI (64 + q))) (sv := shf sv (q * 8) p (z - 1 - p)) (ce := ce) (ar := ar) (zs := upd zs1 (64 + q) (nI (z - 1))) (ls := upd ls1 (64 + q) (b &&& (((1 : Int32) <<< (nI (κ p) &&& 31)) ^^^ (-1)))) (ks := shf ks1 ((64 + q) * 8) p (z - 1 - p)) (ps := upd ps2 ((64 + q) * 8 + κ p) (-1)) (an := an) (ln := ln) (le := le) (co := co) (ca := ca) (cb := cb) (cc := cc) (ss := ss) (es := es) (ec := ec) (ep := ep) (et := et) (ek := ek) (ed := ed) (fm := fm) (pc := pc) (fd := fd) (rg := rg) hT R hA hq
    refine ⟨0, _, _, Or.inl rfl, RL_in (IV_chg I' hCB hq (fun s hs => f2 s (by omega)) (fun s _ _ hne => f2 s hne) hy (by omega) (Or.inr rfl) X2 Y2 B), fun post hp => ?_, fun post hp => y_rm_t hT hN Q hq hn hz Y.1 hp8 ha' hlo hp⟩
    unfold wpX_remove
    refine x_cos_t hq hT hn hN eS h76 hne (br_t rfl (kw _ (cut _ ⟨iq, iS, br_f (by rw [eZ]; exact nI_ne0 (by omega) (by omega)) ?_⟩)))
    unfold wX_remove_45
    exact bw _ hp
end
end
section
/-! siteWrite is the reference's set -/
section
variable {CB OL NL DL T ST MT : Nat} {g0 g1 g2 g3 g4 g5 g6 g7 g8 g9 fr la : Int32} {pa so sv ar zs ls ks ps an ln le co ca cb cc ss es ec ep ek ed fm pc fd rg sz ky lo yc : Nat → Int32} {ce et : Nat → Int64}
/-- a remembered write is right now -/
theorem AW_hit (I : IV CB T OL NL DL ST MT pa so ce ar zs ls ks ps an ln le co ca cb cc ss es ec ep et ek ed sz ky lo yc) {a q n i st : Nat} (ha : a < 60) (hq : q < T) (hn : n < NL) (hop : co a = nI 7) (hcc : cc a = nI n) (hi : i < 4) (e5 : ss a = nI st) (st5 : st ≤ 5) (his : i < st) (g1' : es (a * 4 + i) = so q) (g2' : ec (a * 4 + i) = 0 ∨ (ep (a * 4 + i) = pa q ∧ LE ec ep et ce (a * 4 + i))) : AW T ST pa so zs ls ks ps n q (ek (a * 4 + i)) (ed (a * 4 + i)) := by
  obtain ⟨⟨hTO, hOL, rk, R⟩, ⟨_, hN, _, _⟩, hTR, Q, hA, hE, hC, hCO⟩ := I
  have hT : T ≤ 12 := by omega
  have hST := hTR.2.1
  obtain ⟨s, h76, eS, hs⟩ := OQ_so Q hq
  have hwo : wo ps so n q = ps (s * 8 + n) := wo_s eS h76
  have hwl : wl ls so n q ↔ lb (ls s) n := wl_s eS h76
  have hho := hol_eq (ow := wo ps so n) R hT hq
  obtain ⟨st2, _, e52, _, op', n', h1, h2, h3, h4, h8⟩ := hC a ha
  have hst2 : st2 = st := zn_inj (by omega) (by omega) (e52.symm.trans e5)
  obtain ⟨s', hs', k1, K⟩ := h8 i (by omega) hi
  have hop' : op' = 7 := zn_inj (by omega) (by omega) (h3.symm.trans hop)
  have hn' : n' = n := zn_inj (by omega) (by omega) (h4.symm.trans hcc)
  subst hop' hn'
  have hss : s' = s := zn_inj (by omega) (by omega) (k1.symm.trans (g1'.trans eS))
  subst hss
  rcases K with ⟨k2, i0, hi0, k3, K⟩ | ⟨k2, k3, K⟩
  · have hq1 : hol pa (wo ps so n') 12 (nI q) = nI q := by rw [hho, hwo, if_neg (by rw [k3]; exact zn_m1 (by omega))]
    rcases K with ⟨k4, k5, k6⟩ | ⟨_, k4, k5⟩
    · refine Or.inr (Or.inl ⟨k4, ?_, i0, hi0, hwo.trans k3, k5⟩)
      intro ⟨p, hp, e, w⟩
      have : p = q := zn_inj (by omega) (by omega) (e.symm.trans hq1)
      subst this
      exact k6 rfl (hwl.mp w)
    · exact Or.inl ⟨k4, q, hq, hq1, hwl.mpr k5⟩
  · have hpar : hol pa (wo ps so n') 12 (nI q) = hol pa (wo ps so n') 12 (pa q) := by rw [hho, if_pos (hwo.trans k3)]
    have hep : ep (a * 4 + i) = pa q ∧ LE ec ep et ce (a * 4 + i) := by
      rcases g2' with g | g
      · rw [k2] at g
        exact absurd g zn_10n
      · exact g
    have hoc : OC T ST so ls ps an 7 n' s' (hol pa (wo ps so n') 12 (pa q)) (ek (a * 4 + i)) (ed (a * 4 + i)) := by
      rcases K with ⟨k4, k5⟩ | ⟨p, c, d, k4, k5, k6, k7, k8, k9, k10⟩
      · rw [← hep.1, k4, hol_m1]; exact k5
      · rw [← hep.1, k5]
        refine (k10 ?_).2
        rcases hep.2 with z | z | ⟨p', z1, z2, z3⟩
        · rw [k2] at z
          exact absurd z zn_10n
        · rw [k5] at z
          exact absurd z (zn_m1 (by omega))
        · have : p' = p := zn_inj (by omega) (by omega) (z2.symm.trans k5)
          subst this
          rw [k7, k6] at z3
          exact (lN_eq (by omega) (by omega)).mp z3
    rcases hoc with ⟨o, _⟩ | ⟨_, o⟩
    · exact absurd rfl o
    · rcases o with ⟨p, o1, o2, o3, o4⟩ | ⟨o1, o2, t, o3, o4, o5, o6⟩
      · exact Or.inl ⟨o4, p, o1, hpar.trans o2, o3⟩
      · refine Or.inr (Or.inr ⟨o2, ?_, hwo.trans k3, s', h76, eS, Or.inr ⟨t, o3, o6, ?_⟩⟩)
        · intro ⟨p, hp, e, w⟩
          rw [hpar] at e
          rcases o1 with o1 | ⟨p', c1, c2, c3⟩
          · rw [e] at o1
            exact zn_m1 (by omega) o1
          · have : p' = p := zn_inj (by omega) (by omega) (c2.symm.trans e)
            subst this
            exact c3 w
        · rcases hTR.2.2.2.2.1 s' n' (by omega) (by omega) with z | ⟨_, t', z1, z2, z3, z4⟩
          · rw [o5] at z
            exact absurd z (nI_ne0 (by omega) (by omega))
          · have : t' = t := zn_inj (by omega) (by omega) (z3.symm.trans o5)
            subst this
            exact z4
/-- what a write would remember is right -/
theorem EI_of_AW (I : IV CB T OL NL DL ST MT pa so ce ar zs ls ks ps an ln le co ca cb cc ss es ec ep et ek ed sz ky lo yc) (hCB : CB < 2 ^ 30) {a q n s : Nat} {kd dt : Int32} (hq : q < T) (hn : n < NL) (hop : co a = nI 7) (hcc : cc a = nI n) (eS : so q = nI s) (h76 : s < 76) (H : AW T ST pa so zs ls ks ps n q kd dt) (h4 : kd = 4 → ∃ t, t < ST ∧ t ≠ 0 ∧ dt = nI t ∧ an (s * 8 + n) = nI t) {ch : Int32} (hch : (ch = 1 ∧ wo ps so n q = -1) ∨ (ch = 0 ∧ ¬ wo ps so n q = -1)) (hsT : s < ST) (ar' : Nat → Int32) (st : Int64) (hst : ch = 1 → ∀ p, p < T → pa q = nI p → ¬ ar' p = 0 ∧ st = ce p) (op' n' : Nat) (h1 : op' ≤ 12) (h2 : n' < 8) (h3 : co a = nI op') (h4' : cc a = nI n') : EI T ST pa so ce ar' ls ps an op' n' (nI s) ch (pa q) st kd dt := by
  obtain ⟨⟨hTO, hOL, rk, R⟩, ⟨_, hN, _, _⟩, hTR, Q, hA, hE, hC, hCO⟩ := I
  have hT : T ≤ 12 := by omega
  have hST := hTR.2.1
  have hop' : op' = 7 := zn_inj (by omega) (by omega) (h3.symm.trans hop)
  have hn' : n' = n := zn_inj (by omega) (by omega) (h4'.symm.trans hcc)
  subst hop' hn'
  have hwo : wo ps so n' q = ps (s * 8 + n') := wo_s eS h76
  have hwl : wl ls so n' q ↔ lb (ls s) n' := wl_s eS h76
  have hho := hol_eq (ow := wo ps so n') R hT hq
  refine ⟨s, hsT, rfl, ?_⟩
  rcases hch with ⟨rfl, hw⟩ | ⟨rfl, hw⟩
  · refine Or.inr ⟨rfl, hwo.symm.trans hw, ?_⟩
    have hpar : hol pa (wo ps so n') 12 (nI q) = hol pa (wo ps so n') 12 (pa q) := by rw [hho, if_pos hw]
    have hoc : OC T ST so ls ps an 7 n' s (hol pa (wo ps so n') 12 (pa q)) kd dt := by
      rcases H with ⟨e, p, hp, e2, w⟩ | ⟨e, w, i, hi, e2, _⟩ | ⟨e, w, _, _⟩
      · exact Or.inr ⟨rfl, Or.inl ⟨p, hp, hpar.symm.trans e2, w, e⟩⟩
      · rw [hw] at e2
        exact absurd e2.symm (zn_m1 (by omega))
      · obtain ⟨t, t1, t2, t3, t4⟩ := h4 e
        refine Or.inr ⟨rfl, Or.inr ⟨?_, e, t, t1, t2, t4, t3⟩⟩
        rw [← hpar]
        rcases hol_vp (ow := wo ps so n') R hT 12 (nI q) (Or.inr ⟨q, hq, rfl⟩) with z | ⟨p, hp, z, _, _⟩
        · exact Or.inl z
        · exact Or.inr ⟨p, hp, z, fun y => w ⟨p, hp, z, y⟩⟩
    rcases RK_vp R hq with h | ⟨p, hp, h⟩
    · rw [h, hol_m1] at hoc
      exact Or.inl ⟨h, hoc⟩
    · obtain ⟨c, hc, e⟩ := hE p
      rw [h] at hoc
      obtain ⟨k1, k2⟩ := hst rfl p hp h
      exact Or.inr ⟨p, c, c, hp, h, e, by rw [k2, e], Nat.le_refl _, by omega, fun _ => ⟨k1, hoc⟩⟩
  · have hq1 : hol pa (wo ps so n') 12 (nI q) = nI q := by rw [hho, if_neg hw]
    obtain ⟨i, hi, ei⟩ : ∃ i, i < 8 ∧ wo ps so n' q = nI i := by
      rcases OQ_wo Q hq (n := n') (by omega) with z | z
      · exact absurd z hw
      · exact z
    refine Or.inl ⟨rfl, i, hi, hwo.symm.trans ei, ?_⟩
    rcases H with ⟨e, p, hp, e2, w⟩ | ⟨e, w, i', hi', e2, e3⟩ | ⟨e, w, e2, _⟩
    · have : p = q := zn_inj (by omega) (by omega) (e2.symm.trans hq1)
      subst this
      exact Or.inr ⟨rfl, e, hwl.mp w⟩
    · have : i' = i := zn_inj (by omega) (by omega) (e2.symm.trans ei)
      subst this
      exact Or.inl ⟨e, e3, fun _ y => w ⟨q, hq, hq1, hwl.mpr y⟩⟩
    · exact absurd e2 hw
theorem l_sw (I : IV CB T OL NL DL ST MT pa so ce ar zs ls ks ps an ln le co ca cb cc ss es ec ep et ek ed sz ky lo yc) (hCB : CB + 1 < 2 ^ 30) {a n : Nat} (hem : EM MT le a) (ha : a < 60) (hn : n < NL) (hop : co a = nI 7) (hcc : cc a = nI n) (o v : Int32) :
    ∃ r u' v', (r = 0 ∨ r < 0) ∧ RL (CB + 1) g0 g1 g2 g3 g4 g5 g6 g7 g8 g9 OL NL DL MT fr la le co ca cb cc fm pc fd rg yc u' v' ∧ (∀ post : Int32 → SX → Prop, post r u' → wpX_siteWrite post (g0, g1, g2, g3, g4, g5, g6, g7, g8, g9, nI OL, nI NL, nI DL, nI T, nI ST, nI MT, fr, la, pa, so, sv, ce, ar, zs, ls, ks, ps, an, ln, le, co, ca, cb, cc, ss, es, ec, ep, et, ek, ed, fm, pc, fd, rg) (nI a) o v) ∧ (∀ post : Int32 → SY → Prop, post r v' → wpY_set post (nI OL, nI NL, nI DL, nI T, nI MT, la, pa, sz, ky, sv, lo, le, yc, fm, pc, rg) o (nI n) v) := by
  have I' := I
  obtain ⟨⟨hTO, hOL, rk, R⟩, ⟨_, hN, _, _⟩, hTR, Q, hA, hE, hC, hCO⟩ := I
  have hT : T ≤ 12 := by omega
  rcases zh_c T (by omega) o with h | ⟨q, hq, rfl⟩
  · refine ⟨-2, (g0, g1, g2, g3, g4, g5, g6, g7, g8, g9, nI OL, nI NL, nI DL, nI T, nI ST, nI MT, fr, la, pa, so, sv, ce, ar, zs, ls, ks, ps, an, ln, le, co, ca, cb, cc, ss, es, ec, ep, et, ek, ed, fm, pc, fd, rg), (nI OL, nI NL, nI DL, nI T, nI MT, la, pa, sz, ky, sv, lo, le, yc, fm, pc, rg), Or.inr (by decide), RL_in (IV_up I' (by omega)), fun post hp => ?_, fun post hp => ?_⟩
    · unfold wpX_siteWrite
      exact x_isH_f h (br_t rfl hp)
    · unfold wpY_set
      exact y_isH_f h (br_t rfl hp)
  obtain ⟨st, st5, e5, hV⟩ := CA_ve hC hT ha
  obtain ⟨r, hr, hw⟩ := x_probe (g0 := g0) (g1 := g1) (g2 := g2) (g3 := g3) (g4 := g4) (g5 := g5) (g6 := g6) (g7 := g7) (g8 := g8) (g9 := g9) (OL := OL) (NL := NL) (DL := DL) (T := T) (ST := ST) (MT := MT) (fr := fr) (la := la) (pa := pa) (so := so) (sv := sv) (ce := ce) (ar := ar) (zs := zs) (ls := ls) (ks := ks) (ps := ps) (an := an) (ln := ln) (le := le) (co := co) (ca := ca) (cb := cb) (cc := cc) (ss := ss) (es := es) (ec := ec) (ep := ep) (et := et) (ek := ek) (ed := ed) (fm := fm) (pc := pc) (fd := fd) (rg := rg) hT hq ha st5 e5 hV
  have cA : (nI a).toNatClampNeg = a := nI_clamp (by omega)
  have iA : vp_in (nI a) 60 := vp_in_nI ha (by omega)
  rcases hr with rfl | ⟨i, st1, hi, e51, st15, his, rfl, q1, q2⟩
  · -- a miss
    obtain ⟨kd, dt, ST', zs', ls', ks', ps', an', J, hAW, same, h4, wD, wKd⟩ := l_kind (g0 := g0) (g1 := g1) (g2 := g2) (g3 := g3) (g4 := g4) (g5 := g5) (g6 := g6) (g7 := g7) (g8 := g8) (g9 := g9) (OL := OL) (NL := NL) (DL := DL) (T := T) (ST := ST) (MT := MT) (fr := fr) (la := la) (pa := pa) (so := so) (sv := sv) (ce := ce) (ar := ar) (zs := zs) (ls := ls) (ks := ks) (ps := ps) (an := an) (ln := ln) (le := le) (co := co) (ca := ca) (cb := cb) (cc := cc) (ss := ss) (es := es) (ec := ec) (ep := ep) (et := et) (ek := ek) (ed := ed) (fm := fm) (pc := pc) (fd := fd) (rg := rg) I' hq hn
    have find : ∀ post : Int32 → Prop, post (slo (wo ps so n) (hol pa (wo ps so n) 12 (nI q))) → wpX_findSlot post (g0, g1, g2, g3, g4, g5, g6, g7, g8, g9, nI OL, nI NL, nI DL, nI T, nI ST, nI MT, fr, la, pa, so, sv, ce, ar, zs, ls, ks, ps, an, ln, le, co, ca, cb, cc, ss, es, ec, ep, et, ek, ed, fm, pc, fd, rg) (nI q) (nI n) := fun post hp => x_find hT (fun q hq => RK_vp R hq) (fun q hq => by obtain ⟨s, a, b, _⟩ := OQ_so Q hq; exact ⟨s, a, b⟩) (by omega) hq hp
    by_cases hd : dt = -1
    · obtain ⟨r, u', v', hr, hRL, wA, wY⟩ := l_apply (g0 := g0) (g1 := g1) (g2 := g2) (g3 := g3) (g4 := g4) (g5 := g5) (g6 := g6) (g7 := g7) (g8 := g8) (g9 := g9) (OL := OL) (NL := NL) (DL := DL) (T := T) (ST := ST') (MT := MT) (fr := fr) (la := la) (pa := pa) (so := so) (sv := sv) (ce := ce) (ar := ar) (zs := zs') (ls := ls') (ks := ks') (ps := ps') (an := an') (ln := ln) (le := le) (co := co) (ca := ca) (cb := cb) (cc := cc) (ss := ss) (es := es) (ec := ec) (ep := ep) (et := et) (ek := ek) (ed := ed) (fm := fm) (pc := pc) (fd := fd) (rg := rg) (v := v) J hCB hq hn hAW
      refine ⟨r, u', v', hr, hRL, fun post hp => ?_, wY⟩
      unfold wpX_siteWrite
      refine x_isH_t hq hT (br_f zn_10n ⟨iA, nm_r (e' := nI n) (by rw [cA, hcc]) (hw _ (br_t rfl (find _ (wKd _ (wD _ (br_t hd ?_))))))⟩)
      unfold wX_siteWrite_128
      exact wA _ hp
    · have J' := J
      obtain ⟨_, _, hTR', Q', hA', hE', hC', _⟩ := J
      have hST' := hTR'.2.1
      obtain ⟨s, h76, eS, hs⟩ := OQ_so Q' hq
      have hwq := (same n q (by omega) hq).1
      obtain ⟨ch, hch, hch2⟩ : ∃ ch : Int32, ((ch = 1 ∧ wo ps' so n q = -1) ∨ (ch = 0 ∧ ¬ wo ps' so n q = -1)) ∧ (ch = 0 ∨ ch = 1) := by
        by_cases c : wo ps' so n q = -1
        · exact ⟨1, Or.inl ⟨rfl, c⟩, Or.inr rfl⟩
        · exact ⟨0, Or.inr ⟨rfl, c⟩, Or.inl rfl⟩
      have h4' : kd = 4 → ∃ t, t < ST' ∧ t ≠ 0 ∧ dt = nI t ∧ an' (s * 8 + n) = nI t := by
        intro e
        obtain ⟨s2, t, b1, b2, b3, b4, b5, b6⟩ := h4 e hd
        have : s2 = s := zn_inj (by omega) (by omega) (b1.symm.trans eS)
        subst this
        exact ⟨t, b3, b4, b5, b6⟩
      obtain ⟨ar2, ss2, es2, ec2, ep2, et2, ek2, ed2, w1, w2, w3⟩ := x_rem (g0 := g0) (g1 := g1) (g2 := g2) (g3 := g3) (g4 := g4) (g5 := g5) (g6 := g6) (g7 := g7) (g8 := g8) (g9 := g9) (OL := OL) (NL := NL) (DL := DL) (T := T) (ST := ST') (MT := MT) (fr := fr) (la := la) (pa := pa) (so := so) (sv := sv) (ce := ce) (ar := ar) (zs := zs') (ls := ls') (ks := ks') (ps := ps') (an := an') (ln := ln) (le := le) (co := co) (ca := ca) (cb := cb) (cc := cc) (ss := ss) (es := es) (ec := ec) (ep := ep) (et := et) (ek := ek) (ed := ed) (fm := fm) (pc := pc) (fd := fd) (rg := rg) hT R hST' hA' hC' hem ha hq eS (by omega) h76 (kd := kd) (dt := dt) (ch := ch) hch2 (fun hsT ar' st hst op' n' h1 h2 h3 h4'' => EI_of_AW J' (by omega) hq hn hop hcc eS h76 hAW h4' hch hsT ar' st hst op' n' h1 h2 h3 h4'')
      have J2 := IV_cache J' w1 w2
      obtain ⟨r, u', v', hr, hRL, wA, wY⟩ := l_apply (g0 := g0) (g1 := g1) (g2 := g2) (g3 := g3) (g4 := g4) (g5 := g5) (g6 := g6) (g7 := g7) (g8 := g8) (g9 := g9) (OL := OL) (NL := NL) (DL := DL) (T := T) (ST := ST') (MT := MT) (fr := fr) (la := la) (pa := pa) (so := so) (sv := sv) (ce := ce) (ar := ar2) (zs := zs') (ls := ls') (ks := ks') (ps := ps') (an := an') (ln := ln) (le := le) (co := co) (ca := ca) (cb := cb) (cc := cc) (ss := ss2) (es := es2) (ec := ec2) (ep := ep2) (et := et2) (ek := ek2) (ed := ed2) (fm := fm) (pc := pc) (fd := fd) (rg := rg) (v := v) J2 hCB hq hn hAW
      refine ⟨r, u', v', hr, hRL, fun post hp => ?_, wY⟩
      unfold wpX_siteWrite
      refine x_isH_t hq hT (br_f zn_10n ⟨iA, nm_r (e' := nI n) (by rw [cA, hcc]) (hw _ (br_t rfl (find _ (wKd _ (wD _ (br_f hd ?_))))))⟩)
      have t114 : wX_siteWrite_114 post (nI a) (nI q) v (nI n) kd dt ch g0 g1 g2 g3 g4 g5 g6 g7 g8 g9 (nI OL) (nI NL) (nI DL) (nI T) (nI ST') (nI MT) fr la pa so sv ce ar zs' ls' ks' ps' an' ln le co ca cb cc ss es ec ep et ek ed fm pc fd rg := by
        unfold wX_siteWrite_114
        refine w3 _ ?_
        show wX_siteWrite_128 post (nI q) v (nI n) kd dt g0 g1 g2 g3 g4 g5 g6 g7 g8 g9 (nI OL) (nI NL) (nI DL) (nI T) (nI ST') (nI MT) fr la pa so sv ce ar2 zs' ls' ks' ps' an' ln le co ca cb cc ss2 es2 ec2 ep2 et2 ek2 ed2 fm pc fd rg
        unfold wX_siteWrite_128
        exact wA _ hp
      have hho := hol_eq (ow := wo ps so n) R hT hq
      rcases hol_vp (ow := wo ps so n) R hT 12 (nI q) (Or.inr ⟨q, hq, rfl⟩) with h | ⟨p, hp', h, h2, _⟩
      · have ha2 : wo ps so n q = -1 := by
          refine Classical.byContradiction (fun z => ?_)
          rw [hho, if_neg z] at h
          exact zn_m1 (by omega) h
        have e1 : ch = 1 := by
          rcases hch with ⟨c, _⟩ | ⟨_, c⟩
          · exact c
          · exact absurd (hwq.trans ha2) c
        rw [e1] at t114
        rw [h, slo_m1]
        refine br_t rfl ?_
        unfold wX_siteWrite_109
        exact t114
      · obtain ⟨i, hi, e⟩ : ∃ i, i < 8 ∧ wo ps so n p = nI i := by
          rcases OQ_wo Q hp' (n := n) (by omega) with z | z
          · exact absurd z h2
          · exact z
        rw [h, slo_i (by omega) e]
        refine br_f (zn_m1 (by omega)) ?_
        rw [zn_sh (by omega) hi]
        by_cases hpq : p = q
        · subst hpq
          have e1 : ch = 0 := by
            rcases hch with ⟨_, c⟩ | ⟨c, _⟩
            · exact absurd (hwq.symm.trans c) h2
            · exact c
          rw [e1] at t114
          exact br_t rfl t114
        · have ha2 : wo ps so n q = -1 := by
            refine Classical.byContradiction (fun z => ?_)
            rw [hho, if_neg z] at h
            exact hpq (zn_inj (by omega) (by omega) h).symm
          have e1 : ch = 1 := by
            rcases hch with ⟨c, _⟩ | ⟨_, c⟩
            · exact c
            · exact absurd (hwq.trans ha2) c
          rw [e1] at t114
          refine br_f (fun z => hpq (zn_inj (by omega) (by omega) z)) ?_
          unfold wX_siteWrite_109
          exact t114
  · -- a hit
    have hAW := AW_hit I' ha hq hn hop hcc hi e51 st15 his q1 q2
    obtain ⟨r, u', v', hr, hRL, wA, wY⟩ := l_apply (g0 := g0) (g1 := g1) (g2 := g2) (g3 := g3) (g4 := g4) (g5 := g5) (g6 := g6) (g7 := g7) (g8 := g8) (g9 := g9) (OL := OL) (NL := NL) (DL := DL) (T := T) (ST := ST) (MT := MT) (fr := fr) (la := la) (pa := pa) (so := so) (sv := sv) (ce := ce) (ar := ar) (zs := zs) (ls := ls) (ks := ks) (ps := ps) (an := an) (ln := ln) (le := le) (co := co) (ca := ca) (cb := cb) (cc := cc) (ss := ss) (es := es) (ec := ec) (ep := ep) (et := et) (ek := ek) (ed := ed) (fm := fm) (pc := pc) (fd := fd) (rg := rg) (v := v) I' hCB hq hn hAW
    have ie : vp_in (nI (a * 4 + i)) 240 := vp_in_nI (by omega) (by omega)
    have cE : (nI (a * 4 + i)).toNatClampNeg = a * 4 + i := nI_clamp (by omega)
    refine ⟨r, u', v', hr, hRL, fun post hp => ?_, wY⟩
    unfold wpX_siteWrite
    exact x_isH_t hq hT (br_f zn_10n ⟨iA, nm_r (e' := nI n) (by rw [cA, hcc]) (hw _ (br_f (zn_m1 (by omega)) ⟨ie, ie, by rw [cE]; exact wA _ hp⟩))⟩)
end
end
section
/-! frames: enter, leave, the ends of methods, the fetch -/
def FR (MT DL : Nat) (ca fm pc fd : Nat → Int32) (F : Nat) : Prop :=
  F ≤ DL ∧ (∀ t, t < F → ∃ m j, m < MT ∧ j ≤ 10 ∧ fm t = nI m ∧ pc t = nI j)
  ∧ (∀ t, t + 1 < F → ∃ m j, m < MT ∧ j < 10 ∧ fm t = nI m ∧ pc t = nI (j + 1) ∧ fd (t + 1) = ca (m * 10 + j))
theorem FR_down {MT DL : Nat} {ca fm pc fd : Nat → Int32} {F F' : Nat} (H : FR MT DL ca fm pc fd F) (h : F' ≤ F) : FR MT DL ca fm pc fd F' :=
  ⟨by have := H.1; omega, fun t ht => H.2.1 t (by omega), fun t ht => H.2.2 t (by omega)⟩
/-- the top frame's next place changes -/
theorem FR_pc {MT DL : Nat} {ca fm pc fd : Nat → Int32} {t j : Nat} (H : FR MT DL ca fm pc fd (t + 1)) (hj : j ≤ 10) : FR MT DL ca fm (upd pc t (nI j)) fd (t + 1) := by
  refine ⟨H.1, fun r hr => ?_, fun r hr => ?_⟩
  · by_cases e : r = t
    · subst e
      obtain ⟨m, _, h1, _, h3, _⟩ := H.2.1 r hr
      exact ⟨m, j, h1, hj, h3, pk_us⟩
    · rw [pk_un e]
      exact H.2.1 r hr
  · rw [pk_un (by omega)]
    exact H.2.2 r hr
/-- one more frame -/
theorem FR_push {MT DL : Nat} {ca fm pc fd : Nat → Int32} {t m m' j : Nat} {dx : Int32} (H : FR MT DL ca fm pc fd (t + 1)) (hD : t + 1 < DL) (hm : m < MT) (hj : j < 10) (e1 : fm t = nI m) (e2 : pc t = nI (j + 1)) (hm' : m' < MT) (hd : dx = ca (m * 10 + j)) : FR MT DL ca (upd fm (t + 1) (nI m')) (upd pc (t + 1) 0) (upd fd (t + 1) dx) (t + 2) := by
  refine ⟨by omega, fun r hr => ?_, fun r hr => ?_⟩
  · by_cases e : r = t + 1
    · subst e
      exact ⟨m', 0, hm', by omega, pk_us, pk_us⟩
    · rw [pk_un e, pk_un e]
      exact H.2.1 r (by omega)
  · rw [pk_un (by omega), pk_un (by omega)]
    by_cases e : r = t
    · subst e
      exact ⟨m, j, hm, hj, e1, e2, by rw [pk_us]; exact hd⟩
    · rw [pk_un (by omega)]
      exact H.2.2 r (by omega)
section
variable {OL NL DL T ST MT : Nat} {g0 g1 g2 g3 g4 g5 g6 g7 g8 g9 fr la : Int32} {pa so sv ar zs ls ks ps an ln le co ca cb cc ss es ec ep ek ed fm pc fd rg : Nat → Int32} {ce et : Nat → Int64}
variable {post : SX → Prop}
theorem x_enter {F : Nat} {m o v dx : Int32} (hF : F < 8) (hp : post (g0, g1, g2, g3, g4, g5, g6, g7, g8, g9, nI OL, nI NL, nI DL, nI T, nI ST, nI MT, nI (F + 1), la, pa, so, sv, ce, ar, zs, ls, ks, ps, an, ln, le, co, ca, cb, cc, ss, es, ec, ep, et, ek, ed, upd fm F m, upd pc F 0, upd fd F dx, upd (upd (upd (upd rg (F * 4) o) (F * 4 + 1) v) (F * 4 + 2) 0) (F * 4 + 3) 0)) : wpX_enter post (g0, g1, g2, g3, g4, g5, g6, g7, g8, g9, nI OL, nI NL, nI DL, nI T, nI ST, nI MT, nI F, la, pa, so, sv, ce, ar, zs, ls, ks, ps, an, ln, le, co, ca, cb, cc, ss, es, ec, ep, et, ek, ed, fm, pc, fd, rg) m o v dx := by
  have c : (nI F).toNatClampNeg = F := nI_clamp (by omega)
  have i : vp_in (nI F) 8 := vp_in_nI (by omega) (by omega)
  have e0 : nI F * 4 = nI (F * 4) := by rw [show (4 : Int32) = nI 4 from rfl, pk_mul]
  have q1 : nI (F * 4) + 1 = nI (F * 4 + 1) := nI_1 _
  have q2 : nI (F * 4) + 2 = nI (F * 4 + 2) := nI_add _ 2
  have q3 : nI (F * 4) + 3 = nI (F * 4 + 3) := nI_add _ 3
  exact ⟨i, nm_r (e' := upd fm F m) (by rw [c]) ⟨i, nm_r (e' := upd pc F 0) (by rw [c]) ⟨i, nm_r (e' := upd fd F dx) (by rw [c]) (nm_r (e' := nI (F * 4)) e0 ⟨vp_in_nI (by omega) (by omega), nm_r (e' := upd rg (F * 4) o) (by rw [nI_clamp (by omega)]) ⟨by rw [q1]; exact vp_in_nI (by omega) (by omega), nm_r (e' := upd (upd rg (F * 4) o) (F * 4 + 1) v) (by rw [q1, nI_clamp (by omega)]) ⟨by rw [q2]; exact vp_in_nI (by omega) (by omega), nm_r (e' := upd (upd (upd rg (F * 4) o) (F * 4 + 1) v) (F * 4 + 2) 0) (by rw [q2, nI_clamp (by omega)]) ⟨by rw [q3]; exact vp_in_nI (by omega) (by omega), nm_r (e' := upd (upd (upd (upd rg (F * 4) o) (F * 4 + 1) v) (F * 4 + 2) 0) (F * 4 + 3) 0) (by rw [q3, nI_clamp (by omega)]) (nm_r (e' := nI (F + 1)) (nI_1 F) hp)⟩⟩⟩⟩)⟩⟩⟩
theorem x_leave0 {v : Int32} (hp : post (g0, g1, g2, g3, g4, g5, g6, g7, g8, g9, nI OL, nI NL, nI DL, nI T, nI ST, nI MT, nI 0, v, pa, so, sv, ce, ar, zs, ls, ks, ps, an, ln, le, co, ca, cb, cc, ss, es, ec, ep, et, ek, ed, fm, pc, fd, rg)) : wpX_leave post (g0, g1, g2, g3, g4, g5, g6, g7, g8, g9, nI OL, nI NL, nI DL, nI T, nI ST, nI MT, nI 1, la, pa, so, sv, ce, ar, zs, ls, ks, ps, an, ln, le, co, ca, cb, cc, ss, es, ec, ep, et, ek, ed, fm, pc, fd, rg) v :=
  nm_r (e' := nI 0) (nI_pred 0) (br_t rfl hp)
theorem x_leaveS {F ra : Nat} {v : Int32} (hF : F + 2 ≤ 8) (hr : ra < 4) (e : fd (F + 1) = nI ra) (hp : post (g0, g1, g2, g3, g4, g5, g6, g7, g8, g9, nI OL, nI NL, nI DL, nI T, nI ST, nI MT, nI (F + 1), la, pa, so, sv, ce, ar, zs, ls, ks, ps, an, ln, le, co, ca, cb, cc, ss, es, ec, ep, et, ek, ed, fm, pc, fd, upd rg (F * 4 + ra) v)) : wpX_leave post (g0, g1, g2, g3, g4, g5, g6, g7, g8, g9, nI OL, nI NL, nI DL, nI T, nI ST, nI MT, nI (F + 2), la, pa, so, sv, ce, ar, zs, ls, ks, ps, an, ln, le, co, ca, cb, cc, ss, es, ec, ep, et, ek, ed, fm, pc, fd, rg) v := by
  have c : (nI (F + 1)).toNatClampNeg = F + 1 := nI_clamp (by omega)
  have e1 : (nI (F + 1) - 1) * 4 + fd (nI (F + 1)).toNatClampNeg = nI (F * 4 + ra) := by rw [nI_pred, c, e, zn_4]
  exact nm_r (e' := nI (F + 1)) (nI_pred (F + 1)) (br_f (nI_ne0 (by omega) (by omega)) ⟨vp_in_nI (by omega) (by omega), by rw [e1]; exact vp_in_nI (by omega) (by omega), nm_r (e' := upd rg (F * 4 + ra) v) (by rw [e1, nI_clamp (by omega)]) hp⟩)
end
section
variable {OL NL DL T MT : Nat} {la : Int32} {pa sz ky sv lo le yc fm pc rg : Nat → Int32}
variable {post : Int32 → SY → Prop} {co ca cb cc : Nat → Int32}
theorem y_enter {post : SY → Prop} {F : Nat} {m o v : Int32} (hF : F < 8) (hp : post (nI OL, nI NL, nI DL, nI T, nI MT, la, pa, sz, ky, sv, lo, le, yc, upd fm F m, upd pc F 0, upd (upd (upd (upd rg (F * 4) o) (F * 4 + 1) v) (F * 4 + 2) 0) (F * 4 + 3) 0)) : wpY_enter post (nI OL, nI NL, nI DL, nI T, nI MT, la, pa, sz, ky, sv, lo, le, yc, fm, pc, rg) (nI F) m o v := by
  have c : (nI F).toNatClampNeg = F := nI_clamp (by omega)
  have i : vp_in (nI F) 8 := vp_in_nI (by omega) (by omega)
  have e0 : nI F * 4 = nI (F * 4) := by rw [show (4 : Int32) = nI 4 from rfl, pk_mul]
  have q1 : nI F * 4 + 1 = nI (F * 4 + 1) := by rw [e0]; exact nI_1 _
  have q2 : nI F * 4 + 2 = nI (F * 4 + 2) := by rw [e0]; exact nI_add _ 2
  have q3 : nI F * 4 + 3 = nI (F * 4 + 3) := by rw [e0]; exact nI_add _ 3
  exact ⟨i, nm_r (e' := upd fm F m) (by rw [c]) ⟨i, nm_r (e' := upd pc F 0) (by rw [c]) ⟨by rw [e0]; exact vp_in_nI (by omega) (by omega), nm_r (e' := upd rg (F * 4) o) (by rw [e0, nI_clamp (by omega)]) ⟨by rw [q1]; exact vp_in_nI (by omega) (by omega), nm_r (e' := upd (upd rg (F * 4) o) (F * 4 + 1) v) (by rw [q1, nI_clamp (by omega)]) ⟨by rw [q2]; exact vp_in_nI (by omega) (by omega), nm_r (e' := upd (upd (upd rg (F * 4) o) (F * 4 + 1) v) (F * 4 + 2) 0) (by rw [q2, nI_clamp (by omega)]) ⟨by rw [q3]; exact vp_in_nI (by omega) (by omega), nm_r (e' := upd (upd (upd (upd rg (F * 4) o) (F * 4 + 1) v) (F * 4 + 2) 0) (F * 4 + 3) 0) (by rw [q3, nI_clamp (by omega)]) hp⟩⟩⟩⟩⟩⟩
variable {J : Int32 → Int32 → Int32 → Int32 → Int32 → Int32 → Int32 → Int32 → Int32 → (Nat → Int32) → (Nat → Int32) → (Nat → Int32) → (Nat → Int32) → (Nat → Int32) → (Nat → Int32) → (Nat → Int32) → (Nat → Int32) → (Nat → Int32) → (Nat → Int32) → Prop}
/-- no return: the next turn -/
theorem y_629 {x5 x6 x11 r : Int32} {tu : Nat} (hr : 0 ≤ r) (h : J x5 x6 (nI (tu + 1)) (nI OL) (nI NL) (nI DL) (nI T) (nI MT) la pa sz ky sv lo le yc fm pc rg) : wY_send_629 post J x5 x6 (nI tu) 0 x11 r (nI OL) (nI NL) (nI DL) (nI T) (nI MT) la pa sz ky sv lo le yc fm pc rg :=
  br_t hr (br_t rfl (nm_r (e' := nI (tu + 1)) (nI_1 tu) h))
theorem y_629_n {x5 x6 x7 x10 x11 r : Int32} (hr : r < 0) (h : post r (nI OL, nI NL, nI DL, nI T, nI MT, la, pa, sz, ky, sv, lo, le, yc, fm, pc, rg)) : wY_send_629 post J x5 x6 x7 x10 x11 r (nI OL) (nI NL) (nI DL) (nI T) (nI MT) la pa sz ky sv lo le yc fm pc rg :=
  br_f (fun z => Int32.not_lt.mpr z hr) h
theorem y_ret0 {x6 x7 v : Int32} (h : post 0 (nI OL, nI NL, nI DL, nI T, nI MT, v, pa, sz, ky, sv, lo, le, yc, fm, pc, rg)) : wY_send_637 post J (nI 0) x6 x7 1 v (nI OL) (nI NL) (nI DL) (nI T) (nI MT) la pa sz ky sv lo le yc fm pc rg := br_f zn_10n (br_t rfl h)
theorem y_retS {x6 v : Int32} {tu t m j ra : Nat} (ht : t + 1 < 8) (hm : m < 6) (hj : j < 10) (e1 : fm t = nI m) (e2 : pc t = nI (j + 1)) (e3 : yc ((m * 10 + j) * 4 + 1) = nI ra) (hr : ra < 4) (h : J (nI t) x6 (nI (tu + 1)) (nI OL) (nI NL) (nI DL) (nI T) (nI MT) la pa sz ky sv lo le yc fm pc (upd rg (t * 4 + ra) v)) : wY_send_637 post J (nI (t + 1)) x6 (nI tu) 1 v (nI OL) (nI NL) (nI DL) (nI T) (nI MT) la pa sz ky sv lo le yc fm pc rg := by
  have c : (nI t).toNatClampNeg = t := nI_clamp (by omega)
  have i : vp_in (nI t) 8 := vp_in_nI (by omega) (by omega)
  have e4 : (((fm (nI t).toNatClampNeg) * 10) + (pc (nI t).toNatClampNeg) - 1) * 4 = nI ((m * 10 + j) * 4) := by
    rw [c, e1, e2, zn_10, ← Nat.add_assoc, nI_pred, show (4 : Int32) = nI 4 from rfl, pk_mul]
  have q1 : nI ((m * 10 + j) * 4) + 1 = nI ((m * 10 + j) * 4 + 1) := nI_1 _
  have e5 : nI t * 4 + yc (nI ((m * 10 + j) * 4) + 1).toNatClampNeg = nI (t * 4 + ra) := by rw [q1, nI_clamp (by omega), e3, zn_4]
  exact br_f zn_10n (br_f (nI_ne0 (by omega) (by omega)) (nm_r (e' := nI t) (pk_m1 t) ⟨i, i, nm_r (e' := nI ((m * 10 + j) * 4)) e4 ⟨by rw [q1]; exact vp_in_nI (by omega) (by omega), by rw [e5]; exact vp_in_nI (by omega) (by omega), nm_r (e' := upd rg (t * 4 + ra) v) (by rw [e5, nI_clamp (by omega)]) (nm_r (e' := nI (tu + 1)) (nI_1 tu) h)⟩⟩))
/-- a turn at a method's end -/
theorem y_end {N t k tu m j l : Nat} (ht : t < 8) (htu : tu < 700) (hm : m < 6) (hj : j ≤ 10) (hl : l ≤ 10) (e1 : fm t = nI m) (e2 : pc t = nI j) (e3 : le m = nI l) (hd : l ≤ j) (h : wY_send_637 post (wY_send_73 post N) (nI t) (nI k) (nI tu) 1 0 (nI OL) (nI NL) (nI DL) (nI T) (nI MT) la pa sz ky sv lo le yc fm pc rg) : wY_send_73 post (N + 1) (nI t) (nI k) (nI tu) (nI OL) (nI NL) (nI DL) (nI T) (nI MT) la pa sz ky sv lo le yc fm pc rg := by
  have c : (nI t).toNatClampNeg = t := nI_clamp (by omega)
  have i : vp_in (nI t) 8 := vp_in_nI (by omega) (by omega)
  have cm : (nI m).toNatClampNeg = m := nI_clamp (by omega)
  exact br_f (nI_ge (b := 700) (by omega) (by decide)) ⟨i, nm_r (e' := nI m) (by rw [c, e1]) ⟨i, nm_r (e' := nI j) (by rw [c, e2]) ⟨vp_in_nI (by omega) (by omega), br_f (by rw [cm, e3]; exact nI_nlt hd (by omega)) h⟩⟩⟩
/-- a register's content as the reference reads it ahead of the effect -/
def RV (rg : Nat → Int32) (t : Nat) (b x : Int32) : Prop := (∃ j, j < 4 ∧ b = nI j ∧ x = rg (t * 4 + j)) ∨ ((b < 0 ∨ (¬ b < 0 ∧ 3 < b)) ∧ x = 0)
theorem RV_ex (rg : Nat → Int32) (t : Nat) (b : Int32) : ∃ x, RV rg t b x := by
  rcases zr_c b with h | ⟨j, hj, e⟩
  · exact ⟨0, Or.inr ⟨h, rfl⟩⟩
  · exact ⟨_, Or.inl ⟨j, hj, e, rfl⟩⟩
theorem RV_reg {rg : Nat → Int32} {t j : Nat} {x : Int32} (hj : j < 4) (h : RV rg t (nI j) x) : x = rg (t * 4 + j) := by
  rcases h with ⟨j', h1, h2, h3⟩ | ⟨h, _⟩
  · rw [h3, zn_inj (by omega) (by omega) h2]
  · rcases h with h | ⟨_, h⟩
    · exact absurd h (nI_pos (by omega))
    · exact absurd h (nI_nlt (a := 3) (by omega) (by decide))
theorem y_fetch {N t k tu m j l ra : Nat} {x18 x19 : Int32} (ht : t < 8) (htu : tu < 700) (hk : k < 300) (hm : m < 6) (hl : l ≤ 10) (e1 : fm t = nI m) (e2 : pc t = nI j) (e3 : le m = nI l) (hd : j < l) (c0 : yc ((m * 10 + j) * 4) = co (m * 10 + j)) (c1 : yc ((m * 10 + j) * 4 + 1) = ca (m * 10 + j)) (c2 : yc ((m * 10 + j) * 4 + 2) = cb (m * 10 + j)) (c3 : yc ((m * 10 + j) * 4 + 3) = cc (m * 10 + j)) (hra : ra < 4) (era : ca (m * 10 + j) = nI ra) (h18 : RV rg t (cb (m * 10 + j)) x18) (h19 : RV rg t (cc (m * 10 + j)) x19)
    (h : wY_send_272 post (wY_send_73 post N) (nI t) (nI (k + 1)) (nI tu) 0 0 (co (m * 10 + j)) (cb (m * 10 + j)) (cc (m * 10 + j)) (nI (t * 4 + ra)) (rg (t * 4 + ra)) x18 x19 (nI OL) (nI NL) (nI DL) (nI T) (nI MT) la pa sz ky sv lo le yc fm (upd pc t (nI (j + 1))) rg) : wY_send_73 post (N + 1) (nI t) (nI k) (nI tu) (nI OL) (nI NL) (nI DL) (nI T) (nI MT) la pa sz ky sv lo le yc fm pc rg := by
  have c : (nI t).toNatClampNeg = t := nI_clamp (by omega)
  have i : vp_in (nI t) 8 := vp_in_nI (by omega) (by omega)
  have cm : (nI m).toNatClampNeg = m := nI_clamp (by omega)
  have e0 : (nI m * 10 + nI j) * 4 = nI ((m * 10 + j) * 4) := by rw [zn_10, show (4 : Int32) = nI 4 from rfl, pk_mul]
  have q1 : nI ((m * 10 + j) * 4) + 1 = nI ((m * 10 + j) * 4 + 1) := nI_1 _
  have q2 : nI ((m * 10 + j) * 4) + 2 = nI ((m * 10 + j) * 4 + 2) := nI_add _ 2
  have q3 : nI ((m * 10 + j) * 4) + 3 = nI ((m * 10 + j) * 4 + 3) := nI_add _ 3
  have w244 : ∀ y, y = x18 → wY_send_244 post (wY_send_73 post N) (nI t) (nI (k + 1)) (nI tu) 0 0 (co (m * 10 + j)) (cb (m * 10 + j)) (cc (m * 10 + j)) (nI (t * 4 + ra)) (rg (t * 4 + ra)) y (nI OL) (nI NL) (nI DL) (nI T) (nI MT) la pa sz ky sv lo le yc fm (upd pc t (nI (j + 1))) rg := by
    intro y ey
    rw [ey]
    rcases h19 with ⟨b, hb, eb, ex⟩ | ⟨hb, ex⟩
    · rw [ex, eb] at h
      rw [eb]
      exact br_f (nI_pos (by omega)) (br_f (nI_nlt (a := 3) (by omega) (by decide)) ⟨by rw [zn_4]; exact vp_in_nI (by omega) (by omega), nm_r (e' := rg (t * 4 + b)) (by rw [zn_4, nI_clamp (by omega)]) h⟩)
    · rw [ex] at h
      rcases hb with hb | ⟨hb, hb'⟩
      · exact br_t hb h
      · exact br_f hb (br_t hb' h)
  refine br_f (nI_ge (b := 700) (by omega) (by decide)) ⟨i, nm_r (e' := nI m) (by rw [c, e1]) ⟨i, nm_r (e' := nI j) (by rw [c, e2]) ⟨vp_in_nI (by omega) (by omega), br_t (by rw [cm, e3]; exact nI_lt hd (by omega)) (br_t (nI_lt (b := 300) hk (by decide)) (nm_r (e' := nI (k + 1)) (nI_1 k) ⟨i, nm_r (e' := upd pc t (nI (j + 1))) (by rw [c, nI_1]) (nm_r (e' := nI ((m * 10 + j) * 4)) e0 ⟨vp_in_nI (by omega) (by omega), nm_r (e' := co (m * 10 + j)) (by rw [nI_clamp (by omega), c0]) ⟨by rw [q2]; exact vp_in_nI (by omega) (by omega), nm_r (e' := cb (m * 10 + j)) (by rw [q2, nI_clamp (by omega), c2]) ⟨by rw [q3]; exact vp_in_nI (by omega) (by omega), nm_r (e' := cc (m * 10 + j)) (by rw [q3, nI_clamp (by omega), c3]) ⟨by rw [q1]; exact vp_in_nI (by omega) (by omega), nm_r (e' := nI (t * 4 + ra)) (by rw [q1, nI_clamp (by omega), c1, era, zn_4]) ⟨vp_in_nI (by omega) (by omega), nm_r (e' := rg (t * 4 + ra)) (by rw [nI_clamp (by omega)]) ?_⟩⟩⟩⟩⟩)⟩))⟩⟩⟩
  rcases h18 with ⟨b, hb, eb, ex⟩ | ⟨hb, ex⟩
  · have w := w244 (rg (t * 4 + b)) ex.symm
    rw [eb] at w ⊢
    exact br_f (nI_pos (by omega)) (br_f (nI_nlt (a := 3) (by omega) (by decide)) ⟨by rw [zn_4]; exact vp_in_nI (by omega) (by omega), nm_r (e' := rg (t * 4 + b)) (by rw [zn_4, nI_clamp (by omega)]) w⟩)
  · have w := w244 0 ex.symm
    rcases hb with hb | ⟨hb, hb'⟩
    · exact br_t hb w
    · exact br_f hb (br_t hb' w)
end
/-! the ends of methods, one behind the other -/
section
variable {CB OL NL DL T ST MT : Nat} {g0 g1 g2 g3 g4 g5 g6 g7 g8 g9 fr la : Int32} {pa so sv ar zs ls ks ps an ln le co ca cb cc ss es ec ep ek ed fm pc fd rg sz ky lo yc : Nat → Int32} {ce et : Nat → Int64}
def TOP (MT : Nat) (le fm pc : Nat → Int32) (F : Nat) : Prop := ∃ m j l, m < MT ∧ fm (F - 1) = nI m ∧ pc (F - 1) = nI j ∧ le m = nI l ∧ j < l ∧ l ≤ 10
theorem l_ended (hCO : CO MT NL le co ca cb cc yc) (hDL : DL ≤ 8) (k : Nat) : ∀ (F : Nat) (rg : Nat → Int32), FR MT DL ca fm pc fd F → ∃ F' la' rg', F' ≤ F
    ∧ (∀ (post : SX → Prop) M i, i + F ≤ 8 → F < M → post (g0, g1, g2, g3, g4, g5, g6, g7, g8, g9, nI OL, nI NL, nI DL, nI T, nI ST, nI MT, nI F', la', pa, so, sv, ce, ar, zs, ls, ks, ps, an, ln, le, co, ca, cb, cc, ss, es, ec, ep, et, ek, ed, fm, pc, fd, rg') → wX_leaveEnded_2 post M (nI i) g0 g1 g2 g3 g4 g5 g6 g7 g8 g9 (nI OL) (nI NL) (nI DL) (nI T) (nI ST) (nI MT) (nI F) la pa so sv ce ar zs ls ks ps an ln le co ca cb cc ss es ec ep et ek ed fm pc fd rg)
    ∧ ((F' = 0 ∧ (1 ≤ F → ∀ (post : Int32 → SY → Prop) N tu, tu + F ≤ 700 → F ≤ N → post 0 (nI OL, nI NL, nI DL, nI T, nI MT, la', pa, sz, ky, sv, lo, le, yc, fm, pc, rg') → wY_send_73 post N (nI (F - 1)) (nI k) (nI tu) (nI OL) (nI NL) (nI DL) (nI T) (nI MT) la pa sz ky sv lo le yc fm pc rg))
      ∨ (1 ≤ F' ∧ la' = la ∧ TOP MT le fm pc F' ∧ ∀ (post : Int32 → SY → Prop) N tu, tu + (F - F') ≤ 700 → wY_send_73 post N (nI (F' - 1)) (nI k) (nI (tu + (F - F'))) (nI OL) (nI NL) (nI DL) (nI T) (nI MT) la pa sz ky sv lo le yc fm pc rg' → wY_send_73 post (N + (F - F')) (nI (F - 1)) (nI k) (nI tu) (nI OL) (nI NL) (nI DL) (nI T) (nI MT) la pa sz ky sv lo le yc fm pc rg)) := by
  obtain ⟨hMT, hle, hW⟩ := hCO
  intro F
  induction F with
  | zero =>
    intro rg H
    refine ⟨0, la, rg, Nat.le_refl _, fun post M i hi hM hp => ?_, Or.inl ⟨rfl, fun h => absurd h (by omega)⟩⟩
    obtain ⟨M, rfl⟩ : ∃ M', M = M' + 1 := ⟨M - 1, by omega⟩
    by_cases h8 : 8 ≤ i
    · exact br_t (nI_le (a := 8) h8 (by omega)) hp
    · exact br_f (nI_ge (b := 8) (by omega) (by decide)) (br_t (by decide) hp)
  | succ F ih =>
    intro rg H
    have hF8 : F + 1 ≤ 8 := by have := H.1; omega
    obtain ⟨m, j, hm, hj, e1, e2⟩ := H.2.1 F (by omega)
    obtain ⟨l, hl, e3, _⟩ := hle m (by omega)
    have cF : (nI F).toNatClampNeg = F := nI_clamp (by omega)
    have iF : vp_in (nI F) 8 := vp_in_nI (by omega) (by omega)
    have cm : (nI m).toNatClampNeg = m := nI_clamp (by omega)
    have e4 : le (fm (nI F).toNatClampNeg).toNatClampNeg = nI l := by rw [cF, e1, cm, e3]
    have e5 : pc (nI F).toNatClampNeg = nI j := by rw [cF, e2]
    have i6 : vp_in (fm (nI F).toNatClampNeg) 6 := by rw [cF, e1]; exact vp_in_nI (by omega) (by omega)
    have nF : ¬ nI (F + 1) ≤ 0 := nI_nle (by omega) (by omega)
    by_cases hjl : j < l
    · refine ⟨F + 1, la, rg, Nat.le_refl _, fun post M i hi hM hp => ?_, Or.inr ⟨by omega, rfl, ⟨m, j, l, hm, e1, e2, e3, hjl, hl⟩, fun post N tu _ h => ?_⟩⟩
      · obtain ⟨M, rfl⟩ : ∃ M', M = M' + 1 := ⟨M - 1, by omega⟩
        exact br_f (nI_ge (b := 8) (by omega) (by decide)) (br_f nF (nm_r (e' := nI F) (nI_pred F) ⟨iF, iF, i6, br_f (by rw [e4, e5]; exact nI_ge hjl (by omega)) hp⟩))
      · rw [Nat.sub_self] at h ⊢
        exact h
    · have lj : l ≤ j := by omega
      cases F with
      | zero =>
        refine ⟨0, 0, rg, by omega, fun post M i hi hM hp => ?_, Or.inl ⟨rfl, fun _ post N tu htu hN hp => ?_⟩⟩
        · obtain ⟨M, rfl⟩ : ∃ M', M = M' + 2 := ⟨M - 2, by omega⟩
          refine br_f (nI_ge (b := 8) (by omega) (by decide)) (br_f nF (nm_r (e' := nI 0) (nI_pred 0) ⟨iF, iF, i6, br_t (by rw [e4, e5]; exact nI_le lj (by omega)) (x_leave0 (nm_r (e' := nI (i + 1)) (nI_1 i) ?_))⟩))
          by_cases h8 : 8 ≤ i + 1
          · exact br_t (nI_le (a := 8) h8 (by omega)) hp
          · exact br_f (nI_ge (b := 8) (by omega) (by decide)) (br_t (by decide) hp)
        · obtain ⟨N, rfl⟩ : ∃ N', N = N' + 1 := ⟨N - 1, by omega⟩
          exact y_end (by omega) (by omega) (by omega) hj hl e1 e2 e3 lj (y_ret0 hp)
      | succ F =>
        obtain ⟨m2, j2, hm2, hj2, f1, f2, f3⟩ := H.2.2 F (by omega)
        obtain ⟨⟨_, ra, _, _, _, hra, era, _⟩, _, y1, _, _⟩ := hW (m2 * 10 + j2) (by omega)
        have f4 : fd (F + 1) = nI ra := f3.trans era
        obtain ⟨F', la', rg', hF', hX, hY⟩ := ih (upd rg (F * 4 + ra) 0) (FR_down H (by omega))
        refine ⟨F', la', rg', by omega, fun post M i hi hM hp => ?_, ?_⟩
        · obtain ⟨M, rfl⟩ : ∃ M', M = M' + 1 := ⟨M - 1, by omega⟩
          exact br_f (nI_ge (b := 8) (by omega) (by decide)) (br_f nF (nm_r (e' := nI (F + 1)) (nI_pred (F + 1)) ⟨iF, iF, i6, br_t (by rw [e4, e5]; exact nI_le lj (by omega)) (x_leaveS hF8 hra f4 (nm_r (e' := nI (i + 1)) (nI_1 i) (hX post M (i + 1) (by omega) (by omega) hp)))⟩))
        · rcases hY with ⟨h0, hY⟩ | ⟨h1, hla, hT, hY⟩
          · refine Or.inl ⟨h0, fun _ post N tu htu hN hp => ?_⟩
            obtain ⟨N, rfl⟩ : ∃ N', N = N' + 1 := ⟨N - 1, by omega⟩
            exact y_end (by omega) (by omega) (by omega) hj hl e1 e2 e3 lj (y_retS (by omega) (by omega) hj2 f1 f2 (y1.trans era) hra (hY (by omega) post N (tu + 1) (by omega) (by omega) hp))
          · refine Or.inr ⟨h1, hla, hT, fun post N tu htu h => ?_⟩
            have e6 : N + (F + 1 + 1 - F') = N + (F + 1 - F') + 1 := by omega
            have e7 : tu + (F + 1 + 1 - F') = tu + 1 + (F + 1 - F') := by omega
            rw [e7] at h
            rw [e6]
            exact y_end (by omega) (by omega) (by omega) hj hl e1 e2 e3 lj (y_retS (by omega) (by omega) hj2 f1 f2 (y1.trans era) hra (hY post N (tu + 1) (by omega) h))
end
end
section
/-! one instruction -/
def STP (CB : Nat) (F : Nat) (k : Nat) (g0 : Int32) (g1 : Int32) (g2 : Int32) (g3 : Int32) (g4 : Int32) (g5 : Int32) (g6 : Int32) (g7 : Int32) (g8 : Int32) (g9 : Int32) (OL : Nat) (NL : Nat) (DL : Nat) (MT : Nat) (le : Nat → Int32) (co : Nat → Int32) (ca : Nat → Int32) (cb : Nat → Int32) (cc : Nat → Int32) (yc : Nat → Int32) (XW : (Int32 → SX → Prop) → Prop) (YW : (Int32 → SY → Prop) → Nat → Nat → Prop) : Prop :=
  ∃ (r : Int32) (E : Nat) (la : Int32) (fm pc fd rg : Nat → Int32) (T : Nat) (ST : Nat) (pa : Nat → Int32) (so : Nat → Int32) (sv : Nat → Int32) (ce : Nat → Int64) (ar : Nat → Int32) (zs : Nat → Int32) (ls : Nat → Int32) (ks : Nat → Int32) (ps : Nat → Int32) (an : Nat → Int32) (ln : Nat → Int32) (ss : Nat → Int32) (es : Nat → Int32) (ec : Nat → Int32) (ep : Nat → Int32) (et : Nat → Int64) (ek : Nat → Int32) (ed : Nat → Int32) (sz : Nat → Int32) (ky : Nat → Int32) (lo : Nat → Int32), IV CB T OL NL DL ST MT pa so ce ar zs ls ks ps an ln le co ca cb cc ss es ec ep et ek ed sz ky lo yc ∧ (∀ post : Int32 → SX → Prop, post r (g0, g1, g2, g3, g4, g5, g6, g7, g8, g9, nI OL, nI NL, nI DL, nI T, nI ST, nI MT, nI E, la, pa, so, sv, ce, ar, zs, ls, ks, ps, an, ln, le, co, ca, cb, cc, ss, es, ec, ep, et, ek, ed, fm, pc, fd, rg) → XW post)
    ∧ ((r = 0 ∧ 1 ≤ E ∧ E ≤ F + 1 ∧ FR MT DL ca fm pc fd E ∧ ∀ (post : Int32 → SY → Prop) (N tu : Nat), tu < 700 → wY_send_73 post N (nI (E - 1)) (nI (k + 1)) (nI (tu + 1)) (nI OL) (nI NL) (nI DL) (nI T) (nI MT) la pa sz ky sv lo le yc fm pc rg → YW post N tu)
      ∨ (((r = 0 ∧ E = 0) ∨ ¬ r = 0) ∧ ∀ (post : Int32 → SY → Prop) (N tu : Nat), tu < 700 → post r (nI OL, nI NL, nI DL, nI T, nI MT, la, pa, sz, ky, sv, lo, le, yc, fm, pc, rg) → YW post N tu))
section
variable {CB OL NL DL T ST MT : Nat} {g0 g1 g2 g3 g4 g5 g6 g7 g8 g9 fr la : Int32} {pa so sv ar zs ls ks ps an ln le co ca cb cc ss es ec ep ek ed fm pc fd rg sz ky lo yc : Nat → Int32} {ce et : Nat → Int64}
variable {k t : Nat}
theorem STP_mono {F : Nat} {XW XW' : (Int32 → SX → Prop) → Prop} {YW YW' : (Int32 → SY → Prop) → Nat → Nat → Prop} (H : STP CB F k g0 g1 g2 g3 g4 g5 g6 g7 g8 g9 OL NL DL MT le co ca cb cc yc XW YW) (hX : ∀ post, XW post → XW' post) (hY : ∀ post N tu, tu < 700 → YW post N tu → YW' post N tu) : STP CB F k g0 g1 g2 g3 g4 g5 g6 g7 g8 g9 OL NL DL MT le co ca cb cc yc XW' YW' := by
  obtain ⟨r, E, la, fm, pc, fd, rg, T, ST, pa, so, sv, ce, ar, zs, ls, ks, ps, an, ln, ss, es, ec, ep, et, ek, ed, sz, ky, lo, I, h1, h2⟩ := H
  refine ⟨r, E, la, fm, pc, fd, rg, T, ST, pa, so, sv, ce, ar, zs, ls, ks, ps, an, ln, ss, es, ec, ep, et, ek, ed, sz, ky, lo, I, fun post hp => hX post (h1 post hp), ?_⟩
  rcases h2 with ⟨a, b, c, d, e⟩ | ⟨a, e⟩
  · exact Or.inl ⟨a, b, c, d, fun post N tu htu h => hY post N tu htu (e post N tu htu h)⟩
  · exact Or.inr ⟨a, fun post N tu htu h => hY post N tu htu (e post N tu htu h)⟩
/-- the instructions on registers alone -/
theorem s_comp {a op ra : Nat} {x18 x19 : Int32} (ht : t + 1 ≤ 8) (ha : a < 60) (hop : co a = nI op) (h5 : op ≤ 5) (hra : ra < 4) (era : ca a = nI ra) (hb : op ≠ 0 → ∃ b, b ≤ 10 ∧ cb a = nI b ∧ (op ≠ 5 → b < 4)) (hc : op = 2 ∨ op = 3 ∨ op = 4 → ∃ c, c < 4 ∧ cc a = nI c) (h18 : RV rg t (cb a) x18) (h19 : RV rg t (cc a) x19) (hF : FR MT DL ca fm pc fd (t + 1)) :
    ∃ pc1 rg1, FR MT DL ca fm pc1 fd (t + 1) ∧ (∀ post : SX → Prop, post (g0, g1, g2, g3, g4, g5, g6, g7, g8, g9, nI OL, nI NL, nI DL, nI T, nI ST, nI MT, nI (t + 1), la, pa, so, sv, ce, ar, zs, ls, ks, ps, an, ln, le, co, ca, cb, cc, ss, es, ec, ep, et, ek, ed, fm, pc1, fd, rg1) → wpX_compute post (g0, g1, g2, g3, g4, g5, g6, g7, g8, g9, nI OL, nI NL, nI DL, nI T, nI ST, nI MT, nI (t + 1), la, pa, so, sv, ce, ar, zs, ls, ks, ps, an, ln, le, co, ca, cb, cc, ss, es, ec, ep, et, ek, ed, fm, pc, fd, rg) (nI a) (nI t))
      ∧ (∀ (post : Int32 → SY → Prop) (N tu : Nat), wY_send_73 post N (nI t) (nI (k + 1)) (nI (tu + 1)) (nI OL) (nI NL) (nI DL) (nI T) (nI MT) la pa sz ky sv lo le yc fm pc1 rg1 → wY_send_272 post (wY_send_73 post N) (nI t) (nI (k + 1)) (nI tu) 0 0 (co a) (cb a) (cc a) (nI (t * 4 + ra)) (rg (t * 4 + ra)) x18 x19 (nI OL) (nI NL) (nI DL) (nI T) (nI MT) la pa sz ky sv lo le yc fm pc rg) := by
  have cA : (nI a).toNatClampNeg = a := nI_clamp (by omega)
  have ia : vp_in (nI a) 60 := vp_in_nI ha (by omega)
  have e0 : nI t * 4 = nI (t * 4) := by rw [show (4 : Int32) = nI 4 from rfl, pk_mul]
  have e1 : nI (t * 4) + ca (nI a).toNatClampNeg = nI (t * 4 + ra) := by rw [cA, era, nI_add]
  have e2 : cb (nI a).toNatClampNeg = cb a := by rw [cA]
  have e3 : cc (nI a).toNatClampNeg = cc a := by rw [cA]
  have e4 : co (nI a).toNatClampNeg = co a := by rw [cA]
  have i1 : vp_in (nI (t * 4 + ra)) 32 := vp_in_nI (by omega) (by omega)
  have c1 : (nI (t * 4 + ra)).toNatClampNeg = t * 4 + ra := nI_clamp (by omega)
  have le00 : (0 : Int32) ≤ 0 := by decide
  rcases (show op = 0 ∨ op = 1 ∨ op = 2 ∨ op = 3 ∨ op = 4 ∨ op = 5 by omega) with rfl | rfl | rfl | rfl | rfl | rfl
  · refine ⟨pc, upd rg (t * 4 + ra) (cb a), hF, fun post hp => nm_r (e' := nI (t * 4)) e0 ⟨ia, nm_r (e' := nI (t * 4 + ra)) e1 ⟨ia, nm_r (e' := cb a) e2 ⟨ia, nm_r (e' := cc a) e3 ⟨ia, nm_r (e' := co a) e4 ?_⟩⟩⟩⟩, fun post N tu h => ?_⟩
    · rw [hop]
      exact br_f (by decide) (br_f (by decide) (br_t rfl ⟨i1, nm_r (e' := upd rg (t * 4 + ra) (cb a)) (by rw [c1]) hp⟩))
    · rw [hop]
      exact br_t rfl ⟨i1, nm_r (e' := upd rg (t * 4 + ra) (cb a)) (by rw [c1]) (y_629 le00 h)⟩
  · obtain ⟨b, _, eb, hb4⟩ := hb (by omega)
    have hb4 := hb4 (by omega)
    rw [eb] at h18
    have ex := RV_reg hb4 h18
    have eB : nI (t * 4) + cb a = nI (t * 4 + b) := by rw [eb, nI_add]
    refine ⟨pc, upd rg (t * 4 + ra) (rg (t * 4 + b)), hF, fun post hp => nm_r (e' := nI (t * 4)) e0 ⟨ia, nm_r (e' := nI (t * 4 + ra)) e1 ⟨ia, nm_r (e' := cb a) e2 ⟨ia, nm_r (e' := cc a) e3 ⟨ia, nm_r (e' := co a) e4 ?_⟩⟩⟩⟩, fun post N tu h => ?_⟩
    · rw [hop]
      exact br_f (by decide) (br_f (by decide) (br_f (by decide) (br_t rfl ⟨by rw [eB]; exact vp_in_nI (by omega) (by omega), i1, nm_r (e' := upd rg (t * 4 + ra) (rg (t * 4 + b))) (by rw [c1, eB, nI_clamp (by omega)]) hp⟩)))
    · rw [hop]
      exact br_f (by decide) (br_t rfl ⟨i1, nm_r (e' := upd rg (t * 4 + ra) (rg (t * 4 + b))) (by rw [c1, ex]) (y_629 le00 h)⟩)
  · obtain ⟨b, _, eb, hb4⟩ := hb (by omega)
    have hb4 := hb4 (by omega)
    obtain ⟨c, hc4, ec'⟩ := hc (by omega)
    rw [eb] at h18
    rw [ec'] at h19
    have ex := RV_reg hb4 h18
    have ey := RV_reg hc4 h19
    have eB : nI (t * 4) + cb a = nI (t * 4 + b) := by rw [eb, nI_add]
    have eC : nI (t * 4) + cc a = nI (t * 4 + c) := by rw [ec', nI_add]
    refine ⟨pc, upd rg (t * 4 + ra) (rg (t * 4 + b) + rg (t * 4 + c)), hF, fun post hp => nm_r (e' := nI (t * 4)) e0 ⟨ia, nm_r (e' := nI (t * 4 + ra)) e1 ⟨ia, nm_r (e' := cb a) e2 ⟨ia, nm_r (e' := cc a) e3 ⟨ia, nm_r (e' := co a) e4 ?_⟩⟩⟩⟩, fun post N tu h => ?_⟩
    · rw [hop]
      exact br_f (by decide) (br_f (by decide) (br_f (by decide) (br_f (by decide) (br_t rfl ⟨by rw [eB]; exact vp_in_nI (by omega) (by omega), by rw [eC]; exact vp_in_nI (by omega) (by omega), i1, nm_r (e' := upd rg (t * 4 + ra) (rg (t * 4 + b) + rg (t * 4 + c))) (by rw [c1, eB, eC, nI_clamp (by omega), nI_clamp (by omega)]) hp⟩))))
    · rw [hop]
      exact br_f (by decide) (br_f (by decide) (br_t rfl ⟨i1, nm_r (e' := upd rg (t * 4 + ra) (rg (t * 4 + b) + rg (t * 4 + c))) (by rw [c1, ex, ey]) (y_629 le00 h)⟩))
  · obtain ⟨b, _, eb, hb4⟩ := hb (by omega)
    have hb4 := hb4 (by omega)
    obtain ⟨c, hc4, ec'⟩ := hc (by omega)
    rw [eb] at h18
    rw [ec'] at h19
    have ex := RV_reg hb4 h18
    have ey := RV_reg hc4 h19
    have eB : nI (t * 4) + cb a = nI (t * 4 + b) := by rw [eb, nI_add]
    have eC : nI (t * 4) + cc a = nI (t * 4 + c) := by rw [ec', nI_add]
    refine ⟨pc, upd rg (t * 4 + ra) (rg (t * 4 + b) - rg (t * 4 + c)), hF, fun post hp => nm_r (e' := nI (t * 4)) e0 ⟨ia, nm_r (e' := nI (t * 4 + ra)) e1 ⟨ia, nm_r (e' := cb a) e2 ⟨ia, nm_r (e' := cc a) e3 ⟨ia, nm_r (e' := co a) e4 ?_⟩⟩⟩⟩, fun post N tu h => ?_⟩
    · rw [hop]
      exact br_f (by decide) (br_f (by decide) (br_f (by decide) (br_f (by decide) (br_f (by decide) (br_t rfl ⟨by rw [eB]; exact vp_in_nI (by omega) (by omega), by rw [eC]; exact vp_in_nI (by omega) (by omega), i1, nm_r (e' := upd rg (t * 4 + ra) (rg (t * 4 + b) - rg (t * 4 + c))) (by rw [c1, eB, eC, nI_clamp (by omega), nI_clamp (by omega)]) hp⟩)))))
    · rw [hop]
      exact br_f (by decide) (br_f (by decide) (br_f (by decide) (br_t rfl ⟨i1, nm_r (e' := upd rg (t * 4 + ra) (rg (t * 4 + b) - rg (t * 4 + c))) (by rw [c1, ex, ey]) (y_629 le00 h)⟩)))
  · obtain ⟨b, _, eb, hb4⟩ := hb (by omega)
    have hb4 := hb4 (by omega)
    obtain ⟨c, hc4, ec'⟩ := hc (by omega)
    rw [eb] at h18
    rw [ec'] at h19
    have ex := RV_reg hb4 h18
    have ey := RV_reg hc4 h19
    have eB : (nI (t * 4) + cb a).toNatClampNeg = t * 4 + b := by rw [eb, nI_add, nI_clamp (by omega)]
    have eC : (nI (t * 4) + cc a).toNatClampNeg = t * 4 + c := by rw [ec', nI_add, nI_clamp (by omega)]
    have iB : vp_in (nI (t * 4) + cb a) 32 := by rw [eb, nI_add]; exact vp_in_nI (by omega) (by omega)
    have iC : vp_in (nI (t * 4) + cc a) 32 := by rw [ec', nI_add]; exact vp_in_nI (by omega) (by omega)
    by_cases w : rg (t * 4 + c) ≤ rg (t * 4 + b)
    · refine ⟨pc, upd rg (t * 4 + ra) 0, hF, fun post hp => nm_r (e' := nI (t * 4)) e0 ⟨ia, nm_r (e' := nI (t * 4 + ra)) e1 ⟨ia, nm_r (e' := cb a) e2 ⟨ia, nm_r (e' := cc a) e3 ⟨ia, nm_r (e' := co a) e4 ?_⟩⟩⟩⟩, fun post N tu h => ?_⟩
      · rw [hop]
        exact br_f (by decide) (br_f (by decide) (br_f (by decide) (br_f (by decide) (br_f (by decide) (br_f (by decide) (br_t rfl ⟨iB, iC, br_t (by rw [eB, eC]; exact w) ⟨i1, nm_r (e' := upd rg (t * 4 + ra) 0) (by rw [c1]) hp⟩⟩))))))
      · rw [hop]
        exact br_f (by decide) (br_f (by decide) (br_f (by decide) (br_f (by decide) (br_t rfl (br_t (by rw [ex, ey]; exact w) ⟨i1, nm_r (e' := upd rg (t * 4 + ra) 0) (by rw [c1]) (y_629 le00 h)⟩)))))
    · refine ⟨pc, upd rg (t * 4 + ra) 1, hF, fun post hp => nm_r (e' := nI (t * 4)) e0 ⟨ia, nm_r (e' := nI (t * 4 + ra)) e1 ⟨ia, nm_r (e' := cb a) e2 ⟨ia, nm_r (e' := cc a) e3 ⟨ia, nm_r (e' := co a) e4 ?_⟩⟩⟩⟩, fun post N tu h => ?_⟩
      · rw [hop]
        exact br_f (by decide) (br_f (by decide) (br_f (by decide) (br_f (by decide) (br_f (by decide) (br_f (by decide) (br_t rfl ⟨iB, iC, br_f (by rw [eB, eC]; exact w) ⟨i1, nm_r (e' := upd rg (t * 4 + ra) 1) (by rw [c1]) hp⟩⟩))))))
      · rw [hop]
        exact br_f (by decide) (br_f (by decide) (br_f (by decide) (br_f (by decide) (br_t rfl (br_f (by rw [ex, ey]; exact w) ⟨i1, nm_r (e' := upd rg (t * 4 + ra) 1) (by rw [c1]) (y_629 le00 h)⟩)))))
  · obtain ⟨b, hb10, eb, _⟩ := hb (by omega)
    have ct : (nI t).toNatClampNeg = t := nI_clamp (by omega)
    have it : vp_in (nI t) 8 := vp_in_nI (by omega) (by omega)
    by_cases w : rg (t * 4 + ra) = 0
    · refine ⟨upd pc t (nI b), rg, FR_pc hF hb10, fun post hp => nm_r (e' := nI (t * 4)) e0 ⟨ia, nm_r (e' := nI (t * 4 + ra)) e1 ⟨ia, nm_r (e' := cb a) e2 ⟨ia, nm_r (e' := cc a) e3 ⟨ia, nm_r (e' := co a) e4 ?_⟩⟩⟩⟩, fun post N tu h => ?_⟩
      · rw [hop]
        exact br_f (by decide) (br_t (by decide) ⟨i1, br_t (by rw [c1]; exact w) ⟨it, nm_r (e' := upd pc t (nI b)) (by rw [ct, eb]) hp⟩⟩)
      · rw [hop]
        exact br_f (by decide) (br_f (by decide) (br_f (by decide) (br_f (by decide) (br_f (by decide) (br_t rfl (br_t w ⟨it, nm_r (e' := upd pc t (nI b)) (by rw [ct, eb]) (y_629 le00 h)⟩))))))
    · refine ⟨pc, rg, hF, fun post hp => nm_r (e' := nI (t * 4)) e0 ⟨ia, nm_r (e' := nI (t * 4 + ra)) e1 ⟨ia, nm_r (e' := cb a) e2 ⟨ia, nm_r (e' := cc a) e3 ⟨ia, nm_r (e' := co a) e4 ?_⟩⟩⟩⟩, fun post N tu h => ?_⟩
      · rw [hop]
        exact br_f (by decide) (br_t (by decide) ⟨i1, br_f (by rw [c1]; exact w) hp⟩)
      · rw [hop]
        exact br_f (by decide) (br_f (by decide) (br_f (by decide) (br_f (by decide) (br_f (by decide) (br_t rfl (br_f w (y_629 le00 h)))))))
/-- the reference's continuation behind an object's call -/
def c629 (post : Int32 → SY → Prop) (N t k tu : Nat) (r : Int32) (u : SY) : Prop := match u with
  | (y1, y2, y3, y4, y5, y6, y7, y8, y9, y10, y11, y12, y13, y14, y15, y16) => wY_send_629 post (wY_send_73 post N) (nI t) (nI (k + 1)) (nI tu) 0 0 r y1 y2 y3 y4 y5 y6 y7 y8 y9 y10 y11 y12 y13 y14 y15 y16
theorem s_obj {r : Int32} {u' : SX} {v' : SY} {XO : (Int32 → SX → Prop) → Prop} {YO : (Int32 → SY → Prop) → Prop} {XW : (Int32 → SX → Prop) → Prop} {YW : (Int32 → SY → Prop) → Nat → Nat → Prop} (hr : r = 0 ∨ r < 0) (hRL : RL (CB + 1) g0 g1 g2 g3 g4 g5 g6 g7 g8 g9 OL NL DL MT (nI (t + 1)) la le co ca cb cc fm pc fd rg yc u' v') (hF : FR MT DL ca fm pc fd (t + 1)) (hX : ∀ post, post r u' → XO post) (hY : ∀ post, post r v' → YO post) (gX : ∀ post, XO post → XW post) (gY : ∀ post N tu, tu < 700 → YO (c629 post N t k tu) → YW post N tu) : STP (CB + 1) (t + 1) k g0 g1 g2 g3 g4 g5 g6 g7 g8 g9 OL NL DL MT le co ca cb cc yc XW YW := by
  revert hX hY
  refine RL_el (P := fun u' v' => (∀ post, post r u' → XO post) → (∀ post, post r v' → YO post) → STP (CB + 1) (t + 1) k g0 g1 g2 g3 g4 g5 g6 g7 g8 g9 OL NL DL MT le co ca cb cc yc XW YW) ?_ hRL
  intro T ST pa so sv ce ar zs ls ks ps an ln ss es ec ep et ek ed sz ky lo I hX hY
  refine ⟨r, t + 1, la, fm, pc, fd, rg, T, ST, pa, so, sv, ce, ar, zs, ls, ks, ps, an, ln, ss, es, ec, ep, et, ek, ed, sz, ky, lo, I, fun post hp => gX post (hX post hp), ?_⟩
  rcases hr with rfl | hr
  · refine Or.inl ⟨rfl, by omega, by omega, hF, fun post N tu htu h => gY post N tu htu (hY _ ?_)⟩
    exact y_629 (by decide) h
  · refine Or.inr ⟨Or.inr (fun z => by rw [z] at hr; exact absurd hr (by decide)), fun post N tu htu h => gY post N tu htu (hY _ ?_)⟩
    exact y_629_n hr h
end
end
section
/-! the instructions on objects -/
section
variable {CB OL NL DL T ST MT : Nat} {g0 g1 g2 g3 g4 g5 g6 g7 g8 g9 fr la : Int32} {pa so sv ar zs ls ks ps an ln le co ca cb cc ss es ec ep ek ed fm pc fd rg sz ky lo yc : Nat → Int32} {ce et : Nat → Int64}
variable {k t a ra b : Nat} {x19 : Int32}
theorem x_acc (ht : t + 1 ≤ 8) (ha : a < 60) (hra : ra < 4) (era : ca a = nI ra) (hb4 : b < 4) (eb : cb a = nI b) (hF : FR MT DL ca fm pc fd (t + 1)) : vp_in (nI a) 60 ∧ nI t * 4 + ca (nI a).toNatClampNeg = nI (t * 4 + ra) ∧ nI t * 4 + cb (nI a).toNatClampNeg = nI (t * 4 + b) ∧ co (nI a).toNatClampNeg = co a ∧ vp_in (nI (t * 4 + ra)) 32 ∧ vp_in (nI (t * 4 + b)) 32 ∧ (nI (t * 4 + ra)).toNatClampNeg = t * 4 + ra ∧ (nI (t * 4 + b)).toNatClampNeg = t * 4 + b ∧ (nI a).toNatClampNeg = a := by
  have cA : (nI a).toNatClampNeg = a := nI_clamp (by omega)
  exact ⟨vp_in_nI ha (by omega), by rw [cA, era, zn_4], by rw [cA, eb, zn_4], by rw [cA], vp_in_nI (by omega) (by omega), vp_in_nI (by omega) (by omega), nI_clamp (by omega), nI_clamp (by omega), cA⟩
theorem s_set (I : IV CB T OL NL DL ST MT pa so ce ar zs ls ks ps an ln le co ca cb cc ss es ec ep et ek ed sz ky lo yc) (hCB : CB + 1 < 2 ^ 30) (ht : t + 1 ≤ 8) (ha : a < 60) (hra : ra < 4) (era : ca a = nI ra) (hb4 : b < 4) (eb : cb a = nI b) (hF : FR MT DL ca fm pc fd (t + 1)) (hem : EM MT le a) {n : Nat} (hop : co a = nI 7) (hn : n < NL) (hcc : cc a = nI n) : STP (CB + 1) (t + 1) k g0 g1 g2 g3 g4 g5 g6 g7 g8 g9 OL NL DL MT le co ca cb cc yc (fun post => wpX_access post (g0, g1, g2, g3, g4, g5, g6, g7, g8, g9, nI OL, nI NL, nI DL, nI T, nI ST, nI MT, nI (t + 1), la, pa, so, sv, ce, ar, zs, ls, ks, ps, an, ln, le, co, ca, cb, cc, ss, es, ec, ep, et, ek, ed, fm, pc, fd, rg) (nI a) (nI t)) (fun post N tu => wY_send_272 post (wY_send_73 post N) (nI t) (nI (k + 1)) (nI tu) 0 0 (co a) (cb a) (cc a) (nI (t * 4 + ra)) (rg (t * 4 + ra)) (rg (t * 4 + b)) x19 (nI OL) (nI NL) (nI DL) (nI T) (nI MT) la pa sz ky sv lo le yc fm pc rg) := by
  obtain ⟨ia, e1, e2, e4, i1, i2, c1, c2, cA⟩ := x_acc ht ha hra era hb4 eb hF
  obtain ⟨r, u', v', hr, hRL, hX, hY⟩ := l_sw (g0 := g0) (g1 := g1) (g2 := g2) (g3 := g3) (g4 := g4) (g5 := g5) (g6 := g6) (g7 := g7) (g8 := g8) (g9 := g9) (OL := OL) (NL := NL) (DL := DL) (T := T) (ST := ST) (MT := MT) (fr := nI (t + 1)) (la := la) (pa := pa) (so := so) (sv := sv) (ce := ce) (ar := ar) (zs := zs) (ls := ls) (ks := ks) (ps := ps) (an := an) (ln := ln) (le := le) (co := co) (ca := ca) (cb := cb) (cc := cc) (ss := ss) (es := es) (ec := ec) (ep := ep) (et := et) (ek := ek) (ed := ed) (fm := fm) (pc := pc) (fd := fd) (rg := rg) I hCB hem ha hn hop hcc (rg (t * 4 + ra)) (rg (t * 4 + b))
  refine s_obj hr hRL hF hX hY (fun post h => ⟨ia, nm_r (e' := nI (t * 4 + ra)) e1 ⟨ia, nm_r (e' := nI (t * 4 + b)) e2 ⟨ia, nm_r (e' := co a) e4 ?_⟩⟩⟩) (fun post N tu _ h => ?_)
  · rw [hop]
    exact br_f (by decide) (br_f (by decide) (br_f (by decide) (br_t rfl ⟨i1, i2, by rw [c1, c2]; exact h⟩)))
  · rw [hop, hcc]
    exact br_f (by decide) (br_f (by decide) (br_f (by decide) (br_f (by decide) (br_f (by decide) (br_f (by decide) (br_f (by decide) (br_t rfl h)))))))
theorem s_drop (I : IV CB T OL NL DL ST MT pa so ce ar zs ls ks ps an ln le co ca cb cc ss es ec ep et ek ed sz ky lo yc) (hCB : CB + 1 < 2 ^ 30) (ht : t + 1 ≤ 8) (ha : a < 60) (hra : ra < 4) (era : ca a = nI ra) (hb4 : b < 4) (eb : cb a = nI b) (hF : FR MT DL ca fm pc fd (t + 1)) {n : Nat} (hop : co a = nI 8) (hcc : cc a = nI n) : STP (CB + 1) (t + 1) k g0 g1 g2 g3 g4 g5 g6 g7 g8 g9 OL NL DL MT le co ca cb cc yc (fun post => wpX_access post (g0, g1, g2, g3, g4, g5, g6, g7, g8, g9, nI OL, nI NL, nI DL, nI T, nI ST, nI MT, nI (t + 1), la, pa, so, sv, ce, ar, zs, ls, ks, ps, an, ln, le, co, ca, cb, cc, ss, es, ec, ep, et, ek, ed, fm, pc, fd, rg) (nI a) (nI t)) (fun post N tu => wY_send_272 post (wY_send_73 post N) (nI t) (nI (k + 1)) (nI tu) 0 0 (co a) (cb a) (cc a) (nI (t * 4 + ra)) (rg (t * 4 + ra)) (rg (t * 4 + b)) x19 (nI OL) (nI NL) (nI DL) (nI T) (nI MT) la pa sz ky sv lo le yc fm pc rg) := by
  obtain ⟨ia, e1, e2, e4, i1, i2, c1, c2, cA⟩ := x_acc ht ha hra era hb4 eb hF
  obtain ⟨r, u', v', hr, hRL, hX, hY⟩ := l_remove (g0 := g0) (g1 := g1) (g2 := g2) (g3 := g3) (g4 := g4) (g5 := g5) (g6 := g6) (g7 := g7) (g8 := g8) (g9 := g9) (OL := OL) (NL := NL) (DL := DL) (T := T) (ST := ST) (MT := MT) (fr := nI (t + 1)) (la := la) (pa := pa) (so := so) (sv := sv) (ce := ce) (ar := ar) (zs := zs) (ls := ls) (ks := ks) (ps := ps) (an := an) (ln := ln) (le := le) (co := co) (ca := ca) (cb := cb) (cc := cc) (ss := ss) (es := es) (ec := ec) (ep := ep) (et := et) (ek := ek) (ed := ed) (fm := fm) (pc := pc) (fd := fd) (rg := rg) I hCB (rg (t * 4 + ra)) (nI n)
  refine s_obj hr hRL hF hX hY (fun post h => ⟨ia, nm_r (e' := nI (t * 4 + ra)) e1 ⟨ia, nm_r (e' := nI (t * 4 + b)) e2 ⟨ia, nm_r (e' := co a) e4 ?_⟩⟩⟩) (fun post N tu _ h => ?_)
  · rw [hop]
    exact br_f (by decide) (br_f (by decide) (br_f (by decide) (br_f (by decide) (br_t rfl ⟨i1, ia, by rw [c1, cA, hcc]; exact h⟩))))
  · rw [hop, hcc]
    exact br_f (by decide) (br_f (by decide) (br_f (by decide) (br_f (by decide) (br_f (by decide) (br_f (by decide) (br_f (by decide) (br_f (by decide) (br_t rfl h))))))))
theorem s_proto (I : IV CB T OL NL DL ST MT pa so ce ar zs ls ks ps an ln le co ca cb cc ss es ec ep et ek ed sz ky lo yc) (hCB : CB + 1 < 2 ^ 30) (ht : t + 1 ≤ 8) (ha : a < 60) (hra : ra < 4) (era : ca a = nI ra) (hb4 : b < 4) (eb : cb a = nI b) (hF : FR MT DL ca fm pc fd (t + 1)) (hop : co a = nI 9) : STP (CB + 1) (t + 1) k g0 g1 g2 g3 g4 g5 g6 g7 g8 g9 OL NL DL MT le co ca cb cc yc (fun post => wpX_access post (g0, g1, g2, g3, g4, g5, g6, g7, g8, g9, nI OL, nI NL, nI DL, nI T, nI ST, nI MT, nI (t + 1), la, pa, so, sv, ce, ar, zs, ls, ks, ps, an, ln, le, co, ca, cb, cc, ss, es, ec, ep, et, ek, ed, fm, pc, fd, rg) (nI a) (nI t)) (fun post N tu => wY_send_272 post (wY_send_73 post N) (nI t) (nI (k + 1)) (nI tu) 0 0 (co a) (cb a) (cc a) (nI (t * 4 + ra)) (rg (t * 4 + ra)) (rg (t * 4 + b)) x19 (nI OL) (nI NL) (nI DL) (nI T) (nI MT) la pa sz ky sv lo le yc fm pc rg) := by
  obtain ⟨ia, e1, e2, e4, i1, i2, c1, c2, cA⟩ := x_acc ht ha hra era hb4 eb hF
  obtain ⟨r, u', v', hr, hRL, hX, hY⟩ := l_setProto (g0 := g0) (g1 := g1) (g2 := g2) (g3 := g3) (g4 := g4) (g5 := g5) (g6 := g6) (g7 := g7) (g8 := g8) (g9 := g9) (OL := OL) (NL := NL) (DL := DL) (T := T) (ST := ST) (MT := MT) (fr := nI (t + 1)) (la := la) (pa := pa) (so := so) (sv := sv) (ce := ce) (ar := ar) (zs := zs) (ls := ls) (ks := ks) (ps := ps) (an := an) (ln := ln) (le := le) (co := co) (ca := ca) (cb := cb) (cc := cc) (ss := ss) (es := es) (ec := ec) (ep := ep) (et := et) (ek := ek) (ed := ed) (fm := fm) (pc := pc) (fd := fd) (rg := rg) I hCB (rg (t * 4 + ra)) (rg (t * 4 + b))
  refine s_obj hr hRL hF hX hY (fun post h => ⟨ia, nm_r (e' := nI (t * 4 + ra)) e1 ⟨ia, nm_r (e' := nI (t * 4 + b)) e2 ⟨ia, nm_r (e' := co a) e4 ?_⟩⟩⟩) (fun post N tu _ h => ?_)
  · rw [hop]
    exact br_f (by decide) (br_f (by decide) (br_f (by decide) (br_f (by decide) (br_f (by decide) (br_t rfl ⟨i1, i2, by rw [c1, c2]; exact h⟩)))))
  · rw [hop]
    exact br_f (by decide) (br_f (by decide) (br_f (by decide) (br_f (by decide) (br_f (by decide) (br_f (by decide) (br_f (by decide) (br_f (by decide) (br_f (by decide) (br_t rfl h)))))))))
theorem s_new (I : IV CB T OL NL DL ST MT pa so ce ar zs ls ks ps an ln le co ca cb cc ss es ec ep et ek ed sz ky lo yc) (ht : t + 1 ≤ 8) (ha : a < 60) (hra : ra < 4) (era : ca a = nI ra) (hb4 : b < 4) (eb : cb a = nI b) (hF : FR MT DL ca fm pc fd (t + 1)) (hop : co a = nI 10) : STP (CB + 1) (t + 1) k g0 g1 g2 g3 g4 g5 g6 g7 g8 g9 OL NL DL MT le co ca cb cc yc (fun post => wpX_access post (g0, g1, g2, g3, g4, g5, g6, g7, g8, g9, nI OL, nI NL, nI DL, nI T, nI ST, nI MT, nI (t + 1), la, pa, so, sv, ce, ar, zs, ls, ks, ps, an, ln, le, co, ca, cb, cc, ss, es, ec, ep, et, ek, ed, fm, pc, fd, rg) (nI a) (nI t)) (fun post N tu => wY_send_272 post (wY_send_73 post N) (nI t) (nI (k + 1)) (nI tu) 0 0 (co a) (cb a) (cc a) (nI (t * 4 + ra)) (rg (t * 4 + ra)) (rg (t * 4 + b)) x19 (nI OL) (nI NL) (nI DL) (nI T) (nI MT) la pa sz ky sv lo le yc fm pc rg) := by
  obtain ⟨ia, e1, e2, e4, i1, i2, c1, c2, cA⟩ := x_acc ht ha hra era hb4 eb hF
  obtain ⟨r, u', v', hRL, hX, hY⟩ := l_create (g0 := g0) (g1 := g1) (g2 := g2) (g3 := g3) (g4 := g4) (g5 := g5) (g6 := g6) (g7 := g7) (g8 := g8) (g9 := g9) (OL := OL) (NL := NL) (DL := DL) (T := T) (ST := ST) (MT := MT) (fr := nI (t + 1)) (la := la) (pa := pa) (so := so) (sv := sv) (ce := ce) (ar := ar) (zs := zs) (ls := ls) (ks := ks) (ps := ps) (an := an) (ln := ln) (le := le) (co := co) (ca := ca) (cb := cb) (cc := cc) (ss := ss) (es := es) (ec := ec) (ep := ep) (et := et) (ek := ek) (ed := ed) (fm := fm) (pc := pc) (fd := fd) (rg := rg) I (rg (t * 4 + b))
  have gX : ∀ post, wpX_doNew post (g0, g1, g2, g3, g4, g5, g6, g7, g8, g9, nI OL, nI NL, nI DL, nI T, nI ST, nI MT, nI (t + 1), la, pa, so, sv, ce, ar, zs, ls, ks, ps, an, ln, le, co, ca, cb, cc, ss, es, ec, ep, et, ek, ed, fm, pc, fd, rg) (nI (t * 4 + ra)) (rg (t * 4 + b)) → wpX_access post (g0, g1, g2, g3, g4, g5, g6, g7, g8, g9, nI OL, nI NL, nI DL, nI T, nI ST, nI MT, nI (t + 1), la, pa, so, sv, ce, ar, zs, ls, ks, ps, an, ln, le, co, ca, cb, cc, ss, es, ec, ep, et, ek, ed, fm, pc, fd, rg) (nI a) (nI t) := by
    intro post h
    refine ⟨ia, nm_r (e' := nI (t * 4 + ra)) e1 ⟨ia, nm_r (e' := nI (t * 4 + b)) e2 ⟨ia, nm_r (e' := co a) e4 ?_⟩⟩⟩
    rw [hop]
    exact br_f (by decide) (br_f (by decide) (br_f (by decide) (br_f (by decide) (br_f (by decide) (br_f (by decide) (br_t rfl ⟨i2, by rw [c2]; exact h⟩))))))
  revert hX hY
  refine RL_el (P := fun u' v' => (∀ post : Int32 → SX → Prop, post r u' → wpX_create post (g0, g1, g2, g3, g4, g5, g6, g7, g8, g9, nI OL, nI NL, nI DL, nI T, nI ST, nI MT, nI (t + 1), la, pa, so, sv, ce, ar, zs, ls, ks, ps, an, ln, le, co, ca, cb, cc, ss, es, ec, ep, et, ek, ed, fm, pc, fd, rg) (rg (t * 4 + b))) → (∀ post : Int32 → SY → Prop, post r v' → wpY_create post (nI OL, nI NL, nI DL, nI T, nI MT, la, pa, sz, ky, sv, lo, le, yc, fm, pc, rg) (rg (t * 4 + b))) → STP (CB + 1) (t + 1) k g0 g1 g2 g3 g4 g5 g6 g7 g8 g9 OL NL DL MT le co ca cb cc yc (fun post => wpX_access post (g0, g1, g2, g3, g4, g5, g6, g7, g8, g9, nI OL, nI NL, nI DL, nI T, nI ST, nI MT, nI (t + 1), la, pa, so, sv, ce, ar, zs, ls, ks, ps, an, ln, le, co, ca, cb, cc, ss, es, ec, ep, et, ek, ed, fm, pc, fd, rg) (nI a) (nI t)) (fun post N tu => wY_send_272 post (wY_send_73 post N) (nI t) (nI (k + 1)) (nI tu) 0 0 (co a) (cb a) (cc a) (nI (t * 4 + ra)) (rg (t * 4 + ra)) (rg (t * 4 + b)) x19 (nI OL) (nI NL) (nI DL) (nI T) (nI MT) la pa sz ky sv lo le yc fm pc rg)) ?_ hRL
  intro T' ST' pa' so' sv' ce' ar' zs' ls' ks' ps' an' ln' ss' es' ec' ep' et' ek' ed' sz' ky' lo' I2 hX hY
  by_cases hr : r < 0
  · refine ⟨r, t + 1, la, fm, pc, fd, rg, T', ST', pa', so', sv', ce', ar', zs', ls', ks', ps', an', ln', ss', es', ec', ep', et', ek', ed', sz', ky', lo', IV_up I2 (by omega), fun post hp => gX post ?_, Or.inr ⟨Or.inr (fun z => by rw [z] at hr; exact absurd hr (by decide)), fun post N tu htu h => ?_⟩⟩
    · unfold wpX_doNew
      exact hX _ (br_f (fun z => Int32.not_lt.mpr z hr) hp)
    · rw [hop]
      exact br_f (by decide) (br_f (by decide) (br_f (by decide) (br_f (by decide) (br_f (by decide) (br_f (by decide) (br_f (by decide) (br_f (by decide) (br_f (by decide) (br_f (by decide) (br_t rfl (hY _ (br_t hr (y_629_n hr h)))))))))))))
  · have hr0 : 0 ≤ r := Int32.not_lt.mp hr
    refine ⟨0, t + 1, la, fm, pc, fd, upd rg (t * 4 + ra) r, T', ST', pa', so', sv', ce', ar', zs', ls', ks', ps', an', ln', ss', es', ec', ep', et', ek', ed', sz', ky', lo', IV_up I2 (by omega), fun post hp => gX post ?_, Or.inl ⟨rfl, by omega, by omega, hF, fun post N tu htu h => ?_⟩⟩
    · unfold wpX_doNew
      exact hX _ (br_t hr0 ⟨i1, nm_r (e' := upd rg (t * 4 + ra) r) (by rw [c1]) hp⟩)
    · rw [hop]
      exact br_f (by decide) (br_f (by decide) (br_f (by decide) (br_f (by decide) (br_f (by decide) (br_f (by decide) (br_f (by decide) (br_f (by decide) (br_f (by decide) (br_f (by decide) (br_t rfl (hY _ (br_f hr ⟨i1, nm_r (e' := upd rg (t * 4 + ra) r) (by rw [c1]) (y_629 hr0 h)⟩))))))))))))
theorem s_get (I : IV CB T OL NL DL ST MT pa so ce ar zs ls ks ps an ln le co ca cb cc ss es ec ep et ek ed sz ky lo yc) (hCB : CB + 1 < 2 ^ 30) (ht : t + 1 ≤ 8) (ha : a < 60) (hra : ra < 4) (era : ca a = nI ra) (hb4 : b < 4) (eb : cb a = nI b) (hF : FR MT DL ca fm pc fd (t + 1)) (hem : EM MT le a) {n : Nat} (hop : co a = nI 6) (hn : n < NL) (hcc : cc a = nI n) : STP (CB + 1) (t + 1) k g0 g1 g2 g3 g4 g5 g6 g7 g8 g9 OL NL DL MT le co ca cb cc yc (fun post => wpX_access post (g0, g1, g2, g3, g4, g5, g6, g7, g8, g9, nI OL, nI NL, nI DL, nI T, nI ST, nI MT, nI (t + 1), la, pa, so, sv, ce, ar, zs, ls, ks, ps, an, ln, le, co, ca, cb, cc, ss, es, ec, ep, et, ek, ed, fm, pc, fd, rg) (nI a) (nI t)) (fun post N tu => wY_send_272 post (wY_send_73 post N) (nI t) (nI (k + 1)) (nI tu) 0 0 (co a) (cb a) (cc a) (nI (t * 4 + ra)) (rg (t * 4 + ra)) (rg (t * 4 + b)) x19 (nI OL) (nI NL) (nI DL) (nI T) (nI MT) la pa sz ky sv lo le yc fm pc rg) := by
  obtain ⟨ia, e1, e2, e4, i1, i2, c1, c2, cA⟩ := x_acc ht ha hra era hb4 eb hF
  have I' := I
  obtain ⟨⟨hTO, hOL, rk, R⟩, ⟨_, hN, _, _⟩, hTR, Q, hA, hE, hC, hCO⟩ := I
  have hT : T ≤ 12 := by omega
  have gX : ∀ post, wpX_doGet post (g0, g1, g2, g3, g4, g5, g6, g7, g8, g9, nI OL, nI NL, nI DL, nI T, nI ST, nI MT, nI (t + 1), la, pa, so, sv, ce, ar, zs, ls, ks, ps, an, ln, le, co, ca, cb, cc, ss, es, ec, ep, et, ek, ed, fm, pc, fd, rg) (nI a) (nI (t * 4 + ra)) (rg (t * 4 + b)) → wpX_access post (g0, g1, g2, g3, g4, g5, g6, g7, g8, g9, nI OL, nI NL, nI DL, nI T, nI ST, nI MT, nI (t + 1), la, pa, so, sv, ce, ar, zs, ls, ks, ps, an, ln, le, co, ca, cb, cc, ss, es, ec, ep, et, ek, ed, fm, pc, fd, rg) (nI a) (nI t) := by
    intro post h
    refine ⟨ia, nm_r (e' := nI (t * 4 + ra)) e1 ⟨ia, nm_r (e' := nI (t * 4 + b)) e2 ⟨ia, nm_r (e' := co a) e4 ?_⟩⟩⟩
    rw [hop]
    exact br_f (by decide) (br_f (by decide) (br_t rfl ⟨i2, by rw [c2]; exact h⟩))
  rcases zh_c T (by omega) (rg (t * 4 + b)) with h | ⟨q, hq, eq⟩
  · refine ⟨-2, t + 1, la, fm, pc, fd, rg, T, ST, pa, so, sv, ce, ar, zs, ls, ks, ps, an, ln, ss, es, ec, ep, et, ek, ed, sz, ky, lo, IV_up I' (by omega), fun post hp => gX post ?_, Or.inr ⟨Or.inr (by decide), fun post N tu htu hp => ?_⟩⟩
    · unfold wpX_doGet
      exact x_isH_f h (br_t rfl hp)
    · rw [hop]
      exact br_f (by decide) (br_f (by decide) (br_f (by decide) (br_f (by decide) (br_f (by decide) (br_f (by decide) (br_t rfl (y_isH_f h (br_t rfl hp))))))))
  · obtain ⟨ar', ss', es', ec', ep', et', ek', ed', w1, w2, w3⟩ := x_sr (g0 := g0) (g1 := g1) (g2 := g2) (g3 := g3) (g4 := g4) (g5 := g5) (g6 := g6) (g7 := g7) (g8 := g8) (g9 := g9) (OL := OL) (NL := NL) (DL := DL) (T := T) (ST := ST) (MT := MT) (fr := nI (t + 1)) (la := la) (pa := pa) (so := so) (sv := sv) (ce := ce) (ar := ar) (zs := zs) (ls := ls) (ks := ks) (ps := ps) (an := an) (ln := ln) (le := le) (co := co) (ca := ca) (cb := cb) (cc := cc) (ss := ss) (es := es) (ec := ec) (ep := ep) (et := et) (ek := ek) (ed := ed) (fm := fm) (pc := pc) (fd := fd) (rg := rg) hT R hTR.2.1 Q hA hE (by omega) hC hem ha hq hop (by omega) (by omega) (n := n) (by omega) hcc
    have I2 := IV_cache I' w1 w2
    refine ⟨0, t + 1, la, fm, pc, fd, upd rg (t * 4 + ra) (gv sv (slo (wo ps so n) (hol pa (wo ps so n) 12 (nI q)))), T, ST, pa, so, sv, ce, ar', zs, ls, ks, ps, an, ln, ss', es', ec', ep', et', ek', ed', sz, ky, lo, IV_up I2 (by omega), fun post hp => gX post ?_, Or.inl ⟨rfl, by omega, by omega, hF, fun post N tu htu h => ?_⟩⟩
    · rw [eq]
      unfold wpX_doGet
      refine x_isH_t hq hT (br_f zn_10n (w3 _ ?_))
      rcases hol_vp (ow := wo ps so n) R hT 12 (nI q) (Or.inr ⟨q, hq, rfl⟩) with h | ⟨p, hp', h, h2, _⟩
      · rw [h, slo_m1, gv_m1] at hp
        rw [h, slo_m1]
        exact br_t rfl ⟨i1, nm_r (e' := upd rg (t * 4 + ra) (-2147483648)) (by rw [c1]) hp⟩
      · rcases OQ_wo Q hp' (n := n) (by omega) with e | ⟨i, hi, e⟩
        · exact absurd e h2
        · rw [h, slo_i (by omega) e, gv_nI (by omega)] at hp
          rw [h, slo_i (by omega) e]
          exact br_f (zn_m1 (by omega)) ⟨vp_in_nI (by omega) (by omega), i1, nm_r (e' := upd rg (t * 4 + ra) (sv (p * 8 + i))) (by rw [c1, nI_clamp (by omega)]) hp⟩
    · rw [hop, hcc, eq]
      exact br_f (by decide) (br_f (by decide) (br_f (by decide) (br_f (by decide) (br_f (by decide) (br_f (by decide) (br_t rfl (y_isH_t hq hT (br_f zn_10n (y_get hT hN Q R hq hn ⟨i1, nm_r (e' := upd rg (t * 4 + ra) (gv sv (slo (wo ps so n) (hol pa (wo ps so n) 12 (nI q))))) (by rw [c1]) (y_629 (by decide) h)⟩)))))))))
theorem s_call (I : IV CB T OL NL DL ST MT pa so ce ar zs ls ks ps an ln le co ca cb cc ss es ec ep et ek ed sz ky lo yc) (hCB : CB + 1 < 2 ^ 30) (ht : t + 1 ≤ 8) (ha : a < 60) (hra : ra < 4) (era : ca a = nI ra) (hb4 : b < 4) (eb : cb a = nI b) (hF : FR MT DL ca fm pc fd (t + 1)) (hem : EM MT le a) {n m j : Nat} (hop : co a = nI 11) (hn : n < NL) (hcc : cc a = nI n) (hm : m < MT) (hj : j < 10) (em : a = m * 10 + j) (f1 : fm t = nI m) (f2 : pc t = nI (j + 1)) : STP (CB + 1) (t + 1) k g0 g1 g2 g3 g4 g5 g6 g7 g8 g9 OL NL DL MT le co ca cb cc yc (fun post => wpX_access post (g0, g1, g2, g3, g4, g5, g6, g7, g8, g9, nI OL, nI NL, nI DL, nI T, nI ST, nI MT, nI (t + 1), la, pa, so, sv, ce, ar, zs, ls, ks, ps, an, ln, le, co, ca, cb, cc, ss, es, ec, ep, et, ek, ed, fm, pc, fd, rg) (nI a) (nI t)) (fun post N tu => wY_send_272 post (wY_send_73 post N) (nI t) (nI (k + 1)) (nI tu) 0 0 (co a) (cb a) (cc a) (nI (t * 4 + ra)) (rg (t * 4 + ra)) (rg (t * 4 + b)) x19 (nI OL) (nI NL) (nI DL) (nI T) (nI MT) la pa sz ky sv lo le yc fm pc rg) := by
  obtain ⟨ia, e1, e2, e4, i1, i2, c1, c2, cA⟩ := x_acc ht ha hra era hb4 eb hF
  have I' := I
  obtain ⟨⟨hTO, hOL, rk, R⟩, ⟨_, hN, hD1, hD8⟩, hTR, Q, hA, hE, hC, hCO⟩ := I
  have hMT := hCO.1
  have hT : T ≤ 12 := by omega
  have gX : ∀ post, wpX_doCall post (g0, g1, g2, g3, g4, g5, g6, g7, g8, g9, nI OL, nI NL, nI DL, nI T, nI ST, nI MT, nI (t + 1), la, pa, so, sv, ce, ar, zs, ls, ks, ps, an, ln, le, co, ca, cb, cc, ss, es, ec, ep, et, ek, ed, fm, pc, fd, rg) (nI a) (rg (t * 4 + b)) (rg (t * 4 + ra)) → wpX_access post (g0, g1, g2, g3, g4, g5, g6, g7, g8, g9, nI OL, nI NL, nI DL, nI T, nI ST, nI MT, nI (t + 1), la, pa, so, sv, ce, ar, zs, ls, ks, ps, an, ln, le, co, ca, cb, cc, ss, es, ec, ep, et, ek, ed, fm, pc, fd, rg) (nI a) (nI t) := by
    intro post h
    refine ⟨ia, nm_r (e' := nI (t * 4 + ra)) e1 ⟨ia, nm_r (e' := nI (t * 4 + b)) e2 ⟨ia, nm_r (e' := co a) e4 ?_⟩⟩⟩
    rw [hop]
    exact br_f (by decide) (br_t (by decide) ⟨i2, i1, by rw [c1, c2]; exact h⟩)
  rcases zh_c T (by omega) (rg (t * 4 + b)) with h | ⟨q, hq, eq⟩
  · refine ⟨-2, t + 1, la, fm, pc, fd, rg, T, ST, pa, so, sv, ce, ar, zs, ls, ks, ps, an, ln, ss, es, ec, ep, et, ek, ed, sz, ky, lo, IV_up I' (by omega), fun post hp => gX post ?_, Or.inr ⟨Or.inr (by decide), fun post N tu htu hp => ?_⟩⟩
    · unfold wpX_doCall
      exact x_isH_f h (br_t rfl hp)
    · rw [hop]
      exact br_f (by decide) (br_f (by decide) (br_f (by decide) (br_f (by decide) (br_f (by decide) (br_f (by decide) (br_f (by decide) (br_f (by decide) (br_f (by decide) (br_f (by decide) (br_f (by decide) (br_t rfl (y_isH_f h (br_t rfl hp)))))))))))))
  obtain ⟨ar', ss', es', ec', ep', et', ek', ed', w1, w2, w3⟩ := x_sr (g0 := g0) (g1 := g1) (g2 := g2) (g3 := g3) (g4 := g4) (g5 := g5) (g6 := g6) (g7 := g7) (g8 := g8) (g9 := g9) (OL := OL) (NL := NL) (DL := DL) (T := T) (ST := ST) (MT := MT) (fr := nI (t + 1)) (la := la) (pa := pa) (so := so) (sv := sv) (ce := ce) (ar := ar) (zs := zs) (ls := ls) (ks := ks) (ps := ps) (an := an) (ln := ln) (le := le) (co := co) (ca := ca) (cb := cb) (cc := cc) (ss := ss) (es := es) (ec := ec) (ep := ep) (et := et) (ek := ek) (ed := ed) (fm := fm) (pc := pc) (fd := fd) (rg := rg) hT R hTR.2.1 Q hA hE (by omega) hC hem ha hq hop (by omega) (by omega) (n := n) (by omega) hcc
  have I2 := IV_up (IV_cache I' w1 w2) (show CB ≤ CB + 1 by omega)
  have hP : ∀ q, q < T → VP T (pa q) := fun q hq => RK_vp R hq
  rcases hol_vp (ow := wo ps so n) R hT 12 (nI q) (Or.inr ⟨q, hq, rfl⟩) with h | ⟨p, hp', h, h2, _⟩
  · refine ⟨-7, t + 1, la, fm, pc, fd, rg, T, ST, pa, so, sv, ce, ar', zs, ls, ks, ps, an, ln, ss', es', ec', ep', et', ek', ed', sz, ky, lo, I2, fun post hp => gX post ?_, Or.inr ⟨Or.inr (by decide), fun post N tu htu hp => ?_⟩⟩
    · rw [eq]
      unfold wpX_doCall
      refine x_isH_t hq hT (br_f zn_10n (w3 _ ?_))
      rw [h, slo_m1]
      exact br_t rfl hp
    · rw [hop, hcc, eq]
      exact br_f (by decide) (br_f (by decide) (br_f (by decide) (br_f (by decide) (br_f (by decide) (br_f (by decide) (br_f (by decide) (br_f (by decide) (br_f (by decide) (br_f (by decide) (br_f (by decide) (br_t rfl (y_isH_t hq hT (br_f zn_10n (y_hol hT hN Q hP hq hn (br_t h hp)))))))))))))))
  obtain ⟨i, hi, e⟩ : ∃ i, i < 8 ∧ wo ps so n p = nI i := by
    rcases OQ_wo Q hp' (n := n) (by omega) with z | z
    · exact absurd z h2
    · exact z
  have hsl : slo (wo ps so n) (hol pa (wo ps so n) 12 (nI q)) = nI (p * 8 + i) := by rw [h, slo_i (by omega) e]
  have i96 : vp_in (nI (p * 8 + i)) 96 := vp_in_nI (by omega) (by omega)
  have c96 : (nI (p * 8 + i)).toNatClampNeg = p * 8 + i := nI_clamp (by omega)
  have hgv : gv sv (slo (wo ps so n) (hol pa (wo ps so n) 12 (nI q))) = sv (p * 8 + i) := by rw [hsl, gv_nI (by omega)]
  have hne : ¬ hol pa (wo ps so n) 12 (nI q) = -1 := by rw [h]; exact zn_m1 (by omega)
  rcases zh_c MT (by omega) (sv (p * 8 + i)) with hv | ⟨m', hm', ev⟩
  · refine ⟨-9, t + 1, la, fm, pc, fd, rg, T, ST, pa, so, sv, ce, ar', zs, ls, ks, ps, an, ln, ss', es', ec', ep', et', ek', ed', sz, ky, lo, I2, fun post hp => gX post ?_, Or.inr ⟨Or.inr (by decide), fun post N tu htu hp => ?_⟩⟩
    · rw [eq]
      unfold wpX_doCall
      refine x_isH_t hq hT (br_f zn_10n (w3 _ ?_))
      rw [hsl]
      exact br_f (zn_m1 (by omega)) ⟨i96, nm_r (e' := sv (p * 8 + i)) (by rw [c96]) (x_isC_f hv (br_t rfl hp))⟩
    · rw [hop, hcc, eq]
      exact br_f (by decide) (br_f (by decide) (br_f (by decide) (br_f (by decide) (br_f (by decide) (br_f (by decide) (br_f (by decide) (br_f (by decide) (br_f (by decide) (br_f (by decide) (br_f (by decide) (br_t rfl (y_isH_t hq hT (br_f zn_10n (y_hol hT hN Q hP hq hn (br_f hne (y_get hT hN Q R hq hn (by rw [hgv]; exact y_isC_f hv (br_t rfl hp))))))))))))))))))
  by_cases hD : t + 1 < DL
  · refine ⟨0, t + 2, la, upd fm (t + 1) (nI m'), upd pc (t + 1) 0, upd fd (t + 1) (ca a), upd (upd (upd (upd rg ((t + 1) * 4) (nI q)) ((t + 1) * 4 + 1) (rg (t * 4 + ra))) ((t + 1) * 4 + 2) 0) ((t + 1) * 4 + 3) 0, T, ST, pa, so, sv, ce, ar', zs, ls, ks, ps, an, ln, ss', es', ec', ep', et', ek', ed', sz, ky, lo, I2, fun post hp => gX post ?_, Or.inl ⟨rfl, by omega, by omega, FR_push hF hD hm hj f1 f2 hm' (by rw [em]), fun post N tu htu h3 => ?_⟩⟩
    · rw [eq]
      unfold wpX_doCall
      refine x_isH_t hq hT (br_f zn_10n (w3 _ ?_))
      rw [hsl]
      exact br_f (zn_m1 (by omega)) ⟨i96, nm_r (e' := nI m') (by rw [c96, ev]) (x_isC_t hm' hMT (br_f zn_10n (br_t (nI_lt hD (by omega)) ⟨ia, by rw [cA]; exact x_enter (by omega) hp⟩)))⟩
    · rw [hop, hcc, eq]
      exact br_f (by decide) (br_f (by decide) (br_f (by decide) (br_f (by decide) (br_f (by decide) (br_f (by decide) (br_f (by decide) (br_f (by decide) (br_f (by decide) (br_f (by decide) (br_f (by decide) (br_t rfl (y_isH_t hq hT (br_f zn_10n (y_hol hT hN Q hP hq hn (br_f hne (y_get hT hN Q R hq hn (by rw [hgv, ev]; exact y_isC_t hm' hMT (br_f zn_10n (br_t (by rw [nI_1]; exact nI_lt hD (by omega)) (nm_r (e' := nI (t + 1)) (nI_1 t) (y_enter (by omega) (y_629 (by decide) h3))))))))))))))))))))))
  · refine ⟨-10, t + 1, la, fm, pc, fd, rg, T, ST, pa, so, sv, ce, ar', zs, ls, ks, ps, an, ln, ss', es', ec', ep', et', ek', ed', sz, ky, lo, I2, fun post hp => gX post ?_, Or.inr ⟨Or.inr (by decide), fun post N tu htu hp => ?_⟩⟩
    · rw [eq]
      unfold wpX_doCall
      refine x_isH_t hq hT (br_f zn_10n (w3 _ ?_))
      rw [hsl]
      exact br_f (zn_m1 (by omega)) ⟨i96, nm_r (e' := nI m') (by rw [c96, ev]) (x_isC_t hm' hMT (br_f zn_10n (br_f (nI_nlt (by omega) (by omega)) hp)))⟩
    · rw [hop, hcc, eq]
      exact br_f (by decide) (br_f (by decide) (br_f (by decide) (br_f (by decide) (br_f (by decide) (br_f (by decide) (br_f (by decide) (br_f (by decide) (br_f (by decide) (br_f (by decide) (br_f (by decide) (br_t rfl (y_isH_t hq hT (br_f zn_10n (y_hol hT hN Q hP hq hn (br_f hne (y_get hT hN Q R hq hn (by rw [hgv, ev]; exact y_isC_t hm' hMT (br_f zn_10n (br_f (by rw [nI_1]; exact nI_nlt (by omega) (by omega)) hp)))))))))))))))))))
end
end
section
/-! step, run, send -/
section
variable {CB OL NL DL T ST MT : Nat} {g0 g1 g2 g3 g4 g5 g6 g7 g8 g9 fr la : Int32} {pa so sv ar zs ls ks ps an ln le co ca cb cc ss es ec ep ek ed fm pc fd rg sz ky lo yc : Nat → Int32} {ce et : Nat → Int64}
variable {k t m j l : Nat}
theorem s_step (I : IV CB T OL NL DL ST MT pa so ce ar zs ls ks ps an ln le co ca cb cc ss es ec ep et ek ed sz ky lo yc) (hCB : CB + 1 < 2 ^ 30) (hF : FR MT DL ca fm pc fd (t + 1)) (hm : m < MT) (f1 : fm t = nI m) (f2 : pc t = nI j) (f3 : le m = nI l) (hjl : j < l) (hl : l ≤ 10) (hk : k < 300) :
    STP (CB + 1) (t + 1) k g0 g1 g2 g3 g4 g5 g6 g7 g8 g9 OL NL DL MT le co ca cb cc yc (fun post => wpX_step post (g0, g1, g2, g3, g4, g5, g6, g7, g8, g9, nI OL, nI NL, nI DL, nI T, nI ST, nI MT, nI (t + 1), la, pa, so, sv, ce, ar, zs, ls, ks, ps, an, ln, le, co, ca, cb, cc, ss, es, ec, ep, et, ek, ed, fm, pc, fd, rg)) (fun post N tu => wY_send_73 post (N + 1) (nI t) (nI k) (nI tu) (nI OL) (nI NL) (nI DL) (nI T) (nI MT) la pa sz ky sv lo le yc fm pc rg) := by
  have I' := I
  obtain ⟨hO, ⟨_, hN, _, hDL⟩, hTR, Q, hA, hE, hC, ⟨hMT, hle, hW⟩⟩ := I
  have ht : t + 1 ≤ 8 := by have := hF.1; omega
  have ha : m * 10 + j < 60 := by omega
  obtain ⟨⟨op, ra, c, hop12, hop, hra, era, hc8, hcc, hb, hc4, hcN⟩, w0, w1, w2, w3⟩ := hW (m * 10 + j) ha
  have hem : EM MT le (m * 10 + j) := ⟨m, j, l, hm, rfl, by omega, f3, hjl, hl⟩
  have hF1 : FR MT DL ca fm (upd pc t (nI (j + 1))) fd (t + 1) := FR_pc hF (by omega)
  have ct : (nI t).toNatClampNeg = t := nI_clamp (by omega)
  have it : vp_in (nI t) 8 := vp_in_nI (by omega) (by omega)
  have ia : vp_in (nI (m * 10 + j)) 60 := vp_in_nI ha (by omega)
  have cA : (nI (m * 10 + j)).toNatClampNeg = m * 10 + j := nI_clamp (by omega)
  have eat : fm (nI t).toNatClampNeg * 10 + pc (nI t).toNatClampNeg = nI (m * 10 + j) := by rw [ct, f1, f2, zn_10]
  have epc : upd pc (nI t).toNatClampNeg (pc (nI t).toNatClampNeg + 1) = upd pc t (nI (j + 1)) := by rw [ct, f2, nI_1]
  have eco : co (nI (m * 10 + j)).toNatClampNeg = co (m * 10 + j) := by rw [cA]
  obtain ⟨x19, h19⟩ := RV_ex rg t (cc (m * 10 + j))
  by_cases h5 : op ≤ 5
  · obtain ⟨x18, h18⟩ := RV_ex rg t (cb (m * 10 + j))
    obtain ⟨pc1, rg1, hF2, hX, hY⟩ := s_comp (g0 := g0) (g1 := g1) (g2 := g2) (g3 := g3) (g4 := g4) (g5 := g5) (g6 := g6) (g7 := g7) (g8 := g8) (g9 := g9) (OL := OL) (NL := NL) (DL := DL) (T := T) (ST := ST) (MT := MT) (la := la) (pa := pa) (so := so) (sv := sv) (ce := ce) (ar := ar) (zs := zs) (ls := ls) (ks := ks) (ps := ps) (an := an) (ln := ln) (le := le) (co := co) (ca := ca) (cb := cb) (cc := cc) (ss := ss) (es := es) (ec := ec) (ep := ep) (et := et) (ek := ek) (ed := ed) (fm := fm) (pc := upd pc t (nI (j + 1))) (fd := fd) (rg := rg) (sz := sz) (ky := ky) (lo := lo) (yc := yc) (k := k) ht ha hop h5 hra era hb (fun z => ⟨c, hc4 z, hcc⟩) h18 h19 hF1
    refine ⟨0, t + 1, la, fm, pc1, fd, rg1, T, ST, pa, so, sv, ce, ar, zs, ls, ks, ps, an, ln, ss, es, ec, ep, et, ek, ed, sz, ky, lo, IV_up I' (by omega), fun post hp => nm_r (e' := nI t) (nI_pred t) ⟨it, it, nm_r (e' := nI (m * 10 + j)) eat ⟨it, it, nm_r (e' := upd pc t (nI (j + 1))) epc ⟨ia, nm_r (e' := co (m * 10 + j)) eco ?_⟩⟩⟩, Or.inl ⟨rfl, by omega, by omega, hF2, fun post N tu htu h => y_fetch (by omega) htu hk (by omega) hl f1 f2 f3 hjl w0 w1 w2 w3 hra era h18 h19 (hY post N tu h)⟩⟩
    rw [hop]
    exact br_f (nI_nlt (a := 5) h5 (by decide)) (hX _ hp)
  · obtain ⟨b, _, eb, hb5⟩ := hb (by omega)
    have hb4 : b < 4 := hb5 (by omega)
    clear hb5
    have h18 : RV rg t (cb (m * 10 + j)) (rg (t * 4 + b)) := Or.inl ⟨b, hb4, eb, rfl⟩
    have n5 : (5 : Int32) < nI op := nI_lt (a := 5) (by omega) (by omega)
    have gY : ∀ (post : Int32 → SY → Prop) (N tu : Nat), tu < 700 → wY_send_272 post (wY_send_73 post N) (nI t) (nI (k + 1)) (nI tu) 0 0 (co (m * 10 + j)) (cb (m * 10 + j)) (cc (m * 10 + j)) (nI (t * 4 + ra)) (rg (t * 4 + ra)) (rg (t * 4 + b)) x19 (nI OL) (nI NL) (nI DL) (nI T) (nI MT) la pa sz ky sv lo le yc fm (upd pc t (nI (j + 1))) rg → wY_send_73 post (N + 1) (nI t) (nI k) (nI tu) (nI OL) (nI NL) (nI DL) (nI T) (nI MT) la pa sz ky sv lo le yc fm pc rg :=
      fun post N tu htu h => y_fetch (by omega) htu hk (by omega) hl f1 f2 f3 hjl w0 w1 w2 w3 hra era h18 h19 h
    by_cases h12 : op = 12
    · subst h12
      have e1 : nI t * 4 + ca (nI (m * 10 + j)).toNatClampNeg = nI (t * 4 + ra) := by rw [cA, era, zn_4]
      have i1 : vp_in (nI t * 4 + ca (nI (m * 10 + j)).toNatClampNeg) 32 := by rw [e1]; exact vp_in_nI (by omega) (by omega)
      have c1 : (nI t * 4 + ca (nI (m * 10 + j)).toNatClampNeg).toNatClampNeg = t * 4 + ra := by rw [e1, nI_clamp (by omega)]
      have le00 : (0 : Int32) ≤ 0 := by decide
      cases t with
      | zero =>
        refine ⟨0, 0, rg (0 * 4 + ra), fm, upd pc 0 (nI (j + 1)), fd, rg, T, ST, pa, so, sv, ce, ar, zs, ls, ks, ps, an, ln, ss, es, ec, ep, et, ek, ed, sz, ky, lo, IV_up I' (by omega), fun post hp => nm_r (e' := nI 0) (nI_pred 0) ⟨it, it, nm_r (e' := nI (m * 10 + j)) eat ⟨it, it, nm_r (e' := upd pc 0 (nI (j + 1))) epc ⟨ia, nm_r (e' := co (m * 10 + j)) eco ?_⟩⟩⟩, Or.inr ⟨Or.inl ⟨rfl, rfl⟩, fun post N tu htu h => gY post N tu htu ?_⟩⟩
        · rw [hop]
          exact br_t n5 (br_t rfl ⟨ia, i1, by rw [c1]; exact x_leave0 hp⟩)
        · rw [hop]
          exact br_f (by decide) (br_f (by decide) (br_f (by decide) (br_f (by decide) (br_f (by decide) (br_f (by decide) (br_f (by decide) (br_f (by decide) (br_f (by decide) (br_f (by decide) (br_f (by decide) (br_f (by decide) (br_t le00 (y_ret0 h)))))))))))))
      | succ t =>
        obtain ⟨m2, j2, hm2, hj2, q1, q2, q3⟩ := hF1.2.2 t (by omega)
        obtain ⟨⟨_, ra2, _, _, _, hra2, era2, _⟩, _, y1, _, _⟩ := hW (m2 * 10 + j2) (by omega)
        refine ⟨0, t + 1, la, fm, upd pc (t + 1) (nI (j + 1)), fd, upd rg (t * 4 + ra2) (rg ((t + 1) * 4 + ra)), T, ST, pa, so, sv, ce, ar, zs, ls, ks, ps, an, ln, ss, es, ec, ep, et, ek, ed, sz, ky, lo, IV_up I' (by omega), fun post hp => nm_r (e' := nI (t + 1)) (nI_pred (t + 1)) ⟨it, it, nm_r (e' := nI (m * 10 + j)) eat ⟨it, it, nm_r (e' := upd pc (t + 1) (nI (j + 1))) epc ⟨ia, nm_r (e' := co (m * 10 + j)) eco ?_⟩⟩⟩, Or.inl ⟨rfl, by omega, by omega, FR_down hF1 (by omega), fun post N tu htu h => gY post N tu htu ?_⟩⟩
        · rw [hop]
          exact br_t n5 (br_t rfl ⟨ia, i1, by rw [c1]; exact x_leaveS ht hra2 (q3.trans era2) hp⟩)
        · rw [hop]
          exact br_f (by decide) (br_f (by decide) (br_f (by decide) (br_f (by decide) (br_f (by decide) (br_f (by decide) (br_f (by decide) (br_f (by decide) (br_f (by decide) (br_f (by decide) (br_f (by decide) (br_f (by decide) (br_t le00 (y_retS (by omega) (by omega) hj2 q1 q2 (y1.trans era2) hra2 h)))))))))))))
    · have gX : ∀ post : Int32 → SX → Prop, wpX_access post (g0, g1, g2, g3, g4, g5, g6, g7, g8, g9, nI OL, nI NL, nI DL, nI T, nI ST, nI MT, nI (t + 1), la, pa, so, sv, ce, ar, zs, ls, ks, ps, an, ln, le, co, ca, cb, cc, ss, es, ec, ep, et, ek, ed, fm, upd pc t (nI (j + 1)), fd, rg) (nI (m * 10 + j)) (nI t) → wpX_step post (g0, g1, g2, g3, g4, g5, g6, g7, g8, g9, nI OL, nI NL, nI DL, nI T, nI ST, nI MT, nI (t + 1), la, pa, so, sv, ce, ar, zs, ls, ks, ps, an, ln, le, co, ca, cb, cc, ss, es, ec, ep, et, ek, ed, fm, pc, fd, rg) := by
        intro post h
        refine nm_r (e' := nI t) (nI_pred t) ⟨it, it, nm_r (e' := nI (m * 10 + j)) eat ⟨it, it, nm_r (e' := upd pc t (nI (j + 1))) epc ⟨ia, nm_r (e' := co (m * 10 + j)) eco ?_⟩⟩⟩
        rw [hop]
        exact br_t n5 (br_f (zn_ne (b := 12) (by omega) (by omega) h12) h)
      rcases (show op = 6 ∨ op = 7 ∨ op = 8 ∨ op = 9 ∨ op = 10 ∨ op = 11 by omega) with rfl | rfl | rfl | rfl | rfl | rfl
      · exact STP_mono (s_get I' hCB ht ha hra era hb4 eb hF1 hem hop (hcN (by omega)) hcc) gX gY
      · exact STP_mono (s_set I' hCB ht ha hra era hb4 eb hF1 hem hop (hcN (by omega)) hcc) gX gY
      · exact STP_mono (s_drop I' hCB ht ha hra era hb4 eb hF1 hop hcc) gX gY
      · exact STP_mono (s_proto I' hCB ht ha hra era hb4 eb hF1 hop) gX gY
      · exact STP_mono (s_new I' ht ha hra era hb4 eb hF1 hop) gX gY
      · exact STP_mono (s_call I' hCB ht ha hra era hb4 eb hF1 hem hop (hcN (by omega)) hcc hm (by omega) rfl f1 pk_us) gX gY
end
section
variable {OL NL DL T MT : Nat} {la : Int32} {pa sz ky sv lo le yc fm pc rg : Nat → Int32}
theorem y_stop {post : Int32 → SY → Prop} {N t tu m j l : Nat} (ht : t < 8) (htu : tu < 700) (hm : m < 6) (hl : l ≤ 10) (e1 : fm t = nI m) (e2 : pc t = nI j) (e3 : le m = nI l) (hd : j < l) (h : post (-11) (nI OL, nI NL, nI DL, nI T, nI MT, la, pa, sz, ky, sv, lo, le, yc, fm, pc, rg)) : wY_send_73 post (N + 1) (nI t) (nI 300) (nI tu) (nI OL) (nI NL) (nI DL) (nI T) (nI MT) la pa sz ky sv lo le yc fm pc rg := by
  have c : (nI t).toNatClampNeg = t := nI_clamp (by omega)
  have i : vp_in (nI t) 8 := vp_in_nI (by omega) (by omega)
  have cm : (nI m).toNatClampNeg = m := nI_clamp (by omega)
  exact br_f (nI_ge (b := 700) (by omega) (by decide)) ⟨i, nm_r (e' := nI m) (by rw [c, e1]) ⟨i, nm_r (e' := nI j) (by rw [c, e2]) ⟨vp_in_nI (by omega) (by omega), br_t (by rw [cm, e3]; exact nI_lt hd (by omega)) (br_f (by decide) h)⟩⟩⟩
end
section
variable {OL NL DL T ST MT : Nat} {g0 g1 g2 g3 g4 g5 g6 g7 g8 g9 fr la : Int32} {pa so sv ar zs ls ks ps an ln le co ca cb cc ss es ec ep ek ed fm pc fd rg : Nat → Int32} {ce et : Nat → Int64}
theorem x_le0 {post : SX → Prop} (h : post (g0, g1, g2, g3, g4, g5, g6, g7, g8, g9, nI OL, nI NL, nI DL, nI T, nI ST, nI MT, nI 0, la, pa, so, sv, ce, ar, zs, ls, ks, ps, an, ln, le, co, ca, cb, cc, ss, es, ec, ep, et, ek, ed, fm, pc, fd, rg)) : wpX_leaveEnded post (g0, g1, g2, g3, g4, g5, g6, g7, g8, g9, nI OL, nI NL, nI DL, nI T, nI ST, nI MT, nI 0, la, pa, so, sv, ce, ar, zs, ls, ks, ps, an, ln, le, co, ca, cb, cc, ss, es, ec, ep, et, ek, ed, fm, pc, fd, rg) := ⟨1, br_f (by decide) (br_t (by decide) h)⟩
theorem x_run0 {post : Int32 → SX → Prop} {N k : Nat} (hk : k ≤ 300) (h : post 0 (g0, g1, g2, g3, g4, g5, g6, g7, g8, g9, nI OL, nI NL, nI DL, nI T, nI ST, nI MT, nI 0, la, pa, so, sv, ce, ar, zs, ls, ks, ps, an, ln, le, co, ca, cb, cc, ss, es, ec, ep, et, ek, ed, fm, pc, fd, rg)) : wX_run_2 post (N + 1) (nI k) g0 g1 g2 g3 g4 g5 g6 g7 g8 g9 (nI OL) (nI NL) (nI DL) (nI T) (nI ST) (nI MT) (nI 0) la pa so sv ce ar zs ls ks ps an ln le co ca cb cc ss es ec ep et ek ed fm pc fd rg := br_f (nI_nlt (a := 300) hk (by decide)) (x_le0 (br_t rfl h))
end
section
variable {KK : Nat}
variable {OL NL DL MT : Nat} {g0 g1 g2 g3 g4 g5 g6 g7 g8 g9 : Int32} {le co ca cb cc yc : Nat → Int32}
theorem run_all (hKK : 400 * KK + 1 < 2 ^ 30) : ∀ (d k : Nat), k + d = 300 → ∀ (CB F : Nat) (la : Int32) (fm pc fd rg : Nat → Int32) (T : Nat) (ST : Nat) (pa : Nat → Int32) (so : Nat → Int32) (sv : Nat → Int32) (ce : Nat → Int64) (ar : Nat → Int32) (zs : Nat → Int32) (ls : Nat → Int32) (ks : Nat → Int32) (ps : Nat → Int32) (an : Nat → Int32) (ln : Nat → Int32) (ss : Nat → Int32) (es : Nat → Int32) (ec : Nat → Int32) (ep : Nat → Int32) (et : Nat → Int64) (ek : Nat → Int32) (ed : Nat → Int32) (sz : Nat → Int32) (ky : Nat → Int32) (lo : Nat → Int32), IV CB T OL NL DL ST MT pa so ce ar zs ls ks ps an ln le co ca cb cc ss es ec ep et ek ed sz ky lo yc → 1 ≤ F → FR MT DL ca fm pc fd F → CB + d + 1 ≤ 400 * KK →
    ∃ r u' v', i_Rel KK u' v' ∧ (∀ (post : Int32 → SX → Prop) N, d + 1 < N → post r u' → wX_run_2 post N (nI k) g0 g1 g2 g3 g4 g5 g6 g7 g8 g9 (nI OL) (nI NL) (nI DL) (nI T) (nI ST) (nI MT) (nI F) la pa so sv ce ar zs ls ks ps an ln le co ca cb cc ss es ec ep et ek ed fm pc fd rg) ∧ (∀ (post : Int32 → SY → Prop) N tu, tu + 2 * d + F ≤ 690 → 2 * d + F + 1 ≤ N → post r v' → wY_send_73 post N (nI (F - 1)) (nI k) (nI tu) (nI OL) (nI NL) (nI DL) (nI T) (nI MT) la pa sz ky sv lo le yc fm pc rg) := by
  intro d
  induction d with
  | zero =>
    intro k hk CB F la fm pc fd rg T ST pa so sv ce ar zs ls ks ps an ln ss es ec ep et ek ed sz ky lo I hF1 hF hCB
    have hDL := I.2.1.2.2.2
    have hMT := I.2.2.2.2.2.2.2.1
    have hF8 : F ≤ 8 := by have := hF.1; omega
    have k300 : ¬ (300 : Int32) < nI k := nI_nlt (a := 300) (by omega) (by decide)
    obtain ⟨F', la', rg', hF', hX, hY⟩ := l_ended (g0 := g0) (g1 := g1) (g2 := g2) (g3 := g3) (g4 := g4) (g5 := g5) (g6 := g6) (g7 := g7) (g8 := g8) (g9 := g9) (OL := OL) (NL := NL) (DL := DL) (T := T) (ST := ST) (MT := MT) (la := la) (pa := pa) (so := so) (sv := sv) (ce := ce) (ar := ar) (zs := zs) (ls := ls) (ks := ks) (ps := ps) (an := an) (ln := ln) (le := le) (co := co) (ca := ca) (cb := cb) (cc := cc) (ss := ss) (es := es) (ec := ec) (ep := ep) (et := et) (ek := ek) (ed := ed) (fm := fm) (pc := pc) (fd := fd) (sz := sz) (ky := ky) (lo := lo) (yc := yc) I.2.2.2.2.2.2.2 hDL k F rg hF
    rcases hY with ⟨h0, hY⟩ | ⟨h1, hla, ⟨m, j, l, hm, f1, f2, f3, hjl, hl⟩, hY⟩
    · subst h0
      refine ⟨0, (g0, g1, g2, g3, g4, g5, g6, g7, g8, g9, nI OL, nI NL, nI DL, nI T, nI ST, nI MT, nI 0, la', pa, so, sv, ce, ar, zs, ls, ks, ps, an, ln, le, co, ca, cb, cc, ss, es, ec, ep, et, ek, ed, fm, pc, fd, rg'), (nI OL, nI NL, nI DL, nI T, nI MT, la', pa, sz, ky, sv, lo, le, yc, fm, pc, rg'), RL_rel (RL_in I) (by omega), fun post N hN hp => ?_, fun post N tu htu hN hp => hY hF1 post N tu (by omega) (by omega) hp⟩
      obtain ⟨N, rfl⟩ : ∃ N', N = N' + 1 := ⟨N - 1, by omega⟩
      exact br_f k300 ⟨F + 1, hX _ (F + 1) 0 (by omega) (by omega) (br_t rfl hp)⟩
    · subst hla
      have ek' : k = 300 := by omega
      subst ek'
      refine ⟨-11, (g0, g1, g2, g3, g4, g5, g6, g7, g8, g9, nI OL, nI NL, nI DL, nI T, nI ST, nI MT, nI F', la', pa, so, sv, ce, ar, zs, ls, ks, ps, an, ln, le, co, ca, cb, cc, ss, es, ec, ep, et, ek, ed, fm, pc, fd, rg'), (nI OL, nI NL, nI DL, nI T, nI MT, la', pa, sz, ky, sv, lo, le, yc, fm, pc, rg'), RL_rel (RL_in I) (by omega), fun post N hN hp => ?_, fun post N tu htu hN hp => ?_⟩
      · obtain ⟨N, rfl⟩ : ∃ N', N = N' + 1 := ⟨N - 1, by omega⟩
        exact br_f k300 ⟨F + 1, hX _ (F + 1) 0 (by omega) (by omega) (br_f (nI_ne0 (by omega) (by omega)) (br_t rfl hp))⟩
      · obtain ⟨N, rfl⟩ : ∃ N', N = N' + 1 + (F - F') := ⟨N - 1 - (F - F'), by omega⟩
        exact hY post (N + 1) tu (by omega) (y_stop (by omega) (by omega) (by omega) hl f1 f2 f3 hjl hp)
  | succ d ih =>
    intro k hk CB F la fm pc fd rg T ST pa so sv ce ar zs ls ks ps an ln ss es ec ep et ek ed sz ky lo I hF1 hF hCB
    have hDL := I.2.1.2.2.2
    have hMT := I.2.2.2.2.2.2.2.1
    have hF8 : F ≤ 8 := by have := hF.1; omega
    have k300 : ¬ (300 : Int32) < nI k := nI_nlt (a := 300) (by omega) (by decide)
    have kne : ¬ nI k = 300 := zn_ne (b := 300) (by omega) (by omega) (by omega)
    obtain ⟨F', la', rg', hF', hX, hY⟩ := l_ended (g0 := g0) (g1 := g1) (g2 := g2) (g3 := g3) (g4 := g4) (g5 := g5) (g6 := g6) (g7 := g7) (g8 := g8) (g9 := g9) (OL := OL) (NL := NL) (DL := DL) (T := T) (ST := ST) (MT := MT) (la := la) (pa := pa) (so := so) (sv := sv) (ce := ce) (ar := ar) (zs := zs) (ls := ls) (ks := ks) (ps := ps) (an := an) (ln := ln) (le := le) (co := co) (ca := ca) (cb := cb) (cc := cc) (ss := ss) (es := es) (ec := ec) (ep := ep) (et := et) (ek := ek) (ed := ed) (fm := fm) (pc := pc) (fd := fd) (sz := sz) (ky := ky) (lo := lo) (yc := yc) I.2.2.2.2.2.2.2 hDL k F rg hF
    rcases hY with ⟨h0, hY⟩ | ⟨h1, hla, ⟨m, j, l, hm, f1, f2, f3, hjl, hl⟩, hY⟩
    · subst h0
      refine ⟨0, (g0, g1, g2, g3, g4, g5, g6, g7, g8, g9, nI OL, nI NL, nI DL, nI T, nI ST, nI MT, nI 0, la', pa, so, sv, ce, ar, zs, ls, ks, ps, an, ln, le, co, ca, cb, cc, ss, es, ec, ep, et, ek, ed, fm, pc, fd, rg'), (nI OL, nI NL, nI DL, nI T, nI MT, la', pa, sz, ky, sv, lo, le, yc, fm, pc, rg'), RL_rel (RL_in I) (by omega), fun post N hN hp => ?_, fun post N tu htu hN hp => hY hF1 post N tu (by omega) (by omega) hp⟩
      obtain ⟨N, rfl⟩ : ∃ N', N = N' + 1 := ⟨N - 1, by omega⟩
      exact br_f k300 ⟨F + 1, hX _ (F + 1) 0 (by omega) (by omega) (br_t rfl hp)⟩
    · subst hla
      obtain ⟨t, rfl⟩ : ∃ t, F' = t + 1 := ⟨F' - 1, by omega⟩
      rw [Nat.add_sub_cancel] at f1 f2
      obtain ⟨r, E, la2, fm2, pc2, fd2, rg2, T2, ST2, pa2, so2, sv2, ce2, ar2, zs2, ls2, ks2, ps2, an2, ln2, ss2, es2, ec2, ep2, et2, ek2, ed2, sz2, ky2, lo2, I2, sX, sY⟩ := s_step (la := la') (rg := rg') (sv := sv) (k := k) I (by omega) (FR_down hF hF') hm f1 f2 f3 hjl hl (by omega)
      have nF : ¬ nI (t + 1) = 0 := nI_ne0 (by omega) (by omega)
      rcases sY with ⟨hr, hE1, hE2, hFR2, sY⟩ | ⟨hr, sY⟩
      · subst hr
        obtain ⟨r3, u3, v3, hR, iX, iY⟩ := ih (k + 1) (by omega) (CB + 1) E la2 fm2 pc2 fd2 rg2 T2 ST2 pa2 so2 sv2 ce2 ar2 zs2 ls2 ks2 ps2 an2 ln2 ss2 es2 ec2 ep2 et2 ek2 ed2 sz2 ky2 lo2 I2 hE1 hFR2 (by omega)
        refine ⟨r3, u3, v3, hR, fun post N hN hp => ?_, fun post N tu htu hN hp => ?_⟩
        · obtain ⟨N, rfl⟩ : ∃ N', N = N' + 1 := ⟨N - 1, by omega⟩
          exact br_f k300 ⟨F + 1, hX _ (F + 1) 0 (by omega) (by omega) (br_f nF (br_f kne (sX _ (br_t rfl (nm_r (e' := nI (k + 1)) (nI_1 k) (iX post N (by omega) hp))))))⟩
        · obtain ⟨N, rfl⟩ : ∃ N', N = N' + 1 + (F - (t + 1)) := ⟨N - 1 - (F - (t + 1)), by omega⟩
          exact hY post (N + 1) tu (by omega) (sY post N (tu + (F - (t + 1))) (by omega) (iY post N (tu + (F - (t + 1)) + 1) (by omega) (by omega) hp))
      · refine ⟨r, (g0, g1, g2, g3, g4, g5, g6, g7, g8, g9, nI OL, nI NL, nI DL, nI T2, nI ST2, nI MT, nI E, la2, pa2, so2, sv2, ce2, ar2, zs2, ls2, ks2, ps2, an2, ln2, le, co, ca, cb, cc, ss2, es2, ec2, ep2, et2, ek2, ed2, fm2, pc2, fd2, rg2), (nI OL, nI NL, nI DL, nI T2, nI MT, la2, pa2, sz2, ky2, sv2, lo2, le, yc, fm2, pc2, rg2), RL_rel (RL_in I2) (by omega), fun post N hN hp => ?_, fun post N tu htu hN hp => ?_⟩
        · obtain ⟨N, rfl⟩ : ∃ N', N = N' + 2 := ⟨N - 2, by omega⟩
          refine br_f k300 ⟨F + 1, hX _ (F + 1) 0 (by omega) (by omega) (br_f nF (br_f kne (sX _ ?_)))⟩
          rcases hr with ⟨hr, hE0⟩ | hr
          · subst hr hE0
            exact br_t rfl (nm_r (e' := nI (k + 1)) (nI_1 k) (x_run0 (by omega) hp))
          · exact br_f hr hp
        · obtain ⟨N, rfl⟩ : ∃ N', N = N' + 1 + (F - (t + 1)) := ⟨N - 1 - (F - (t + 1)), by omega⟩
          exact hY post (N + 1) tu (by omega) (sY post N (tu + (F - (t + 1))) (by omega) hp)
end
section
variable {CB OL NL DL T ST MT : Nat} {g0 g1 g2 g3 g4 g5 g6 g7 g8 g9 fr la : Int32} {pa so sv ar zs ls ks ps an ln le co ca cb cc ss es ec ep ek ed fm pc fd rg sz ky lo yc : Nat → Int32} {ce et : Nat → Int64}
theorem l_send {k : Nat} (hk : k + 5 ≤ 2563) (I : IV (400 * k) T OL NL DL ST MT pa so ce ar zs ls ks ps an ln le co ca cb cc ss es ec ep et ek ed sz ky lo yc) (v1 v2 v3 : Int32) : ∃ r u' v', i_Rel (k + 5) u' v' ∧ (∀ post : Int32 → SX → Prop, post r u' → wpX_send post (g0, g1, g2, g3, g4, g5, g6, g7, g8, g9, nI OL, nI NL, nI DL, nI T, nI ST, nI MT, fr, la, pa, so, sv, ce, ar, zs, ls, ks, ps, an, ln, le, co, ca, cb, cc, ss, es, ec, ep, et, ek, ed, fm, pc, fd, rg) v1 v2 v3) ∧ (∀ post : Int32 → SY → Prop, post r v' → wpY_send post (nI OL, nI NL, nI DL, nI T, nI MT, la, pa, sz, ky, sv, lo, le, yc, fm, pc, rg) v1 v2 v3) := by
  have I' := I
  obtain ⟨⟨hTO, hOL, rk, R⟩, ⟨_, hN, hD1, hD8⟩, hTR, Q, hA, hE, hC, hCO⟩ := I
  have hMT := hCO.1
  have hT : T ≤ 12 := by omega
  have same : i_Rel (k + 5) (g0, g1, g2, g3, g4, g5, g6, g7, g8, g9, nI OL, nI NL, nI DL, nI T, nI ST, nI MT, fr, la, pa, so, sv, ce, ar, zs, ls, ks, ps, an, ln, le, co, ca, cb, cc, ss, es, ec, ep, et, ek, ed, fm, pc, fd, rg) (nI OL, nI NL, nI DL, nI T, nI MT, la, pa, sz, ky, sv, lo, le, yc, fm, pc, rg) := RL_rel (CB := 400 * k) (RL_in I') (by omega)
  rcases zh_c T (by omega) v1 with h | ⟨q, hq, rfl⟩
  · refine ⟨-2, (g0, g1, g2, g3, g4, g5, g6, g7, g8, g9, nI OL, nI NL, nI DL, nI T, nI ST, nI MT, fr, la, pa, so, sv, ce, ar, zs, ls, ks, ps, an, ln, le, co, ca, cb, cc, ss, es, ec, ep, et, ek, ed, fm, pc, fd, rg), (nI OL, nI NL, nI DL, nI T, nI MT, la, pa, sz, ky, sv, lo, le, yc, fm, pc, rg), same, fun post hp => ?_, fun post hp => ?_⟩
    · unfold wpX_send
      exact x_ck_o h (br_f (by decide) hp)
    · unfold wpY_send
      exact y_isH_f h (br_t rfl hp)
  rcases zh_c NL (by omega) v2 with h | ⟨n, hn, rfl⟩
  · refine ⟨-3, (g0, g1, g2, g3, g4, g5, g6, g7, g8, g9, nI OL, nI NL, nI DL, nI T, nI ST, nI MT, fr, la, pa, so, sv, ce, ar, zs, ls, ks, ps, an, ln, le, co, ca, cb, cc, ss, es, ec, ep, et, ek, ed, fm, pc, fd, rg), (nI OL, nI NL, nI DL, nI T, nI MT, la, pa, sz, ky, sv, lo, le, yc, fm, pc, rg), same, fun post hp => ?_, fun post hp => ?_⟩
    · unfold wpX_send
      exact x_ck_n hq hT h (br_f (by decide) hp)
    · unfold wpY_send
      exact y_isH_t hq hT (br_f zn_10n (y_isN_f h (br_t rfl hp)))
  have hP : ∀ q, q < T → VP T (pa q) := fun q hq => RK_vp R hq
  have find : ∀ post : Int32 → Prop, post (slo (wo ps so n) (hol pa (wo ps so n) 12 (nI q))) → wpX_findSlot post (g0, g1, g2, g3, g4, g5, g6, g7, g8, g9, nI OL, nI NL, nI DL, nI T, nI ST, nI MT, fr, la, pa, so, sv, ce, ar, zs, ls, ks, ps, an, ln, le, co, ca, cb, cc, ss, es, ec, ep, et, ek, ed, fm, pc, fd, rg) (nI q) (nI n) := fun post hp => x_find hT hP (fun q hq => by obtain ⟨s, a, b, _⟩ := OQ_so Q hq; exact ⟨s, a, b⟩) (by omega) hq hp
  rcases hol_vp (ow := wo ps so n) R hT 12 (nI q) (Or.inr ⟨q, hq, rfl⟩) with h | ⟨p, hp', h, h2, _⟩
  · refine ⟨-7, (g0, g1, g2, g3, g4, g5, g6, g7, g8, g9, nI OL, nI NL, nI DL, nI T, nI ST, nI MT, fr, la, pa, so, sv, ce, ar, zs, ls, ks, ps, an, ln, le, co, ca, cb, cc, ss, es, ec, ep, et, ek, ed, fm, pc, fd, rg), (nI OL, nI NL, nI DL, nI T, nI MT, la, pa, sz, ky, sv, lo, le, yc, fm, pc, rg), same, fun post hp => ?_, fun post hp => ?_⟩
    · unfold wpX_send
      refine x_ck_t hq hT hn hN (br_t rfl (find _ ?_))
      rw [h, slo_m1]
      exact br_t rfl hp
    · unfold wpY_send
      exact y_isH_t hq hT (br_f zn_10n (y_isN_t hn hN (br_f zn_10n (y_hol hT hN Q hP hq hn (br_t h hp)))))
  obtain ⟨i, hi, e⟩ : ∃ i, i < 8 ∧ wo ps so n p = nI i := by
    rcases OQ_wo Q hp' (n := n) (by omega) with z | z
    · exact absurd z h2
    · exact z
  have hsl : slo (wo ps so n) (hol pa (wo ps so n) 12 (nI q)) = nI (p * 8 + i) := by rw [h, slo_i (by omega) e]
  have i96 : vp_in (nI (p * 8 + i)) 96 := vp_in_nI (by omega) (by omega)
  have c96 : (nI (p * 8 + i)).toNatClampNeg = p * 8 + i := nI_clamp (by omega)
  have hgv : gv sv (slo (wo ps so n) (hol pa (wo ps so n) 12 (nI q))) = sv (p * 8 + i) := by rw [hsl, gv_nI (by omega)]
  have hne : ¬ hol pa (wo ps so n) 12 (nI q) = -1 := by rw [h]; exact zn_m1 (by omega)
  rcases zh_c MT (by omega) (sv (p * 8 + i)) with hv | ⟨m', hm', ev⟩
  · refine ⟨-9, (g0, g1, g2, g3, g4, g5, g6, g7, g8, g9, nI OL, nI NL, nI DL, nI T, nI ST, nI MT, fr, la, pa, so, sv, ce, ar, zs, ls, ks, ps, an, ln, le, co, ca, cb, cc, ss, es, ec, ep, et, ek, ed, fm, pc, fd, rg), (nI OL, nI NL, nI DL, nI T, nI MT, la, pa, sz, ky, sv, lo, le, yc, fm, pc, rg), same, fun post hp => ?_, fun post hp => ?_⟩
    · unfold wpX_send
      refine x_ck_t hq hT hn hN (br_t rfl (find _ ?_))
      rw [hsl]
      exact br_f (zn_m1 (by omega)) ⟨i96, nm_r (e' := sv (p * 8 + i)) (by rw [c96]) (x_isC_f hv (br_t rfl hp))⟩
    · unfold wpY_send
      exact y_isH_t hq hT (br_f zn_10n (y_isN_t hn hN (br_f zn_10n (y_hol hT hN Q hP hq hn (br_f hne (y_get hT hN Q R hq hn (by rw [hgv]; exact y_isC_f hv (br_t rfl hp))))))))
  have hFR : FR MT DL ca (upd fm 0 (nI m')) (upd pc 0 0) (upd fd 0 0) 1 := by
    refine ⟨by omega, fun t ht => ?_, fun t ht => by omega⟩
    have : t = 0 := by omega
    subst this
    exact ⟨m', 0, hm', by omega, pk_us, pk_us⟩
  obtain ⟨r, u', v', hR, hX, hY⟩ := run_all (KK := k + 5) (by omega) 300 0 (by omega) (400 * k) 1 la (upd fm 0 (nI m')) (upd pc 0 0) (upd fd 0 0) (upd (upd (upd (upd rg (0 * 4) (nI q)) (0 * 4 + 1) v3) (0 * 4 + 2) 0) (0 * 4 + 3) 0) T ST pa so sv ce ar zs ls ks ps an ln ss es ec ep et ek ed sz ky lo I' (by omega) hFR (by omega)
  revert hX hY
  refine REL_el (k := k + 5) (P := fun u' v' => (∀ (post : Int32 → SX → Prop) N, 300 + 1 < N → post r u' → wX_run_2 post N (nI 0) g0 g1 g2 g3 g4 g5 g6 g7 g8 g9 (nI OL) (nI NL) (nI DL) (nI T) (nI ST) (nI MT) (nI 1) la pa so sv ce ar zs ls ks ps an ln le co ca cb cc ss es ec ep et ek ed (upd fm 0 (nI m')) (upd pc 0 0) (upd fd 0 0) (upd (upd (upd (upd rg (0 * 4) (nI q)) (0 * 4 + 1) v3) (0 * 4 + 2) 0) (0 * 4 + 3) 0)) → (∀ (post : Int32 → SY → Prop) N tu, tu + 2 * 300 + 1 ≤ 690 → 2 * 300 + 1 + 1 ≤ N → post r v' → wY_send_73 post N (nI (1 - 1)) (nI 0) (nI tu) (nI OL) (nI NL) (nI DL) (nI T) (nI MT) la pa sz ky sv lo le yc (upd fm 0 (nI m')) (upd pc 0 0) (upd (upd (upd (upd rg (0 * 4) (nI q)) (0 * 4 + 1) v3) (0 * 4 + 2) 0) (0 * 4 + 3) 0)) → ∃ r u' v', i_Rel (k + 5) u' v' ∧ (∀ post : Int32 → SX → Prop, post r u' → wpX_send post (g0, g1, g2, g3, g4, g5, g6, g7, g8, g9, nI OL, nI NL, nI DL, nI T, nI ST, nI MT, fr, la, pa, so, sv, ce, ar, zs, ls, ks, ps, an, ln, le, co, ca, cb, cc, ss, es, ec, ep, et, ek, ed, fm, pc, fd, rg) (nI q) (nI n) v3) ∧ (∀ post : Int32 → SY → Prop, post r v' → wpY_send post (nI OL, nI NL, nI DL, nI T, nI MT, la, pa, sz, ky, sv, lo, le, yc, fm, pc, rg) (nI q) (nI n) v3)) ?_ hR
  intro g0' g1' g2' g3' g4' g5' g6' g7' g8' g9' OL' NL' DL' MT' fr' la' le' co' ca' cb' cc' fm' pc' fd' rg' yc' T' ST' pa' so' sv' ce' ar' zs' ls' ks' ps' an' ln' ss' es' ec' ep' et' ek' ed' sz' ky' lo' J hX hY
  refine ⟨r, (g0', g1', g2', g3', g4', g5', g6', g7', g8', g9', nI OL', nI NL', nI DL', nI T', nI ST', nI MT', 0, la', pa', so', sv', ce', ar', zs', ls', ks', ps', an', ln', le', co', ca', cb', cc', ss', es', ec', ep', et', ek', ed', fm', pc', fd', rg'), (nI OL', nI NL', nI DL', nI T', nI MT', la', pa', sz', ky', sv', lo', le', yc', fm', pc', rg'), RL_rel (CB := 400 * (k + 5)) (RL_in J) (Nat.le_refl _), fun post hp => ?_, fun post hp => ?_⟩
  · unfold wpX_send
    refine x_ck_t hq hT hn hN (br_t rfl (find _ ?_))
    rw [hsl]
    exact br_f (zn_m1 (by omega)) ⟨i96, nm_r (e' := nI m') (by rw [c96, ev]) (x_isC_t hm' hMT (br_f zn_10n (x_enter (F := 0) (by omega) ⟨302, hX _ 302 (by omega) hp⟩)))⟩
  · unfold wpY_send
    exact y_isH_t hq hT (br_f zn_10n (y_isN_t hn hN (br_f zn_10n (y_hol hT hN Q hP hq hn (br_f hne (y_get hT hN Q R hq hn (by rw [hgv, ev]; exact y_isC_t hm' hMT (br_f zn_10n (y_enter (F := 0) (by omega) ⟨602, hY _ 602 0 (by omega) (by omega) hp⟩)))))))))
end
end
section
/-! the constructors -/
theorem zc_cl (x : Int32) (lw hg : Nat) (h : lw ≤ hg) (hb : hg < 2 ^ 31) : ∃ v, lw ≤ v ∧ v ≤ hg ∧ ∀ post : Int32 → Prop, post (nI v) → ((nI lw ≤ x → ((x ≤ nI hg → post x) ∧ (¬ x ≤ nI hg → post (nI hg)))) ∧ (¬ nI lw ≤ x → post (nI lw))) := by
  by_cases h1 : nI lw ≤ x
  · by_cases h2 : x ≤ nI hg
    · have h3 : ¬ x < 0 := by
        intro z
        have z2 := Int32.lt_iff_toInt_lt.mp z
        have z3 := Int32.le_iff_toInt_le.mp h1
        rw [nI_toInt (by omega)] at z3
        rw [show (0 : Int32).toInt = 0 from by decide] at z2
        omega
      obtain ⟨v, hv, rfl⟩ := nI_of h3
      exact ⟨v, (nI_leI (by omega) hv).mp h1, (nI_leI hv hb).mp h2, fun post hp => br_t h1 (br_t h2 hp)⟩
    · exact ⟨hg, h, Nat.le_refl _, fun post hp => br_t h1 (br_f h2 hp)⟩
  · exact ⟨lw, Nat.le_refl _, h, fun post hp => br_f h1 hp⟩
section
variable {OL NL DL T ST MT : Nat} {g0 g1 g2 g3 g4 g5 g6 g7 g8 g9 fr la : Int32} {pa so sv ar zs ls ks ps an ln le co ca cb cc ss es ec ep ek ed fm pc fd rg : Nat → Int32} {ce et : Nat → Int64}
theorem x_in327 : ∀ (d j : Nat) (ps : Nat → Int32), j + d = 8 → ∀ N, d < N → ∃ ps', (∀ m, j ≤ m → m < 8 → ps' m = -1) ∧ (∀ m, m < j → ps' m = ps m) ∧ ∀ post : SX → Prop, post (g0, g1, g2, g3, g4, g5, g6, g7, g8, g9, nI OL, nI NL, nI DL, nI T, nI ST, nI MT, fr, la, pa, so, sv, ce, ar, zs, ls, ks, ps', an, ln, le, co, ca, cb, cc, ss, es, ec, ep, et, ek, ed, fm, pc, fd, rg) → wX_init_327 post g0 g1 g2 g3 g4 g5 g6 g7 g8 g9 (nI OL) (nI NL) (nI DL) (nI T) (nI ST) (nI MT) fr la N (nI j) pa so sv ce ar zs ls ks ps an ln le co ca cb cc ss es ec ep et ek ed fm pc fd rg := by
  intro d
  induction d with
  | zero =>
    intro j ps hj N hN
    obtain ⟨N, rfl⟩ : ∃ N', N = N' + 1 := ⟨N - 1, by omega⟩
    exact ⟨ps, fun m h1 h2 => by omega, fun _ _ => rfl, fun post hp => br_t (nI_le (a := 8) (by omega) (by omega)) hp⟩
  | succ d ih =>
    intro j ps hj N hN
    obtain ⟨N, rfl⟩ : ∃ N', N = N' + 1 := ⟨N - 1, by omega⟩
    obtain ⟨ps', h1, h2, hw⟩ := ih (j + 1) (upd ps j (-1)) (by omega) N (by omega)
    refine ⟨ps', fun m hm hm8 => ?_, fun m hm => ?_, fun post hp => br_f (nI_ge (b := 8) (by omega) (by decide)) ⟨vp_in_nI (by omega) (by omega), nm_r (e' := upd ps j (-1)) (by rw [nI_clamp (by omega)]) (nm_r (e' := nI (j + 1)) (nI_1 j) (hw post hp))⟩⟩
    · by_cases e : m = j
      · subst e
        rw [h2 m (by omega), pk_us]
      · exact h1 m (by omega) hm8
    · rw [h2 m (by omega), pk_un (by omega)]
end
theorem x_cl {post : Int32 → Prop} {u : SX} {x : Int32} (lw hg : Nat) {v : Nat} (H : ∀ post : Int32 → Prop, post (nI v) → ((nI lw ≤ x → ((x ≤ nI hg → post x) ∧ (¬ x ≤ nI hg → post (nI hg)))) ∧ (¬ nI lw ≤ x → post (nI lw)))) (hp : post (nI v)) : wpX_clamp post u x (nI lw) (nI hg) := H post hp
theorem IV_init {OL NL DL : Nat} {ps : Nat → Int32} (h1 : 2 ≤ OL) (h2 : OL ≤ 12) (h3 : 2 ≤ NL) (h4 : NL ≤ 8) (h5 : 1 ≤ DL) (h6 : DL ≤ 8) (hps : ∀ m, m < 8 → ps m = -1) :
    IV (400 * 3) 0 OL NL DL 1 0 (fun _ => 0) (fun _ => 0) (fun _ => 0) (fun _ => 0) (fun _ => 0) (fun _ => 0) (fun _ => 0) ps (fun _ => 0) (fun _ => 0) (fun _ => 0) (fun _ => 0) (fun _ => 0) (fun _ => 0) (fun _ => 0) (fun _ => 0) (fun _ => 0) (fun _ => 0) (fun _ => 0) (fun _ => 0) (fun _ => 0) (fun _ => 0) (fun _ => 0) (fun _ => 0) (fun _ => 0) (fun _ => 0) := by
  refine ⟨⟨by omega, h2, fun _ => 0, fun q hq => by omega⟩, ⟨h3, h4, h5, h6⟩, ⟨by omega, by omega, fun s hs => ?_, rfl, fun _ _ _ _ => Or.inl rfl, fun _ _ _ _ => Or.inl rfl⟩, fun q hq => by omega, ⟨fun q p hq => by omega, fun _ _ => rfl⟩, fun q => ⟨0, by omega, rfl⟩, fun a ha => ⟨0, by omega, rfl, Or.inl rfl, 0, 0, by omega, by omega, rfl, rfl, fun i hi => by omega⟩, ⟨by omega, fun m hm => ⟨0, by omega, rfl, fun _ => rfl⟩, fun a ha => ⟨⟨0, 0, 0, by omega, rfl, by omega, rfl, by omega, rfl, fun z => absurd rfl z, fun z => by omega, fun z => by omega⟩, rfl, rfl, rfl, rfl⟩⟩⟩
  have e : s = 0 := by omega
  subst e
  refine ⟨0, fun _ => 0, 0, by omega, rfl, rfl, fun i hi => by omega, fun m hm => Or.inl ⟨?_, lb_0 (by omega)⟩⟩
  rw [Nat.zero_mul, Nat.zero_add]
  exact hps m hm
theorem i_vc0 (k0 : Int32) (k1 : Int32) (k2 : Int32) : wpX_init (fun u => wpY_init (fun v => i_Rel 3 u v) k0 k1 k2) k0 k1 k2 := by
  obtain ⟨OL, a1, a2, hOL⟩ := zc_cl k0 2 12 (by omega) (by omega)
  obtain ⟨NL, b1, b2, hNL⟩ := zc_cl k1 2 8 (by omega) (by omega)
  obtain ⟨DL, d1, d2, hDL⟩ := zc_cl k2 1 8 (by omega) (by omega)
  obtain ⟨ps, h1, _, hw⟩ := x_in327 (g0 := 12) (g1 := 8) (g2 := 64) (g3 := 4) (g4 := 5) (g5 := 0) (g6 := 1) (g7 := 2) (g8 := 3) (g9 := 4) (OL := OL) (NL := NL) (DL := DL) (T := 0) (ST := 1) (MT := 0) (fr := 0) (la := 0) (pa := fun _ => 0) (so := fun _ => 0) (sv := fun _ => 0) (ce := fun _ => 0) (ar := fun _ => 0) (zs := fun _ => 0) (ls := fun _ => 0) (ks := fun _ => 0) (an := fun _ => 0) (ln := fun _ => 0) (le := fun _ => 0) (co := fun _ => 0) (ca := fun _ => 0) (cb := fun _ => 0) (cc := fun _ => 0) (ss := fun _ => 0) (es := fun _ => 0) (ec := fun _ => 0) (ep := fun _ => 0) (et := fun _ => 0) (ek := fun _ => 0) (ed := fun _ => 0) (fm := fun _ => 0) (pc := fun _ => 0) (fd := fun _ => 0) (rg := fun _ => 0) 8 0 (fun _ => 0) rfl 9 (by omega)
  have I := IV_init a1 a2 b1 b2 d1 d2 (ps := ps) (fun m hm => h1 m (Nat.zero_le _) hm)
  unfold wpX_init
  refine x_cl 2 12 hOL ?_
  refine x_cl 2 8 hNL ?_
  refine x_cl 1 8 hDL ⟨9, hw _ ?_⟩
  unfold wpY_init
  refine hOL (fun z => wY_init_122 _ k1 k2 z 0 0 0 0 0 0 (fun _ => 0) (fun _ => 0) (fun _ => 0) (fun _ => 0) (fun _ => 0) (fun _ => 0) (fun _ => 0) (fun _ => 0) (fun _ => 0) (fun _ => 0)) ?_
  unfold wY_init_122
  refine hNL (fun z => wY_init_147 _ k2 z (nI OL) 0 0 0 0 0 (fun _ => 0) (fun _ => 0) (fun _ => 0) (fun _ => 0) (fun _ => 0) (fun _ => 0) (fun _ => 0) (fun _ => 0) (fun _ => 0) (fun _ => 0)) ?_
  unfold wY_init_147
  refine hDL (fun z => i_Rel 3 _ (nI OL, nI NL, z, 0, 0, 0, (fun _ => 0), (fun _ => 0), (fun _ => 0), (fun _ => 0), (fun _ => 0), (fun _ => 0), (fun _ => 0), (fun _ => 0), (fun _ => 0), (fun _ => 0))) ?_
  exact RL_rel (RL_in I) (Nat.le_refl _)
end
section
/-! the owed statements -/
theorem i_vc_create {k : Nat} {u : SX} {v : SY} (I : i_Rel k u v) (hk : k + 5 ≤ 2563) (v1 : Int32) : wpX_create (fun r u' => wpY_create (fun r' v' => r' = r ∧ i_Rel (k + 5) u' v') v v1) u v1 := REL_el (P := fun u v => wpX_create (fun r u' => wpY_create (fun r' v' => r' = r ∧ i_Rel (k + 5) u' v') v v1) u v1) (fun g0 g1 g2 g3 g4 g5 g6 g7 g8 g9 OL NL DL MT fr la le co ca cb cc fm pc fd rg yc T ST pa so sv ce ar zs ls ks ps an ln ss es ec ep et ek ed sz ky lo I => by
  obtain ⟨r, u', v', h, hX, hY⟩ := l_create (g0 := g0) (g1 := g1) (g2 := g2) (g3 := g3) (g4 := g4) (g5 := g5) (g6 := g6) (g7 := g7) (g8 := g8) (g9 := g9) (OL := OL) (NL := NL) (DL := DL) (T := T) (ST := ST) (MT := MT) (fr := fr) (la := la) (pa := pa) (so := so) (sv := sv) (ce := ce) (ar := ar) (zs := zs) (ls := ls) (ks := ks) (ps := ps) (an := an) (ln := ln) (le := le) (co := co) (ca := ca) (cb := cb) (cc := cc) (ss := ss) (es := es) (ec := ec) (ep := ep) (et := et) (ek := ek) (ed := ed) (fm := fm) (pc := pc) (fd := fd) (rg := rg) I v1
  exact hX _ (hY _ ⟨rfl, RL_rel h (by omega)⟩)) I
theorem i_vc_setProto {k : Nat} {u : SX} {v : SY} (I : i_Rel k u v) (hk : k + 5 ≤ 2563) (v1 : Int32) (v2 : Int32) : wpX_setProto (fun r u' => wpY_setProto (fun r' v' => r' = r ∧ i_Rel (k + 5) u' v') v v1 v2) u v1 v2 := REL_el (P := fun u v => wpX_setProto (fun r u' => wpY_setProto (fun r' v' => r' = r ∧ i_Rel (k + 5) u' v') v v1 v2) u v1 v2) (fun g0 g1 g2 g3 g4 g5 g6 g7 g8 g9 OL NL DL MT fr la le co ca cb cc fm pc fd rg yc T ST pa so sv ce ar zs ls ks ps an ln ss es ec ep et ek ed sz ky lo I => by
  obtain ⟨r, u', v', _, h, hX, hY⟩ := l_setProto (g0 := g0) (g1 := g1) (g2 := g2) (g3 := g3) (g4 := g4) (g5 := g5) (g6 := g6) (g7 := g7) (g8 := g8) (g9 := g9) (OL := OL) (NL := NL) (DL := DL) (T := T) (ST := ST) (MT := MT) (fr := fr) (la := la) (pa := pa) (so := so) (sv := sv) (ce := ce) (ar := ar) (zs := zs) (ls := ls) (ks := ks) (ps := ps) (an := an) (ln := ln) (le := le) (co := co) (ca := ca) (cb := cb) (cc := cc) (ss := ss) (es := es) (ec := ec) (ep := ep) (et := et) (ek := ek) (ed := ed) (fm := fm) (pc := pc) (fd := fd) (rg := rg) I (by omega) v1 v2
  exact hX _ (hY _ ⟨rfl, RL_rel h (by omega)⟩)) I
theorem i_vc_set {k : Nat} {u : SX} {v : SY} (I : i_Rel k u v) (hk : k + 5 ≤ 2563) (v1 : Int32) (v2 : Int32) (v3 : Int32) : wpX_set (fun r u' => wpY_set (fun r' v' => r' = r ∧ i_Rel (k + 5) u' v') v v1 v2 v3) u v1 v2 v3 := REL_el (P := fun u v => wpX_set (fun r u' => wpY_set (fun r' v' => r' = r ∧ i_Rel (k + 5) u' v') v v1 v2 v3) u v1 v2 v3) (fun g0 g1 g2 g3 g4 g5 g6 g7 g8 g9 OL NL DL MT fr la le co ca cb cc fm pc fd rg yc T ST pa so sv ce ar zs ls ks ps an ln ss es ec ep et ek ed sz ky lo I => by
  obtain ⟨r, u', v', _, h, hX, hY⟩ := l_set (g0 := g0) (g1 := g1) (g2 := g2) (g3 := g3) (g4 := g4) (g5 := g5) (g6 := g6) (g7 := g7) (g8 := g8) (g9 := g9) (OL := OL) (NL := NL) (DL := DL) (T := T) (ST := ST) (MT := MT) (fr := fr) (la := la) (pa := pa) (so := so) (sv := sv) (ce := ce) (ar := ar) (zs := zs) (ls := ls) (ks := ks) (ps := ps) (an := an) (ln := ln) (le := le) (co := co) (ca := ca) (cb := cb) (cc := cc) (ss := ss) (es := es) (ec := ec) (ep := ep) (et := et) (ek := ek) (ed := ed) (fm := fm) (pc := pc) (fd := fd) (rg := rg) I (by omega) v1 v2 v3
  exact hX _ (hY _ ⟨rfl, RL_rel h (by omega)⟩)) I
theorem i_vc_remove {k : Nat} {u : SX} {v : SY} (I : i_Rel k u v) (hk : k + 5 ≤ 2563) (v1 : Int32) (v2 : Int32) : wpX_remove (fun r u' => wpY_remove (fun r' v' => r' = r ∧ i_Rel (k + 5) u' v') v v1 v2) u v1 v2 := REL_el (P := fun u v => wpX_remove (fun r u' => wpY_remove (fun r' v' => r' = r ∧ i_Rel (k + 5) u' v') v v1 v2) u v1 v2) (fun g0 g1 g2 g3 g4 g5 g6 g7 g8 g9 OL NL DL MT fr la le co ca cb cc fm pc fd rg yc T ST pa so sv ce ar zs ls ks ps an ln ss es ec ep et ek ed sz ky lo I => by
  obtain ⟨r, u', v', _, h, hX, hY⟩ := l_remove (g0 := g0) (g1 := g1) (g2 := g2) (g3 := g3) (g4 := g4) (g5 := g5) (g6 := g6) (g7 := g7) (g8 := g8) (g9 := g9) (OL := OL) (NL := NL) (DL := DL) (T := T) (ST := ST) (MT := MT) (fr := fr) (la := la) (pa := pa) (so := so) (sv := sv) (ce := ce) (ar := ar) (zs := zs) (ls := ls) (ks := ks) (ps := ps) (an := an) (ln := ln) (le := le) (co := co) (ca := ca) (cb := cb) (cc := cc) (ss := ss) (es := es) (ec := ec) (ep := ep) (et := et) (ek := ek) (ed := ed) (fm := fm) (pc := pc) (fd := fd) (rg := rg) I (by omega) v1 v2
  exact hX _ (hY _ ⟨rfl, RL_rel h (by omega)⟩)) I
theorem i_vc_lock {k : Nat} {u : SX} {v : SY} (I : i_Rel k u v) (hk : k + 5 ≤ 2563) (v1 : Int32) (v2 : Int32) : wpX_lock (fun r u' => wpY_lock (fun r' v' => r' = r ∧ i_Rel (k + 5) u' v') v v1 v2) u v1 v2 := REL_el (P := fun u v => wpX_lock (fun r u' => wpY_lock (fun r' v' => r' = r ∧ i_Rel (k + 5) u' v') v v1 v2) u v1 v2) (fun g0 g1 g2 g3 g4 g5 g6 g7 g8 g9 OL NL DL MT fr la le co ca cb cc fm pc fd rg yc T ST pa so sv ce ar zs ls ks ps an ln ss es ec ep et ek ed sz ky lo I => by
  obtain ⟨r, u', v', _, h, hX, hY⟩ := l_lock (g0 := g0) (g1 := g1) (g2 := g2) (g3 := g3) (g4 := g4) (g5 := g5) (g6 := g6) (g7 := g7) (g8 := g8) (g9 := g9) (OL := OL) (NL := NL) (DL := DL) (T := T) (ST := ST) (MT := MT) (fr := fr) (la := la) (pa := pa) (so := so) (sv := sv) (ce := ce) (ar := ar) (zs := zs) (ls := ls) (ks := ks) (ps := ps) (an := an) (ln := ln) (le := le) (co := co) (ca := ca) (cb := cb) (cc := cc) (ss := ss) (es := es) (ec := ec) (ep := ep) (et := et) (ek := ek) (ed := ed) (fm := fm) (pc := pc) (fd := fd) (rg := rg) I (by omega) v1 v2
  exact hX _ (hY _ ⟨rfl, RL_rel h (by omega)⟩)) I
theorem i_vc_get {k : Nat} {u : SX} {v : SY} (I : i_Rel k u v) (hk : k + 5 ≤ 2563) (v1 : Int32) (v2 : Int32) : wpX_get (fun r => wpY_get (fun r' => r' = r ∧ i_Rel (k + 5) u v) v v1 v2) u v1 v2 := REL_el (P := fun u v => wpX_get (fun r => wpY_get (fun r' => r' = r ∧ i_Rel (k + 5) u v) v v1 v2) u v1 v2) (fun g0 g1 g2 g3 g4 g5 g6 g7 g8 g9 OL NL DL MT fr la le co ca cb cc fm pc fd rg yc T ST pa so sv ce ar zs ls ks ps an ln ss es ec ep et ek ed sz ky lo I => a_get I (RL_rel (RL_in I) (by omega)) v1 v2) I
theorem i_vc_holder {k : Nat} {u : SX} {v : SY} (I : i_Rel k u v) (hk : k + 5 ≤ 2563) (v1 : Int32) (v2 : Int32) : wpX_holder (fun r => wpY_holder (fun r' => r' = r ∧ i_Rel (k + 5) u v) v v1 v2) u v1 v2 := REL_el (P := fun u v => wpX_holder (fun r => wpY_holder (fun r' => r' = r ∧ i_Rel (k + 5) u v) v v1 v2) u v1 v2) (fun g0 g1 g2 g3 g4 g5 g6 g7 g8 g9 OL NL DL MT fr la le co ca cb cc fm pc fd rg yc T ST pa so sv ce ar zs ls ks ps an ln ss es ec ep et ek ed sz ky lo I => a_holder I (RL_rel (RL_in I) (by omega)) v1 v2) I
theorem i_vc_objectCount {k : Nat} {u : SX} {v : SY} (I : i_Rel k u v) (hk : k + 5 ≤ 2563) : wpX_objectCount (fun r => wpY_objectCount (fun r' => r' = r ∧ i_Rel (k + 5) u v) v) u := by
  refine REL_el (P := fun u v => wpX_objectCount (fun r => wpY_objectCount (fun r' => r' = r ∧ i_Rel (k + 5) u v) v) u) (fun g0 g1 g2 g3 g4 g5 g6 g7 g8 g9 OL NL DL MT fr la le co ca cb cc fm pc fd rg yc T ST pa so sv ce ar zs ls ks ps an ln ss es ec ep et ek ed sz ky lo I => ?_) I
  have j : i_Rel (k + 5) (g0, g1, g2, g3, g4, g5, g6, g7, g8, g9, nI OL, nI NL, nI DL, nI T, nI ST, nI MT, fr, la, pa, so, sv, ce, ar, zs, ls, ks, ps, an, ln, le, co, ca, cb, cc, ss, es, ec, ep, et, ek, ed, fm, pc, fd, rg) (nI OL, nI NL, nI DL, nI T, nI MT, la, pa, sz, ky, sv, lo, le, yc, fm, pc, rg) := RL_rel (RL_in I) (by omega)
  unfold wpX_objectCount wpY_objectCount
  exact ⟨rfl, j⟩
theorem i_vc_protoOf {k : Nat} {u : SX} {v : SY} (I : i_Rel k u v) (hk : k + 5 ≤ 2563) (v1 : Int32) : wpX_protoOf (fun r => wpY_protoOf (fun r' => r' = r ∧ i_Rel (k + 5) u v) v v1) u v1 := REL_el (P := fun u v => wpX_protoOf (fun r => wpY_protoOf (fun r' => r' = r ∧ i_Rel (k + 5) u v) v v1) u v1) (fun g0 g1 g2 g3 g4 g5 g6 g7 g8 g9 OL NL DL MT fr la le co ca cb cc fm pc fd rg yc T ST pa so sv ce ar zs ls ks ps an ln ss es ec ep et ek ed sz ky lo I => a_protoOf I (RL_rel (RL_in I) (by omega)) v1) I
theorem i_vc_keyCount {k : Nat} {u : SX} {v : SY} (I : i_Rel k u v) (hk : k + 5 ≤ 2563) (v1 : Int32) : wpX_keyCount (fun r => wpY_keyCount (fun r' => r' = r ∧ i_Rel (k + 5) u v) v v1) u v1 := REL_el (P := fun u v => wpX_keyCount (fun r => wpY_keyCount (fun r' => r' = r ∧ i_Rel (k + 5) u v) v v1) u v1) (fun g0 g1 g2 g3 g4 g5 g6 g7 g8 g9 OL NL DL MT fr la le co ca cb cc fm pc fd rg yc T ST pa so sv ce ar zs ls ks ps an ln ss es ec ep et ek ed sz ky lo I => a_keyCount I (RL_rel (RL_in I) (by omega)) v1) I
theorem i_vc_keyAt {k : Nat} {u : SX} {v : SY} (I : i_Rel k u v) (hk : k + 5 ≤ 2563) (v1 : Int32) (v2 : Int32) : wpX_keyAt (fun r => wpY_keyAt (fun r' => r' = r ∧ i_Rel (k + 5) u v) v v1 v2) u v1 v2 := REL_el (P := fun u v => wpX_keyAt (fun r => wpY_keyAt (fun r' => r' = r ∧ i_Rel (k + 5) u v) v v1 v2) u v1 v2) (fun g0 g1 g2 g3 g4 g5 g6 g7 g8 g9 OL NL DL MT fr la le co ca cb cc fm pc fd rg yc T ST pa so sv ce ar zs ls ks ps an ln ss es ec ep et ek ed sz ky lo I => a_keyAt I (RL_rel (RL_in I) (by omega)) v1 v2) I
theorem i_vc_valueAt {k : Nat} {u : SX} {v : SY} (I : i_Rel k u v) (hk : k + 5 ≤ 2563) (v1 : Int32) (v2 : Int32) : wpX_valueAt (fun r => wpY_valueAt (fun r' => r' = r ∧ i_Rel (k + 5) u v) v v1 v2) u v1 v2 := REL_el (P := fun u v => wpX_valueAt (fun r => wpY_valueAt (fun r' => r' = r ∧ i_Rel (k + 5) u v) v v1 v2) u v1 v2) (fun g0 g1 g2 g3 g4 g5 g6 g7 g8 g9 OL NL DL MT fr la le co ca cb cc fm pc fd rg yc T ST pa so sv ce ar zs ls ks ps an ln ss es ec ep et ek ed sz ky lo I => a_valueAt I (RL_rel (RL_in I) (by omega)) v1 v2) I
theorem i_vc_positionOf {k : Nat} {u : SX} {v : SY} (I : i_Rel k u v) (hk : k + 5 ≤ 2563) (v1 : Int32) (v2 : Int32) : wpX_positionOf (fun r => wpY_positionOf (fun r' => r' = r ∧ i_Rel (k + 5) u v) v v1 v2) u v1 v2 := REL_el (P := fun u v => wpX_positionOf (fun r => wpY_positionOf (fun r' => r' = r ∧ i_Rel (k + 5) u v) v v1 v2) u v1 v2) (fun g0 g1 g2 g3 g4 g5 g6 g7 g8 g9 OL NL DL MT fr la le co ca cb cc fm pc fd rg yc T ST pa so sv ce ar zs ls ks ps an ln ss es ec ep et ek ed sz ky lo I => a_positionOf I (RL_rel (RL_in I) (by omega)) v1 v2) I
theorem i_vc_locked {k : Nat} {u : SX} {v : SY} (I : i_Rel k u v) (hk : k + 5 ≤ 2563) (v1 : Int32) (v2 : Int32) : wpX_locked (fun r => wpY_locked (fun r' => r' = r ∧ i_Rel (k + 5) u v) v v1 v2) u v1 v2 := REL_el (P := fun u v => wpX_locked (fun r => wpY_locked (fun r' => r' = r ∧ i_Rel (k + 5) u v) v v1 v2) u v1 v2) (fun g0 g1 g2 g3 g4 g5 g6 g7 g8 g9 OL NL DL MT fr la le co ca cb cc fm pc fd rg yc T ST pa so sv ce ar zs ls ks ps an ln ss es ec ep et ek ed sz ky lo I => a_locked I (RL_rel (RL_in I) (by omega)) v1 v2) I
theorem i_vc_sameLayout {k : Nat} {u : SX} {v : SY} (I : i_Rel k u v) (hk : k + 5 ≤ 2563) (v1 : Int32) (v2 : Int32) : wpX_sameLayout (fun r => wpY_sameLayout (fun r' => r' = r ∧ i_Rel (k + 5) u v) v v1 v2) u v1 v2 := REL_el (P := fun u v => wpX_sameLayout (fun r => wpY_sameLayout (fun r' => r' = r ∧ i_Rel (k + 5) u v) v v1 v2) u v1 v2) (fun g0 g1 g2 g3 g4 g5 g6 g7 g8 g9 OL NL DL MT fr la le co ca cb cc fm pc fd rg yc T ST pa so sv ce ar zs ls ks ps an ln ss es ec ep et ek ed sz ky lo I => a_sameLayout I (RL_rel (RL_in I) (by omega)) v1 v2) I
theorem i_vc_newMethod {k : Nat} {u : SX} {v : SY} (I : i_Rel k u v) (hk : k + 5 ≤ 2563) : wpX_newMethod (fun r u' => wpY_newMethod (fun r' v' => r' = r ∧ i_Rel (k + 5) u' v') v) u := REL_el (P := fun u v => wpX_newMethod (fun r u' => wpY_newMethod (fun r' v' => r' = r ∧ i_Rel (k + 5) u' v') v) u) (fun g0 g1 g2 g3 g4 g5 g6 g7 g8 g9 OL NL DL MT fr la le co ca cb cc fm pc fd rg yc T ST pa so sv ce ar zs ls ks ps an ln ss es ec ep et ek ed sz ky lo I => by
  obtain ⟨r, u', v', h, hX, hY⟩ := l_newMethod (g0 := g0) (g1 := g1) (g2 := g2) (g3 := g3) (g4 := g4) (g5 := g5) (g6 := g6) (g7 := g7) (g8 := g8) (g9 := g9) (OL := OL) (NL := NL) (DL := DL) (T := T) (ST := ST) (MT := MT) (fr := fr) (la := la) (pa := pa) (so := so) (sv := sv) (ce := ce) (ar := ar) (zs := zs) (ls := ls) (ks := ks) (ps := ps) (an := an) (ln := ln) (le := le) (co := co) (ca := ca) (cb := cb) (cc := cc) (ss := ss) (es := es) (ec := ec) (ep := ep) (et := et) (ek := ek) (ed := ed) (fm := fm) (pc := pc) (fd := fd) (rg := rg) I 
  exact hX _ (hY _ ⟨rfl, h⟩)) I
theorem i_vc_emit {k : Nat} {u : SX} {v : SY} (I : i_Rel k u v) (hk : k + 5 ≤ 2563) (v1 : Int32) (v2 : Int32) (v3 : Int32) (v4 : Int32) : wpX_emit (fun r u' => wpY_emit (fun r' v' => r' = r ∧ i_Rel (k + 5) u' v') v v1 v2 v3 v4) u v1 v2 v3 v4 := REL_el (P := fun u v => wpX_emit (fun r u' => wpY_emit (fun r' v' => r' = r ∧ i_Rel (k + 5) u' v') v v1 v2 v3 v4) u v1 v2 v3 v4) (fun g0 g1 g2 g3 g4 g5 g6 g7 g8 g9 OL NL DL MT fr la le co ca cb cc fm pc fd rg yc T ST pa so sv ce ar zs ls ks ps an ln ss es ec ep et ek ed sz ky lo I => by
  obtain ⟨r, u', v', h, hX, hY⟩ := l_emit (g0 := g0) (g1 := g1) (g2 := g2) (g3 := g3) (g4 := g4) (g5 := g5) (g6 := g6) (g7 := g7) (g8 := g8) (g9 := g9) (OL := OL) (NL := NL) (DL := DL) (T := T) (ST := ST) (MT := MT) (fr := fr) (la := la) (pa := pa) (so := so) (sv := sv) (ce := ce) (ar := ar) (zs := zs) (ls := ls) (ks := ks) (ps := ps) (an := an) (ln := ln) (le := le) (co := co) (ca := ca) (cb := cb) (cc := cc) (ss := ss) (es := es) (ec := ec) (ep := ep) (et := et) (ek := ek) (ed := ed) (fm := fm) (pc := pc) (fd := fd) (rg := rg) I v1 v2 v3 v4
  exact hX _ (hY _ ⟨rfl, h⟩)) I
theorem i_vc_methodCount {k : Nat} {u : SX} {v : SY} (I : i_Rel k u v) (hk : k + 5 ≤ 2563) : wpX_methodCount (fun r => wpY_methodCount (fun r' => r' = r ∧ i_Rel (k + 5) u v) v) u := by
  refine REL_el (P := fun u v => wpX_methodCount (fun r => wpY_methodCount (fun r' => r' = r ∧ i_Rel (k + 5) u v) v) u) (fun g0 g1 g2 g3 g4 g5 g6 g7 g8 g9 OL NL DL MT fr la le co ca cb cc fm pc fd rg yc T ST pa so sv ce ar zs ls ks ps an ln ss es ec ep et ek ed sz ky lo I => ?_) I
  have j : i_Rel (k + 5) (g0, g1, g2, g3, g4, g5, g6, g7, g8, g9, nI OL, nI NL, nI DL, nI T, nI ST, nI MT, fr, la, pa, so, sv, ce, ar, zs, ls, ks, ps, an, ln, le, co, ca, cb, cc, ss, es, ec, ep, et, ek, ed, fm, pc, fd, rg) (nI OL, nI NL, nI DL, nI T, nI MT, la, pa, sz, ky, sv, lo, le, yc, fm, pc, rg) := RL_rel (RL_in I) (by omega)
  unfold wpX_methodCount wpY_methodCount
  exact ⟨rfl, j⟩
theorem i_vc_methodLength {k : Nat} {u : SX} {v : SY} (I : i_Rel k u v) (hk : k + 5 ≤ 2563) (v1 : Int32) : wpX_methodLength (fun r => wpY_methodLength (fun r' => r' = r ∧ i_Rel (k + 5) u v) v v1) u v1 := REL_el (P := fun u v => wpX_methodLength (fun r => wpY_methodLength (fun r' => r' = r ∧ i_Rel (k + 5) u v) v v1) u v1) (fun g0 g1 g2 g3 g4 g5 g6 g7 g8 g9 OL NL DL MT fr la le co ca cb cc fm pc fd rg yc T ST pa so sv ce ar zs ls ks ps an ln ss es ec ep et ek ed sz ky lo I => a_methodLength I (RL_rel (RL_in I) (by omega)) v1) I
theorem i_vc_field {k : Nat} {u : SX} {v : SY} (I : i_Rel k u v) (hk : k + 5 ≤ 2563) (v1 : Int32) (v2 : Int32) (v3 : Int32) : wpX_field (fun r => wpY_field (fun r' => r' = r ∧ i_Rel (k + 5) u v) v v1 v2 v3) u v1 v2 v3 := REL_el (P := fun u v => wpX_field (fun r => wpY_field (fun r' => r' = r ∧ i_Rel (k + 5) u v) v v1 v2 v3) u v1 v2 v3) (fun g0 g1 g2 g3 g4 g5 g6 g7 g8 g9 OL NL DL MT fr la le co ca cb cc fm pc fd rg yc T ST pa so sv ce ar zs ls ks ps an ln ss es ec ep et ek ed sz ky lo I => a_field I (RL_rel (RL_in I) (by omega)) v1 v2 v3) I
theorem i_vc_send {k : Nat} {u : SX} {v : SY} (I : i_Rel k u v) (hk : k + 5 ≤ 2563) (v1 : Int32) (v2 : Int32) (v3 : Int32) : wpX_send (fun r u' => wpY_send (fun r' v' => r' = r ∧ i_Rel (k + 5) u' v') v v1 v2 v3) u v1 v2 v3 := REL_el (P := fun u v => wpX_send (fun r u' => wpY_send (fun r' v' => r' = r ∧ i_Rel (k + 5) u' v') v v1 v2 v3) u v1 v2 v3) (fun g0 g1 g2 g3 g4 g5 g6 g7 g8 g9 OL NL DL MT fr la le co ca cb cc fm pc fd rg yc T ST pa so sv ce ar zs ls ks ps an ln ss es ec ep et ek ed sz ky lo I => by
  obtain ⟨r, u', v', h, hX, hY⟩ := l_send (g0 := g0) (g1 := g1) (g2 := g2) (g3 := g3) (g4 := g4) (g5 := g5) (g6 := g6) (g7 := g7) (g8 := g8) (g9 := g9) (OL := OL) (NL := NL) (DL := DL) (T := T) (ST := ST) (MT := MT) (fr := fr) (la := la) (pa := pa) (so := so) (sv := sv) (ce := ce) (ar := ar) (zs := zs) (ls := ls) (ks := ks) (ps := ps) (an := an) (ln := ln) (le := le) (co := co) (ca := ca) (cb := cb) (cc := cc) (ss := ss) (es := es) (ec := ec) (ep := ep) (et := et) (ek := ek) (ed := ed) (fm := fm) (pc := pc) (fd := fd) (rg := rg) hk I v1 v2 v3
  exact hX _ (hY _ ⟨rfl, h⟩)) I
theorem i_vc_result {k : Nat} {u : SX} {v : SY} (I : i_Rel k u v) (hk : k + 5 ≤ 2563) : wpX_result (fun r => wpY_result (fun r' => r' = r ∧ i_Rel (k + 5) u v) v) u := by
  refine REL_el (P := fun u v => wpX_result (fun r => wpY_result (fun r' => r' = r ∧ i_Rel (k + 5) u v) v) u) (fun g0 g1 g2 g3 g4 g5 g6 g7 g8 g9 OL NL DL MT fr la le co ca cb cc fm pc fd rg yc T ST pa so sv ce ar zs ls ks ps an ln ss es ec ep et ek ed sz ky lo I => ?_) I
  have j : i_Rel (k + 5) (g0, g1, g2, g3, g4, g5, g6, g7, g8, g9, nI OL, nI NL, nI DL, nI T, nI ST, nI MT, fr, la, pa, so, sv, ce, ar, zs, ls, ks, ps, an, ln, le, co, ca, cb, cc, ss, es, ec, ep, et, ek, ed, fm, pc, fd, rg) (nI OL, nI NL, nI DL, nI T, nI MT, la, pa, sz, ky, sv, lo, le, yc, fm, pc, rg) := RL_rel (RL_in I) (by omega)
  unfold wpX_result wpY_result
  exact ⟨rfl, j⟩
end
