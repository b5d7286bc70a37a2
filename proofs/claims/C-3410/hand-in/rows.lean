section
theorem pk_us {f : Nat → Int32} {k : Nat} {x : Int32} : upd f k x k = x := if_pos rfl
theorem pk_un {f : Nat → Int32} {k j : Nat} {x : Int32} (h : j ≠ k) : upd f k x j = f j := if_neg h
theorem pk_sub {a b : Nat} (h : b ≤ a) : nI a - nI b = nI (a - b) := by
  obtain ⟨c, rfl⟩ : ∃ c, a = c + b := ⟨a - b, by omega⟩
  rw [← nI_add, Int32.add_sub_cancel, Nat.add_sub_cancel]
theorem pk_m1 (n : Nat) : nI (n + 1) + (-1) = nI n := by
  rw [← nI_1, Int32.add_assoc, show (1 : Int32) + (-1) = 0 from rfl, Int32.add_zero]
theorem pk_mul (a b : Nat) : nI a * nI b = nI (a * b) := (Int32.ofNat_mul a b).symm
theorem pk_div {a d : Nat} (ha : a < 2 ^ 31) (h0 : 0 < d) (hd : d < 2 ^ 31) : nI a / nI d = nI (a / d) := by
  apply Int32.toInt_inj.mp
  rw [lg_idiv_nonneg (by rw [nI_toInt ha]; omega) (by rw [nI_toInt hd]; omega), nI_toInt ha, nI_toInt hd, nI_toInt (Nat.lt_of_le_of_lt (Nat.div_le_self a d) ha)]
  first | rfl | exact (Int.natCast_ediv _ _).symm
theorem pk_rem {a d : Nat} (ha : a < 2 ^ 31) (h0 : 0 < d) (hd : d < 2 ^ 31) : nI a - nI a / nI d * nI d = nI (a % d) := by
  rw [pk_div ha h0 hd, pk_mul, pk_sub (Nat.div_mul_le_self a d)]
  exact congrArg nI (by have := Nat.div_add_mod' a d; omega)
theorem pk_sub_toInt {a b : Nat} (ha : a < 2 ^ 30) (hb : b < 2 ^ 30) : (nI a - nI b).toInt = (a : Int) - b := by
  rw [Int32.toInt_sub, nI_toInt (by omega), nI_toInt (by omega)]
  exact Int.bmod_eq_of_le (by omega) (by omega)
theorem pk_sneg {a b : Nat} (hb : b < 2 ^ 30) (h : a < b) : nI a - nI b < 0 := by
  rw [Int32.lt_iff_toInt_lt, pk_sub_toInt (by omega) hb, show (0 : Int32).toInt = 0 from by decide]
  omega
theorem pk_ix (x : Int32) {n : Nat} (hn : n < 2 ^ 31) : x < 0 ∨ nI n ≤ x ∨ ∃ j : Nat, j < n ∧ x = nI j := by
  by_cases h : x < 0
  · exact Or.inl h
  · obtain ⟨j, hj, rfl⟩ := nI_of h
    by_cases h2 : j < n
    · exact Or.inr (Or.inr ⟨j, h2, rfl⟩)
    · exact Or.inr (Or.inl (nI_le (by omega) hj))
theorem pk_le {x y : Int32} {A B : Prop} (a b : Nat) (f : a ≤ b → A) (g : b < a → B) (hx : x = nI a := by rfl) (hy : y = nI b := by rfl) (ha : a < 2 ^ 31 := by omega) (hb : b < 2 ^ 31 := by omega) : (x ≤ y → A) ∧ (¬ x ≤ y → B) := by
  subst hx hy
  rw [nI_leI ha hb]
  exact ⟨f, fun z => g (by omega)⟩
theorem pk_lt {x y : Int32} {A B : Prop} (a b : Nat) (f : a < b → A) (g : b ≤ a → B) (hx : x = nI a := by rfl) (hy : y = nI b := by rfl) (ha : a < 2 ^ 31 := by omega) (hb : b < 2 ^ 31 := by omega) : (x < y → A) ∧ (¬ x < y → B) := by
  subst hx hy
  rw [nI_ltI ha hb]
  exact ⟨f, fun z => g (by omega)⟩
theorem pk_eq {x y : Int32} {A B : Prop} (a b : Nat) (f : a = b → A) (g : a ≠ b → B) (hx : x = nI a := by rfl) (hy : y = nI b := by rfl) (ha : a < 2 ^ 31 := by omega) (hb : b < 2 ^ 31 := by omega) : (x = y → A) ∧ (¬ x = y → B) := by
  subst hx hy
  rw [nI_eq ha hb]
  exact ⟨f, g⟩
theorem pk_in {x : Int32} (n N : Nat) (h : n < N) (hx : x = nI n := by rfl) (hN : N < 2 ^ 31 := by omega) : vp_in x N := by
  subst hx
  exact vp_in_nI h hN
theorem pk_cl {x : Int32} (n : Nat) (hx : x = nI n := by rfl) (h : n < 2 ^ 31 := by omega) : x.toNatClampNeg = n := by
  subst hx
  exact nI_clamp h
theorem pk_tn {n : Nat} (h : n < 2 ^ 32) : (nI n).toBitVec.toNat = n := Nat.mod_eq_of_lt h
theorem pk_and (x : Int32) {m : Int32} (k : Nat) (hm : m.toBitVec.toNat = 2 ^ k - 1) : x &&& m = nI (x.toBitVec.toNat % 2 ^ k) := by
  apply Int32.toBitVec_inj.mp
  apply BitVec.eq_of_toNat_eq
  rw [Int32.toBitVec_and, BitVec.toNat_and, hm, Nat.and_two_pow_sub_one_eq_mod]
  show _ = (BitVec.ofNat 32 _).toNat
  rw [BitVec.toNat_ofNat]
  exact (Nat.mod_eq_of_lt (Nat.lt_of_le_of_lt (Nat.mod_le _ _) x.toBitVec.isLt)).symm
theorem pk_andN {n : Nat} (h : n < 2 ^ 32) {m : Int32} (k : Nat) (hm : m.toBitVec.toNat = 2 ^ k - 1) : nI n &&& m = nI (n % 2 ^ k) := by
  rw [pk_and _ k hm, pk_tn h]
theorem pk_andE (x : Int32) {m : Int32} (k : Nat) (hm : m.toBitVec.toNat = 2 ^ k - 1) : ∃ j : Nat, j < 2 ^ k ∧ x &&& m = nI j := ⟨_, Nat.mod_lt _ (Nat.two_pow_pos k), pk_and x k hm⟩
theorem pk_shr (a s : Int32) (k : Nat) (hs : (s.toBitVec.smod 32).toNat = k) : (a >>> s).toInt = a.toInt >>> k := by
  show (a.toBitVec.sshiftRight (s.toBitVec.smod 32).toNat).toInt = _
  rw [hs, BitVec.toInt_sshiftRight]
  rfl
theorem pk_shrN {n : Nat} (h : n < 2 ^ 31) (s : Int32) (k : Nat) (hs : (s.toBitVec.smod 32).toNat = k) : nI n >>> s = nI (n / 2 ^ k) := by
  apply Int32.toInt_inj.mp
  have h2 : n / 2 ^ k ≤ n := Nat.div_le_self _ _
  rw [pk_shr _ _ k hs, nI_toInt h, nI_toInt (by omega), Int.shiftRight_eq_div_pow]
  rfl
theorem pk_vb (z : Int32) : vp_nar .byte z.toInt8.toInt32 = z.toInt8.toInt32 := by rw [vp_nar_byte]; simp
end
section
/-! streams as lists; what a process makes of them; nets and their least fixpoint -/
def kn_u {α : Type} (f : Nat → α) (i : Nat) (v : α) : Nat → α := fun j => if j = i then v else f j
theorem kn_us {α : Type} {f : Nat → α} {i : Nat} {v : α} : kn_u f i v i = v := if_pos rfl
theorem kn_un {α : Type} {f : Nat → α} {i j : Nat} {v : α} (h : j ≠ i) : kn_u f i v j = f j := if_neg h
/-- what a source still writes: from its int j on, r ints -/
def kn_sr (p q : Int32) : Nat → Nat → List Int32
  | _, 0 => []
  | j, r + 1 => (p + nI j * q) :: kn_sr p q (j + 1) r
def kn_fl (p : Int32) : List Int32 → List Int32
  | [] => []
  | x :: A => if x &&& p = 0 then x :: kn_fl p A else kn_fl p A
def kn_ji (x : Int32) (f : List Int32 → List Int32) : List Int32 → List Int32
  | [] => []
  | y :: B => if y < x then y :: kn_ji x f B else x :: f (y :: B)
def kn_jn : List Int32 → List Int32 → List Int32
  | [] => fun _ => []
  | x :: A => kn_ji x (kn_jn A)
def kn_sm : Int32 → List Int32 → List Int32
  | _, [] => []
  | m, x :: A => (m + x) :: kn_sm (m + x) A
def kn_pq : Nat → Int32 → List Int32 → List Int32
  | _, _, [] => []
  | 0, _, x :: A => kn_pq 1 x A
  | _ + 1, m, x :: A => (m - x) :: kn_pq 0 m A
def kn_zp : List Int32 → List Int32 → List Int32
  | x :: A, y :: B => (x + y) :: kn_zp A B
  | _, _ => []
theorem kn_jn_nil (A : List Int32) : kn_jn A [] = [] := by cases A <;> rfl
theorem kn_jn_nil' (B : List Int32) : kn_jn [] B = [] := rfl
theorem kn_jn_cons (x y : Int32) (A B : List Int32) : kn_jn (x :: A) (y :: B) = if y < x then y :: kn_jn (x :: A) B else x :: kn_jn A (y :: B) := rfl
theorem kn_zp_nil (A : List Int32) : kn_zp A [] = [] := by cases A <;> rfl
theorem kn_zp_nil' (B : List Int32) : kn_zp [] B = [] := by cases B <;> rfl
/-- what a process of kind k with memory m and phase h still writes if A and B are what it still can read -/
def kn_rs (k : Nat) (p q m : Int32) (h : Nat) (A B : List Int32) : List Int32 :=
  match k with
  | 0 => kn_sr p q (h - m.toNatClampNeg) m.toNatClampNeg
  | 1 => A
  | 2 => kn_zp A B
  | 3 => if h = 0 then p :: A else A
  | 4 => kn_fl p A
  | 5 => kn_jn A B
  | 6 => kn_sm m A
  | _ => kn_pq h m A
theorem kn_rsc {k : Nat} {p q m : Int32} {h : Nat} {A B A' B' : List Int32} (hA : k ≠ 0 → A = A') (hB : k = 2 ∨ k = 5 → B = B') : kn_rs k p q m h A B = kn_rs k p q m h A' B' := by
  match k, hA, hB with
  | 0, _, _ => rfl
  | 1, hA, _ => exact hA (by decide)
  | 2, hA, hB => rw [hA (by decide), hB (Or.inl rfl)]
  | 3, hA, _ => rw [hA (by decide)]; rfl
  | 4, hA, _ => rw [hA (by decide)]; rfl
  | 5, hA, hB => rw [hA (by decide), hB (Or.inr rfl)]
  | 6, hA, _ => rw [hA (by decide)]; rfl
  | k + 7, hA, _ => rw [hA (by omega)]; rfl
theorem kn_flm (p : Int32) (A t : List Int32) : kn_fl p A <+: kn_fl p (A ++ t) := by
  induction A with
  | nil => exact List.nil_prefix
  | cons x A ih =>
    show (if x &&& p = 0 then x :: kn_fl p A else kn_fl p A) <+: (if x &&& p = 0 then x :: kn_fl p (A ++ t) else kn_fl p (A ++ t))
    by_cases h : x &&& p = 0
    · rw [if_pos h, if_pos h]; exact List.cons_prefix_cons.mpr ⟨rfl, ih⟩
    · rw [if_neg h, if_neg h]; exact ih
theorem kn_smm (A t : List Int32) : ∀ m, kn_sm m A <+: kn_sm m (A ++ t) := by
  induction A with
  | nil => exact fun m => List.nil_prefix
  | cons x A ih => exact fun m => List.cons_prefix_cons.mpr ⟨rfl, ih _⟩
theorem kn_pqm (A t : List Int32) : ∀ h m, kn_pq h m A <+: kn_pq h m (A ++ t) := by
  induction A with
  | nil =>
    intro h m
    have e : kn_pq h m [] = [] := by cases h <;> rfl
    rw [e]
    exact List.nil_prefix
  | cons x A ih =>
    intro h m
    cases h with
    | zero => exact ih 1 x
    | succ h => exact List.cons_prefix_cons.mpr ⟨rfl, ih _ _⟩
theorem kn_zpm (A t : List Int32) : ∀ B s, kn_zp A B <+: kn_zp (A ++ t) (B ++ s) := by
  induction A with
  | nil => intro B s; rw [kn_zp_nil']; exact List.nil_prefix
  | cons x A ih =>
    intro B s
    cases B with
    | nil => exact List.nil_prefix
    | cons y B => exact List.cons_prefix_cons.mpr ⟨rfl, ih _ _⟩
theorem kn_jnm (A t : List Int32) : ∀ B s, kn_jn A B <+: kn_jn (A ++ t) (B ++ s) := by
  induction A with
  | nil => exact fun B s => List.nil_prefix
  | cons x A ih =>
    intro B s
    induction B with
    | nil => exact List.nil_prefix
    | cons y B ihB =>
      show (if y < x then y :: kn_jn (x :: A) B else x :: kn_jn A (y :: B)) <+: (if y < x then y :: kn_jn (x :: (A ++ t)) (B ++ s) else x :: kn_jn (A ++ t) (y :: (B ++ s)))
      by_cases h : y < x
      · rw [if_pos h, if_pos h]; exact List.cons_prefix_cons.mpr ⟨rfl, ihB⟩
      · rw [if_neg h, if_neg h]; exact List.cons_prefix_cons.mpr ⟨rfl, ih (y :: B) s⟩
theorem kn_mono {k : Nat} {p q m : Int32} {h : Nat} {A B A' B' : List Int32} (hA : A <+: A') (hB : B <+: B') : kn_rs k p q m h A B <+: kn_rs k p q m h A' B' := by
  obtain ⟨t, rfl⟩ := hA
  obtain ⟨s, rfl⟩ := hB
  match k with
  | 0 => exact List.prefix_rfl
  | 1 => exact List.prefix_append _ _
  | 2 => exact kn_zpm _ _ _ _
  | 3 =>
    show (if h = 0 then p :: A else A) <+: (if h = 0 then p :: (A ++ t) else A ++ t)
    by_cases z : h = 0
    · rw [if_pos z, if_pos z]; exact List.prefix_append _ _
    · rw [if_neg z, if_neg z]; exact List.prefix_append _ _
  | 4 => exact kn_flm _ _ _
  | 5 => exact kn_jnm _ _ _ _
  | 6 => exact kn_smm _ _ _
  | k + 7 => exact kn_pqm _ _ _ _
theorem kn_takem {A B : List Int32} (n : Nat) (h : A <+: B) : A.take n <+: B.take n :=
  List.prefix_take_iff.mpr ⟨(List.take_prefix n A).trans h, by rw [List.length_take]; exact Nat.min_le_left _ _⟩
theorem kn_anti {A B : List Int32} (h : A <+: B) (h' : B <+: A) : A = B := h.eq_of_length_le h'.length_le
/-- a net: how many processes; kinds, channels a, b (a source: how many ints), c, d; numbers p, q -/
abbrev kn_N : Type := Nat × (Nat → Nat) × (Nat → Nat) × (Nat → Nat) × (Nat → Nat) × (Nat → Nat) × (Nat → Int32) × (Nat → Int32)
def kn_n (N : kn_N) : Nat := N.1
def kn_k (N : kn_N) : Nat → Nat := N.2.1
def kn_a (N : kn_N) : Nat → Nat := N.2.2.1
def kn_b (N : kn_N) : Nat → Nat := N.2.2.2.1
def kn_c (N : kn_N) : Nat → Nat := N.2.2.2.2.1
def kn_d (N : kn_N) : Nat → Nat := N.2.2.2.2.2.1
def kn_p (N : kn_N) : Nat → Int32 := N.2.2.2.2.2.2.1
def kn_q (N : kn_N) : Nat → Int32 := N.2.2.2.2.2.2.2
def kn_rd (N : kn_N) (i x : Nat) : Prop := kn_k N i ≠ 0 ∧ (kn_a N i = x ∨ ((kn_k N i = 2 ∨ kn_k N i = 5) ∧ kn_b N i = x))
def kn_wt (N : kn_N) (i x : Nat) : Prop := kn_c N i = x ∨ (kn_k N i = 1 ∧ kn_d N i = x)
def kn_R (N : kn_N) (x : Nat) : Prop := ∃ i, i < kn_n N ∧ kn_rd N i x
def kn_W (N : kn_N) (x : Nat) : Prop := ∃ i, i < kn_n N ∧ kn_wt N i x
def kn_ok (N : kn_N) : Prop := kn_n N ≤ 8
  ∧ (∀ i, i < kn_n N → kn_k N i ≤ 7 ∧ kn_a N i < 10 ∧ kn_b N i ≤ 12 ∧ (kn_k N i ≠ 0 → kn_b N i < 10) ∧ kn_c N i < 10 ∧ kn_d N i < 10
      ∧ ((kn_k N i = 2 ∨ kn_k N i = 5) → kn_a N i ≠ kn_b N i) ∧ (kn_k N i = 1 → kn_c N i ≠ kn_d N i))
  ∧ (∀ i j x, i < kn_n N → j < kn_n N → kn_rd N i x → kn_rd N j x → i = j)
  ∧ (∀ i j x, i < kn_n N → j < kn_n N → kn_wt N i x → kn_wt N j x → i = j)
def kn_m0 (N : kn_N) (i : Nat) : Int32 := if kn_k N i = 0 then nI (kn_b N i) else 0
def kn_h0 (N : kn_N) (i : Nat) : Nat := if kn_k N i = 0 then kn_b N i else 0
def kn_r (N : kn_N) (i : Nat) (m : Int32) (h : Nat) (A B : List Int32) : List Int32 := kn_rs (kn_k N i) (kn_p N i) (kn_q N i) m h A B
def kn_F (N : kn_N) (i : Nat) (A B : List Int32) : List Int32 := kn_r N i (kn_m0 N i) (kn_h0 N i) A B
/-- what process i makes of the streams st -/
def kn_T (N : kn_N) (i : Nat) (st : Nat → List Int32) : List Int32 := (kn_F N i (st (kn_a N i)) (st (kn_b N i))).take 20
def kn_fx (N : kn_N) (st : Nat → List Int32) : Prop :=
  (∀ i, i < kn_n N → st (kn_c N i) = kn_T N i st ∧ (kn_k N i = 1 → st (kn_d N i) = st (kn_c N i))) ∧ ∀ x, ¬ kn_W N x → st x = []
def kn_lf (N : kn_N) (st : Nat → List Int32) : Prop := kn_fx N st ∧ ∀ t, kn_fx N t → ∀ x, st x <+: t x
theorem kn_lfu {N : kn_N} {s t : Nat → List Int32} (hs : kn_lf N s) (ht : kn_lf N t) : s = t :=
  funext fun x => kn_anti (hs.2 t ht.1 x) (ht.2 s hs.1 x)
theorem kn_T20 (N : kn_N) (i : Nat) (st : Nat → List Int32) : (kn_T N i st).length ≤ 20 := by
  unfold kn_T; rw [List.length_take]; exact Nat.min_le_left _ _
theorem kn_Tm {N : kn_N} {i : Nat} {s t : Nat → List Int32} (h : ∀ x, s x <+: t x) : kn_T N i s <+: kn_T N i t :=
  kn_takem 20 (kn_mono (h _) (h _))
theorem kn_fx20 {N : kn_N} {st : Nat → List Int32} (h : kn_fx N st) (x : Nat) : (st x).length ≤ 20 := by
  by_cases w : kn_W N x
  · obtain ⟨i, hi, w⟩ := w
    have e := (h.1 i hi).1
    have l := kn_T20 N i st
    rw [← e] at l
    rcases w with w | ⟨k1, w⟩
    · rw [← w]; exact l
    · rw [← w, (h.1 i hi).2 k1]; exact l
  · rw [h.2 x w]; exact Nat.zero_le _
/-! sums over the ten channels -/
def kn_S (g : Nat → Nat) : Nat → Nat
  | 0 => 0
  | n + 1 => kn_S g n + g n
theorem kn_Sle {g g' : Nat → Nat} : ∀ n, (∀ x, x < n → g x ≤ g' x) → kn_S g n ≤ kn_S g' n := by
  intro n
  induction n with
  | zero => intro _; exact Nat.le_refl _
  | succ n ih =>
    intro h
    have h1 := ih (fun x hx => h x (by omega))
    have h2 := h n (by omega)
    show kn_S g n + g n ≤ kn_S g' n + g' n
    omega
theorem kn_Slt {g g' : Nat → Nat} {y : Nat} : ∀ n, y < n → g y < g' y → (∀ x, x < n → g x ≤ g' x) → kn_S g n < kn_S g' n := by
  intro n
  induction n with
  | zero => intro h; omega
  | succ n ih =>
    intro hy hl h
    have h2 := h n (by omega)
    show kn_S g n + g n < kn_S g' n + g' n
    by_cases e : y = n
    · have h1 := kn_Sle n (fun x hx => h x (by omega))
      rw [e] at hl
      omega
    · have h1 := ih (by omega) hl (fun x hx => h x (by omega))
      omega
theorem kn_Sb {g : Nat → Nat} {b : Nat} : ∀ n, (∀ x, x < n → g x ≤ b) → kn_S g n ≤ n * b := by
  intro n
  induction n with
  | zero => intro _; exact Nat.zero_le _
  | succ n ih =>
    intro h
    have h1 := ih (fun x hx => h x (by omega))
    have h2 := h n (by omega)
    show kn_S g n + g n ≤ (n + 1) * b
    rw [Nat.succ_mul]
    omega
end
section
/-! the component's invariant: what each process has written, and what it still makes of any longer inputs -/
def kn_lo (N : kn_N) (i : Nat) (me : Nat → Int32) (ph : Nat → Nat) : Prop :=
  ph i ≤ 15 ∧ (kn_k N i = 0 → ph i = kn_b N i ∧ ∃ r, r ≤ kn_b N i ∧ me i = nI r)
def kn_I (N : kn_N) (st : Nat → List Int32) (tk : Nat → Nat) (me : Nat → Int32) (ph : Nat → Nat) : Prop :=
  (∀ i, i < kn_n N → (∀ A B, st (kn_a N i) <+: A → st (kn_b N i) <+: B → kn_F N i A B = st (kn_c N i) ++ kn_r N i (me i) (ph i) (A.drop (tk (kn_a N i))) (B.drop (tk (kn_b N i))))
      ∧ (kn_k N i = 1 → st (kn_d N i) = st (kn_c N i)) ∧ kn_lo N i me ph)
  ∧ (∀ x, ¬ kn_W N x → st x = [])
  ∧ (∀ x, (st x).length ≤ 20 ∧ tk x ≤ (st x).length)
  ∧ (∀ t, kn_fx N t → ∀ x, st x <+: t x)
theorem kn_I0 {N : kn_N} (hN : kn_ok N) {me : Nat → Int32} {ph : Nat → Nat} (hm : ∀ i, i < kn_n N → me i = kn_m0 N i) (hp : ∀ i, i < kn_n N → ph i = kn_h0 N i) :
    kn_I N (fun _ => []) (fun _ => 0) me ph := by
  refine ⟨fun i hi => ⟨fun A B _ _ => ?_, fun _ => rfl, ?_, ?_⟩, fun _ _ => rfl, fun _ => ⟨Nat.zero_le _, Nat.le_refl _⟩, fun _ _ _ => List.nil_prefix⟩
  · rw [hm i hi, hp i hi]; rfl
  · have hb := (hN.2.1 i hi).2.2.1
    rw [hp i hi]
    unfold kn_h0
    by_cases z : kn_k N i = 0
    · rw [if_pos z]; omega
    · rw [if_neg z]; omega
  · intro z
    refine ⟨?_, kn_b N i, Nat.le_refl _, ?_⟩
    · rw [hp i hi]; exact if_pos z
    · rw [hm i hi]; exact if_pos z
theorem kn_rdu {N : kn_N} (hN : kn_ok N) {i j x : Nat} (hi : i < kn_n N) (hj : j < kn_n N) (h : kn_rd N j x) (ne : j ≠ i) : ¬ kn_rd N i x :=
  fun z => ne (hN.2.2.1 j i x hj hi h z)
theorem kn_wtu {N : kn_N} (hN : kn_ok N) {i j x : Nat} (hi : i < kn_n N) (hj : j < kn_n N) (h : kn_wt N j x) (ne : j ≠ i) : ¬ kn_wt N i x :=
  fun z => ne (hN.2.2.2 j i x hj hi h z)
/-- one step of process i keeps the invariant -/
theorem kn_step {N : kn_N} {st st' : Nat → List Int32} {tk tk' : Nat → Nat} {me me' : Nat → Int32} {ph ph' : Nat → Nat} {i : Nat} (out : List Int32)
    (hN : kn_ok N) (hi : i < kn_n N) (I : kn_I N st tk me ph)
    (hc : st' (kn_c N i) = st (kn_c N i) ++ out) (hd : kn_k N i = 1 → st' (kn_d N i) = st (kn_d N i) ++ out)
    (hs : ∀ x, ¬ kn_wt N i x → st' x = st x) (h20 : (st (kn_c N i) ++ out).length ≤ 20)
    (ht : ∀ x, ¬ kn_rd N i x → tk' x = tk x) (ht2 : ∀ x, tk' x ≤ (st x).length)
    (hm : ∀ j, j ≠ i → me' j = me j) (hp : ∀ j, j ≠ i → ph' j = ph j) (hl : kn_lo N i me' ph')
    (hr : ∀ A B, st (kn_a N i) <+: A → st (kn_b N i) <+: B →
      kn_r N i (me i) (ph i) (A.drop (tk (kn_a N i))) (B.drop (tk (kn_b N i))) = out ++ kn_r N i (me' i) (ph' i) (A.drop (tk' (kn_a N i))) (B.drop (tk' (kn_b N i)))) :
    kn_I N st' tk' me' ph' := by
  obtain ⟨I1, I2, I3, I4⟩ := I
  have hdd : kn_k N i = 1 → st' (kn_d N i) = st' (kn_c N i) := fun k1 => by
    rw [hd k1, hc, (I1 i hi).2.1 k1]
  have pre : ∀ x, st x <+: st' x := by
    intro x
    by_cases w : kn_wt N i x
    · rcases w with w | ⟨k1, w⟩
      · rw [← w, hc]; exact List.prefix_append _ _
      · rw [← w, hd k1]; exact List.prefix_append _ _
    · rw [hs x w]; exact List.prefix_rfl
  have l20 : ∀ x, (st' x).length ≤ 20 := by
    intro x
    by_cases w : kn_wt N i x
    · rcases w with w | ⟨k1, w⟩
      · rw [← w, hc]; exact h20
      · rw [← w, hdd k1, hc]; exact h20
    · rw [hs x w]; exact (I3 x).1
  refine ⟨fun j hj => ?_, fun x hx => ?_, fun x => ⟨l20 x, Nat.le_trans (ht2 x) (pre x).length_le⟩, fun t ft x => ?_⟩
  · by_cases e : j = i
    · subst e
      refine ⟨fun A B hA hB => ?_, hdd, hl⟩
      have hA' := (pre _).trans hA
      have hB' := (pre _).trans hB
      rw [(I1 j hj).1 A B hA' hB', hr A B hA' hB', hc, List.append_assoc]
    · obtain ⟨J1, J2, J3⟩ := I1 j hj
      have ec : st' (kn_c N j) = st (kn_c N j) := hs _ (kn_wtu hN hi hj (Or.inl rfl) e)
      refine ⟨fun A B hA hB => ?_, fun k1 => ?_, ?_⟩
      · rw [J1 A B ((pre _).trans hA) ((pre _).trans hB), ec, hm j e, hp j e]
        refine congrArg (fun z => st (kn_c N j) ++ z) (kn_rsc (fun z => ?_) (fun z => ?_))
        · rw [ht _ (kn_rdu hN hi hj ⟨z, Or.inl rfl⟩ e)]
        · rw [ht _ (kn_rdu hN hi hj ⟨by omega, Or.inr ⟨z, rfl⟩⟩ e)]
      · rw [ec, hs _ (kn_wtu hN hi hj (Or.inr ⟨k1, rfl⟩) e)]; exact J2 k1
      · unfold kn_lo; rw [hm j e, hp j e]; exact J3
  · rw [hs x (fun w => hx ⟨i, hi, w⟩)]; exact I2 x hx
  · have key : st' (kn_c N i) <+: t (kn_c N i) := by
      rw [(ft.1 i hi).1]
      refine List.prefix_take_iff.mpr ⟨?_, l20 _⟩
      rw [(I1 i hi).1 _ _ (I4 t ft _) (I4 t ft _), hr _ _ (I4 t ft _) (I4 t ft _), hc, ← List.append_assoc]
      exact List.prefix_append _ _
    by_cases w : kn_wt N i x
    · rcases w with w | ⟨k1, w⟩
      · rw [← w]; exact key
      · rw [← w, hdd k1, (ft.1 i hi).2 k1]; exact key
    · rw [hs x w]; exact I4 t ft x
/-- a process has what it needs to write, room set aside -/
def kn_rdy (N : kn_N) (st : Nat → List Int32) (tk : Nat → Nat) (me : Nat → Int32) (ph : Nat → Nat) (i : Nat) : Prop :=
  (st (kn_c N i)).length < 20 ∧ ((kn_k N i = 0 ∧ ¬ me i ≤ 0) ∨ (kn_k N i = 3 ∧ ph i = 0) ∨
    (kn_k N i ≠ 0 ∧ ¬ (kn_k N i = 3 ∧ ph i = 0) ∧ tk (kn_a N i) < (st (kn_a N i)).length ∧ ((kn_k N i = 2 ∨ kn_k N i = 5) → tk (kn_b N i) < (st (kn_b N i)).length)))
theorem kn_rs_nilA {k : Nat} {p q m : Int32} {h : Nat} {B : List Int32} (h0 : k ≠ 0) (h3 : ¬ (k = 3 ∧ h = 0)) : kn_rs k p q m h [] B = [] := by
  match k, h0, h3 with
  | 1, _, _ => rfl
  | 2, _, _ => exact kn_zp_nil' B
  | 3, _, h3 => exact if_neg (fun z => h3 ⟨rfl, z⟩)
  | 4, _, _ => rfl
  | 5, _, _ => rfl
  | 6, _, _ => rfl
  | k + 7, _, _ => show kn_pq h m [] = []; cases h <;> rfl
theorem kn_rs_nilB {k : Nat} {p q m : Int32} {h : Nat} {A : List Int32} (h2 : k = 2 ∨ k = 5) : kn_rs k p q m h A [] = [] := by
  rcases h2 with rfl | rfl
  · exact kn_zp_nil A
  · exact kn_jn_nil A
theorem kn_idle {N : kn_N} {st : Nat → List Int32} {tk : Nat → Nat} {me : Nat → Int32} {ph : Nat → Nat} {i : Nat} (hN : kn_ok N) (hi : i < kn_n N) (I : kn_I N st tk me ph)
    (nr : ¬ kn_rdy N st tk me ph i) (hl : (st (kn_c N i)).length < 20) :
    kn_r N i (me i) (ph i) ((st (kn_a N i)).drop (tk (kn_a N i))) ((st (kn_b N i)).drop (tk (kn_b N i))) = [] := by
  obtain ⟨-, -, l1, l2⟩ := I.1 i hi
  by_cases k0 : kn_k N i = 0
  · obtain ⟨-, r, hr, er⟩ := l2 k0
    have hb := (hN.2.1 i hi).2.2.1
    have z : me i ≤ 0 := Decidable.byContradiction fun z => nr ⟨hl, Or.inl ⟨k0, z⟩⟩
    have r0 : r = 0 := by
      refine Decidable.byContradiction fun w => ?_
      rw [er] at z
      exact nI_nle (by omega) (by omega) z
    rw [er, r0]
    unfold kn_r
    rw [k0]
    rfl
  · by_cases k3 : kn_k N i = 3 ∧ ph i = 0
    · exact absurd ⟨hl, Or.inr (Or.inl k3)⟩ nr
    · by_cases ta : tk (kn_a N i) < (st (kn_a N i)).length
      · by_cases k2 : kn_k N i = 2 ∨ kn_k N i = 5
        · by_cases tb : tk (kn_b N i) < (st (kn_b N i)).length
          · exact absurd ⟨hl, Or.inr (Or.inr ⟨k0, k3, ta, fun _ => tb⟩)⟩ nr
          · rw [List.drop_eq_nil_of_le (as := st (kn_b N i)) (by omega)]
            exact kn_rs_nilB k2
        · exact absurd ⟨hl, Or.inr (Or.inr ⟨k0, k3, ta, fun z => absurd z k2⟩)⟩ nr
      · rw [List.drop_eq_nil_of_le (as := st (kn_a N i)) (by omega)]
        exact kn_rs_nilA k0 k3
theorem kn_final {N : kn_N} {st : Nat → List Int32} {tk : Nat → Nat} {me : Nat → Int32} {ph : Nat → Nat} (hN : kn_ok N) (I : kn_I N st tk me ph)
    (nr : ∀ i, i < kn_n N → ¬ kn_rdy N st tk me ph i) : kn_lf N st := by
  refine ⟨⟨fun i hi => ⟨?_, (I.1 i hi).2.1⟩, I.2.1⟩, I.2.2.2⟩
  unfold kn_T
  rw [(I.1 i hi).1 _ _ List.prefix_rfl List.prefix_rfl]
  have l := (I.2.2.1 (kn_c N i)).1
  by_cases hl : (st (kn_c N i)).length < 20
  · rw [kn_idle hN hi I (nr i hi) hl, List.append_nil, List.take_of_length_le l]
  · have e : (st (kn_c N i)).length = 20 := by omega
    rw [List.take_append_of_le_length (by omega), List.take_of_length_le l]
/-! the reference's invariant -/
def kn_J (N : kn_N) (st : Nat → List Int32) : Prop :=
  (∀ i, i < kn_n N → st (kn_c N i) <+: kn_T N i st ∧ (kn_k N i = 1 → st (kn_d N i) = st (kn_c N i)))
  ∧ (∀ x, ¬ kn_W N x → st x = []) ∧ (∀ x, (st x).length ≤ 20) ∧ (∀ t, kn_fx N t → ∀ x, st x <+: t x)
theorem kn_J0 (N : kn_N) : kn_J N (fun _ => []) :=
  ⟨fun _ _ => ⟨List.nil_prefix, fun _ => rfl⟩, fun _ _ => rfl, fun _ => Nat.zero_le _, fun _ _ _ => List.nil_prefix⟩
theorem kn_Jstep {N : kn_N} {st st' : Nat → List Int32} {i : Nat} (hN : kn_ok N) (hi : i < kn_n N) (J : kn_J N st)
    (hc : st' (kn_c N i) = kn_T N i st) (hd : kn_k N i = 1 → st' (kn_d N i) = kn_T N i st) (hs : ∀ x, ¬ kn_wt N i x → st' x = st x) :
    kn_J N st' ∧ ∀ x, st x <+: st' x := by
  obtain ⟨J1, J2, J3, J4⟩ := J
  have pre : ∀ x, st x <+: st' x := by
    intro x
    by_cases w : kn_wt N i x
    · rcases w with w | ⟨k1, w⟩
      · rw [← w, hc]; exact (J1 i hi).1
      · rw [← w, hd k1, (J1 i hi).2 k1]; exact (J1 i hi).1
    · rw [hs x w]; exact List.prefix_rfl
  refine ⟨⟨fun j hj => ?_, fun x hx => ?_, fun x => ?_, fun t ft x => ?_⟩, pre⟩
  · by_cases e : j = i
    · subst e
      refine ⟨?_, fun k1 => ?_⟩
      · rw [hc]; exact kn_Tm pre
      · rw [hc, hd k1]
    · have ec : st' (kn_c N j) = st (kn_c N j) := hs _ (kn_wtu hN hi hj (Or.inl rfl) e)
      refine ⟨?_, fun k1 => ?_⟩
      · rw [ec]; exact (J1 j hj).1.trans (kn_Tm pre)
      · rw [ec, hs _ (kn_wtu hN hi hj (Or.inr ⟨k1, rfl⟩) e)]; exact (J1 j hj).2 k1
  · rw [hs x (fun w => hx ⟨i, hi, w⟩)]; exact J2 x hx
  · by_cases w : kn_wt N i x
    · rcases w with w | ⟨k1, w⟩
      · rw [← w, hc]; exact kn_T20 _ _ _
      · rw [← w, hd k1]; exact kn_T20 _ _ _
    · rw [hs x w]; exact J3 x
  · have key : kn_T N i st <+: t (kn_c N i) := by
      rw [(ft.1 i hi).1]; exact kn_Tm (J4 t ft)
    by_cases w : kn_wt N i x
    · rcases w with w | ⟨k1, w⟩
      · rw [← w, hc]; exact key
      · rw [← w, hd k1, (ft.1 i hi).2 k1]; exact key
    · rw [hs x w]; exact J4 t ft x
theorem kn_Jfin {N : kn_N} {st : Nat → List Int32} (J : kn_J N st) (h : ∀ i, i < kn_n N → (kn_T N i st).length ≤ (st (kn_c N i)).length) : kn_lf N st :=
  ⟨⟨fun i hi => ⟨(J.1 i hi).1.eq_of_length_le (h i hi), (J.1 i hi).2⟩, J.2.1⟩, J.2.2.2⟩
end
section
/-! how arrays hold streams and numbers -/
theorem kn_gl {A B : List Int32} {n : Nat} (h : n < A.length) : (A ++ B).getD n 0 = A.getD n 0 := by
  rw [List.getD_eq_getElem?_getD, List.getD_eq_getElem?_getD, List.getElem?_append_left h]
theorem kn_gc {A : List Int32} {v : Int32} : (A ++ [v]).getD A.length 0 = v := by
  rw [List.getD_eq_getElem?_getD, List.getElem?_concat_length]; rfl
theorem kn_gt {A : List Int32} {n : Nat} (h : n < 20) : (A.take 20).getD n 0 = A.getD n 0 := by
  rw [List.getD_eq_getElem?_getD, List.getD_eq_getElem?_getD, List.getElem?_take_of_lt h]
theorem kn_ge {A : List Int32} {n : Nat} (h : n < A.length) : A.getD n 0 = A[n] := by
  rw [List.getD_eq_getElem?_getD, List.getElem?_eq_getElem h]; rfl
theorem kn_dr {s A : List Int32} {t : Nat} (h : s <+: A) (ht : t < s.length) : A.drop t = s.getD t 0 :: A.drop (t + 1) := by
  obtain ⟨u, rfl⟩ := h
  have h2 : t < (s ++ u).length := by rw [List.length_append]; omega
  rw [List.drop_eq_getElem_cons h2, List.getElem_append_left ht, kn_ge ht]
def kn_rp (st : Nat → List Int32) (s w : Nat → Int32) : Prop :=
  ∀ x, x < 10 → w x = nI (st x).length ∧ ∀ k, k < (st x).length → s (20 * x + k) = (st x).getD k 0
def kn_nn (b : Nat) (f : Nat → Nat) (A : Nat → Int32) : Prop := ∀ x, x < b → A x = nI (f x)
theorem kn_nnu {b : Nat} {f : Nat → Nat} {A : Nat → Int32} {x v : Nat} (h : kn_nn b f A) : kn_nn b (kn_u f x v) (upd A x (nI v)) := by
  intro y hy
  by_cases e : y = x
  · rw [e, kn_us, pk_us]
  · rw [kn_un e, pk_un e]; exact h y hy
theorem kn_rpu {st : Nat → List Int32} {s w : Nat → Int32} {x : Nat} {v : Int32} (h : kn_rp st s w) (l20 : ∀ y, (st y).length ≤ 20) (hl : (st x).length < 20) :
    kn_rp (kn_u st x (st x ++ [v])) (upd s (20 * x + (st x).length) v) (upd w x (nI ((st x).length + 1))) := by
  intro y hy
  by_cases e : y = x
  · subst e
    rw [kn_us, pk_us, List.length_append]
    refine ⟨rfl, fun k hk => ?_⟩
    have hk : k < (st y).length + 1 := hk
    by_cases e2 : k = (st y).length
    · rw [e2, pk_us, kn_gc]
    · rw [pk_un (by omega), kn_gl (by omega)]
      exact (h y hy).2 k (by omega)
  · rw [kn_un e, pk_un e]
    refine ⟨(h y hy).1, fun k hk => ?_⟩
    have := l20 y
    rw [pk_un (by omega)]
    exact (h y hy).2 k hk
theorem kn_l20u {st : Nat → List Int32} {x : Nat} {v : Int32} (l20 : ∀ y, (st y).length ≤ 20) (hl : (st x).length < 20) :
    ∀ y, (kn_u st x (st x ++ [v]) y).length ≤ 20 := by
  intro y
  by_cases e : y = x
  · rw [e, kn_us, List.length_append]; exact hl
  · rw [kn_un e]; exact l20 y
theorem kn_b8 : ∀ m, m < 128 → (nI m).toInt8.toInt32 = nI m := by decide +kernel
theorem kn_by {m : Nat} (h : m < 128) : vp_nar .byte ((nI m).toInt8.toInt32) = nI m := by rw [pk_vb]; exact kn_b8 m h
theorem kn_bym : vp_nar .byte ((-1 : Int32).toInt8.toInt32) = -1 := by rw [pk_vb]; decide
theorem kn_by0 : vp_nar .byte 0 = 0 := by rw [vp_nar_byte]; decide
theorem kn_by1 : vp_nar .byte 1 = 1 := by rw [vp_nar_byte]; decide
theorem kn_m1n : ∀ x, x < 20 → ¬ (-1 : Int32) = nI x := by decide +kernel
theorem kn_20 : (20 : Int32) = nI 20 := by decide
theorem kn_ix (x k : Nat) : (20 : Int32) * nI x + nI k = nI (20 * x + k) := by rw [kn_20, pk_mul, nI_add]
/-! the component's tables show the net N -/
def kn_X (N : kn_N) (pc : Int32) (ki ra rb wc wd np nq : Nat → Int32) : Prop :=
  pc = nI (kn_n N) ∧ ∀ i, i < kn_n N → ki i = nI (kn_k N i) ∧ ra i = (if kn_k N i = 0 then -1 else nI (kn_a N i))
    ∧ rb i = (if kn_k N i = 2 ∨ kn_k N i = 5 then nI (kn_b N i) else -1) ∧ wc i = nI (kn_c N i)
    ∧ wd i = (if kn_k N i = 1 then nI (kn_d N i) else -1) ∧ np i = kn_p N i ∧ (kn_k N i = 0 → nq i = kn_q N i)
def kn_hr (N : kn_N) (st : Nat → List Int32) (t r : Nat → Nat) (x : Nat) : Prop := kn_R N x → (st x).length - t x < r x
def kn_D (N : kn_N) (st : Nat → List Int32) (t r h : Nat → Nat) (sm wn tk rm me ph : Nat → Int32) : Prop :=
  kn_rp st sm wn ∧ kn_nn 10 t tk ∧ kn_nn 10 r rm ∧ kn_nn (kn_n N) h ph ∧ kn_I N st t me h ∧ ∀ x, x < 10 → r x ≤ 20
section
variable {fb pc hr : Int32} {ki ra rb wc wd np nq sm wn tk rm me ph : Nat → Int32}
variable {N : kn_N} {st : Nat → List Int32} {t r h : Nat → Nat}
theorem kn_rdE (hN : kn_ok N) (hX : kn_X N pc ki ra rb wc wd np nq) {i x : Nat} (hi : i < kn_n N) (hx : x < 10) : kn_rd N i x ↔ (ra i = nI x ∨ rb i = nI x) := by
  obtain ⟨-, e1, e2, -⟩ := hX.2 i hi
  obtain ⟨-, b1, b2, -⟩ := hN.2.1 i hi
  have hm := kn_m1n x (by omega)
  unfold kn_rd
  rw [e1, e2]
  by_cases k0 : kn_k N i = 0
  · have k2 : ¬ (kn_k N i = 2 ∨ kn_k N i = 5) := by omega
    rw [if_pos k0, if_neg k2]
    exact ⟨fun z => absurd k0 z.1, fun z => z.elim (fun z => absurd z hm) (fun z => absurd z hm)⟩
  · rw [if_neg k0, nI_eq (by omega) (by omega)]
    by_cases k2 : kn_k N i = 2 ∨ kn_k N i = 5
    · rw [if_pos k2, nI_eq (by omega) (by omega)]
      exact ⟨fun z => z.2.elim Or.inl (fun w => Or.inr w.2), fun z => ⟨k0, z.elim Or.inl (fun w => Or.inr ⟨k2, w⟩)⟩⟩
    · rw [if_neg k2]
      exact ⟨fun z => z.2.elim Or.inl (fun w => absurd w.1 k2), fun z => ⟨k0, z.elim Or.inl (fun w => absurd w hm)⟩⟩
theorem kn_wtE (hN : kn_ok N) (hX : kn_X N pc ki ra rb wc wd np nq) {i x : Nat} (hi : i < kn_n N) (hx : x < 10) : kn_wt N i x ↔ (wc i = nI x ∨ wd i = nI x) := by
  obtain ⟨-, -, -, e1, e2, -⟩ := hX.2 i hi
  obtain ⟨-, -, -, -, b1, b2, -⟩ := hN.2.1 i hi
  have hm := kn_m1n x (by omega)
  unfold kn_wt
  rw [e1, e2, nI_eq (by omega) (by omega)]
  by_cases k1 : kn_k N i = 1
  · rw [if_pos k1, nI_eq (by omega) (by omega)]
    exact ⟨fun z => z.elim Or.inl (fun w => Or.inr w.2), fun z => z.elim Or.inl (fun w => Or.inr ⟨k1, w⟩)⟩
  · rw [if_neg k1]
    exact ⟨fun z => z.elim Or.inl (fun w => absurd w.1 k1), fun z => z.elim Or.inl (fun w => absurd w hm)⟩
theorem xx_isRead8 (hN : kn_ok N) (hX : kn_X N pc ki ra rb wc wd np nq) {post : Int32 → Prop} {x : Nat} (hx : x < 10) (h1 : kn_R N x → post 1) (h0 : ¬ kn_R N x → post 0) :
    ∀ d i, i + d = kn_n N → (∀ j, j < i → ¬ kn_rd N j x) → wX_isRead_8 post (nI x) fb pc hr ki ra rb wc wd np nq sm wn tk rm me ph (d + 1) (nI i) := by
  have n8 := hN.1
  intro d
  induction d with
  | zero =>
    intro i hid hj
    refine br_t ?_ (h0 ?_)
    · rw [hX.1]; exact nI_le (by omega) (by omega)
    · intro ⟨j, hj', hr⟩; exact hj j (by omega) hr
  | succ d ih =>
    intro i hid hj
    have hi : i < kn_n N := by omega
    have hin : vp_in (nI i) 8 := vp_in_nI (by omega) (by omega)
    have ecl : (nI i).toNatClampNeg = i := nI_clamp (by omega)
    refine br_f ?_ ⟨hin, ?_⟩
    · rw [hX.1]; exact nI_ge hi (by omega)
    rw [ecl]
    have E := kn_rdE hN hX hi hx
    by_cases hA : ra i = nI x
    · exact br_t hA (h1 ⟨i, hi, E.mpr (Or.inl hA)⟩)
    refine br_f hA ⟨hin, ?_⟩
    by_cases hB : rb i = nI x
    · exact br_t hB (h1 ⟨i, hi, E.mpr (Or.inr hB)⟩)
    exact br_f hB (nm_r (nI_1 i) (ih (i + 1) (by omega) (lt_s hj (fun z => (E.mp z).elim hA hB))))
theorem xx_isRead (hN : kn_ok N) (hX : kn_X N pc ki ra rb wc wd np nq) {post : Int32 → Prop} {x : Nat} (hx : x < 10) (h1 : kn_R N x → post 1) (h0 : ¬ kn_R N x → post 0) :
    wpX_isRead post (fb, pc, hr, ki, ra, rb, wc, wd, np, nq, sm, wn, tk, rm, me, ph) (nI x) := by
  unfold wpX_isRead; dsimp only
  exact br_t (nI_pos' (by omega)) ⟨kn_n N + 1, xx_isRead8 hN hX hx h1 h0 (kn_n N) 0 (by omega) lt_0⟩
theorem xx_isReadM {post : Int32 → Prop} (h0 : post 0) : wpX_isRead post (fb, pc, hr, ki, ra, rb, wc, wd, np, nq, sm, wn, tk, rm, me, ph) (-1) := by
  unfold wpX_isRead; dsimp only
  exact br_f (by decide) h0
theorem xx_isWritten8 (hN : kn_ok N) (hX : kn_X N pc ki ra rb wc wd np nq) {post : Int32 → Prop} {x : Nat} (hx : x < 10) (h1 : kn_W N x → post 1) (h0 : ¬ kn_W N x → post 0) :
    ∀ d i, i + d = kn_n N → (∀ j, j < i → ¬ kn_wt N j x) → wX_isWritten_8 post (nI x) fb pc hr ki ra rb wc wd np nq sm wn tk rm me ph (d + 1) (nI i) := by
  have n8 := hN.1
  intro d
  induction d with
  | zero =>
    intro i hid hj
    refine br_t ?_ (h0 ?_)
    · rw [hX.1]; exact nI_le (by omega) (by omega)
    · intro ⟨j, hj', hr⟩; exact hj j (by omega) hr
  | succ d ih =>
    intro i hid hj
    have hi : i < kn_n N := by omega
    have hin : vp_in (nI i) 8 := vp_in_nI (by omega) (by omega)
    have ecl : (nI i).toNatClampNeg = i := nI_clamp (by omega)
    refine br_f ?_ ⟨hin, ?_⟩
    · rw [hX.1]; exact nI_ge hi (by omega)
    rw [ecl]
    have E := kn_wtE hN hX hi hx
    by_cases hA : wc i = nI x
    · exact br_t hA (h1 ⟨i, hi, E.mpr (Or.inl hA)⟩)
    refine br_f hA ⟨hin, ?_⟩
    by_cases hB : wd i = nI x
    · exact br_t hB (h1 ⟨i, hi, E.mpr (Or.inr hB)⟩)
    exact br_f hB (nm_r (nI_1 i) (ih (i + 1) (by omega) (lt_s hj (fun z => (E.mp z).elim hA hB))))
theorem xx_isWritten (hN : kn_ok N) (hX : kn_X N pc ki ra rb wc wd np nq) {post : Int32 → Prop} {x : Nat} (hx : x < 10) (h1 : kn_W N x → post 1) (h0 : ¬ kn_W N x → post 0) :
    wpX_isWritten post (fb, pc, hr, ki, ra, rb, wc, wd, np, nq, sm, wn, tk, rm, me, ph) (nI x) := by
  unfold wpX_isWritten; dsimp only
  exact br_t (nI_pos' (by omega)) ⟨kn_n N + 1, xx_isWritten8 hN hX hx h1 h0 (kn_n N) 0 (by omega) lt_0⟩
theorem xx_isWrittenM {post : Int32 → Prop} (h0 : post 0) : wpX_isWritten post (fb, pc, hr, ki, ra, rb, wc, wd, np, nq, sm, wn, tk, rm, me, ph) (-1) := by
  unfold wpX_isWritten; dsimp only
  exact br_f (by decide) h0
theorem xx_unread (D : kn_D N st t r h sm wn tk rm me ph) {post : Int32 → Prop} {x : Nat} (hx : x < 10) (hp : post (nI ((st x).length - t x))) : wpX_unread post (fb, pc, hr, ki, ra, rb, wc, wd, np, nq, sm, wn, tk, rm, me, ph) (nI x) := by
  have hin : vp_in (nI x) 10 := vp_in_nI hx (by omega)
  have hb := D.2.2.2.2.1.2.2.1 x
  unfold wpX_unread; dsimp only
  rw [nI_clamp (by omega), (D.1 x hx).1, D.2.1 x hx, pk_sub hb.2]
  exact ⟨hin, hin, hp⟩
theorem xx_isComplete (D : kn_D N st t r h sm wn tk rm me ph) {post : Int32 → Prop} {x : Nat} (hx : x < 10) (h0 : (st x).length < 20 → post 0) (h1 : ¬ (st x).length < 20 → post 1) :
    wpX_isComplete post (fb, pc, hr, ki, ra, rb, wc, wd, np, nq, sm, wn, tk, rm, me, ph) (nI x) := by
  have hb := D.2.2.2.2.1.2.2.1 x
  unfold wpX_isComplete; dsimp only
  refine br_f (nI_pos (by omega)) ⟨vp_in_nI hx (by omega), ?_⟩
  rw [nI_clamp (by omega), (D.1 x hx).1]
  exact pk_lt (st x).length 20 h0 (fun z => h1 (by omega))
theorem xx_isCompleteM {post : Int32 → Prop} (h1 : post 1) : wpX_isComplete post (fb, pc, hr, ki, ra, rb, wc, wd, np, nq, sm, wn, tk, rm, me, ph) (-1) := by
  unfold wpX_isComplete; dsimp only
  exact br_t (by decide) h1
theorem xx_hasRoom (hN : kn_ok N) (hX : kn_X N pc ki ra rb wc wd np nq) (D : kn_D N st t r h sm wn tk rm me ph) {post : Int32 → Prop} {x : Nat} (hx : x < 10)
    (h1 : kn_hr N st t r x → post 1) (h0 : ¬ kn_hr N st t r x → post 0) : wpX_hasRoom post (fb, pc, hr, ki, ra, rb, wc, wd, np, nq, sm, wn, tk, rm, me, ph) (nI x) := by
  have hb := D.2.2.2.2.1.2.2.1 x
  have hr := D.2.2.2.2.2 x hx
  unfold wpX_hasRoom; dsimp only
  refine xx_isRead hN hX hx (fun hR => br_f (by decide) (xx_unread D hx ⟨vp_in_nI hx (by omega), ?_⟩)) (fun nR => br_t rfl (h1 (fun z => absurd z nR)))
  rw [nI_clamp (by omega), D.2.2.1 x hx]
  exact pk_le (r x) ((st x).length - t x) (fun z => h0 (fun w => by have := w hR; omega)) (fun z => h1 (fun _ => z))
theorem xx_peek {post : Int32 → Prop} {x : Nat} (hs : kn_rp st sm wn) (ht : kn_nn 10 t tk) (hx : x < 10) (hl : (st x).length ≤ 20) (hlt : t x < (st x).length)
    (hp : post ((st x).getD (t x) 0)) : wpX_peek post (fb, pc, hr, ki, ra, rb, wc, wd, np, nq, sm, wn, tk, rm, me, ph) (nI x) := by
  unfold wpX_peek; dsimp only
  rw [nI_clamp (n := x) (by omega), ht x hx, kn_ix, nI_clamp (by omega), (hs x hx).2 _ hlt]
  exact ⟨vp_in_nI hx (by omega), vp_in_nI (by omega) (by omega), hp⟩
theorem xx_take {post : Int32 → SX → Prop} {x : Nat} (hs : kn_rp st sm wn) (ht : kn_nn 10 t tk) (hx : x < 10) (hl : (st x).length ≤ 20) (hlt : t x < (st x).length)
    (K : ∀ tk', kn_nn 10 (kn_u t x (t x + 1)) tk' → post ((st x).getD (t x) 0) (fb, pc, hr, ki, ra, rb, wc, wd, np, nq, sm, wn, tk', rm, me, ph)) : wpX_take post (fb, pc, hr, ki, ra, rb, wc, wd, np, nq, sm, wn, tk, rm, me, ph) (nI x) := by
  have hin : vp_in (nI x) 10 := vp_in_nI hx (by omega)
  unfold wpX_take; dsimp only
  refine xx_peek hs ht hx hl hlt ⟨hin, hin, nm_r (e' := upd tk x (nI (t x + 1))) ?_ (K _ (kn_nnu ht))⟩
  rw [nI_clamp (by omega), ht x hx, nI_1, kn_by (by omega)]
theorem xx_put {post : SX → Prop} {x : Nat} {v : Int32} (hs : kn_rp st sm wn) (hx : x < 10) (l20 : ∀ y, (st y).length ≤ 20) (hl : (st x).length < 20)
    (K : ∀ sm' wn', kn_rp (kn_u st x (st x ++ [v])) sm' wn' → post (fb, pc, hr, ki, ra, rb, wc, wd, np, nq, sm', wn', tk, rm, me, ph)) : wpX_put post (fb, pc, hr, ki, ra, rb, wc, wd, np, nq, sm, wn, tk, rm, me, ph) (nI x) v := by
  have hin : vp_in (nI x) 10 := vp_in_nI hx (by omega)
  unfold wpX_put; dsimp only
  rw [nI_clamp (n := x) (by omega), (hs x hx).1, kn_ix, nI_clamp (by omega), nI_1, kn_by (by omega)]
  exact ⟨hin, vp_in_nI (by omega) (by omega), nm_e ⟨hin, hin, nm_e (K _ _ (kn_rpu hs l20 hl))⟩⟩
end
end
section
/-! the component: ready processes; what a step makes of the picture -/
def kn_mu (st : Nat → List Int32) (t r : Nat → Nat) : Nat := kn_S (fun x => (20 - (st x).length) + (20 - t x) + (20 - r x)) 10
theorem kn_mul {st st' : Nat → List Int32} {t t' r r' : Nat → Nat} {y : Nat} (hy : y < 10) (h1 : ∀ x, (st x).length ≤ (st' x).length) (h2 : ∀ x, t x ≤ t' x) (h3 : ∀ x, r x ≤ r' x)
    (h : ((st y).length < (st' y).length ∧ (st y).length < 20) ∨ (t y < t' y ∧ t y < 20) ∨ (r y < r' y ∧ r y < 20)) : kn_mu st' t' r' < kn_mu st t r := by
  refine kn_Slt (y := y) 10 hy ?_ (fun x _ => ?_)
  · have a1 := h1 y
    have a2 := h2 y
    have a3 := h3 y
    show (20 - (st' y).length) + (20 - t' y) + (20 - r' y) < (20 - (st y).length) + (20 - t y) + (20 - r y)
    omega
  · have a1 := h1 x
    have a2 := h2 x
    have a3 := h3 x
    show (20 - (st' x).length) + (20 - t' x) + (20 - r' x) ≤ (20 - (st x).length) + (20 - t x) + (20 - r x)
    omega
def kn_ap (N : kn_N) (st : Nat → List Int32) (i : Nat) (out : List Int32) : Nat → List Int32 :=
  fun x => if kn_c N i = x ∨ (kn_k N i = 1 ∧ kn_d N i = x) then st x ++ out else st x
theorem kn_ap_w {N : kn_N} {st : Nat → List Int32} {i x : Nat} {out : List Int32} (h : kn_wt N i x) : kn_ap N st i out x = st x ++ out := if_pos h
theorem kn_ap_n {N : kn_N} {st : Nat → List Int32} {i x : Nat} {out : List Int32} (h : ¬ kn_wt N i x) : kn_ap N st i out x = st x := if_neg h
theorem kn_ap0 {N : kn_N} {st : Nat → List Int32} {i : Nat} : kn_ap N st i [] = st := by
  funext x
  by_cases w : kn_wt N i x
  · rw [kn_ap_w w, List.append_nil]
  · rw [kn_ap_n w]
theorem kn_ap1 {N : kn_N} {st : Nat → List Int32} {i : Nat} {v : Int32} (k1 : kn_k N i ≠ 1) : kn_u st (kn_c N i) (st (kn_c N i) ++ [v]) = kn_ap N st i [v] := by
  funext x
  by_cases e : x = kn_c N i
  · rw [e, kn_us, kn_ap_w (Or.inl rfl)]
  · rw [kn_un e, kn_ap_n (fun w => w.elim (fun z => e z.symm) (fun z => k1 z.1))]
theorem kn_ap2 {N : kn_N} {st : Nat → List Int32} {i : Nat} {v : Int32} (k1 : kn_k N i = 1) (ne : kn_c N i ≠ kn_d N i) :
    kn_u (kn_u st (kn_c N i) (st (kn_c N i) ++ [v])) (kn_d N i) ((kn_u st (kn_c N i) (st (kn_c N i) ++ [v])) (kn_d N i) ++ [v]) = kn_ap N st i [v] := by
  funext x
  by_cases e : x = kn_d N i
  · rw [e, kn_us, kn_un (fun z => ne z.symm), kn_ap_w (Or.inr ⟨k1, rfl⟩)]
  · by_cases e2 : x = kn_c N i
    · rw [kn_un e, e2, kn_us, kn_ap_w (Or.inl rfl)]
    · rw [kn_un e, kn_un e2, kn_ap_n (fun w => w.elim (fun z => e2 z.symm) (fun z => e z.2.symm))]
def kn_tc (N : kn_N) (i : Nat) (st : Nat → List Int32) (t t' : Nat → Nat) : Prop :=
  (∀ x, ¬ kn_rd N i x → t' x = t x) ∧ ∀ x, t x ≤ t' x ∧ t' x ≤ (st x).length
theorem kn_tc0 {N : kn_N} {i : Nat} {st : Nat → List Int32} {t : Nat → Nat} {me : Nat → Int32} {h : Nat → Nat} (I : kn_I N st t me h) : kn_tc N i st t t :=
  ⟨fun _ _ => rfl, fun x => ⟨Nat.le_refl _, (I.2.2.1 x).2⟩⟩
theorem kn_tcu {N : kn_N} {i y : Nat} {st : Nat → List Int32} {t t' : Nat → Nat} (h : kn_tc N i st t t') (hy : kn_rd N i y) (hl : t' y < (st y).length) :
    kn_tc N i st t (kn_u t' y (t' y + 1)) := by
  refine ⟨fun x hx => ?_, fun x => ?_⟩
  · have ne : x ≠ y := fun e => hx (e ▸ hy)
    rw [kn_un ne]; exact h.1 x hx
  · have := h.2 x
    by_cases e : x = y
    · subst e; rw [kn_us]; omega
    · rw [kn_un e]; exact this
section
variable {N : kn_N} {st : Nat → List Int32} {t r h t' h' : Nat → Nat} {sm wn tk rm me ph sm' wn' tk' me' ph' : Nat → Int32} {i : Nat}
theorem kn_Dst (out : List Int32) (hN : kn_ok N) (hi : i < kn_n N) (D : kn_D N st t r h sm wn tk rm me ph) (ol : out.length ≤ 1) (lc : (st (kn_c N i)).length < 20)
    (tc : kn_tc N i st t t') (hm : ∀ j, j ≠ i → me' j = me j) (hp : ∀ j, j ≠ i → h' j = h j) (hl : kn_lo N i me' h')
    (hs' : kn_rp (kn_ap N st i out) sm' wn') (ht' : kn_nn 10 t' tk') (hh' : kn_nn (kn_n N) h' ph') (dec : out ≠ [] ∨ ∃ y, y < 10 ∧ t y < t' y)
    (hr : ∀ A B, st (kn_a N i) <+: A → st (kn_b N i) <+: B →
      kn_r N i (me i) (h i) (A.drop (t (kn_a N i))) (B.drop (t (kn_b N i))) = out ++ kn_r N i (me' i) (h' i) (A.drop (t' (kn_a N i))) (B.drop (t' (kn_b N i)))) :
    kn_D N (kn_ap N st i out) t' r h' sm' wn' tk' rm me' ph' ∧ kn_mu (kn_ap N st i out) t' r < kn_mu st t r := by
  have I := D.2.2.2.2.1
  refine ⟨⟨hs', ht', D.2.2.1, hh', ?_, D.2.2.2.2.2⟩, ?_⟩
  · refine kn_step out hN hi I (kn_ap_w (Or.inl rfl)) (fun k1 => kn_ap_w (Or.inr ⟨k1, rfl⟩)) (fun x w => kn_ap_n w) ?_ tc.1 (fun x => (tc.2 x).2) hm hp hl hr
    rw [List.length_append]; omega
  · have hle : ∀ x, (st x).length ≤ (kn_ap N st i out x).length := by
      intro x
      by_cases w : kn_wt N i x
      · rw [kn_ap_w w, List.length_append]; omega
      · rw [kn_ap_n w]; omega
    have c10 := (hN.2.1 i hi).2.2.2.2.1
    rcases dec with z | ⟨y, hy, z⟩
    · refine kn_mul c10 hle (fun x => (tc.2 x).1) (fun _ => Nat.le_refl _) (Or.inl ⟨?_, lc⟩)
      rw [kn_ap_w (Or.inl rfl), List.length_append]
      have := List.length_pos_iff.mpr z
      omega
    · refine kn_mul hy hle (fun x => (tc.2 x).1) (fun _ => Nat.le_refl _) (Or.inr (Or.inl ⟨z, ?_⟩))
      have a1 := (tc.2 y).2
      have a2 := (I.2.2.1 y).1
      omega
end
section
variable {fb pc hr : Int32} {ki ra rb wc wd np nq sm wn tk rm me ph : Nat → Int32}
variable {N : kn_N} {st : Nat → List Int32} {t r h : Nat → Nat}
theorem xx_ready57 (hN : kn_ok N) (hX : kn_X N pc ki ra rb wc wd np nq) (D : kn_D N st t r h sm wn tk rm me ph) {post : Int32 → Prop} {i : Nat} (hi : i < kn_n N)
    (h1 : kn_rdy N st t me h i → post 1) (h0 : ¬ kn_rdy N st t me h i → post 0) (lt : (st (kn_c N i)).length < 20) (k0 : kn_k N i ≠ 0) (k3 : ¬ (kn_k N i = 3 ∧ h i = 0)) :
    wX_isReady_57 post (nI i) fb pc hr ki ra rb wc wd np nq sm wn tk rm me ph := by
  have n8 := hN.1
  have hin : vp_in (nI i) 8 := vp_in_nI (by omega) (by omega)
  obtain ⟨-, a10, -, b10, -⟩ := hN.2.1 i hi
  obtain ⟨-, ea, eb, -⟩ := hX.2 i hi
  have la := (D.2.2.2.2.1.2.2.1 (kn_a N i)).1
  have lb := (D.2.2.2.2.1.2.2.1 (kn_b N i)).1
  rw [if_neg k0] at ea
  unfold wX_isReady_57
  rw [nI_clamp (by omega), ea]
  refine ⟨hin, xx_unread D a10 (pk_eq ((st (kn_a N i)).length - t (kn_a N i)) 0 (fun z => h0 ?_) (fun z => ⟨hin, ?_⟩))⟩
  · intro w
    rcases w.2 with w | w | w
    · exact k0 w.1
    · exact k3 w
    · have := w.2.2.1
      omega
  · by_cases k2 : kn_k N i = 2 ∨ kn_k N i = 5
    · rw [if_pos k2] at eb
      rw [eb]
      have b10 := b10 k0
      refine br_f (nI_pos (by omega)) ⟨hin, xx_unread D b10 (pk_le ((st (kn_b N i)).length - t (kn_b N i)) 0 (fun z => h0 ?_) (fun z' => h1 ?_))⟩
      · intro w
        rcases w.2 with w | w | w
        · exact k0 w.1
        · exact k3 w
        · have := w.2.2.2 k2
          omega
      · exact ⟨lt, Or.inr (Or.inr ⟨k0, k3, by omega, fun _ => by omega⟩)⟩
    · rw [if_neg k2] at eb
      rw [eb]
      exact br_t (by decide) (h1 ⟨lt, Or.inr (Or.inr ⟨k0, k3, by omega, fun z => absurd z k2⟩)⟩)
theorem xx_isReady (hN : kn_ok N) (hX : kn_X N pc ki ra rb wc wd np nq) (D : kn_D N st t r h sm wn tk rm me ph) {post : Int32 → Prop} {i : Nat} (hi : i < kn_n N)
    (h1 : kn_rdy N st t me h i → post 1) (h0 : ¬ kn_rdy N st t me h i → post 0) : wpX_isReady post (fb, pc, hr, ki, ra, rb, wc, wd, np, nq, sm, wn, tk, rm, me, ph) (nI i) := by
  have n8 := hN.1
  have hin : vp_in (nI i) 8 := vp_in_nI (by omega) (by omega)
  obtain ⟨k7, -, -, -, c10, -⟩ := hN.2.1 i hi
  obtain ⟨ek, -, -, ec, -⟩ := hX.2 i hi
  have eh := D.2.2.2.1 i hi
  have lh := (D.2.2.2.2.1.1 i hi).2.2.1
  unfold wpX_isReady; dsimp only
  rw [nI_clamp (by omega), ek, ec, eh]
  refine ⟨hin, nm_e ⟨hin, xx_isComplete D c10 (fun lt => br_t rfl ?_) (fun ge => br_f (by decide) (h0 (fun z => ge z.1)))⟩⟩
  refine pk_eq (kn_k N i) 0 (fun k0 => ⟨hin, ?_⟩) (fun k0 => ?_)
  · refine br_c (fun z => h0 (fun w => ?_)) (fun z => h1 ⟨lt, Or.inl ⟨k0, z⟩⟩)
    rcases w.2 with w | w | w
    · exact w.2 z
    · have := w.1
      omega
    · exact w.1 k0
  · refine pk_eq (kn_k N i) 3 (fun k3 => ⟨hin, ?_⟩) (fun k3 => ?_)
    · exact pk_eq (h i) 0 (fun z => h1 ⟨lt, Or.inr (Or.inl ⟨k3, z⟩)⟩) (fun z => xx_ready57 hN hX D hi h1 h0 lt k0 (fun w => z w.2))
    · exact xx_ready57 hN hX D hi h1 h0 lt k0 (fun w => k3 w.1)
end
end
section
/-! the component: one step of one process -/
section
variable {fb pc hr : Int32} {ki ra rb wc wd np nq sm wn tk rm me ph : Nat → Int32}
variable {N : kn_N} {st : Nat → List Int32} {t r h : Nat → Nat} {i : Nat}
theorem kn_luk {me : Nat → Int32} {me' : Nat → Int32} (hl : kn_lo N i me h) (k0 : kn_k N i ≠ 0) : kn_lo N i me' h := ⟨hl.1, fun z => absurd z k0⟩
theorem kn_luh {me : Nat → Int32} {v : Nat} (hv : v ≤ 1) (k0 : kn_k N i ≠ 0) : kn_lo N i me (kn_u h i v) := ⟨by rw [kn_us]; omega, fun z => absurd z k0⟩
theorem xx_stepOne {tk0 : Nat → Int32} (hN : kn_ok N) (hX : kn_X N pc ki ra rb wc wd np nq) (D : kn_D N st t r h sm wn tk0 rm me ph) (hi : i < kn_n N)
    (ht1 : kn_nn 10 (kn_u t (kn_a N i) (t (kn_a N i) + 1)) tk) (lc : (st (kn_c N i)).length < 20) (k0 : kn_k N i ≠ 0) (k2 : kn_k N i ≠ 2) (k5 : kn_k N i ≠ 5)
    (kh : ¬ (kn_k N i = 3 ∧ h i = 0)) (ta : t (kn_a N i) < (st (kn_a N i)).length) {post : SX → Prop}
    (K : ∀ st' t' h' sm' wn' tk' me' ph', kn_D N st' t' r h' sm' wn' tk' rm me' ph' ∧ kn_mu st' t' r < kn_mu st t r → post (fb, pc, hr, ki, ra, rb, wc, wd, np, nq, sm', wn', tk', rm, me', ph')) :
    wpX_stepOne post (fb, pc, hr, ki, ra, rb, wc, wd, np, nq, sm, wn, tk, rm, me, ph) (nI i) ((st (kn_a N i)).getD (t (kn_a N i)) 0) := by
  have n8 := hN.1
  have hin : vp_in (nI i) 8 := vp_in_nI (by omega) (by omega)
  obtain ⟨k7, a10, -, b10, c10, d10, -, cd⟩ := hN.2.1 i hi
  obtain ⟨ek, -, -, ec, ed, ep, -⟩ := hX.2 i hi
  have I := D.2.2.2.2.1
  have eh := D.2.2.2.1 i hi
  obtain ⟨-, dc, lo⟩ := I.1 i hi
  have lh := lo.1
  have l20 : ∀ y, (st y).length ≤ 20 := fun y => (I.2.2.1 y).1
  have tc : kn_tc N i st t (kn_u t (kn_a N i) (t (kn_a N i) + 1)) := kn_tcu (kn_tc0 I) ⟨k0, Or.inl rfl⟩ ta
  have dec : ∃ y, y < 10 ∧ t y < kn_u t (kn_a N i) (t (kn_a N i) + 1) y := ⟨kn_a N i, a10, by rw [kn_us]; omega⟩
  have idh : ∀ j, j ≠ i → h j = h j := fun _ _ => rfl
  have idm : ∀ j, j ≠ i → me j = me j := fun _ _ => rfl
  have icl : (nI i).toNatClampNeg = i := nI_clamp (by omega)
  generalize ev : (st (kn_a N i)).getD (t (kn_a N i)) 0 = v
  have dr : ∀ A, st (kn_a N i) <+: A → A.drop (t (kn_a N i)) = v :: A.drop (t (kn_a N i) + 1) := fun A hA => by rw [kn_dr hA ta, ev]
  unfold wpX_stepOne; dsimp only
  rw [icl, ek, ec, ep, eh]
  refine ⟨hin, nm_e ⟨hin, nm_e ?_⟩⟩
  refine pk_eq (kn_k N i) 1 (fun k1 => ?_) (fun k1 => pk_eq (kn_k N i) 3 (fun k3 => ?_) (fun k3 => pk_eq (kn_k N i) 4 (fun k4 => ⟨hin, ?_⟩)
    (fun k4 => pk_eq (kn_k N i) 6 (fun k6 => ⟨hin, hin, nm_e ⟨hin, ?_⟩⟩) (fun k6 => ⟨hin, pk_eq (h i) 0 (fun z => ⟨hin, nm_e ⟨hin, nm_e ?_⟩⟩) (fun z => ⟨hin, nm_e ⟨hin, ?_⟩⟩)⟩))))
  · rw [if_pos k1] at ed
    refine xx_put D.1 c10 l20 lc (fun sm1 wn1 hs1 => ?_)
    dsimp only
    rw [ed]
    refine ⟨hin, xx_put hs1 d10 (kn_l20u l20 lc) ?_ (fun sm' wn' hs' => ?_)⟩
    · rw [kn_un (fun z => cd k1 z.symm), dc k1]; exact lc
    · rw [kn_ap2 k1 (cd k1)] at hs'
      refine K _ _ _ _ _ _ _ _ (kn_Dst [v] hN hi D (Nat.le_refl _) lc tc idm idh lo hs' ht1 D.2.2.2.1 (Or.inr dec) (fun A B hA hB => ?_))
      unfold kn_r
      rw [k1, kn_us, dr A hA]
      rfl
  · refine xx_put D.1 c10 l20 lc (fun sm' wn' hs' => ?_)
    rw [kn_ap1 k1] at hs'
    refine K _ _ _ _ _ _ _ _ (kn_Dst [v] hN hi D (Nat.le_refl _) lc tc idm idh lo hs' ht1 D.2.2.2.1 (Or.inr dec) (fun A B hA hB => ?_))
    have hh : h i ≠ 0 := fun z => kh ⟨k3, z⟩
    unfold kn_r
    rw [k3, kn_us, dr A hA]
    show (if h i = 0 then kn_p N i :: (v :: A.drop (t (kn_a N i) + 1)) else v :: A.drop (t (kn_a N i) + 1)) = [v] ++ (if h i = 0 then kn_p N i :: A.drop (t (kn_a N i) + 1) else A.drop (t (kn_a N i) + 1))
    rw [if_neg hh, if_neg hh]
    rfl
  · by_cases z : v &&& kn_p N i = 0
    · refine br_t z (xx_put D.1 c10 l20 lc (fun sm' wn' hs' => ?_))
      rw [kn_ap1 k1] at hs'
      refine K _ _ _ _ _ _ _ _ (kn_Dst [v] hN hi D (Nat.le_refl _) lc tc idm idh lo hs' ht1 D.2.2.2.1 (Or.inr dec) (fun A B hA hB => ?_))
      unfold kn_r
      rw [k4, kn_us, dr A hA]
      exact if_pos z
    · have hs' := D.1
      rw [← kn_ap0 (N := N) (st := st) (i := i)] at hs'
      refine br_f z (K _ _ _ _ _ _ _ _ (kn_Dst [] hN hi D (Nat.zero_le _) lc tc idm idh lo hs' ht1 D.2.2.2.1 (Or.inr dec) (fun A B hA hB => ?_)))
      unfold kn_r
      rw [k4, kn_us, dr A hA]
      exact if_neg z
  · rw [pk_us]
    refine xx_put D.1 c10 l20 lc (fun sm' wn' hs' => ?_)
    rw [kn_ap1 k1] at hs'
    refine K _ _ _ sm' wn' tk (upd me i (me i + v)) ph (kn_Dst [me i + v] hN hi D (Nat.le_refl _) lc tc (fun j hj => pk_un hj) idh (kn_luk lo k0) hs' ht1 D.2.2.2.1 (Or.inr dec) (fun A B hA hB => ?_))
    unfold kn_r
    rw [k6, kn_us, dr A hA, pk_us]
    rfl
  · have k7 : kn_k N i = 7 := by omega
    have hs' := D.1
    rw [← kn_ap0 (N := N) (st := st) (i := i)] at hs'
    have hh' : kn_nn (kn_n N) (kn_u h i 1) (upd ph i (vp_nar .byte 1)) := by rw [kn_by1]; exact kn_nnu D.2.2.2.1
    refine K _ _ _ _ _ _ _ _ (kn_Dst [] hN hi D (Nat.zero_le _) lc tc (fun j hj => pk_un hj) (fun j hj => kn_un hj) (kn_luh (Nat.le_refl _) k0) hs' ht1 hh' (Or.inr dec) (fun A B hA hB => ?_))
    unfold kn_r
    rw [k7, kn_us, kn_us, dr A hA, pk_us, z]
    rfl
  · have k7 : kn_k N i = 7 := by omega
    refine xx_put D.1 c10 l20 lc (fun sm' wn' hs' => ?_)
    rw [kn_ap1 k1] at hs'
    have hh' : kn_nn (kn_n N) (kn_u h i 0) (upd ph i (vp_nar .byte 0)) := by rw [kn_by0]; exact kn_nnu D.2.2.2.1
    refine K _ _ _ _ _ _ _ _ (kn_Dst [me i - v] hN hi D (Nat.le_refl _) lc tc idm (fun j hj => kn_un hj) (kn_luh (Nat.zero_le _) k0) hs' ht1 hh' (Or.inr dec) (fun A B hA hB => ?_))
    obtain ⟨g, eg⟩ : ∃ g, h i = g + 1 := ⟨h i - 1, by omega⟩
    unfold kn_r
    rw [k7, kn_us, kn_us, dr A hA, eg]
    rfl
theorem xx_step247 (hN : kn_ok N) (hX : kn_X N pc ki ra rb wc wd np nq) (D : kn_D N st t r h sm wn tk rm me ph) (hi : i < kn_n N) {y : Nat} (hy : y < 10) (rdy : kn_rd N i y)
    (lc : (st (kn_c N i)).length < 20) (ty : t y < (st y).length) (k1 : kn_k N i ≠ 1)
    (hres : ∀ A B, st (kn_a N i) <+: A → st (kn_b N i) <+: B → kn_r N i (me i) (h i) (A.drop (t (kn_a N i))) (B.drop (t (kn_b N i)))
      = [(st y).getD (t y) 0] ++ kn_r N i (me i) (h i) (A.drop (kn_u t y (t y + 1) (kn_a N i))) (B.drop (kn_u t y (t y + 1) (kn_b N i))))
    {post : Int32 → SX → Prop}
    (K : ∀ st' t' h' sm' wn' tk' me' ph', kn_D N st' t' r h' sm' wn' tk' rm me' ph' ∧ kn_mu st' t' r < kn_mu st t r → post 1 (fb, pc, hr, ki, ra, rb, wc, wd, np, nq, sm', wn', tk', rm, me', ph')) :
    wX_step_247 post (nI (kn_c N i)) (nI y) fb pc hr ki ra rb wc wd np nq sm wn tk rm me ph := by
  have c10 := (hN.2.1 i hi).2.2.2.2.1
  have I := D.2.2.2.2.1
  have l20 : ∀ y, (st y).length ≤ 20 := fun y => (I.2.2.1 y).1
  unfold wX_step_247
  refine xx_take D.1 D.2.1 hy (l20 y) ty (fun tk1 ht1 => ?_)
  dsimp only
  refine xx_put D.1 c10 l20 lc (fun sm' wn' hs' => ?_)
  rw [kn_ap1 k1] at hs'
  exact K _ _ _ _ _ _ _ _ (kn_Dst [(st y).getD (t y) 0] hN hi D (Nat.le_refl _) lc (kn_tcu (kn_tc0 I) rdy ty) (fun _ _ => rfl) (fun _ _ => rfl) (I.1 i hi).2.2 hs' ht1 D.2.2.2.1
    (Or.inl (List.cons_ne_nil _ _)) hres)
theorem xx_step149 (hN : kn_ok N) (hX : kn_X N pc ki ra rb wc wd np nq) (D : kn_D N st t r h sm wn tk rm me ph) (hi : i < kn_n N)
    (lc : (st (kn_c N i)).length < 20) (k0 : kn_k N i ≠ 0) (kh : ¬ (kn_k N i = 3 ∧ h i = 0)) (ta : t (kn_a N i) < (st (kn_a N i)).length)
    (tb : (kn_k N i = 2 ∨ kn_k N i = 5) → t (kn_b N i) < (st (kn_b N i)).length) {post : Int32 → SX → Prop}
    (K : ∀ st' t' h' sm' wn' tk' me' ph', kn_D N st' t' r h' sm' wn' tk' rm me' ph' ∧ kn_mu st' t' r < kn_mu st t r → post 1 (fb, pc, hr, ki, ra, rb, wc, wd, np, nq, sm', wn', tk', rm, me', ph')) :
    wX_step_149 post (nI i) (nI (kn_k N i)) (nI (kn_c N i)) fb pc hr ki ra rb wc wd np nq sm wn tk rm me ph := by
  have n8 := hN.1
  have hin : vp_in (nI i) 8 := vp_in_nI (by omega) (by omega)
  obtain ⟨k7, a10, -, b10, c10, -, ab, -⟩ := hN.2.1 i hi
  have b10 := b10 k0
  obtain ⟨-, ea, eb, -⟩ := hX.2 i hi
  rw [if_neg k0] at ea
  have I := D.2.2.2.2.1
  have l20 : ∀ y, (st y).length ≤ 20 := fun y => (I.2.2.1 y).1
  have icl : (nI i).toNatClampNeg = i := nI_clamp (by omega)
  unfold wX_step_149
  rw [icl, ea]
  refine pk_eq (kn_k N i) 2 (fun k2 => ⟨hin, ?_⟩) (fun k2 => pk_eq (kn_k N i) 5 (fun k5 => ⟨hin, ?_⟩) (fun k5 => ⟨hin, ?_⟩))
  · have tb := tb (Or.inl k2)
    have ab := ab (Or.inl k2)
    rw [if_pos (Or.inl k2)] at eb
    refine xx_take D.1 D.2.1 a10 (l20 _) ta (fun tk1 ht1 => ?_)
    dsimp only
    rw [eb]
    have e1 : kn_u t (kn_a N i) (t (kn_a N i) + 1) (kn_b N i) = t (kn_b N i) := kn_un (fun z => ab z.symm)
    refine ⟨hin, xx_take D.1 ht1 b10 (l20 _) (by rw [e1]; exact tb) (fun tk' ht' => ?_)⟩
    dsimp only
    refine xx_put D.1 c10 l20 lc (fun sm' wn' hs' => ?_)
    rw [kn_ap1 (by omega)] at hs'
    have tc1 : kn_tc N i st t (kn_u t (kn_a N i) (t (kn_a N i) + 1)) := kn_tcu (kn_tc0 I) ⟨k0, Or.inl rfl⟩ ta
    have tc2 := kn_tcu tc1 (y := kn_b N i) ⟨k0, Or.inr ⟨Or.inl k2, rfl⟩⟩ (by rw [e1]; exact tb)
    refine K _ _ _ _ _ _ _ _ (kn_Dst _ hN hi D (Nat.le_refl _) lc tc2 (fun _ _ => rfl) (fun _ _ => rfl) (I.1 i hi).2.2 hs' ht' D.2.2.2.1 (Or.inl (List.cons_ne_nil _ _)) (fun A B hA hB => ?_))
    rw [e1, kn_us, kn_un ab, kn_us, kn_dr hA ta, kn_dr hB tb]
    unfold kn_r
    rw [k2]
    rfl
  · have tb := tb (Or.inr k5)
    have ab := ab (Or.inr k5)
    rw [if_pos (Or.inr k5)] at eb
    rw [eb]
    refine xx_peek D.1 D.2.1 a10 (l20 _) ta ⟨hin, xx_peek D.1 D.2.1 b10 (l20 _) tb ?_⟩
    by_cases z : (st (kn_b N i)).getD (t (kn_b N i)) 0 < (st (kn_a N i)).getD (t (kn_a N i)) 0
    · refine br_t z ?_
      unfold wX_step_224
      rw [icl, eb]
      refine br_t rfl ⟨hin, xx_step247 hN hX D hi b10 ⟨k0, Or.inr ⟨Or.inr k5, rfl⟩⟩ lc tb (by omega) (fun A B hA hB => ?_) K⟩
      rw [kn_us, kn_un ab, kn_dr hA ta, kn_dr hB tb]
      unfold kn_r
      rw [k5]
      exact if_pos z
    · refine br_f z ?_
      unfold wX_step_224
      rw [icl, ea]
      refine br_f (by decide) ⟨hin, xx_step247 hN hX D hi a10 ⟨k0, Or.inl rfl⟩ lc ta (by omega) (fun A B hA hB => ?_) K⟩
      rw [kn_us, kn_un (fun z => ab z.symm), kn_dr hA ta, kn_dr hB tb]
      unfold kn_r
      rw [k5]
      exact if_neg z
  · refine xx_take D.1 D.2.1 a10 (l20 _) ta (fun tk1 ht1 => ?_)
    dsimp only
    exact xx_stepOne hN hX D hi ht1 lc k0 k2 k5 kh ta K
theorem xx_step47 (hN : kn_ok N) (hX : kn_X N pc ki ra rb wc wd np nq) (D : kn_D N st t r h sm wn tk rm me ph) (hi : i < kn_n N) (R : kn_rdy N st t me h i) {post : Int32 → SX → Prop}
    (K : ∀ st' t' h' sm' wn' tk' me' ph', kn_D N st' t' r h' sm' wn' tk' rm me' ph' ∧ kn_mu st' t' r < kn_mu st t r → post 1 (fb, pc, hr, ki, ra, rb, wc, wd, np, nq, sm', wn', tk', rm, me', ph')) :
    wX_step_47 post (nI i) fb pc hr ki ra rb wc wd np nq sm wn tk rm me ph := by
  have n8 := hN.1
  have hin : vp_in (nI i) 8 := vp_in_nI (by omega) (by omega)
  obtain ⟨k7, a10, b12, -, c10, -⟩ := hN.2.1 i hi
  obtain ⟨ek, -, -, ec, -, ep, eq⟩ := hX.2 i hi
  have I := D.2.2.2.2.1
  have eh := D.2.2.2.1 i hi
  obtain ⟨-, dc, lo⟩ := I.1 i hi
  have lh := lo.1
  have l20 : ∀ y, (st y).length ≤ 20 := fun y => (I.2.2.1 y).1
  have icl : (nI i).toNatClampNeg = i := nI_clamp (by omega)
  obtain ⟨lc, R⟩ := R
  unfold wX_step_47
  rw [icl, ek, ec, ep, eh]
  refine ⟨hin, nm_e ⟨hin, nm_e ?_⟩⟩
  refine pk_eq (kn_k N i) 0 (fun k0 => ?_) (fun k0 => pk_eq (kn_k N i) 3 (fun k3 => ⟨hin, pk_eq (h i) 0 (fun z => ⟨hin, nm_e ⟨hin, ?_⟩⟩) (fun z => ?_)⟩) (fun k3 => ?_))
  · have eq := eq k0
    obtain ⟨e1, r0, hr0, er⟩ := lo.2 k0
    have z : ¬ me i ≤ 0 := by
      rcases R with R | R | R
      · exact R.2
      · have := R.1
        omega
      · exact absurd k0 R.1
    obtain ⟨g, eg⟩ : ∃ g, r0 = g + 1 := by
      refine ⟨r0 - 1, ?_⟩
      have : r0 ≠ 0 := fun w => z (by rw [er, w]; exact Int32.le_refl _)
      omega
    rw [eg] at er
    have em : nI (h i) - me i = nI (h i - (g + 1)) := by rw [er, pk_sub (by omega)]
    have e2 : me i - 1 = nI g := by rw [er, nI_pred]
    rw [em, e2, eq]
    refine ⟨hin, hin, nm_e ⟨hin, hin, nm_e ⟨hin, hin, ?_⟩⟩⟩
    refine xx_put D.1 c10 l20 lc (fun sm' wn' hs' => ?_)
    rw [kn_ap1 (by omega)] at hs'
    refine K _ _ _ _ _ _ _ _ (kn_Dst _ hN hi D (Nat.le_refl _) lc (kn_tc0 I) (fun j hj => pk_un hj) (fun _ _ => rfl) ⟨lh, fun _ => ⟨e1, g, by omega, pk_us⟩⟩ hs' D.2.1 D.2.2.2.1 (Or.inl (List.cons_ne_nil _ _)) (fun A B hA hB => ?_))
    unfold kn_r
    rw [k0, pk_us, er]
    show kn_sr (kn_p N i) (kn_q N i) (h i - (nI (g + 1)).toNatClampNeg) (nI (g + 1)).toNatClampNeg = [kn_p N i + nI (h i - (g + 1)) * kn_q N i] ++ kn_sr (kn_p N i) (kn_q N i) (h i - (nI g).toNatClampNeg) (nI g).toNatClampNeg
    rw [nI_clamp (n := g + 1) (by omega), nI_clamp (n := g) (by omega), show h i - g = h i - (g + 1) + 1 from by omega]
    rfl
  · refine xx_put D.1 c10 l20 lc (fun sm' wn' hs' => ?_)
    rw [kn_ap1 (by omega)] at hs'
    have hh' : kn_nn (kn_n N) (kn_u h i 1) (upd ph i (vp_nar .byte 1)) := by rw [kn_by1]; exact kn_nnu D.2.2.2.1
    refine K _ _ _ _ _ _ _ _ (kn_Dst _ hN hi D (Nat.le_refl _) lc (kn_tc0 I) (fun _ _ => rfl) (fun j hj => kn_un hj) (kn_luh (Nat.le_refl _) k0) hs' D.2.1 hh' (Or.inl (List.cons_ne_nil _ _)) (fun A B hA hB => ?_))
    unfold kn_r
    rw [k3, kn_us, z]
    rfl
  · rcases R with R | R | R
    · exact absurd R.1 k0
    · exact absurd R.2 z
    · exact xx_step149 hN hX D hi lc k0 R.2.1 R.2.2.1 R.2.2.2 K
  · rcases R with R | R | R
    · exact absurd R.1 k0
    · exact absurd R.1 k3
    · exact xx_step149 hN hX D hi lc k0 R.2.1 R.2.2.1 R.2.2.2 K
def kn_can (N : kn_N) (st : Nat → List Int32) (t r : Nat → Nat) (me : Nat → Int32) (h : Nat → Nat) (i : Nat) : Prop :=
  kn_rdy N st t me h i ∧ kn_hr N st t r (kn_c N i) ∧ (kn_k N i = 1 → kn_hr N st t r (kn_d N i))
theorem xx_step (hN : kn_ok N) (hX : kn_X N pc ki ra rb wc wd np nq) (D : kn_D N st t r h sm wn tk rm me ph) (hi : i < kn_n N) {post : Int32 → SX → Prop}
    (K0 : ¬ kn_can N st t r me h i → post 0 (fb, pc, hr, ki, ra, rb, wc, wd, np, nq, sm, wn, tk, rm, me, ph))
    (K : ∀ st' t' h' sm' wn' tk' me' ph', kn_D N st' t' r h' sm' wn' tk' rm me' ph' ∧ kn_mu st' t' r < kn_mu st t r → post 1 (fb, pc, hr, ki, ra, rb, wc, wd, np, nq, sm', wn', tk', rm, me', ph')) :
    wpX_step post (fb, pc, hr, ki, ra, rb, wc, wd, np, nq, sm, wn, tk, rm, me, ph) (nI i) := by
  have n8 := hN.1
  have hin : vp_in (nI i) 8 := vp_in_nI (by omega) (by omega)
  obtain ⟨k7, -, -, -, c10, d10, -⟩ := hN.2.1 i hi
  obtain ⟨-, -, -, ec, ed, -⟩ := hX.2 i hi
  have icl : (nI i).toNatClampNeg = i := nI_clamp (by omega)
  unfold wpX_step; dsimp only
  rw [icl, ec]
  refine xx_isReady hN hX D hi (fun R => br_f (by decide) ⟨hin, ?_⟩) (fun nR => br_t rfl (K0 (fun z => nR z.1)))
  refine xx_hasRoom hN hX D c10 (fun rc => br_f (by decide) ⟨hin, ?_⟩) (fun nr => br_t rfl (K0 (fun z => nr z.2.1)))
  by_cases k1 : kn_k N i = 1
  · rw [if_pos k1] at ed
    rw [ed]
    exact br_f (nI_pos (by omega)) ⟨hin, xx_hasRoom hN hX D d10 (fun rd => br_f (by decide) (xx_step47 hN hX D hi R K)) (fun nr => br_t rfl (K0 (fun z => nr (z.2.2 k1))))⟩
  · rw [if_neg k1] at ed
    rw [ed]
    exact br_t (by decide) (xx_step47 hN hX D hi R K)
end
end
section
/-! the component: more room; running until nothing goes on -/
def kn_bs (N : kn_N) (st : Nat → List Int32) (t r : Nat → Nat) (b : Int32) (P : Prop) : Prop :=
  (b = -1 ∧ P) ∨ ∃ y, y < 10 ∧ b = nI y ∧ (st y).length < 20 ∧ ¬ kn_hr N st t r y
theorem kn_bsm {N : kn_N} {st : Nat → List Int32} {t r : Nat → Nat} {b : Int32} {P Q : Prop} (h : kn_bs N st t r b P) (f : P → Q) : kn_bs N st t r b Q :=
  h.elim (fun z => Or.inl ⟨z.1, f z.2⟩) Or.inr
def kn_full (N : kn_N) (st : Nat → List Int32) (t r : Nat → Nat) (x : Nat) : Prop := ¬ (st x).length < 20 ∨ kn_hr N st t r x
def kn_nog (N : kn_N) (st : Nat → List Int32) (t r : Nat → Nat) (me : Nat → Int32) (h : Nat → Nat) (j : Nat) : Prop :=
  kn_rdy N st t me h j → kn_full N st t r (kn_c N j) ∧ (kn_k N j = 1 → kn_full N st t r (kn_d N j))
section
variable {fb pc hr : Int32} {ki ra rb wc wd np nq sm wn tk rm me ph : Nat → Int32}
variable {N : kn_N} {st : Nat → List Int32} {t r h : Nat → Nat}
theorem xx_smaller (hN : kn_ok N) (hX : kn_X N pc ki ra rb wc wd np nq) (D : kn_D N st t r h sm wn tk rm me ph) {post : Int32 → Prop} {x : Nat} (hx : x < 10) {b : Int32} {P : Prop}
    (B : kn_bs N st t r b P) (K : ∀ b', kn_bs N st t r b' (P ∧ kn_full N st t r x) → post b') : wpX_smaller post (fb, pc, hr, ki, ra, rb, wc, wd, np, nq, sm, wn, tk, rm, me, ph) b (nI x) := by
  unfold wpX_smaller; dsimp only
  refine br_f (nI_pos (by omega)) (xx_isComplete D hx (fun lt => br_t rfl (xx_hasRoom hN hX D hx (fun hr => br_f (by decide) (K _ (kn_bsm B (fun p => ⟨p, Or.inr hr⟩))))
    (fun nhr => br_t rfl ?_))) (fun ge => br_f (by decide) (K _ (kn_bsm B (fun p => ⟨p, Or.inl ge⟩)))))
  rcases B with ⟨e, p⟩ | ⟨y, hy, e, ly, ny⟩
  · subst e
    exact br_t (by decide) (K _ (Or.inr ⟨x, hx, rfl, lt, nhr⟩))
  · subst e
    exact br_f (nI_pos (by omega)) ⟨vp_in_nI hx (by omega), vp_in_nI hy (by omega), br_c (fun _ => K _ (Or.inr ⟨y, hy, rfl, ly, ny⟩)) (fun _ => K _ (Or.inr ⟨x, hx, rfl, lt, nhr⟩))⟩
theorem xx_smallerM {post : Int32 → Prop} {b : Int32} (hp : post b) : wpX_smaller post (fb, pc, hr, ki, ra, rb, wc, wd, np, nq, sm, wn, tk, rm, me, ph) b (-1) := by
  unfold wpX_smaller; dsimp only
  exact br_t (by decide) hp
theorem xx_grow4 (hN : kn_ok N) (hX : kn_X N pc ki ra rb wc wd np nq) (D : kn_D N st t r h sm wn tk rm me ph) {post : Int32 → SX → Prop}
    (K1 : ∀ r' rm', kn_D N st t r' h sm wn tk rm' me ph ∧ kn_mu st t r' < kn_mu st t r → post 1 (fb, pc, hr, ki, ra, rb, wc, wd, np, nq, sm, wn, tk, rm', me, ph))
    (K0 : (∀ j, j < kn_n N → kn_nog N st t r me h j) → post 0 (fb, pc, hr, ki, ra, rb, wc, wd, np, nq, sm, wn, tk, rm, me, ph)) :
    ∀ d i, i + d = kn_n N → ∀ b, kn_bs N st t r b (∀ j, j < i → kn_nog N st t r me h j) → wX_growSmallest_4 post fb pc hr ki ra rb wc wd np nq sm wn tk rm me ph (d + 1) b (nI i) := by
  have n8 := hN.1
  intro d
  induction d with
  | zero =>
    intro i hid b B
    refine br_t ?_ ?_
    · rw [hX.1]; exact nI_le (by omega) (by omega)
    · rcases B with ⟨e, p⟩ | ⟨y, hy, e, ly, ny⟩
      · subst e
        exact br_f (by decide) (K0 (fun j hj => p j (by omega)))
      · subst e
        have hin : vp_in (nI y) 10 := vp_in_nI hy (by omega)
        have lt := (D.2.2.2.2.1.2.2.1 y).2
        have r19 : r y < 20 := by
          refine Decidable.byContradiction fun z => ny (fun _ => ?_)
          omega
        refine br_t (nI_pos' (by omega)) ⟨hin, hin, nm_r (e' := upd rm y (nI (r y + 1))) ?_ (K1 (kn_u r y (r y + 1)) _ ⟨⟨D.1, D.2.1, kn_nnu D.2.2.1, D.2.2.2.1, D.2.2.2.2.1, fun x hx => ?_⟩, ?_⟩)⟩
        · rw [nI_clamp (by omega), D.2.2.1 y hy, nI_1, kn_by (by omega)]
        · by_cases e : x = y
          · rw [e, kn_us]; omega
          · rw [kn_un e]; exact D.2.2.2.2.2 x hx
        · refine kn_mul hy (fun _ => Nat.le_refl _) (fun _ => Nat.le_refl _) (fun x => ?_) (Or.inr (Or.inr ⟨by rw [kn_us]; omega, r19⟩))
          by_cases e : x = y
          · rw [e, kn_us]; omega
          · rw [kn_un e]; omega
  | succ d ih =>
    intro i hid b B
    have hi : i < kn_n N := by omega
    have hin : vp_in (nI i) 8 := vp_in_nI (by omega) (by omega)
    have icl : (nI i).toNatClampNeg = i := nI_clamp (by omega)
    obtain ⟨k7, -, -, -, c10, d10, -⟩ := hN.2.1 i hi
    obtain ⟨-, -, -, ec, ed, -⟩ := hX.2 i hi
    refine br_f ?_ ?_
    · rw [hX.1]; exact nI_ge hi (by omega)
    refine xx_isReady hN hX D hi (fun R => br_f (by decide) ⟨hin, ?_⟩) (fun nR => br_t rfl (nm_r (nI_1 i) (ih (i + 1) (by omega) b (kn_bsm B (fun p => lt_s p (fun z => absurd z nR))))))
    rw [icl, ec]
    refine xx_smaller hN hX D c10 B (fun b' B' => ⟨hin, ?_⟩)
    by_cases k1 : kn_k N i = 1
    · rw [if_pos k1] at ed
      rw [ed]
      exact xx_smaller hN hX D d10 B' (fun b'' B'' => nm_r (nI_1 i) (ih (i + 1) (by omega) b'' (kn_bsm B'' (fun p => lt_s p.1.1 (fun _ => ⟨p.1.2, fun _ => p.2⟩)))))
    · rw [if_neg k1] at ed
      rw [ed]
      exact xx_smallerM (nm_r (nI_1 i) (ih (i + 1) (by omega) b' (kn_bsm B' (fun p => lt_s p.1 (fun _ => ⟨p.2, fun z => absurd z k1⟩)))))
theorem xx_grow (hN : kn_ok N) (hX : kn_X N pc ki ra rb wc wd np nq) (D : kn_D N st t r h sm wn tk rm me ph) {post : Int32 → SX → Prop}
    (K1 : ∀ r' rm', kn_D N st t r' h sm wn tk rm' me ph ∧ kn_mu st t r' < kn_mu st t r → post 1 (fb, pc, hr, ki, ra, rb, wc, wd, np, nq, sm, wn, tk, rm', me, ph))
    (K0 : (∀ j, j < kn_n N → kn_nog N st t r me h j) → post 0 (fb, pc, hr, ki, ra, rb, wc, wd, np, nq, sm, wn, tk, rm, me, ph)) : wpX_growSmallest post (fb, pc, hr, ki, ra, rb, wc, wd, np, nq, sm, wn, tk, rm, me, ph) := by
  unfold wpX_growSmallest; dsimp only
  exact ⟨kn_n N + 1, xx_grow4 hN hX D K1 K0 (kn_n N) 0 (by omega) (-1) (Or.inl ⟨rfl, lt_0⟩)⟩
theorem kn_stop (hN : kn_ok N) (D : kn_D N st t r h sm wn tk rm me ph) (h1 : ∀ j, j < kn_n N → ¬ kn_can N st t r me h j) (h2 : ∀ j, j < kn_n N → kn_nog N st t r me h j) : kn_lf N st := by
  refine kn_final hN D.2.2.2.2.1 (fun i hi R => h1 i hi ?_)
  obtain ⟨c, d⟩ := h2 i hi R
  have rc : kn_hr N st t r (kn_c N i) := c.elim (fun z => absurd R.1 z) id
  refine ⟨R, rc, fun k1 => (d k1).elim (fun z => ?_) id⟩
  rw [(D.2.2.2.2.1.1 i hi).2.1 k1] at z
  exact absurd R.1 z
end
section
variable {N : kn_N} {fb pc hr : Int32} {ki ra rb wc wd np nq : Nat → Int32}
/-- the turn of all processes, one of them has gone on -/
theorem xx_116a (hN : kn_ok N) (hX : kn_X N pc ki ra rb wc wd np nq) {post : SX → Prop} {J : Int32 → Int32 → Int32 → Int32 → (Nat → Int32) → (Nat → Int32) → (Nat → Int32) → (Nat → Int32) → (Nat → Int32) → (Nat → Int32) → (Nat → Int32) → (Nat → Int32) → (Nat → Int32) → (Nat → Int32) → (Nat → Int32) → (Nat → Int32) → (Nat → Int32) → Prop} {m : Nat}
    (K : ∀ st t r h sm wn tk rm me ph, kn_D N st t r h sm wn tk rm me ph → kn_mu st t r < m → J 1 fb pc hr ki ra rb wc wd np nq sm wn tk rm me ph) :
    ∀ d i, i + d = kn_n N → ∀ st t r h sm wn tk rm me ph, kn_D N st t r h sm wn tk rm me ph → kn_mu st t r < m → wX_runAll_116 post J (d + 1) 1 (nI i) fb pc hr ki ra rb wc wd np nq sm wn tk rm me ph := by
  have n8 := hN.1
  intro d
  induction d with
  | zero =>
    intro i hid st t r h sm wn tk rm me ph D hm
    refine br_t ?_ (br_f (by decide) (K st t r h sm wn tk rm me ph D hm))
    rw [hX.1]; exact nI_le (by omega) (by omega)
  | succ d ih =>
    intro i hid st t r h sm wn tk rm me ph D hm
    have hi : i < kn_n N := by omega
    refine br_f ?_ (xx_step hN hX D hi (fun _ => br_t rfl (nm_r (nI_1 i) (ih (i + 1) (by omega) st t r h sm wn tk rm me ph D hm)))
      (fun st' t' h' sm' wn' tk' me' ph' D' => br_f (by decide) (nm_r (nI_1 i) (ih (i + 1) (by omega) st' t' r h' sm' wn' tk' rm me' ph' D'.1 (Nat.lt_trans D'.2 hm)))))
    rw [hX.1]; exact nI_ge hi (by omega)
/-- the turn of all processes, none of them has gone on so far -/
theorem xx_116b (hN : kn_ok N) (hX : kn_X N pc ki ra rb wc wd np nq) {post : SX → Prop} {J : Int32 → Int32 → Int32 → Int32 → (Nat → Int32) → (Nat → Int32) → (Nat → Int32) → (Nat → Int32) → (Nat → Int32) → (Nat → Int32) → (Nat → Int32) → (Nat → Int32) → (Nat → Int32) → (Nat → Int32) → (Nat → Int32) → (Nat → Int32) → (Nat → Int32) → Prop}
    {st : Nat → List Int32} {t r h : Nat → Nat} {sm wn tk rm me ph : Nat → Int32} (D : kn_D N st t r h sm wn tk rm me ph)
    (K : ∀ st' t' r' h' sm' wn' tk' rm' me' ph', kn_D N st' t' r' h' sm' wn' tk' rm' me' ph' → kn_mu st' t' r' < kn_mu st t r → J 1 fb pc hr ki ra rb wc wd np nq sm' wn' tk' rm' me' ph')
    (K0 : kn_lf N st → J 0 fb pc hr ki ra rb wc wd np nq sm wn tk rm me ph) :
    ∀ d i, i + d = kn_n N → (∀ j, j < i → ¬ kn_can N st t r me h j) → wX_runAll_116 post J (d + 1) 0 (nI i) fb pc hr ki ra rb wc wd np nq sm wn tk rm me ph := by
  have n8 := hN.1
  intro d
  induction d with
  | zero =>
    intro i hid hc
    refine br_t ?_ (br_t rfl (xx_grow hN hX D (fun r' rm' D' => K st t r' h sm wn tk rm' me ph D'.1 D'.2) (fun g => K0 (kn_stop hN D (fun j hj => hc j (by omega)) g))))
    rw [hX.1]; exact nI_le (by omega) (by omega)
  | succ d ih =>
    intro i hid hc
    have hi : i < kn_n N := by omega
    refine br_f ?_ (xx_step hN hX D hi (fun nc => br_t rfl (nm_r (nI_1 i) (ih (i + 1) (by omega) (lt_s hc nc))))
      (fun st' t' h' sm' wn' tk' me' ph' D' => br_f (by decide) (nm_r (nI_1 i) (xx_116a hN hX K d (i + 1) (by omega) st' t' r h' sm' wn' tk' rm me' ph' D'.1 D'.2))))
    rw [hX.1]; exact nI_ge hi (by omega)
theorem xx_108 (hN : kn_ok N) (hX : kn_X N pc ki ra rb wc wd np nq) {post : SX → Prop}
    (K : ∀ st t r h sm wn tk rm me ph, kn_D N st t r h sm wn tk rm me ph → kn_lf N st → post (fb, pc, hr, ki, ra, rb, wc, wd, np, nq, sm, wn, tk, rm, me, ph)) :
    ∀ n st t r h sm wn tk rm me ph, kn_D N st t r h sm wn tk rm me ph → kn_mu st t r + 1 < n → wX_runAll_108 post n 1 fb pc hr ki ra rb wc wd np nq sm wn tk rm me ph := by
  intro n
  induction n with
  | zero => intro st t r h sm wn tk rm me ph D hm; omega
  | succ n ih =>
    intro st t r h sm wn tk rm me ph D hm
    refine br_f (by decide) ⟨kn_n N + 1, ?_⟩
    refine xx_116b hN hX D (fun st' t' r' h' sm' wn' tk' rm' me' ph' D' hm' => ih st' t' r' h' sm' wn' tk' rm' me' ph' D' (by omega)) (fun lf => ?_) (kn_n N) 0 (by omega) lt_0
    obtain ⟨n', rfl⟩ : ∃ n', n = n' + 1 := ⟨n - 1, by omega⟩
    exact br_t rfl (K st t r h sm wn tk rm me ph D lf)
def kn_Ph (N : kn_N) (ph : Nat → Int32) : Prop := ∀ i, i < kn_n N → kn_k N i = 0 → ph i = nI (kn_b N i)
theorem xx_54 (hN : kn_ok N) (hX : kn_X N pc ki ra rb wc wd np nq) {post : SX → Prop} {sm wn tk rm : Nat → Int32} {f : Nat}
    (hw : ∀ x, x < 10 → wn x = 0) (ht : ∀ x, x < 10 → tk x = 0) (hr' : ∀ x, x < 10 → rm x = nI f) (f20 : f ≤ 20)
    (K : ∀ st t r h sm wn tk rm me ph, kn_D N st t r h sm wn tk rm me ph → kn_lf N st → post (fb, pc, hr, ki, ra, rb, wc, wd, np, nq, sm, wn, tk, rm, me, ph)) :
    ∀ d i, i + d = kn_n N → ∀ me ph, (∀ j, j < i → me j = kn_m0 N j ∧ ph j = nI (kn_h0 N j)) → kn_Ph N ph → wX_runAll_54 post fb pc hr (d + 1) (nI i) ki ra rb wc wd np nq sm wn tk rm me ph := by
  have n8 := hN.1
  intro d
  induction d with
  | zero =>
    intro i hid me ph hj hp
    refine br_t ?_ ⟨kn_mu (fun _ => []) (fun _ => 0) (fun _ => f) + 2, ?_⟩
    · rw [hX.1]; exact nI_le (by omega) (by omega)
    refine xx_108 hN hX K _ (fun _ => []) (fun _ => 0) (fun _ => f) (kn_h0 N) sm wn tk rm me ph ?_ (by omega)
    exact ⟨fun x hx => ⟨hw x hx, fun k hk => absurd hk (Nat.not_lt_zero k)⟩, fun x hx => ht x hx, fun x hx => hr' x hx, fun j hj' => (hj j (by omega)).2,
      kn_I0 hN (fun j hj' => (hj j (by omega)).1) (fun j _ => rfl), fun _ _ => f20⟩
  | succ d ih =>
    intro i hid me ph hj hp
    have hi : i < kn_n N := by omega
    have hin : vp_in (nI i) 8 := vp_in_nI (by omega) (by omega)
    have icl : (nI i).toNatClampNeg = i := nI_clamp (by omega)
    obtain ⟨ek, -⟩ := hX.2 i hi
    have k7 := (hN.2.1 i hi).1
    refine br_f ?_ ?_
    · rw [hX.1]; exact nI_ge hi (by omega)
    rw [icl, ek]
    refine ⟨hin, nm_e ⟨hin, pk_eq (kn_k N i) 0 (fun k0 => ⟨hin, hin, nm_e (nm_r (nI_1 i) (ih (i + 1) (by omega) _ _ ?_ hp))⟩) (fun k0 => ⟨hin, nm_e (nm_r (nI_1 i) (ih (i + 1) (by omega) _ _ ?_ ?_))⟩)⟩⟩
    · refine lt_s (fun j hj' => ?_) ?_
      · rw [pk_un (by omega), pk_un (by omega)]; exact hj j hj'
      · rw [pk_us, hp i hi k0]
        exact ⟨(if_pos k0).symm, congrArg nI (if_pos k0).symm⟩
    · refine lt_s (fun j hj' => ?_) ?_
      · rw [pk_un (by omega), pk_un (by omega)]; exact hj j hj'
      · rw [pk_us, pk_us, kn_by0]
        exact ⟨(if_neg k0).symm, congrArg nI (if_neg k0).symm⟩
    · intro j hj' kj
      have : j ≠ i := fun e => k0 (e ▸ kj)
      rw [pk_un this]
      exact hp j hj' kj
theorem xx_15 (hN : kn_ok N) (hX : kn_X N pc ki ra rb wc wd np nq) {post : SX → Prop} {sm me ph : Nat → Int32} {f : Nat} (ef : fb = nI f) (f20 : f ≤ 20) (hp : kn_Ph N ph)
    (K : ∀ st t r h sm wn tk rm me ph, kn_D N st t r h sm wn tk rm me ph → kn_lf N st → post (fb, pc, hr, ki, ra, rb, wc, wd, np, nq, sm, wn, tk, rm, me, ph)) :
    ∀ d i, i + d = 10 → ∀ wn tk rm, (∀ j, j < i → wn j = 0 ∧ tk j = 0 ∧ rm j = nI f) → wX_runAll_15 post fb pc hr (d + 1) (nI i) ki ra rb wc wd np nq sm wn tk rm me ph := by
  intro d
  induction d with
  | zero =>
    intro i hid wn tk rm hj
    refine br_t (nI_le (a := 10) (by omega) (by omega)) ⟨kn_n N + 1, ?_⟩
    exact xx_54 hN hX (fun x hx => (hj x (by omega)).1) (fun x hx => (hj x (by omega)).2.1) (fun x hx => (hj x (by omega)).2.2) f20 K (kn_n N) 0 (by omega) me ph lt_0 hp
  | succ d ih =>
    intro i hid wn tk rm hj
    have hin : vp_in (nI i) 10 := vp_in_nI (by omega) (by omega)
    have icl : (nI i).toNatClampNeg = i := nI_clamp (by omega)
    refine br_f (nI_ge (b := 10) (by omega) (by omega)) ?_
    rw [icl, ef, kn_by (by omega), kn_by0, ← ef]
    refine ⟨hin, nm_e ⟨hin, nm_e ⟨hin, nm_e (nm_r (nI_1 i) (ih (i + 1) (by omega) _ _ _ (lt_s (fun j hj' => ?_) ?_)))⟩⟩⟩
    · rw [pk_un (by omega), pk_un (by omega), pk_un (by omega)]; exact hj j hj'
    · rw [pk_us, pk_us, pk_us]; exact ⟨rfl, rfl, ef⟩
end
section
variable {fb pc hr : Int32} {ki ra rb wc wd np nq sm wn tk rm me ph : Nat → Int32}
variable {N : kn_N}
/-- running: whatever stood there, the streams are then the least fixpoint -/
theorem xx_runAll (hN : kn_ok N) (hX : kn_X N pc ki ra rb wc wd np nq) {post : SX → Prop} {f : Nat} (ef : fb = nI f) (f20 : f ≤ 20) (hp : kn_Ph N ph)
    (hrun : hr = 0 ∨ (hr = 1 ∧ ∃ st, kn_lf N st ∧ kn_rp st sm wn))
    (K : ∀ st sm' wn' tk' rm' me' ph', kn_lf N st → kn_rp st sm' wn' → kn_Ph N ph' → post (fb, pc, 1, ki, ra, rb, wc, wd, np, nq, sm', wn', tk', rm', me', ph')) : wpX_runAll post (fb, pc, hr, ki, ra, rb, wc, wd, np, nq, sm, wn, tk, rm, me, ph) := by
  unfold wpX_runAll; dsimp only
  rcases hrun with e | ⟨e, st, lf, rp⟩
  · refine br_t e ⟨11, ?_⟩
    refine xx_15 hN hX ef f20 hp (fun st t r h sm' wn' tk' rm' me' ph' D lf => K st sm' wn' tk' rm' me' ph' lf D.1 (fun i hi k0 => ?_)) 10 0 (by omega) wn tk rm lt_0
    rw [D.2.2.2.1 i hi, ((D.2.2.2.2.1.1 i hi).2.2.2 k0).1]
  · subst e
    exact br_f (by decide) (K st sm wn tk rm me ph lf rp hp)
end
end
section
/-! the reference: what a process makes of whole streams -/
def kn_wr (l : List Int32) (ct : Int32) (md : Nat → Int32) : Prop := ct = nI (min l.length 20) ∧ ∀ k, k < l.length → k < 20 → md k = l.getD k 0
def kn_Y (N : kn_N) (fn : Int32) (yk ya yb yc yd yp yq : Nat → Int32) : Prop :=
  fn = nI (kn_n N) ∧ ∀ i, i < kn_n N → yk i = nI (kn_k N i) ∧ ya i = nI (kn_a N i) ∧ yb i = nI (kn_b N i) ∧ yc i = nI (kn_c N i) ∧ yd i = nI (kn_d N i)
    ∧ yp i = kn_p N i ∧ (kn_k N i = 0 → yq i = kn_q N i)
section
variable {fn ct : Int32} {yk ya yb yc yd yp yq yr yw sz si md : Nat → Int32}
variable {N : kn_N} {st : Nat → List Int32}
theorem yy_write {post : SY → Prop} {l : List Int32} {v : Int32} (W : kn_wr l ct md) (K : ∀ ct' md', kn_wr (l ++ [v]) ct' md' → post (fn, ct', yk, ya, yb, yc, yd, yp, yq, yr, yw, sz, si, md')) : wpY_write post (fn, ct, yk, ya, yb, yc, yd, yp, yq, yr, yw, sz, si, md) v := by
  obtain ⟨e, W⟩ := W
  unfold wpY_write; dsimp only
  refine pk_le 20 (min l.length 20) (fun z => K ct md ⟨?_, fun k hk h20 => ?_⟩) (fun z => ?_) rfl e (by omega) (by omega)
  · rw [List.length_append, e]
    exact congrArg nI (by rw [List.length_singleton]; omega)
  · rw [kn_gl (by omega)]
    exact W k (by omega) h20
  · have hl : l.length < 20 := by omega
    have e' : ct = nI l.length := by rw [e]; exact congrArg nI (by omega)
    have icl : ct.toNatClampNeg = l.length := by rw [e']; exact nI_clamp (by omega)
    rw [icl]
    refine ⟨by rw [e']; exact vp_in_nI hl (by omega), nm_e (nm_e (K _ _ ⟨?_, fun k hk h20 => ?_⟩))⟩
    · rw [e', nI_1, List.length_append]
      exact congrArg nI (by rw [List.length_singleton]; omega)
    · rw [List.length_append, List.length_singleton] at hk
      by_cases ek : k = l.length
      · rw [ek, pk_us, kn_gc]
      · rw [pk_un ek, kn_gl (by omega)]
        exact W k (by omega) h20
theorem yy_get {post : Int32 → Prop} {x k : Nat} (hx : x < 10) (hk : k < 20) (hp : post (si (20 * x + k))) : wpY_get post (fn, ct, yk, ya, yb, yc, yd, yp, yq, yr, yw, sz, si, md) (nI x) (nI k) := by
  unfold wpY_get; dsimp only
  rw [kn_ix, nI_clamp (by omega)]
  exact ⟨vp_in_nI (by omega) (by omega), hp⟩
end
section
variable {fn : Int32} {yk ya yb yc yd yp yq yr yw sz si : Nat → Int32} {N : kn_N} {st : Nat → List Int32}
theorem yy_join8 (hs : kn_rp st si sz) (l20 : ∀ x, (st x).length ≤ 20) {x y : Nat} (hx : x < 10) (hy : y < 10) {post : SY → Prop}
    (K : ∀ l ct md, kn_wr l ct md → l.take 20 = (kn_jn (st x) (st y)).take 20 → post (fn, ct, yk, ya, yb, yc, yd, yp, yq, yr, yw, sz, si, md)) :
    ∀ d i j, i + j + d = 20 → ∀ l ct md, kn_wr l ct md → l.length = i + j → i ≤ (st x).length → j ≤ (st y).length → kn_jn (st x) (st y) = l ++ kn_jn ((st x).drop i) ((st y).drop j) →
      wY_join_8 post (nI x) (nI y) (d + 1) (nI i) (nI j) (nI (i + j)) fn ct yk ya yb yc yd yp yq yr yw sz si md := by
  have lx := l20 x
  have ly := l20 y
  have inx : vp_in (nI x) 10 := vp_in_nI hx (by omega)
  have iny : vp_in (nI y) 10 := vp_in_nI hy (by omega)
  have clx : (nI x).toNatClampNeg = x := nI_clamp (by omega)
  have cly : (nI y).toNatClampNeg = y := nI_clamp (by omega)
  intro d
  induction d with
  | zero =>
    intro i j hd l ct md W hl hi hj E
    refine br_t (nI_le (a := 20) (by omega) (by omega)) (K l ct md W ?_)
    rw [E, List.take_append_of_le_length (by omega)]
  | succ d ih =>
    intro i j hd l ct md W hl hi hj E
    refine br_f (nI_ge (b := 20) (by omega) (by omega)) ⟨inx, ?_⟩
    rw [clx, cly, (hs x hx).1, (hs y hy).1]
    refine pk_le (st x).length i (fun z => K l ct md W ?_) (fun z => ⟨iny, pk_le (st y).length j (fun z' => K l ct md W ?_) (fun z' => ?_)⟩)
    · rw [E, List.drop_eq_nil_of_le (as := st x) z, kn_jn_nil', List.append_nil]
    · rw [E, List.drop_eq_nil_of_le (as := st y) z', kn_jn_nil, List.append_nil]
    have dx := kn_dr (s := st x) List.prefix_rfl z
    have dy := kn_dr (s := st y) List.prefix_rfl z'
    refine yy_get hx (by omega) (yy_get hy (by omega) ?_)
    rw [(hs x hx).2 i z, (hs y hy).2 j z']
    by_cases c : (st y).getD j 0 < (st x).getD i 0
    · refine br_t c ?_
      unfold wY_join_68
      refine yy_write W (fun ct' md' W' => ?_)
      refine br_t c (nm_r (nI_1 j) (nm_r (nI_1 (i + j)) (ih i (j + 1) (by omega) _ ct' md' W' ?_ hi (by omega) ?_)))
      · rw [List.length_append, List.length_singleton]; omega
      · rw [E, dx, dy, kn_jn_cons, if_pos c, List.append_assoc]; rfl
    · refine br_f c ?_
      unfold wY_join_68
      refine yy_write W (fun ct' md' W' => ?_)
      refine br_f c (nm_r (nI_1 i) (nm_r (e' := nI (i + 1 + j)) ?_ (ih (i + 1) j (by omega) _ ct' md' W' ?_ (by omega) hj ?_)))
      · rw [nI_1]; exact congrArg nI (by omega)
      · rw [List.length_append, List.length_singleton]; omega
      · rw [E, dx, dy, kn_jn_cons, if_neg c, List.append_assoc]; rfl
theorem yy_join (hs : kn_rp st si sz) (l20 : ∀ x, (st x).length ≤ 20) {x y : Nat} (hx : x < 10) (hy : y < 10) {post : SY → Prop} {ct : Int32} {md : Nat → Int32} (W : kn_wr [] ct md)
    (K : ∀ l ct md, kn_wr l ct md → l.take 20 = (kn_jn (st x) (st y)).take 20 → post (fn, ct, yk, ya, yb, yc, yd, yp, yq, yr, yw, sz, si, md)) : wpY_join post (fn, ct, yk, ya, yb, yc, yd, yp, yq, yr, yw, sz, si, md) (nI x) (nI y) := by
  unfold wpY_join; dsimp only
  exact ⟨21, yy_join8 hs l20 hx hy K 20 0 0 (by omega) [] ct md W rfl (Nat.zero_le _) (Nat.zero_le _) rfl⟩
end
/-! the loop over one input -/
def kn_ot (k : Nat) (p v o f s : Int32) (κ lb : Nat) : List Int32 :=
  if k = 1 ∨ k = 3 then [v] else if k = 4 then (if v &&& p = 0 then [v] else []) else if k = 6 then [s] else if k = 2 then (if κ < lb then [v + o] else [])
  else if κ % 2 = 1 then [f - v] else []
section
variable {fn ct : Int32} {yk ya yb yc yd yp yq yr yw sz si md : Nat → Int32}
variable {N : kn_N} {st : Nat → List Int32} {i : Nat}
variable {J : Int32 → Int32 → Int32 → Int32 → (Nat → Int32) → (Nat → Int32) → (Nat → Int32) → (Nat → Int32) → (Nat → Int32) → (Nat → Int32) → (Nat → Int32) → (Nat → Int32) → (Nat → Int32) → (Nat → Int32) → (Nat → Int32) → (Nat → Int32) → Prop}
variable {post : SY → Prop} {l : List Int32} {x2 s v o f : Int32} {κ : Nat}
theorem yy_284 (hN : kn_ok N) (hY : kn_Y N fn yk ya yb yc yd yp yq) (hi : i < kn_n N) (hκ : κ < 20) (W : kn_wr l ct md) (k7 : kn_k N i ≠ 7)
    (K : ∀ ct' md', kn_wr l ct' md' → J s (nI (κ + 1)) fn ct' yk ya yb yc yd yp yq yr yw sz si md') : wY_work_284 post J (nI i) x2 s (nI κ) v f fn ct yk ya yb yc yd yp yq yr yw sz si md := by
  have n8 := hN.1
  have hin : vp_in (nI i) 8 := vp_in_nI (by omega) (by omega)
  have b7 := (hN.2.1 i hi).1
  unfold wY_work_284
  rw [nI_clamp (n := i) (by omega), (hY.2 i hi).1]
  exact ⟨hin, pk_eq (kn_k N i) 7 (fun z => absurd z k7) (fun _ => nm_r (nI_1 κ) (K ct md W))⟩
theorem yy_284p (hN : kn_ok N) (hY : kn_Y N fn yk ya yb yc yd yp yq) (hi : i < kn_n N) (hκ : κ < 20) (W : kn_wr l ct md) (k7 : kn_k N i = 7)
    (K : ∀ ct' md', kn_wr (l ++ (if κ % 2 = 1 then [f - v] else [])) ct' md' → J s (nI (κ + 1)) fn ct' yk ya yb yc yd yp yq yr yw sz si md') : wY_work_284 post J (nI i) x2 s (nI κ) v f fn ct yk ya yb yc yd yp yq yr yw sz si md := by
  have n8 := hN.1
  have hin : vp_in (nI i) 8 := vp_in_nI (by omega) (by omega)
  have er : nI κ - nI κ / 2 * 2 = nI (κ % 2) := pk_rem (a := κ) (d := 2) (by omega) (by omega) (by omega)
  unfold wY_work_284
  rw [nI_clamp (n := i) (by omega), (hY.2 i hi).1, er]
  refine ⟨hin, pk_eq (kn_k N i) 7 (fun _ => ⟨by decide, pk_eq (κ % 2) 1 (fun z => ?_) (fun z => ?_)⟩) (fun z => absurd k7 z)⟩
  · refine yy_write W (fun ct' md' W' => nm_r (nI_1 κ) (K ct' md' ?_))
    rw [if_pos z]; exact W'
  · refine nm_r (nI_1 κ) (K ct md ?_)
    rw [if_neg z, List.append_nil]; exact W
theorem yy_249 (hN : kn_ok N) (hY : kn_Y N fn yk ya yb yc yd yp yq) (hs : kn_rp st si sz) (l20 : ∀ x, (st x).length ≤ 20) (hi : i < kn_n N) (hκ : κ < 20) (W : kn_wr l ct md) (k0 : kn_k N i ≠ 0)
    (K : ∀ ct' md', kn_wr (l ++ (if kn_k N i = 2 then (if κ < (st (kn_b N i)).length then [v + o] else []) else if kn_k N i = 7 then (if κ % 2 = 1 then [f - v] else []) else [])) ct' md' → J s (nI (κ + 1)) fn ct' yk ya yb yc yd yp yq yr yw sz si md') :
    wY_work_249 post J (nI i) x2 s (nI κ) v o f fn ct yk ya yb yc yd yp yq yr yw sz si md := by
  have n8 := hN.1
  have hin : vp_in (nI i) 8 := vp_in_nI (by omega) (by omega)
  obtain ⟨b7, -, -, b10, -⟩ := hN.2.1 i hi
  have b10 := b10 k0
  obtain ⟨ek, -, eb, -⟩ := hY.2 i hi
  have lb := l20 (kn_b N i)
  unfold wY_work_249
  rw [nI_clamp (n := i) (by omega), ek, eb, nI_clamp (n := kn_b N i) (by omega), (hs _ b10).1]
  refine ⟨hin, pk_eq (kn_k N i) 2 (fun k2 => ⟨hin, vp_in_nI b10 (by omega), pk_le (st (kn_b N i)).length κ (fun z => ?_) (fun z => ?_)⟩) (fun k2 => ?_)⟩
  · refine yy_284 hN hY hi hκ W (by omega) (fun ct' md' W' => K ct' md' ?_)
    rw [if_pos k2, if_neg (by omega), List.append_nil]; exact W'
  · refine yy_write W (fun ct1 md1 W1 => ?_)
    dsimp only
    refine yy_284 hN hY hi hκ W1 (by omega) (fun ct' md' W' => K ct' md' ?_)
    rw [if_pos k2, if_pos z]; exact W'
  · by_cases k7 : kn_k N i = 7
    · refine yy_284p hN hY hi hκ W k7 (fun ct' md' W' => K ct' md' ?_)
      rw [if_neg k2, if_pos k7]; exact W'
    · refine yy_284 hN hY hi hκ W k7 (fun ct' md' W' => K ct' md' ?_)
      rw [if_neg k2, if_neg k7, List.append_nil]; exact W'
theorem yy_233 (hN : kn_ok N) (hY : kn_Y N fn yk ya yb yc yd yp yq) (hs : kn_rp st si sz) (l20 : ∀ x, (st x).length ≤ 20) (hi : i < kn_n N) (hκ : κ < 20) (W : kn_wr l ct md) (k0 : kn_k N i ≠ 0)
    (K : ∀ ct' md', kn_wr (l ++ (if kn_k N i = 6 then [s] else if kn_k N i = 2 then (if κ < (st (kn_b N i)).length then [v + o] else []) else if kn_k N i = 7 then (if κ % 2 = 1 then [f - v] else []) else [])) ct' md' → J s (nI (κ + 1)) fn ct' yk ya yb yc yd yp yq yr yw sz si md') :
    wY_work_233 post J (nI i) x2 s (nI κ) v o f fn ct yk ya yb yc yd yp yq yr yw sz si md := by
  have n8 := hN.1
  have hin : vp_in (nI i) 8 := vp_in_nI (by omega) (by omega)
  have b7 := (hN.2.1 i hi).1
  unfold wY_work_233
  rw [nI_clamp (n := i) (by omega), (hY.2 i hi).1]
  refine ⟨hin, pk_eq (kn_k N i) 6 (fun k6 => ?_) (fun k6 => ?_)⟩
  · refine yy_write W (fun ct1 md1 W1 => ?_)
    dsimp only
    refine yy_249 hN hY hs l20 hi hκ W1 k0 (fun ct' md' W' => K ct' md' ?_)
    rw [if_neg (show ¬ kn_k N i = 2 by omega), if_neg (show ¬ kn_k N i = 7 by omega), List.append_nil] at W'
    rw [if_pos k6]; exact W'
  · refine yy_249 hN hY hs l20 hi hκ W k0 (fun ct' md' W' => K ct' md' ?_)
    rw [if_neg k6]; exact W'
theorem yy_227 (hN : kn_ok N) (hY : kn_Y N fn yk ya yb yc yd yp yq) (hs : kn_rp st si sz) (l20 : ∀ x, (st x).length ≤ 20) (hi : i < kn_n N) (hκ : κ < 20) (W : kn_wr l ct md) (k0 : kn_k N i = 1 ∨ kn_k N i = 3 ∨ kn_k N i = 4)
    (K : ∀ ct' md', kn_wr (l ++ [v]) ct' md' → J s (nI (κ + 1)) fn ct' yk ya yb yc yd yp yq yr yw sz si md') :
    wY_work_227 post J (nI i) x2 s (nI κ) v o f fn ct yk ya yb yc yd yp yq yr yw sz si md := by
  unfold wY_work_227
  refine yy_write W (fun ct1 md1 W1 => ?_)
  dsimp only
  refine yy_233 hN hY hs l20 hi hκ W1 (by omega) (fun ct' md' W' => K ct' md' ?_)
  rw [if_neg (show ¬ kn_k N i = 6 by omega), if_neg (show ¬ kn_k N i = 2 by omega), if_neg (show ¬ kn_k N i = 7 by omega), List.append_nil] at W'
  exact W'
theorem yy_178 (hN : kn_ok N) (hY : kn_Y N fn yk ya yb yc yd yp yq) (hs : kn_rp st si sz) (l20 : ∀ x, (st x).length ≤ 20) (hi : i < kn_n N) (hκ : κ < 20) (W : kn_wr l ct md) (k0 : kn_k N i ≠ 0) (k5 : kn_k N i ≠ 5)
    (K : ∀ ct' md', kn_wr (l ++ kn_ot (kn_k N i) (kn_p N i) v o f (s + v) κ (st (kn_b N i)).length) ct' md' → J (s + v) (nI (κ + 1)) fn ct' yk ya yb yc yd yp yq yr yw sz si md') :
    wY_work_178 post J (nI i) x2 s (nI κ) v o f fn ct yk ya yb yc yd yp yq yr yw sz si md := by
  have n8 := hN.1
  have hin : vp_in (nI i) 8 := vp_in_nI (by omega) (by omega)
  have b7 := (hN.2.1 i hi).1
  obtain ⟨ek, -, -, -, -, ep, -⟩ := hY.2 i hi
  unfold wY_work_178
  rw [nI_clamp (n := i) (by omega), ek, ep]
  unfold kn_ot at K
  refine nm_e ⟨hin, pk_eq (kn_k N i) 1 (fun k1 => ?_) (fun k1 => ⟨hin, pk_eq (kn_k N i) 3 (fun k3 => ?_) (fun k3 => ⟨hin, pk_eq (kn_k N i) 4 (fun k4 => ⟨hin, br_c (fun z => ?_) (fun z => ?_)⟩) (fun k4 => ?_)⟩)⟩)⟩
  · refine yy_227 hN hY hs l20 hi hκ W (by omega) (fun ct' md' W' => K ct' md' ?_)
    rw [if_pos (Or.inl k1)]; exact W'
  · refine yy_227 hN hY hs l20 hi hκ W (by omega) (fun ct' md' W' => K ct' md' ?_)
    rw [if_pos (Or.inr k3)]; exact W'
  · refine yy_227 hN hY hs l20 hi hκ W (by omega) (fun ct' md' W' => K ct' md' ?_)
    rw [if_neg (by omega), if_pos k4, if_pos z]; exact W'
  · refine yy_233 hN hY hs l20 hi hκ W k0 (fun ct' md' W' => K ct' md' ?_)
    rw [if_neg (by omega), if_pos k4, if_neg z, List.append_nil]
    rw [if_neg (show ¬ kn_k N i = 6 by omega), if_neg (show ¬ kn_k N i = 2 by omega), if_neg (show ¬ kn_k N i = 7 by omega), List.append_nil] at W'
    exact W'
  · refine yy_233 hN hY hs l20 hi hκ W k0 (fun ct' md' W' => K ct' md' ?_)
    rw [if_neg (by omega), if_neg k4]
    by_cases k6 : kn_k N i = 6
    · rw [if_pos k6] at W' ⊢; exact W'
    · rw [if_neg k6] at W' ⊢
      by_cases k2 : kn_k N i = 2
      · rw [if_pos k2] at W' ⊢; exact W'
      · rw [if_neg k2] at W' ⊢
        rw [if_pos (show kn_k N i = 7 by omega)] at W'
        exact W'
end
end
section
/-! the reference: work, the whole -/
def kn_mh (k : Nat) (m : Int32) (h : Nat) (s : Int32) (κ : Nat) (A : List Int32) : Prop :=
  (k = 6 → m = s) ∧ (k = 3 → h ≠ 0) ∧ (k = 7 → (κ % 2 = 0 ∧ h = 0) ∨ (κ % 2 = 1 ∧ h ≠ 0 ∧ m = A.getD (κ - 1) 0))
theorem kn_res {k : Nat} {p q m s o f : Int32} {h κ : Nat} {A B : List Int32} (b7 : k ≤ 7) (k0 : k ≠ 0) (k5 : k ≠ 5) (hκ : κ < A.length) (M : kn_mh k m h s κ A)
    (ho : κ < B.length → o = B.getD κ 0) (hf : 0 < κ → f = A.getD (κ - 1) 0) :
    ∃ m' h', kn_mh k m' h' (s + A.getD κ 0) (κ + 1) A ∧
      kn_rs k p q m h (A.drop κ) (B.drop κ) = kn_ot k p (A.getD κ 0) o f (s + A.getD κ 0) κ B.length ++ kn_rs k p q m' h' (A.drop (κ + 1)) (B.drop (κ + 1)) := by
  obtain ⟨M6, M3, M7⟩ := M
  rw [kn_dr (s := A) List.prefix_rfl hκ]
  generalize hv : A.getD κ 0 = v
  match k, b7, k0, k5, M6, M3, M7 with
  | 1, _, _, _, _, _, _ => exact ⟨m, h, ⟨fun z => absurd z (by decide), fun z => absurd z (by decide), fun z => absurd z (by decide)⟩, rfl⟩
  | 2, _, _, _, _, _, _ =>
    refine ⟨m, h, ⟨fun z => absurd z (by decide), fun z => absurd z (by decide), fun z => absurd z (by decide)⟩, ?_⟩
    show kn_zp (v :: A.drop (κ + 1)) (B.drop κ) = (if κ < B.length then [v + o] else []) ++ kn_zp (A.drop (κ + 1)) (B.drop (κ + 1))
    by_cases z : κ < B.length
    · rw [if_pos z, kn_dr (s := B) List.prefix_rfl z, ← ho z]; rfl
    · rw [if_neg z, List.drop_eq_nil_of_le (as := B) (i := κ) (by omega), List.drop_eq_nil_of_le (as := B) (i := κ + 1) (by omega), kn_zp_nil, kn_zp_nil]; rfl
  | 3, _, _, _, _, M3, _ =>
    have hh := M3 rfl
    refine ⟨m, h, ⟨fun z => absurd z (by decide), fun _ => hh, fun z => absurd z (by decide)⟩, ?_⟩
    show (if h = 0 then p :: (v :: A.drop (κ + 1)) else v :: A.drop (κ + 1)) = [v] ++ (if h = 0 then p :: A.drop (κ + 1) else A.drop (κ + 1))
    rw [if_neg hh, if_neg hh]; rfl
  | 4, _, _, _, _, _, _ =>
    refine ⟨m, h, ⟨fun z => absurd z (by decide), fun z => absurd z (by decide), fun z => absurd z (by decide)⟩, ?_⟩
    show (if v &&& p = 0 then v :: kn_fl p (A.drop (κ + 1)) else kn_fl p (A.drop (κ + 1))) = (if v &&& p = 0 then [v] else []) ++ kn_fl p (A.drop (κ + 1))
    by_cases z : v &&& p = 0
    · rw [if_pos z, if_pos z]; rfl
    · rw [if_neg z, if_neg z]; rfl
  | 6, _, _, _, M6, _, _ =>
    have e := M6 rfl
    subst e
    exact ⟨m + v, h, ⟨fun _ => rfl, fun z => absurd z (by decide), fun z => absurd z (by decide)⟩, rfl⟩
  | 7, _, _, _, _, _, M7 =>
    rcases M7 rfl with ⟨z, eh⟩ | ⟨z, eh, em⟩
    · subst eh
      refine ⟨v, 1, ⟨fun z => absurd z (by decide), fun z => absurd z (by decide), fun _ => Or.inr ⟨by omega, by decide, ?_⟩⟩, ?_⟩
      · rw [Nat.add_sub_cancel]; exact hv.symm
      · show kn_pq 1 v (A.drop (κ + 1)) = (if κ % 2 = 1 then [f - v] else []) ++ kn_pq 1 v (A.drop (κ + 1))
        rw [if_neg (by omega)]; rfl
    · obtain ⟨g, eg⟩ : ∃ g, h = g + 1 := ⟨h - 1, by omega⟩
      subst eg
      refine ⟨m, 0, ⟨fun z => absurd z (by decide), fun z => absurd z (by decide), fun _ => Or.inl ⟨by omega, rfl⟩⟩, ?_⟩
      show (m - v) :: kn_pq 0 m (A.drop (κ + 1)) = (if κ % 2 = 1 then [f - v] else []) ++ kn_pq 0 m (A.drop (κ + 1))
      rw [if_pos z, em, hf (by omega)]; rfl
section
variable {fn : Int32} {yk ya yb yc yd yp yq yr yw sz si : Nat → Int32} {N : kn_N} {st : Nat → List Int32} {i : Nat} {post : SY → Prop}
theorem yy_107 (hN : kn_ok N) (hY : kn_Y N fn yk ya yb yc yd yp yq) (hs : kn_rp st si sz) (l20 : ∀ x, (st x).length ≤ 20) (hi : i < kn_n N) (k0 : kn_k N i ≠ 0) (k5 : kn_k N i ≠ 5)
    (K : ∀ l ct md, kn_wr l ct md → l.take 20 = kn_T N i st → post (fn, ct, yk, ya, yb, yc, yd, yp, yq, yr, yw, sz, si, md)) :
    ∀ d κ, κ + d = (st (kn_a N i)).length → ∀ s l ct md m h, kn_wr l ct md → kn_mh (kn_k N i) m h s κ (st (kn_a N i)) →
      kn_F N i (st (kn_a N i)) (st (kn_b N i)) = l ++ kn_r N i m h ((st (kn_a N i)).drop κ) ((st (kn_b N i)).drop κ) →
      wY_work_107 post (nI i) (nI (kn_a N i)) (d + 1) s (nI κ) fn ct yk ya yb yc yd yp yq yr yw sz si md := by
  have n8 := hN.1
  have hin : vp_in (nI i) 8 := vp_in_nI (by omega) (by omega)
  have icl : (nI i).toNatClampNeg = i := nI_clamp (by omega)
  obtain ⟨b7, a10, -, b10, -⟩ := hN.2.1 i hi
  have b10 := b10 k0
  obtain ⟨ek, ea, eb, -, -, ep, -⟩ := hY.2 i hi
  have la := l20 (kn_a N i)
  have acl : (nI (kn_a N i)).toNatClampNeg = kn_a N i := nI_clamp (by omega)
  have ina : vp_in (nI (kn_a N i)) 10 := vp_in_nI a10 (by omega)
  intro d
  induction d with
  | zero =>
    intro κ hκ s l ct md m h W M E
    unfold wY_work_107
    rw [icl, ek, acl, (hs _ a10).1]
    refine ⟨hin, pk_eq (kn_k N i) 0 (fun z => absurd z k0) (fun _ => ⟨hin, pk_eq (kn_k N i) 5 (fun z => absurd z k5) (fun _ => ⟨ina, pk_le (st (kn_a N i)).length κ (fun z => ?_) (fun z => by omega)⟩)⟩)⟩
    refine K l ct md W ?_
    have e0 : kn_r N i m h [] ((st (kn_b N i)).drop κ) = [] := kn_rs_nilA k0 (fun z => M.2.1 z.1 z.2)
    unfold kn_T
    rw [E, List.drop_eq_nil_of_le (as := st (kn_a N i)) z, e0, List.append_nil]
  | succ d ih =>
    intro κ hκ s l ct md m h W M E
    have lt : κ < (st (kn_a N i)).length := by omega
    unfold wY_work_107
    rw [icl, ek, acl, (hs _ a10).1, eb]
    refine ⟨hin, pk_eq (kn_k N i) 0 (fun z => absurd z k0) (fun _ => ⟨hin, pk_eq (kn_k N i) 5 (fun z => absurd z k5) (fun _ => ⟨ina, pk_le (st (kn_a N i)).length κ (fun z => by omega) (fun z => ?_)⟩)⟩)⟩
    refine yy_get a10 (by omega) ⟨hin, yy_get b10 (by omega) ?_⟩
    rw [(hs _ a10).2 κ lt]
    have go : ∀ f : Int32, (0 < κ → f = (st (kn_a N i)).getD (κ - 1) 0) →
        wY_work_178 post (wY_work_107 post (nI i) (nI (kn_a N i)) (d + 1)) (nI i) (nI (kn_a N i)) s (nI κ) ((st (kn_a N i)).getD κ 0) (si (20 * kn_b N i + κ)) f fn ct yk ya yb yc yd yp yq yr yw sz si md := by
      intro f hf
      obtain ⟨m', h', M', E'⟩ := kn_res (p := kn_p N i) (q := kn_q N i) (o := si (20 * kn_b N i + κ)) (f := f) (B := st (kn_b N i)) b7 k0 k5 lt M (fun z => (hs _ b10).2 κ z) hf
      refine yy_178 hN hY hs l20 hi (by omega) W k0 k5 (fun ct' md' W' => ih (κ + 1) (by omega) _ _ ct' md' m' h' W' M' ?_)
      rw [E]
      unfold kn_r
      rw [E', List.append_assoc]
    refine pk_le κ 0 (fun z => go 0 (fun w => by omega)) (fun z => ?_)
    have ep : nI κ - 1 = nI (κ - 1) := by
      obtain ⟨g, rfl⟩ : ∃ g, κ = g + 1 := ⟨κ - 1, by omega⟩
      rw [nI_pred, Nat.add_sub_cancel]
    rw [ep]
    refine yy_get a10 (by omega) (go _ (fun _ => ?_))
    exact (hs _ a10).2 (κ - 1) (by omega)
theorem yy_107z (hN : kn_ok N) (hY : kn_Y N fn yk ya yb yc yd yp yq) (hi : i < kn_n N) (k0 : kn_k N i = 0 ∨ kn_k N i = 5) {ct : Int32} {md : Nat → Int32} {x2 x3 x4 : Int32} {n : Nat} (K : post (fn, ct, yk, ya, yb, yc, yd, yp, yq, yr, yw, sz, si, md)) :
    wY_work_107 post (nI i) x2 (n + 1) x3 x4 fn ct yk ya yb yc yd yp yq yr yw sz si md := by
  have n8 := hN.1
  have hin : vp_in (nI i) 8 := vp_in_nI (by omega) (by omega)
  have icl : (nI i).toNatClampNeg = i := nI_clamp (by omega)
  have b7 := (hN.2.1 i hi).1
  unfold wY_work_107
  rw [icl, (hY.2 i hi).1]
  exact ⟨hin, pk_eq (kn_k N i) 0 (fun _ => K) (fun z => ⟨hin, pk_eq (kn_k N i) 5 (fun _ => K) (fun z' => by omega)⟩)⟩
theorem yy_83 (hN : kn_ok N) (hY : kn_Y N fn yk ya yb yc yd yp yq) (hs : kn_rp st si sz) (l20 : ∀ x, (st x).length ≤ 20) (hi : i < kn_n N)
    (K : ∀ l ct md, kn_wr l ct md → l.take 20 = kn_T N i st → post (fn, ct, yk, ya, yb, yc, yd, yp, yq, yr, yw, sz, si, md)) {l : List Int32} {ct : Int32} {md : Nat → Int32} (W : kn_wr l ct md)
    (h0 : kn_k N i = 0 → l.take 20 = kn_T N i st) (h5 : kn_k N i = 5 → l = []) {m : Int32} {h : Nat} (M : kn_mh (kn_k N i) m h 0 0 (st (kn_a N i)))
    (E : kn_k N i ≠ 0 → kn_F N i (st (kn_a N i)) (st (kn_b N i)) = l ++ kn_r N i m h (st (kn_a N i)) (st (kn_b N i))) :
    wY_work_83 post (nI i) (nI (kn_a N i)) 0 fn ct yk ya yb yc yd yp yq yr yw sz si md := by
  have n8 := hN.1
  have hin : vp_in (nI i) 8 := vp_in_nI (by omega) (by omega)
  have icl : (nI i).toNatClampNeg = i := nI_clamp (by omega)
  obtain ⟨b7, a10, -, b10, -⟩ := hN.2.1 i hi
  obtain ⟨ek, ea, eb, -⟩ := hY.2 i hi
  unfold wY_work_83
  rw [icl, ek, eb]
  refine ⟨hin, pk_eq (kn_k N i) 5 (fun k5 => ⟨hin, ?_⟩) (fun k5 => ?_)⟩
  · have k0 : kn_k N i ≠ 0 := by omega
    have W := h5 k5 ▸ W
    refine yy_join hs l20 a10 (b10 k0) W (fun l' ct' md' W' e' => ?_)
    refine ⟨1, yy_107z hN hY hi (Or.inr k5) (K l' ct' md' W' ?_)⟩
    rw [e']
    unfold kn_T kn_F kn_r
    rw [k5]
    rfl
  · by_cases k0 : kn_k N i = 0
    · exact ⟨1, yy_107z hN hY hi (Or.inl k0) (K l ct md W (h0 k0))⟩
    · exact ⟨(st (kn_a N i)).length + 1, yy_107 hN hY hs l20 hi k0 k5 K (st (kn_a N i)).length 0 (by omega) 0 l ct md m h W M (E k0)⟩
theorem yy_63 (hN : kn_ok N) (hY : kn_Y N fn yk ya yb yc yd yp yq) (hs : kn_rp st si sz) (l20 : ∀ x, (st x).length ≤ 20) (hi : i < kn_n N)
    (K : ∀ l ct md, kn_wr l ct md → l.take 20 = kn_T N i st → post (fn, ct, yk, ya, yb, yc, yd, yp, yq, yr, yw, sz, si, md)) {l : List Int32} {ct : Int32} {md : Nat → Int32} (W : kn_wr l ct md)
    (h0 : kn_k N i = 0 → l.take 20 = kn_T N i st) (h1 : kn_k N i ≠ 0 → l = []) :
    wY_work_63 post (nI i) (nI (kn_a N i)) 0 fn ct yk ya yb yc yd yp yq yr yw sz si md := by
  have n8 := hN.1
  have hin : vp_in (nI i) 8 := vp_in_nI (by omega) (by omega)
  have icl : (nI i).toNatClampNeg = i := nI_clamp (by omega)
  have b7 := (hN.2.1 i hi).1
  obtain ⟨ek, -, -, -, -, ep, -⟩ := hY.2 i hi
  unfold wY_work_63
  rw [icl, ek, ep]
  refine ⟨hin, pk_eq (kn_k N i) 3 (fun k3 => ⟨hin, ?_⟩) (fun k3 => ?_)⟩
  · have k0 : kn_k N i ≠ 0 := by omega
    have W := h1 k0 ▸ W
    refine yy_write W (fun ct' md' W' => ?_)
    refine yy_83 hN hY hs l20 hi K W' (fun z => absurd z k0) (fun z => by omega) (m := 0) (h := 1) ⟨fun _ => rfl, fun _ => by decide, fun z => by omega⟩ (fun _ => ?_)
    unfold kn_F kn_r kn_h0
    rw [if_neg k0, k3]
    rfl
  · refine yy_83 hN hY hs l20 hi K W h0 (fun z => h1 (by omega)) (m := 0) (h := 0) ⟨fun _ => rfl, fun z => absurd z k3, fun _ => Or.inl ⟨rfl, rfl⟩⟩ (fun k0 => ?_)
    rw [h1 k0]
    unfold kn_F kn_h0 kn_m0
    rw [if_neg k0, if_neg k0]
    rfl
theorem yy_26 (hN : kn_ok N) (hY : kn_Y N fn yk ya yb yc yd yp yq) (hs : kn_rp st si sz) (l20 : ∀ x, (st x).length ≤ 20) (hi : i < kn_n N) (k0 : kn_k N i = 0)
    (K : ∀ l ct md, kn_wr l ct md → l.take 20 = kn_T N i st → post (fn, ct, yk, ya, yb, yc, yd, yp, yq, yr, yw, sz, si, md)) :
    ∀ d κ, κ + d = kn_b N i → ∀ l ct md, kn_wr l ct md → kn_F N i (st (kn_a N i)) (st (kn_b N i)) = l ++ kn_sr (kn_p N i) (kn_q N i) κ d →
      wY_work_26 post (nI i) (nI (kn_a N i)) 0 (d + 1) (nI κ) fn ct yk ya yb yc yd yp yq yr yw sz si md := by
  have n8 := hN.1
  have hin : vp_in (nI i) 8 := vp_in_nI (by omega) (by omega)
  have icl : (nI i).toNatClampNeg = i := nI_clamp (by omega)
  have b12 := (hN.2.1 i hi).2.2.1
  obtain ⟨ek, -, eb, -, -, ep, eq⟩ := hY.2 i hi
  have eq := eq k0
  intro d
  induction d with
  | zero =>
    intro κ hκ l ct md W E
    unfold wY_work_26
    rw [icl, eb]
    refine ⟨hin, pk_le (kn_b N i) κ (fun _ => ?_) (fun z => by omega)⟩
    refine yy_63 hN hY hs l20 hi K W (fun _ => ?_) (fun z => absurd k0 z)
    unfold kn_T
    rw [E]
    exact congrArg (List.take 20) (List.append_nil l).symm
  | succ d ih =>
    intro κ hκ l ct md W E
    unfold wY_work_26
    rw [icl, eb, ep, eq]
    refine ⟨hin, pk_le (kn_b N i) κ (fun z => by omega) (fun _ => ⟨hin, hin, yy_write W (fun ct' md' W' => nm_r (nI_1 κ) (ih (κ + 1) (by omega) _ ct' md' W' ?_))⟩)⟩
    rw [E, List.append_assoc]
    rfl
theorem yy_work (hN : kn_ok N) (hY : kn_Y N fn yk ya yb yc yd yp yq) (hs : kn_rp st si sz) (l20 : ∀ x, (st x).length ≤ 20) (hi : i < kn_n N)
    (K : ∀ l ct md, kn_wr l ct md → l.take 20 = kn_T N i st → post (fn, ct, yk, ya, yb, yc, yd, yp, yq, yr, yw, sz, si, md)) {ct : Int32} {md : Nat → Int32} : wpY_work post (fn, ct, yk, ya, yb, yc, yd, yp, yq, yr, yw, sz, si, md) (nI i) := by
  have n8 := hN.1
  have hin : vp_in (nI i) 8 := vp_in_nI (by omega) (by omega)
  have icl : (nI i).toNatClampNeg = i := nI_clamp (by omega)
  obtain ⟨b7, -, b12, -⟩ := hN.2.1 i hi
  obtain ⟨ek, ea, eb, -⟩ := hY.2 i hi
  have W0 : kn_wr [] 0 md := ⟨rfl, fun k hk => absurd hk (Nat.not_lt_zero k)⟩
  unfold wpY_work; dsimp only
  rw [icl, ek, ea]
  refine ⟨hin, nm_e ⟨hin, pk_eq (kn_k N i) 0 (fun k0 => ⟨kn_b N i + 1, ?_⟩) (fun k0 => ?_)⟩⟩
  · refine yy_26 hN hY hs l20 hi k0 K (kn_b N i) 0 (by omega) [] 0 md W0 ?_
    unfold kn_F kn_r kn_h0 kn_m0
    rw [if_pos k0, if_pos k0, k0]
    show kn_sr (kn_p N i) (kn_q N i) (kn_b N i - (nI (kn_b N i)).toNatClampNeg) (nI (kn_b N i)).toNatClampNeg = kn_sr (kn_p N i) (kn_q N i) 0 (kn_b N i)
    rw [nI_clamp (by omega), Nat.sub_self]
  · exact yy_63 hN hY hs l20 hi K W0 (fun z => absurd z k0) (fun _ => rfl)
end
end
section
/-! the reference: storing what was made; rounds until nothing grows -/
def kn_pt (N : kn_N) (st : Nat → List Int32) (i : Nat) (T : List Int32) : Nat → List Int32 :=
  fun x => if kn_c N i = x ∨ (kn_k N i = 1 ∧ kn_d N i = x) then T else st x
theorem kn_pt_w {N : kn_N} {st : Nat → List Int32} {i x : Nat} {T : List Int32} (h : kn_wt N i x) : kn_pt N st i T x = T := if_pos h
theorem kn_pt_n {N : kn_N} {st : Nat → List Int32} {i x : Nat} {T : List Int32} (h : ¬ kn_wt N i x) : kn_pt N st i T x = st x := if_neg h
theorem kn_pt1 {N : kn_N} {st : Nat → List Int32} {i : Nat} {T : List Int32} (k1 : kn_k N i ≠ 1) : kn_u st (kn_c N i) T = kn_pt N st i T := by
  funext x
  by_cases e : x = kn_c N i
  · rw [e, kn_us, kn_pt_w (Or.inl rfl)]
  · rw [kn_un e, kn_pt_n (fun w => w.elim (fun z => e z.symm) (fun z => k1 z.1))]
theorem kn_pt2 {N : kn_N} {st : Nat → List Int32} {i : Nat} {T : List Int32} (k1 : kn_k N i = 1) : kn_u (kn_u st (kn_c N i) T) (kn_d N i) T = kn_pt N st i T := by
  funext x
  by_cases e : x = kn_d N i
  · rw [e, kn_us, kn_pt_w (Or.inr ⟨k1, rfl⟩)]
  · by_cases e2 : x = kn_c N i
    · rw [kn_un e, e2, kn_us, kn_pt_w (Or.inl rfl)]
    · rw [kn_un e, kn_un e2, kn_pt_n (fun w => w.elim (fun z => e2 z.symm) (fun z => e z.2.symm))]
def kn_tot (st : Nat → List Int32) : Nat := kn_S (fun x => (st x).length) 10
theorem kn_tot200 {st : Nat → List Int32} (l20 : ∀ x, (st x).length ≤ 20) : kn_tot st ≤ 200 := kn_Sb (b := 20) 10 (fun x _ => l20 x)
theorem kn_grow {N : kn_N} {st : Nat → List Int32} {i : Nat} (hN : kn_ok N) (hi : i < kn_n N) (J : kn_J N st) :
    kn_J N (kn_pt N st i (kn_T N i st)) ∧ (((kn_T N i st).length ≤ (st (kn_c N i)).length → kn_pt N st i (kn_T N i st) = st)
      ∧ ((st (kn_c N i)).length < (kn_T N i st).length → kn_tot st < kn_tot (kn_pt N st i (kn_T N i st)))) ∧ kn_tot st ≤ kn_tot (kn_pt N st i (kn_T N i st)) := by
  obtain ⟨J', pre⟩ := kn_Jstep (st' := kn_pt N st i (kn_T N i st)) hN hi J (kn_pt_w (Or.inl rfl)) (fun k1 => kn_pt_w (Or.inr ⟨k1, rfl⟩)) (fun x w => kn_pt_n w)
  refine ⟨J', ⟨fun hl => funext fun x => ((pre x).eq_of_length_le ?_).symm, fun hl => ?_⟩, kn_Sle 10 (fun x _ => (pre x).length_le)⟩
  · by_cases w : kn_wt N i x
    · rw [kn_pt_w w]
      rcases w with w | ⟨k1, w⟩
      · rw [← w]; exact hl
      · rw [← w, (J.1 i hi).2 k1]; exact hl
    · rw [kn_pt_n w]; exact Nat.le_refl _
  · refine kn_Slt (y := kn_c N i) 10 (hN.2.1 i hi).2.2.2.2.1 ?_ (fun x _ => (pre x).length_le)
    show (st (kn_c N i)).length < (kn_pt N st i (kn_T N i st) (kn_c N i)).length
    rw [kn_pt_w (Or.inl rfl)]
    exact hl
section
variable {fn ct b : Int32} {yk ya yb yc yd yp yq yr yw sz si md : Nat → Int32} {N : kn_N} {st : Nat → List Int32}
theorem yy_store21 {l : List Int32} {x : Nat} (hs : kn_rp st si sz) (l20 : ∀ x, (st x).length ≤ 20) (hx : x < 10) (W : kn_wr l ct md) (hb : narrow .boolean (.int b) = .int b) {post : Int32 → SY → Prop}
    (K : ∀ si' sz', kn_rp (kn_u st x (l.take 20)) si' sz' → post b (fn, ct, yk, ya, yb, yc, yd, yp, yq, yr, yw, sz', si', md)) :
    ∀ d κ, κ + d = min l.length 20 → ∀ si', (∀ j, j < κ → si' (20 * x + j) = l.getD j 0) → (∀ m, (m < 20 * x ∨ 20 * x + 20 ≤ m) → si' m = si m) →
      wY_store_21 post (nI x) b fn ct (d + 1) (nI κ) yk ya yb yc yd yp yq yr yw sz si' md := by
  obtain ⟨ec, W⟩ := W
  have inx : vp_in (nI x) 10 := vp_in_nI hx (by omega)
  intro d
  induction d with
  | zero =>
    intro κ hκ si' h1 h2
    refine br_t ?_ ⟨inx, nm_r (e' := upd sz x ct) ?_ ⟨hb, K si' _ (fun y hy => ?_)⟩⟩
    · rw [ec]; exact nI_le (by omega) (by omega)
    · rw [nI_clamp (by omega)]
    · by_cases e : y = x
      · subst e
        rw [kn_us, pk_us, List.length_take]
        refine ⟨?_, fun k hk => ?_⟩
        · rw [ec]; exact congrArg nI (by omega)
        · rw [kn_gt (by omega)]; exact h1 k (by omega)
      · rw [kn_un e, pk_un e]
        have := l20 y
        refine ⟨(hs y hy).1, fun k hk => ?_⟩
        rw [h2 _ (by omega)]
        exact (hs y hy).2 k hk
  | succ d ih =>
    intro κ hκ si' h1 h2
    refine br_f ?_ ?_
    · rw [ec]; exact nI_ge (by omega) (by omega)
    rw [kn_ix, nI_clamp (n := 20 * x + κ) (by omega), nI_clamp (n := κ) (by omega), W κ (by omega) (by omega)]
    refine ⟨vp_in_nI (by omega) (by omega), vp_in_nI (by omega) (by omega), nm_e (nm_r (nI_1 κ) (ih (κ + 1) (by omega) _ (lt_s (fun j hj => ?_) ?_) (fun m hm => ?_)))⟩
    · rw [pk_un (by omega)]; exact h1 j hj
    · rw [pk_us]
    · rw [pk_un (by omega)]; exact h2 m hm
theorem yy_store {l : List Int32} {x : Nat} (hs : kn_rp st si sz) (l20 : ∀ x, (st x).length ≤ 20) (hx : x < 10) (W : kn_wr l ct md) {post : Int32 → SY → Prop}
    (K0 : (l.take 20).length ≤ (st x).length → ∀ si' sz', kn_rp (kn_u st x (l.take 20)) si' sz' → post 0 (fn, ct, yk, ya, yb, yc, yd, yp, yq, yr, yw, sz', si', md))
    (K1 : (st x).length < (l.take 20).length → ∀ si' sz', kn_rp (kn_u st x (l.take 20)) si' sz' → post 1 (fn, ct, yk, ya, yb, yc, yd, yp, yq, yr, yw, sz', si', md)) : wpY_store post (fn, ct, yk, ya, yb, yc, yd, yp, yq, yr, yw, sz, si, md) (nI x) := by
  have lx := l20 x
  have et : (l.take 20).length = min l.length 20 := by rw [List.length_take]; omega
  rw [et] at K0 K1
  unfold wpY_store; dsimp only
  rw [nI_clamp (by omega), (hs x hx).1]
  refine ⟨vp_in_nI hx (by omega), pk_le (min l.length 20) (st x).length (fun z => ⟨min l.length 20 + 1, ?_⟩) (fun z => ⟨min l.length 20 + 1, ?_⟩) W.1⟩
  · exact yy_store21 hs l20 hx W narrow_b0 (K0 z) (min l.length 20) 0 (by omega) si lt_0 (fun _ _ => rfl)
  · exact yy_store21 hs l20 hx W narrow_b1 (K1 z) (min l.length 20) 0 (by omega) si lt_0 (fun _ _ => rfl)
end
section
variable {fn : Int32} {yk ya yb yc yd yp yq yr yw : Nat → Int32} {N : kn_N} {st : Nat → List Int32}
variable {J J25 : Int32 → Int32 → Int32 → Int32 → (Nat → Int32) → (Nat → Int32) → (Nat → Int32) → (Nat → Int32) → (Nat → Int32) → (Nat → Int32) → (Nat → Int32) → (Nat → Int32) → (Nat → Int32) → (Nat → Int32) → (Nat → Int32) → (Nat → Int32) → Prop}
variable {post : SY → Prop} {x1 x2 : Int32} {i : Nat} {l : List Int32}
theorem yy_68 (hN : kn_ok N) (hY : kn_Y N fn yk ya yb yc yd yp yq) (l20 : ∀ x, (st x).length ≤ 20) (hi : i < kn_n N) {ct : Int32} {sz si md : Nat → Int32}
    (dc : kn_k N i = 1 → st (kn_d N i) = st (kn_c N i)) (W : kn_wr l ct md) (hs : kn_rp (kn_u st (kn_c N i) (l.take 20)) si sz)
    (K : ∀ si' sz', kn_rp (kn_pt N st i (l.take 20)) si' sz' → J x1 (nI (i + 1)) fn ct yk ya yb yc yd yp yq yr yw sz' si' md)
    (K1 : (st (kn_c N i)).length < (l.take 20).length → ∀ si' sz', kn_rp (kn_pt N st i (l.take 20)) si' sz' → J 1 (nI (i + 1)) fn ct yk ya yb yc yd yp yq yr yw sz' si' md) :
    wY_settle_68 post J25 J x1 x2 (nI i) fn ct yk ya yb yc yd yp yq yr yw sz si md := by
  have n8 := hN.1
  have hin : vp_in (nI i) 8 := vp_in_nI (by omega) (by omega)
  have icl : (nI i).toNatClampNeg = i := nI_clamp (by omega)
  obtain ⟨k7, -, -, -, c10, d10, -, cd⟩ := hN.2.1 i hi
  obtain ⟨ek, -, -, -, ed, -⟩ := hY.2 i hi
  unfold wY_settle_68
  rw [icl, ek, ed]
  refine ⟨hin, pk_eq (kn_k N i) 1 (fun k1 => ⟨hin, ?_⟩) (fun k1 => ?_)⟩
  · have ne := cd k1
    have l20' : ∀ x, (kn_u st (kn_c N i) (l.take 20) x).length ≤ 20 := by
      intro x
      by_cases e : x = kn_c N i
      · rw [e, kn_us, List.length_take]; omega
      · rw [kn_un e]; exact l20 x
    refine yy_store hs l20' d10 W (fun z si' sz' hs' => ?_) (fun z si' sz' hs' => ?_)
    · rw [kn_pt2 k1] at hs'
      exact br_t rfl (nm_r (nI_1 i) (K si' sz' hs'))
    · rw [kn_pt2 k1] at hs'
      rw [kn_un (fun w => ne w.symm), dc k1] at z
      exact br_f (by decide) (nm_r (nI_1 i) (K1 z si' sz' hs'))
  · rw [kn_pt1 k1] at hs
    exact nm_r (nI_1 i) (K si sz hs)
/-- a round in which a stream has grown -/
theorem yy_40a (hN : kn_ok N) (hY : kn_Y N fn yk ya yb yc yd yp yq) {M : Nat}
    (K : ∀ st ct sz si md, kn_rp st si sz → kn_J N st → M < kn_tot st → J25 1 (x2 + 1) fn ct yk ya yb yc yd yp yq yr yw sz si md) :
    ∀ d i, i + d = kn_n N → ∀ st ct sz si md, kn_rp st si sz → kn_J N st → M < kn_tot st → wY_settle_40 post J25 x2 (d + 1) 1 (nI i) fn ct yk ya yb yc yd yp yq yr yw sz si md := by
  have n8 := hN.1
  intro d
  induction d with
  | zero =>
    intro i hid st ct sz si md hs J hm
    refine br_t ?_ (nm_e (K st ct sz si md hs J hm))
    rw [hY.1]; exact nI_le (by omega) (by omega)
  | succ d ih =>
    intro i hid st ct sz si md hs J hm
    have hi : i < kn_n N := by omega
    have l20 := J.2.2.1
    have hin : vp_in (nI i) 8 := vp_in_nI (by omega) (by omega)
    have icl : (nI i).toNatClampNeg = i := nI_clamp (by omega)
    have c10 := (hN.2.1 i hi).2.2.2.2.1
    have ec := (hY.2 i hi).2.2.2.1
    obtain ⟨J', -, gr⟩ := kn_grow hN hi J
    refine br_f ?_ (yy_work hN hY hs l20 hi (fun l ct1 md1 W e => ?_))
    · rw [hY.1]; exact nI_ge hi (by omega)
    dsimp only
    rw [icl, ec]
    have go : ∀ si1 sz1, kn_rp (kn_u st (kn_c N i) (l.take 20)) si1 sz1 → wY_settle_68 post J25 (wY_settle_40 post J25 x2 (d + 1)) 1 x2 (nI i) fn ct1 yk ya yb yc yd yp yq yr yw sz1 si1 md1 := by
      intro si1 sz1 hs1
      refine yy_68 hN hY l20 hi (J.1 i hi).2 W hs1 (fun si' sz' hs' => ?_) (fun _ si' sz' hs' => ?_)
      · rw [e] at hs'
        exact ih (i + 1) (by omega) _ ct1 sz' si' md1 hs' J' (by omega)
      · rw [e] at hs'
        exact ih (i + 1) (by omega) _ ct1 sz' si' md1 hs' J' (by omega)
    exact ⟨hin, yy_store hs l20 c10 W (fun _ si1 sz1 hs1 => br_t rfl (go si1 sz1 hs1)) (fun _ si1 sz1 hs1 => br_f (by decide) (go si1 sz1 hs1))⟩
/-- a round in which none has grown so far -/
theorem yy_40b (hN : kn_ok N) (hY : kn_Y N fn yk ya yb yc yd yp yq) (Js : kn_J N st)
    (K : ∀ st' ct sz si md, kn_rp st' si sz → kn_J N st' → kn_tot st < kn_tot st' → J25 1 (x2 + 1) fn ct yk ya yb yc yd yp yq yr yw sz si md)
    (K0 : kn_lf N st → ∀ ct sz si md, kn_rp st si sz → J25 0 (x2 + 1) fn ct yk ya yb yc yd yp yq yr yw sz si md) :
    ∀ d i, i + d = kn_n N → (∀ j, j < i → (kn_T N j st).length ≤ (st (kn_c N j)).length) → ∀ ct sz si md, kn_rp st si sz → wY_settle_40 post J25 x2 (d + 1) 0 (nI i) fn ct yk ya yb yc yd yp yq yr yw sz si md := by
  have n8 := hN.1
  have l20 := Js.2.2.1
  intro d
  induction d with
  | zero =>
    intro i hid hj ct sz si md hs
    refine br_t ?_ (nm_e (K0 (kn_Jfin Js (fun j hj' => hj j (by omega))) ct sz si md hs))
    rw [hY.1]; exact nI_le (by omega) (by omega)
  | succ d ih =>
    intro i hid hj ct sz si md hs
    have hi : i < kn_n N := by omega
    have hin : vp_in (nI i) 8 := vp_in_nI (by omega) (by omega)
    have icl : (nI i).toNatClampNeg = i := nI_clamp (by omega)
    have c10 := (hN.2.1 i hi).2.2.2.2.1
    have ec := (hY.2 i hi).2.2.2.1
    obtain ⟨J', ⟨same, more⟩, -⟩ := kn_grow hN hi Js
    refine br_f ?_ (yy_work hN hY hs l20 hi (fun l ct1 md1 W e => ?_))
    · rw [hY.1]; exact nI_ge hi (by omega)
    dsimp only
    rw [icl, ec]
    refine ⟨hin, yy_store hs l20 c10 W (fun z si1 sz1 hs1 => br_t rfl ?_) (fun z si1 sz1 hs1 => br_f (by decide) ?_)⟩
    · refine yy_68 hN hY l20 hi (Js.1 i hi).2 W hs1 (fun si' sz' hs' => ?_) (fun z' => absurd z (by omega))
      rw [e] at z
      rw [e, same z] at hs'
      exact ih (i + 1) (by omega) (lt_s hj z) ct1 sz' si' md1 hs'
    · refine yy_68 hN hY l20 hi (Js.1 i hi).2 W hs1 (fun si' sz' hs' => ?_) (fun _ si' sz' hs' => ?_)
      · rw [e] at z hs'
        exact yy_40a hN hY K d (i + 1) (by omega) _ ct1 sz' si' md1 hs' J' (more z)
      · rw [e] at z hs'
        exact yy_40a hN hY K d (i + 1) (by omega) _ ct1 sz' si' md1 hs' J' (more z)
theorem yy_25 (hN : kn_ok N) (hY : kn_Y N fn yk ya yb yc yd yp yq) (K : ∀ st ct sz si md, kn_lf N st → kn_rp st si sz → post (fn, ct, yk, ya, yb, yc, yd, yp, yq, yr, yw, sz, si, md)) :
    ∀ d R, R + d = 201 → ∀ st ct sz si md, kn_rp st si sz → kn_J N st → R ≤ kn_tot st → wY_settle_25 post (d + 2) 1 (nI R) fn ct yk ya yb yc yd yp yq yr yw sz si md := by
  intro d
  induction d with
  | zero =>
    intro R hR st ct sz si md hs J hm
    have := kn_tot200 J.2.2.1
    omega
  | succ d ih =>
    intro R hR st ct sz si md hs J hm
    refine br_f (nI_ge (b := 201) (by omega) (by omega)) (br_f (by decide) ⟨kn_n N + 1, ?_⟩)
    refine yy_40b hN hY J (fun st' ct sz si md hs' J' hm' => ?_) (fun lf ct sz si md hs' => ?_) (kn_n N) 0 (by omega) lt_0 ct sz si md hs
    · rw [nI_1]
      exact ih (R + 1) (by omega) st' ct sz si md hs' J' (by omega)
    · exact br_c (fun _ => K st ct sz si md lf hs') (fun _ => br_t rfl (K st ct sz si md lf hs'))
theorem yy_2 (hN : kn_ok N) (hY : kn_Y N fn yk ya yb yc yd yp yq) (K : ∀ st ct sz si md, kn_lf N st → kn_rp st si sz → post (fn, ct, yk, ya, yb, yc, yd, yp, yq, yr, yw, sz, si, md)) {ct : Int32} {si md : Nat → Int32} :
    ∀ d i, i + d = 10 → ∀ sz, (∀ j, j < i → sz j = 0) → wY_settle_2 post fn ct (d + 1) (nI i) yk ya yb yc yd yp yq yr yw sz si md := by
  intro d
  induction d with
  | zero =>
    intro i hid sz hj
    refine br_t (nI_le (a := 10) (by omega) (by omega)) ⟨203, ?_⟩
    exact yy_25 hN hY K 201 0 (by omega) (fun _ => []) ct sz si md (fun x hx => ⟨hj x (by omega), fun k hk => absurd hk (Nat.not_lt_zero k)⟩) (kn_J0 N) (Nat.zero_le _)
  | succ d ih =>
    intro i hid sz hj
    have hin : vp_in (nI i) 10 := vp_in_nI (by omega) (by omega)
    refine br_f (nI_ge (b := 10) (by omega) (by omega)) ⟨hin, nm_e (nm_r (nI_1 i) (ih (i + 1) (by omega) _ ?_))⟩
    rw [nI_clamp (by omega)]
    exact lt_s (fun j hj' => by rw [pk_un (by omega)]; exact hj j hj') pk_us
/-- settling: the streams are then the least fixpoint -/
theorem yy_settle (hN : kn_ok N) (hY : kn_Y N fn yk ya yb yc yd yp yq) (K : ∀ st ct sz si md, kn_lf N st → kn_rp st si sz → post (fn, ct, yk, ya, yb, yc, yd, yp, yq, yr, yw, sz, si, md)) {ct : Int32} {sz si md : Nat → Int32} : wpY_settle post (fn, ct, yk, ya, yb, yc, yd, yp, yq, yr, yw, sz, si, md) := by
  unfold wpY_settle; dsimp only
  exact ⟨11, yy_2 hN hY K 10 0 (by omega) sz lt_0⟩
end
end
section
/-! the relation; queries -/
def kn_RX (N : kn_N) (u : SX) : Prop := match u with
  | (fb, pc, hr, ki, ra, rb, wc, wd, np, nq, sm, wn, tk, rm, me, ph) => kn_X N pc ki ra rb wc wd np nq ∧ (∃ f, fb = nI f ∧ f ≤ 20) ∧ kn_Ph N ph ∧ (hr = 0 ∨ (hr = 1 ∧ ∃ st, kn_lf N st ∧ kn_rp st sm wn))
def kn_Fl (N : kn_N) (yr yw : Nat → Int32) : Prop := ∀ x, x < 10 → (yr x = 0 ↔ ¬ kn_R N x) ∧ (yw x = 0 ↔ ¬ kn_W N x)
def kn_RY (N : kn_N) (v : SY) : Prop := match v with
  | (fn, ct, yk, ya, yb, yc, yd, yp, yq, yr, yw, sz, si, md) => kn_Y N fn yk ya yb yc yd yp yq ∧ kn_Fl N yr yw
/-- both objects show one net; if the component has run, its streams are the net's least fixpoint -/
def i_Rel (k : Nat) (u : SX) (v : SY) : Prop := ∃ N : kn_N, kn_ok N ∧ kn_RX N u ∧ kn_RY N v
theorem i_up {k : Nat} {u : SX} {v : SY} (h : i_Rel k u v) : i_Rel (k + 4) u v := h
def kn_N0 : kn_N := (0, fun _ => 0, fun _ => 0, fun _ => 0, fun _ => 0, fun _ => 0, fun _ => 0, fun _ => 0)
theorem kn_none (N : kn_N) (h : kn_n N = 0) : kn_ok N ∧ (∀ x, ¬ kn_R N x) ∧ ∀ x, ¬ kn_W N x := by
  refine ⟨⟨by omega, fun i hi => by omega, fun i j x hi => by omega, fun i j x hi => by omega⟩, fun x => ?_, fun x => ?_⟩
  · intro ⟨i, hi, _⟩; omega
  · intro ⟨i, hi, _⟩; omega
theorem kn_X0 {N : kn_N} (h : kn_n N = 0) {ki ra rb wc wd np nq : Nat → Int32} : kn_X N 0 ki ra rb wc wd np nq := ⟨by rw [h]; rfl, fun i hi => by omega⟩
theorem kn_Y0 {N : kn_N} (h : kn_n N = 0) {yk ya yb yc yd yp yq : Nat → Int32} : kn_Y N 0 yk ya yb yc yd yp yq := ⟨by rw [h]; rfl, fun i hi => by omega⟩
theorem kn_Ph0 {N : kn_N} (h : kn_n N = 0) {ph : Nat → Int32} : kn_Ph N ph := fun i hi => by omega
theorem kn_Fl0 {N : kn_N} (h : kn_n N = 0) {yr yw : Nat → Int32} (hr : ∀ x, x < 10 → yr x = 0) (hw : ∀ x, x < 10 → yw x = 0) : kn_Fl N yr yw :=
  fun x hx => ⟨⟨fun _ => (kn_none N h).2.1 x, fun _ => hr x hx⟩, ⟨fun _ => (kn_none N h).2.2 x, fun _ => hw x hx⟩⟩
theorem kn_i0 {f : Nat} (hf : f ≤ 20) : i_Rel 1 (nI f, 0, 0, (fun _ => 0), (fun _ => 0), (fun _ => 0), (fun _ => 0), (fun _ => 0), (fun _ => 0), (fun _ => 0), (fun _ => 0), (fun _ => 0), (fun _ => 0), (fun _ => 0), (fun _ => 0), (fun _ => 0))
    (0, 0, (fun _ => 0), (fun _ => 0), (fun _ => 0), (fun _ => 0), (fun _ => 0), (fun _ => 0), (fun _ => 0), (fun _ => 0), (fun _ => 0), (fun _ => 0), (fun _ => 0), (fun _ => 0)) :=
  ⟨kn_N0, (kn_none kn_N0 rfl).1, ⟨kn_X0 rfl, ⟨f, rfl, hf⟩, kn_Ph0 rfl, Or.inl rfl⟩, ⟨kn_Y0 rfl, kn_Fl0 rfl (fun _ _ => rfl) (fun _ _ => rfl)⟩⟩
theorem i_vc0 (k0 : Int32) : wpX_init (fun u => wpY_init (fun v => i_Rel 1 u v) k0) k0 := by
  unfold wpX_init wpY_init
  refine br_c (fun h1 => br_c (fun h6 => ?_) (fun _ => kn_i0 (f := 6) (by omega))) (fun _ => kn_i0 (f := 1) (by omega))
  have e1 : (1 : Int32).toInt = 1 := by decide
  have e0 : (0 : Int32).toInt = 0 := by decide
  have g1 := Int32.le_iff_toInt_le.mp h1
  obtain ⟨j, hj, rfl⟩ := nI_of2 (x := k0) (M := 6) (n := 6) (by decide) (fun z => by have := Int32.lt_iff_toInt_lt.mp z; omega) h6
  exact kn_i0 (by omega)
section
variable {fb pc hr : Int32} {ki ra rb wc wd np nq sm wn tk rm me ph : Nat → Int32}
variable {fn ct : Int32} {yk ya yb yc yd yp yq yr yw sz si md : Nat → Int32}
variable {N : kn_N} {k : Nat}
theorem kn_mk {f : Nat} (hN : kn_ok N) (hX : kn_X N pc ki ra rb wc wd np nq) (ef : fb = nI f) (f20 : f ≤ 20) (hp : kn_Ph N ph) (hrun : hr = 0 ∨ (hr = 1 ∧ ∃ st, kn_lf N st ∧ kn_rp st sm wn))
    (hY : kn_Y N fn yk ya yb yc yd yp yq) (hfl : kn_Fl N yr yw) : i_Rel k (fb, pc, hr, ki, ra, rb, wc, wd, np, nq, sm, wn, tk, rm, me, ph) (fn, ct, yk, ya, yb, yc, yd, yp, yq, yr, yw, sz, si, md) := ⟨N, hN, ⟨hX, ⟨f, ef, f20⟩, hp, hrun⟩, hY, hfl⟩
end
section
variable {fn ct : Int32} {yk ya yb yc yd yp yq yr yw sz si md : Nat → Int32}
theorem yy_ch1 {post : Int32 → Prop} {j : Nat} (hj : j < 10) (hp : post 1) : wpY_isChannel post (fn, ct, yk, ya, yb, yc, yd, yp, yq, yr, yw, sz, si, md) (nI j) := by
  unfold wpY_isChannel; dsimp only
  exact br_f (nI_pos (by omega)) (br_f (nI_nlt (a := 9) (by omega) (by omega)) hp)
theorem yy_ch0 {post : Int32 → Prop} {x : Int32} (hx : x < 0 ∨ nI 10 ≤ x) (hp : post 0) : wpY_isChannel post (fn, ct, yk, ya, yb, yc, yd, yp, yq, yr, yw, sz, si, md) x := by
  unfold wpY_isChannel; dsimp only
  by_cases h : x < 0
  · exact br_t h hp
  · obtain ⟨j, hj, rfl⟩ := nI_of h
    have hj10 : 10 ≤ j := by
      rcases hx with z | z
      · exact absurd z h
      · exact (nI_leI (by omega) hj).mp z
    exact br_f h (br_t (nI_lt (a := 9) (by omega) hj) hp)
end
theorem kn_n9 {x : Int32} (h : nI 10 ≤ x) : ¬ x < 0 ∧ ¬ x ≤ 9 ∧ 9 < x := by
  have e9 : (9 : Int32).toInt = 9 := by decide
  have e10 : (nI 10).toInt = 10 := by decide
  have e0 : (0 : Int32).toInt = 0 := by decide
  rw [Int32.le_iff_toInt_le] at h
  rw [Int32.lt_iff_toInt_lt, Int32.le_iff_toInt_le, Int32.lt_iff_toInt_lt]
  omega
theorem kn_p9 {j : Nat} (h : j < 10) : ¬ nI j < 0 ∧ nI j ≤ 9 ∧ ¬ 9 < nI j :=
  ⟨nI_pos (by omega), nI_le (b := 9) (by omega) (by omega), nI_nlt (a := 9) (by omega) (by omega)⟩
theorem i_vc_processes {k : Nat} {u : SX} {v : SY} (I : i_Rel k u v) (hk : k + 4 ≤ 2049) : wpX_processes (fun r => wpY_processes (fun r' => r' = r ∧ i_Rel (k + 4) u v) v) u := by
  have I' := I
  obtain ⟨N, hN, hu, hv⟩ := I
  obtain ⟨fb, pc, hr, ki, ra, rb, wc, wd, np, nq, sm, wn, tk, rm, me, ph⟩ := u
  obtain ⟨fn, ct, yk, ya, yb, yc, yd, yp, yq, yr, yw, sz, si, md⟩ := v
  obtain ⟨hX, -⟩ := hu
  obtain ⟨hY, -⟩ := hv
  unfold wpX_processes wpY_processes
  exact ⟨hY.1.trans hX.1.symm, I'⟩
theorem yy_clear12 {fn ct x1 : Int32} {yk ya yb yc yd yp yq sz si md : Nat → Int32} {post : Int32 → SY → Prop}
    (K : ∀ yr yw : Nat → Int32, (∀ x, x < 10 → yr x = 0) → (∀ x, x < 10 → yw x = 0) → post x1 (fn, ct, yk, ya, yb, yc, yd, yp, yq, yr, yw, sz, si, md)) :
    ∀ d i, i + d = 10 → ∀ yr yw : Nat → Int32, (∀ x, x < i → yr x = 0) → (∀ x, x < i → yw x = 0) → wY_clear_12 post x1 fn ct (d + 1) (nI i) yk ya yb yc yd yp yq yr yw sz si md := by
  intro d
  induction d with
  | zero =>
    intro i hid yr yw h1 h2
    exact br_t (nI_le (a := 10) (by omega) (by omega)) (K yr yw (fun x hx => h1 x (by omega)) (fun x hx => h2 x (by omega)))
  | succ d ih =>
    intro i hid yr yw h1 h2
    have hin : vp_in (nI i) 10 := vp_in_nI (by omega) (by omega)
    refine br_f (nI_ge (b := 10) (by omega) (by omega)) ?_
    rw [nI_clamp (by omega), show vp_nar .boolean 0 = 0 from rfl]
    exact ⟨hin, nm_e ⟨hin, nm_e (nm_r (nI_1 i) (ih (i + 1) (by omega) _ _ (lt_s (fun j hj => by rw [pk_un (by omega)]; exact h1 j hj) pk_us) (lt_s (fun j hj => by rw [pk_un (by omega)]; exact h2 j hj) pk_us)))⟩⟩
theorem i_vc_clear {k : Nat} {u : SX} {v : SY} (I : i_Rel k u v) (hk : k + 4 ≤ 2049) : wpX_clear (fun r u' => wpY_clear (fun r' v' => r' = r ∧ i_Rel (k + 4) u' v') v) u := by
  obtain ⟨N, hN, hu, hv⟩ := I
  obtain ⟨fb, pc, hr, ki, ra, rb, wc, wd, np, nq, sm, wn, tk, rm, me, ph⟩ := u
  obtain ⟨fn, ct, yk, ya, yb, yc, yd, yp, yq, yr, yw, sz, si, md⟩ := v
  obtain ⟨hX, ⟨f, ef, f20⟩, hp, hrun⟩ := hu
  obtain ⟨hY, -⟩ := hv
  unfold wpX_clear wpY_clear; dsimp only
  refine ⟨11, yy_clear12 (fun yr' yw' h1 h2 => ⟨hY.1.trans hX.1.symm, ?_⟩) 10 0 (by omega) yr yw lt_0 lt_0⟩
  exact kn_mk (N := kn_N0) (kn_none kn_N0 rfl).1 (kn_X0 rfl) ef f20 (kn_Ph0 rfl) (Or.inl rfl) (kn_Y0 rfl) (kn_Fl0 rfl h1 h2)
theorem i_vc_length {k : Nat} {u : SX} {v : SY} (I : i_Rel k u v) (hk : k + 4 ≤ 2049) (v1 : Int32) : wpX_length (fun r u' => wpY_length (fun r' v' => r' = r ∧ i_Rel (k + 4) u' v') v v1) u v1 := by
  have I' := I
  obtain ⟨N, hN, hu, hv⟩ := I
  obtain ⟨fb, pc, hr, ki, ra, rb, wc, wd, np, nq, sm, wn, tk, rm, me, ph⟩ := u
  obtain ⟨fn, ct, yk, ya, yb, yc, yd, yp, yq, yr, yw, sz, si, md⟩ := v
  obtain ⟨hX, ⟨f, ef, f20⟩, hp, hrun⟩ := hu
  obtain ⟨hY, hfl⟩ := hv
  unfold wpX_length wpY_length; dsimp only
  rcases pk_ix v1 (n := 10) (by omega) with z | z | ⟨j, hj, rfl⟩
  · exact br_t z (yy_ch0 (Or.inl z) (br_t rfl ⟨rfl, I'⟩))
  · exact br_f (kn_n9 z).1 (br_f (kn_n9 z).2.1 (yy_ch0 (Or.inr z) (br_t rfl ⟨rfl, I'⟩)))
  · refine br_f (kn_p9 hj).1 (br_t (kn_p9 hj).2.1 (xx_runAll hN hX ef f20 hp hrun (fun st sm' wn' tk' rm' me' ph' lf rp hp' => ?_)))
    dsimp only
    refine ⟨vp_in_nI hj (by omega), yy_ch1 hj (br_f (by decide) (yy_settle hN hY (fun st2 ct' sz' si' md' lf2 rp2 => ?_)))⟩
    obtain rfl := kn_lfu lf lf2
    dsimp only
    rw [nI_clamp (by omega), (rp j hj).1, (rp2 j hj).1]
    exact ⟨vp_in_nI hj (by omega), rfl, kn_mk hN hX ef f20 hp' (Or.inr ⟨rfl, st, lf, rp⟩) hY hfl⟩
theorem i_vc_at {k : Nat} {u : SX} {v : SY} (I : i_Rel k u v) (hk : k + 4 ≤ 2049) (v1 : Int32) (v2 : Int32) : wpX_at (fun r u' => wpY_at (fun r' v' => r' = r ∧ i_Rel (k + 4) u' v') v v1 v2) u v1 v2 := by
  have I' := I
  obtain ⟨N, hN, hu, hv⟩ := I
  obtain ⟨fb, pc, hr, ki, ra, rb, wc, wd, np, nq, sm, wn, tk, rm, me, ph⟩ := u
  obtain ⟨fn, ct, yk, ya, yb, yc, yd, yp, yq, yr, yw, sz, si, md⟩ := v
  obtain ⟨hX, ⟨f, ef, f20⟩, hp, hrun⟩ := hu
  obtain ⟨hY, hfl⟩ := hv
  unfold wpX_at wpY_at; dsimp only
  rcases pk_ix v1 (n := 10) (by omega) with z | z | ⟨j, hj, rfl⟩
  · exact br_t z (yy_ch0 (Or.inl z) (br_t rfl ⟨rfl, I'⟩))
  · exact br_f (kn_n9 z).1 (br_f (kn_n9 z).2.1 (yy_ch0 (Or.inr z) (br_t rfl ⟨rfl, I'⟩)))
  · refine br_f (kn_p9 hj).1 (br_t (kn_p9 hj).2.1 (xx_runAll hN hX ef f20 hp hrun (fun st sm' wn' tk' rm' me' ph' lf rp hp' => ?_)))
    have l20 := kn_fx20 lf.1 j
    have hin : vp_in (nI j) 10 := vp_in_nI hj (by omega)
    have M : ∀ ct sz si md, i_Rel (k + 4) (fb, pc, 1, ki, ra, rb, wc, wd, np, nq, sm', wn', tk', rm', me', ph') (fn, ct, yk, ya, yb, yc, yd, yp, yq, yr, yw, sz, si, md) := fun ct sz si md => kn_mk hN hX ef f20 hp' (Or.inr ⟨rfl, st, lf, rp⟩) hY hfl
    dsimp only
    rw [nI_clamp (by omega), (rp j hj).1]
    rcases pk_ix v2 (n := (st j).length) (by omega) with z | z | ⟨κ, hκ, rfl⟩
    · refine br_t z (yy_ch1 hj (br_f (by decide) (yy_settle hN hY (fun st2 ct' sz' si' md' lf2 rp2 => br_t z ⟨rfl, M _ _ _ _⟩))))
    · have z0 : ¬ v2 < 0 := fun w => by
        have a1 := Int32.le_iff_toInt_le.mp z
        have a2 := Int32.lt_iff_toInt_lt.mp w
        rw [nI_toInt (by omega)] at a1
        have e0 : (0 : Int32).toInt = 0 := by decide
        omega
      refine br_f z0 ⟨hin, br_f (Int32.not_lt.mpr z) (yy_ch1 hj (br_f (by decide) (yy_settle hN hY (fun st2 ct' sz' si' md' lf2 rp2 => br_f z0 ⟨hin, ?_⟩))))⟩
      obtain rfl := kn_lfu lf lf2
      dsimp only
      rw [(rp2 j hj).1]
      exact br_t z ⟨rfl, M _ _ _ _⟩
    · have z0 : ¬ nI κ < 0 := nI_pos (by omega)
      rw [kn_ix, nI_clamp (n := 20 * j + κ) (by omega), (rp j hj).2 κ hκ]
      refine br_f z0 ⟨hin, br_t (nI_lt hκ (by omega)) ⟨vp_in_nI (by omega) (by omega), yy_ch1 hj (br_f (by decide) (yy_settle hN hY (fun st2 ct' sz' si' md' lf2 rp2 => br_f z0 ⟨hin, ?_⟩)))⟩⟩
      obtain rfl := kn_lfu lf lf2
      dsimp only
      rw [(rp2 j hj).1]
      refine br_f (nI_ge hκ (by omega)) (yy_get hj (by omega) ⟨?_, M _ _ _ _⟩)
      exact (rp2 j hj).2 κ hκ
def kn_su (st : Nat → List Int32) : Nat → Int32
  | 0 => 0
  | n + 1 => kn_su st n + nI (st n).length
section
variable {fb pc hr : Int32} {ki ra rb wc wd np nq sm wn tk rm me ph : Nat → Int32}
variable {fn ct : Int32} {yk ya yb yc yd yp yq yr yw sz si md : Nat → Int32}
variable {st : Nat → List Int32}
theorem xx_total8 (rp : kn_rp st sm wn) {post : Int32 → SX → Prop} (K : post (kn_su st 10) (fb, pc, hr, ki, ra, rb, wc, wd, np, nq, sm, wn, tk, rm, me, ph)) : ∀ d i, i + d = 10 → wX_total_8 post fb pc hr ki ra rb wc wd np nq sm wn tk rm me ph (d + 1) (kn_su st i) (nI i) := by
  intro d
  induction d with
  | zero =>
    intro i hid
    obtain rfl : i = 10 := by omega
    exact br_t (nI_le (a := 10) (by omega) (by omega)) K
  | succ d ih =>
    intro i hid
    refine br_f (nI_ge (b := 10) (by omega) (by omega)) ⟨vp_in_nI (by omega) (by omega), nm_r (e' := kn_su st (i + 1)) ?_ (nm_r (nI_1 i) (ih (i + 1) (by omega)))⟩
    rw [nI_clamp (by omega), (rp i (by omega)).1]
    rfl
theorem yy_total8 (rp : kn_rp st si sz) {post : Int32 → SY → Prop} (K : post (kn_su st 10) (fn, ct, yk, ya, yb, yc, yd, yp, yq, yr, yw, sz, si, md)) : ∀ d i, i + d = 10 → wY_total_8 post fn ct yk ya yb yc yd yp yq yr yw sz si md (d + 1) (kn_su st i) (nI i) := by
  intro d
  induction d with
  | zero =>
    intro i hid
    obtain rfl : i = 10 := by omega
    exact br_t (nI_le (a := 10) (by omega) (by omega)) K
  | succ d ih =>
    intro i hid
    refine br_f (nI_ge (b := 10) (by omega) (by omega)) ⟨vp_in_nI (by omega) (by omega), nm_r (e' := kn_su st (i + 1)) ?_ (nm_r (nI_1 i) (ih (i + 1) (by omega)))⟩
    rw [nI_clamp (by omega), (rp i (by omega)).1]
    rfl
end
theorem i_vc_total {k : Nat} {u : SX} {v : SY} (I : i_Rel k u v) (hk : k + 4 ≤ 2049) : wpX_total (fun r u' => wpY_total (fun r' v' => r' = r ∧ i_Rel (k + 4) u' v') v) u := by
  obtain ⟨N, hN, hu, hv⟩ := I
  obtain ⟨fb, pc, hr, ki, ra, rb, wc, wd, np, nq, sm, wn, tk, rm, me, ph⟩ := u
  obtain ⟨fn, ct, yk, ya, yb, yc, yd, yp, yq, yr, yw, sz, si, md⟩ := v
  obtain ⟨hX, ⟨f, ef, f20⟩, hp, hrun⟩ := hu
  obtain ⟨hY, hfl⟩ := hv
  unfold wpX_total wpY_total; dsimp only
  refine xx_runAll hN hX ef f20 hp hrun (fun st sm' wn' tk' rm' me' ph' lf rp hp' => ?_)
  dsimp only
  refine ⟨11, xx_total8 rp ?_ 10 0 (by omega)⟩
  refine yy_settle hN hY (fun st2 ct' sz' si' md' lf2 rp2 => ?_)
  obtain rfl := kn_lfu lf lf2
  dsimp only
  exact ⟨11, yy_total8 rp2 ⟨rfl, kn_mk hN hX ef f20 hp' (Or.inr ⟨rfl, st, lf, rp⟩) hY hfl⟩ 10 0 (by omega)⟩
section
variable {fb pc hr : Int32} {ki ra rb wc wd np nq sm wn tk rm me ph : Nat → Int32}
variable {fn ct : Int32} {yk ya yb yc yd yp yq yr yw sz si md : Nat → Int32}
variable {st : Nat → List Int32} {x y κ : Nat}
theorem xx_fd80 (rp : kn_rp st sm wn) (l20 : ∀ x, (st x).length ≤ 20) (hx : x < 10) (hy : y < 10) (hκ : κ ≤ 20) {post : Int32 → SX → Prop}
    (K1 : κ = (st x).length → κ = (st y).length → post (-1) (fb, pc, hr, ki, ra, rb, wc, wd, np, nq, sm, wn, tk, rm, me, ph)) (K0 : ¬ (κ = (st x).length ∧ κ = (st y).length) → post (nI κ) (fb, pc, hr, ki, ra, rb, wc, wd, np, nq, sm, wn, tk, rm, me, ph)) : wX_firstDifference_80 post (nI x) (nI y) (nI κ) fb pc hr ki ra rb wc wd np nq sm wn tk rm me ph := by
  have lx := l20 x
  have ly := l20 y
  unfold wX_firstDifference_80
  rw [nI_clamp (n := x) (by omega), nI_clamp (n := y) (by omega), (rp x hx).1, (rp y hy).1]
  exact ⟨vp_in_nI hx (by omega), pk_eq κ (st x).length (fun z => ⟨vp_in_nI hy (by omega), pk_eq κ (st y).length (fun w => K1 z w) (fun w => K0 (fun q => w q.2))⟩) (fun z => K0 (fun q => z q.1))⟩
theorem xx_fd (rp : kn_rp st sm wn) (l20 : ∀ x, (st x).length ≤ 20) (hx : x < 10) (hy : y < 10) : ∀ d κ, κ + d = 20 → κ ≤ (st x).length → κ ≤ (st y).length →
    ∃ r : Int32, (∀ post : Int32 → SX → Prop, post r (fb, pc, hr, ki, ra, rb, wc, wd, np, nq, sm, wn, tk, rm, me, ph) → wX_firstDifference_29 post (nI x) (nI y) fb pc hr ki ra rb wc wd np nq sm wn tk rm me ph (d + 1) (nI κ))
      ∧ (∀ (ct : Int32) (sz si md : Nat → Int32), kn_rp st si sz → ∀ post : Int32 → SY → Prop, post r (fn, ct, yk, ya, yb, yc, yd, yp, yq, yr, yw, sz, si, md) → wY_firstDifference_25 post (nI x) (nI y) fn ct yk ya yb yc yd yp yq yr yw sz si md (d + 1) (nI κ)) := by
  have lx := l20 x
  have ly := l20 y
  have inx : vp_in (nI x) 10 := vp_in_nI hx (by omega)
  have iny : vp_in (nI y) 10 := vp_in_nI hy (by omega)
  have clx : (nI x).toNatClampNeg = x := nI_clamp (by omega)
  have cly : (nI y).toNatClampNeg = y := nI_clamp (by omega)
  have ex := (rp x hx).1
  have ey := (rp y hy).1
  intro d
  induction d with
  | zero =>
    intro κ hd h1 h2
    obtain rfl : κ = 20 := by omega
    refine ⟨-1, fun post hp => ?_, fun ct sz si md rp2 post hp => br_t (nI_le (a := 20) (by omega) (by omega)) hp⟩
    refine And.intro inx ?_
    rw [clx, ex]
    exact br_t (nI_le (by omega) (by omega)) (xx_fd80 rp l20 hx hy (by omega) (fun _ _ => hp) (fun z => absurd ⟨by omega, by omega⟩ z))
  | succ d ih =>
    intro κ hd h1 h2
    by_cases c1 : κ = (st x).length ∧ κ = (st y).length
    · refine ⟨-1, fun post hp => ?_, fun ct sz si md rp2 post hp => ?_⟩
      · refine And.intro inx ?_
        rw [clx, ex]
        exact br_t (nI_le (by omega) (by omega)) (xx_fd80 rp l20 hx hy (by omega) (fun _ _ => hp) (fun z => absurd c1 z))
      · refine br_f (nI_ge (b := 20) (by omega) (by omega)) ⟨inx, ?_⟩
        rw [clx, cly, (rp2 x hx).1, (rp2 y hy).1]
        exact br_f (nI_nlt (by omega) (by omega)) ⟨iny, br_f (nI_nlt (by omega) (by omega)) hp⟩
    by_cases c2 : κ < (st x).length ∧ κ < (st y).length ∧ (st x).getD κ 0 = (st y).getD κ 0
    · obtain ⟨r, HX, HY⟩ := ih (κ + 1) (by omega) (by omega) (by omega)
      obtain ⟨cx, cy, ce⟩ := c2
      refine ⟨r, fun post hp => ?_, fun ct sz si md rp2 post hp => ?_⟩
      · refine And.intro inx ?_
        rw [clx, cly, ex, ey, kn_ix, kn_ix, nI_clamp (n := 20 * x + κ) (by omega), nI_clamp (n := 20 * y + κ) (by omega), (rp x hx).2 κ cx, (rp y hy).2 κ cy]
        exact br_f (nI_ge cx (by omega)) ⟨iny, br_f (nI_ge cy (by omega)) ⟨vp_in_nI (by omega) (by omega), vp_in_nI (by omega) (by omega), br_t ce (nm_r (nI_1 κ) (HX post hp))⟩⟩
      · refine br_f (nI_ge (b := 20) (by omega) (by omega)) ⟨inx, ?_⟩
        rw [clx, (rp2 x hx).1]
        refine br_t (nI_lt cx (by omega)) ?_
        unfold wY_firstDifference_53
        rw [clx, cly, (rp2 x hx).1, (rp2 y hy).1]
        refine ⟨inx, br_f (nI_ge cx (by omega)) ⟨iny, br_f (nI_ge cy (by omega)) (yy_get hx (by omega) (yy_get hy (by omega) ?_))⟩⟩
        rw [(rp2 x hx).2 κ cx, (rp2 y hy).2 κ cy]
        exact br_t ce (nm_r (nI_1 κ) (HY ct sz si md rp2 post hp))
    · refine ⟨nI κ, fun post hp => ?_, fun ct sz si md rp2 post hp => ?_⟩
      · have L : wX_firstDifference_80 post (nI x) (nI y) (nI κ) fb pc hr ki ra rb wc wd np nq sm wn tk rm me ph := xx_fd80 rp l20 hx hy (by omega) (fun a b => absurd ⟨a, b⟩ c1) (fun _ => hp)
        refine And.intro inx ?_
        rw [clx, cly, ex, ey]
        refine pk_le (st x).length κ (fun _ => L) (fun cx => ⟨iny, pk_le (st y).length κ (fun _ => L) (fun cy => ?_)⟩)
        rw [kn_ix, kn_ix, nI_clamp (n := 20 * x + κ) (by omega), nI_clamp (n := 20 * y + κ) (by omega), (rp x hx).2 κ cx, (rp y hy).2 κ cy]
        exact ⟨vp_in_nI (by omega) (by omega), vp_in_nI (by omega) (by omega), br_f (fun z => c2 ⟨cx, cy, z⟩) L⟩
      · have L : wY_firstDifference_53 post (wY_firstDifference_25 post (nI x) (nI y) fn ct yk ya yb yc yd yp yq yr yw sz si md (d + 1)) (nI x) (nI y) (nI κ) fn ct yk ya yb yc yd yp yq yr yw sz si md := by
          unfold wY_firstDifference_53
          rw [clx, cly, (rp2 x hx).1, (rp2 y hy).1]
          refine ⟨inx, pk_le (st x).length κ (fun _ => hp) (fun cx => ⟨iny, pk_le (st y).length κ (fun _ => hp) (fun cy => yy_get hx (by omega) (yy_get hy (by omega) ?_))⟩)⟩
          rw [(rp2 x hx).2 κ cx, (rp2 y hy).2 κ cy]
          exact br_f (fun z => c2 ⟨cx, cy, z⟩) hp
        refine br_f (nI_ge (b := 20) (by omega) (by omega)) ⟨inx, ?_⟩
        rw [clx, cly, (rp2 x hx).1, (rp2 y hy).1]
        exact pk_lt κ (st x).length (fun _ => L) (fun cx => ⟨iny, pk_lt κ (st y).length (fun _ => L) (fun cy => absurd ⟨by omega, by omega⟩ c1)⟩)
end
theorem i_vc_firstDifference {k : Nat} {u : SX} {v : SY} (I : i_Rel k u v) (hk : k + 4 ≤ 2049) (v1 : Int32) (v2 : Int32) : wpX_firstDifference (fun r u' => wpY_firstDifference (fun r' v' => r' = r ∧ i_Rel (k + 4) u' v') v v1 v2) u v1 v2 := by
  have I' := I
  obtain ⟨N, hN, hu, hv⟩ := I
  obtain ⟨fb, pc, hr, ki, ra, rb, wc, wd, np, nq, sm, wn, tk, rm, me, ph⟩ := u
  obtain ⟨fn, ct, yk, ya, yb, yc, yd, yp, yq, yr, yw, sz, si, md⟩ := v
  obtain ⟨hX, ⟨f, ef, f20⟩, hp, hrun⟩ := hu
  obtain ⟨hY, hfl⟩ := hv
  unfold wpX_firstDifference wpY_firstDifference; dsimp only
  rcases pk_ix v1 (n := 10) (by omega) with z | z | ⟨j, hj, rfl⟩
  · exact br_t z (yy_ch0 (Or.inl z) (br_t rfl ⟨rfl, I'⟩))
  · exact br_f (kn_n9 z).1 (br_t (kn_n9 z).2.2 (yy_ch0 (Or.inr z) (br_t rfl ⟨rfl, I'⟩)))
  · refine br_f (kn_p9 hj).1 (br_f (kn_p9 hj).2.2 ?_)
    rcases pk_ix v2 (n := 10) (by omega) with z | z | ⟨g, hg, rfl⟩
    · exact br_t z (yy_ch1 hj (br_f (by decide) (yy_ch0 (Or.inl z) (br_t rfl ⟨rfl, I'⟩))))
    · exact br_f (kn_n9 z).1 (br_f (kn_n9 z).2.1 (yy_ch1 hj (br_f (by decide) (yy_ch0 (Or.inr z) (br_t rfl ⟨rfl, I'⟩)))))
    · refine br_f (kn_p9 hg).1 (br_t (kn_p9 hg).2.1 (xx_runAll hN hX ef f20 hp hrun (fun st sm' wn' tk' rm' me' ph' lf rp hp' => ?_)))
      dsimp only
      obtain ⟨r, HX, HY⟩ := xx_fd (fb := fb) (pc := pc) (hr := 1) (ki := ki) (ra := ra) (rb := rb) (wc := wc) (wd := wd) (np := np) (nq := nq) (tk := tk') (rm := rm') (me := me') (ph := ph')
        (fn := fn) (yk := yk) (ya := ya) (yb := yb) (yc := yc) (yd := yd) (yp := yp) (yq := yq) (yr := yr) (yw := yw) rp (kn_fx20 lf.1) hj hg 20 0 (by omega) (Nat.zero_le _) (Nat.zero_le _)
      refine ⟨21, HX _ (yy_ch1 hj (br_f (by decide) (yy_ch1 hg (br_f (by decide) (yy_settle hN hY (fun st2 ct' sz' si' md' lf2 rp2 => ?_))))))⟩
      obtain rfl := kn_lfu lf lf2
      dsimp only
      exact ⟨21, HY ct' sz' si' md' rp2 _ ⟨rfl, kn_mk hN hX ef f20 hp' (Or.inr ⟨rfl, st, lf, rp⟩) hY hfl⟩⟩
end
section
/-! building the net -/
def kn_add (N : kn_N) (k a b c d : Nat) (p q : Int32) : kn_N :=
  (kn_n N + 1, kn_u (kn_k N) (kn_n N) k, kn_u (kn_a N) (kn_n N) a, kn_u (kn_b N) (kn_n N) b, kn_u (kn_c N) (kn_n N) c, kn_u (kn_d N) (kn_n N) d, kn_u (kn_p N) (kn_n N) p, kn_u (kn_q N) (kn_n N) q)
section
variable {N : kn_N} {k a b c d : Nat} {p q : Int32}
theorem kn_adn : kn_n (kn_add N k a b c d p q) = kn_n N + 1 := rfl
theorem kn_ado {j : Nat} (h : j < kn_n N) : kn_k (kn_add N k a b c d p q) j = kn_k N j ∧ kn_a (kn_add N k a b c d p q) j = kn_a N j ∧ kn_b (kn_add N k a b c d p q) j = kn_b N j
    ∧ kn_c (kn_add N k a b c d p q) j = kn_c N j ∧ kn_d (kn_add N k a b c d p q) j = kn_d N j ∧ kn_p (kn_add N k a b c d p q) j = kn_p N j ∧ kn_q (kn_add N k a b c d p q) j = kn_q N j := by
  have ne : j ≠ kn_n N := by omega
  exact ⟨kn_un ne, kn_un ne, kn_un ne, kn_un ne, kn_un ne, kn_un ne, kn_un ne⟩
theorem kn_adw : kn_k (kn_add N k a b c d p q) (kn_n N) = k ∧ kn_a (kn_add N k a b c d p q) (kn_n N) = a ∧ kn_b (kn_add N k a b c d p q) (kn_n N) = b
    ∧ kn_c (kn_add N k a b c d p q) (kn_n N) = c ∧ kn_d (kn_add N k a b c d p q) (kn_n N) = d ∧ kn_p (kn_add N k a b c d p q) (kn_n N) = p ∧ kn_q (kn_add N k a b c d p q) (kn_n N) = q :=
  ⟨kn_us, kn_us, kn_us, kn_us, kn_us, kn_us, kn_us⟩
theorem kn_adrd {j x : Nat} (h : j < kn_n N) : kn_rd (kn_add N k a b c d p q) j x ↔ kn_rd N j x := by
  obtain ⟨e1, e2, e3, -⟩ := kn_ado (N := N) (k := k) (a := a) (b := b) (c := c) (d := d) (p := p) (q := q) h
  unfold kn_rd
  rw [e1, e2, e3]
theorem kn_adwt {j x : Nat} (h : j < kn_n N) : kn_wt (kn_add N k a b c d p q) j x ↔ kn_wt N j x := by
  obtain ⟨e1, -, -, e4, e5, -⟩ := kn_ado (N := N) (k := k) (a := a) (b := b) (c := c) (d := d) (p := p) (q := q) h
  unfold kn_wt
  rw [e1, e4, e5]
theorem kn_adrdn {x : Nat} : kn_rd (kn_add N k a b c d p q) (kn_n N) x ↔ (k ≠ 0 ∧ (a = x ∨ ((k = 2 ∨ k = 5) ∧ b = x))) := by
  obtain ⟨e1, e2, e3, -⟩ := kn_adw (N := N) (k := k) (a := a) (b := b) (c := c) (d := d) (p := p) (q := q)
  unfold kn_rd
  rw [e1, e2, e3]
theorem kn_adwtn {x : Nat} : kn_wt (kn_add N k a b c d p q) (kn_n N) x ↔ (c = x ∨ (k = 1 ∧ d = x)) := by
  obtain ⟨e1, -, -, e4, e5, -⟩ := kn_adw (N := N) (k := k) (a := a) (b := b) (c := c) (d := d) (p := p) (q := q)
  unfold kn_wt
  rw [e1, e4, e5]
theorem kn_adR {x : Nat} : kn_R (kn_add N k a b c d p q) x ↔ (kn_R N x ∨ (k ≠ 0 ∧ (a = x ∨ ((k = 2 ∨ k = 5) ∧ b = x)))) := by
  constructor
  · intro ⟨i, hi, h⟩
    rw [kn_adn] at hi
    by_cases e : i = kn_n N
    · rw [e, kn_adrdn] at h; exact Or.inr h
    · have hi' : i < kn_n N := by omega
      rw [kn_adrd hi'] at h
      exact Or.inl ⟨i, hi', h⟩
  · intro h
    rcases h with ⟨i, hi, h⟩ | h
    · exact ⟨i, by rw [kn_adn]; omega, (kn_adrd hi).mpr h⟩
    · exact ⟨kn_n N, by rw [kn_adn]; omega, kn_adrdn.mpr h⟩
theorem kn_adW {x : Nat} : kn_W (kn_add N k a b c d p q) x ↔ (kn_W N x ∨ (c = x ∨ (k = 1 ∧ d = x))) := by
  constructor
  · intro ⟨i, hi, h⟩
    rw [kn_adn] at hi
    by_cases e : i = kn_n N
    · rw [e, kn_adwtn] at h; exact Or.inr h
    · have hi' : i < kn_n N := by omega
      rw [kn_adwt hi'] at h
      exact Or.inl ⟨i, hi', h⟩
  · intro h
    rcases h with ⟨i, hi, h⟩ | h
    · exact ⟨i, by rw [kn_adn]; omega, (kn_adwt hi).mpr h⟩
    · exact ⟨kn_n N, by rw [kn_adn]; omega, kn_adwtn.mpr h⟩
/-- what stands against a new process -/
def kn_tkn (N : kn_N) (k a b c d : Nat) : Prop :=
  (k ≠ 0 ∧ kn_R N a) ∨ ((k = 2 ∨ k = 5) ∧ kn_R N b) ∨ kn_W N c ∨ (k = 1 ∧ kn_W N d) ∨ ((k = 2 ∨ k = 5) ∧ a = b) ∨ (k = 1 ∧ c = d)
theorem kn_adok (hN : kn_ok N) (n8 : kn_n N < 8) (k7 : k ≤ 7) (a10 : a < 10) (b12 : b ≤ 12) (b10 : k ≠ 0 → b < 10) (c10 : c < 10) (d10 : d < 10) (nt : ¬ kn_tkn N k a b c d) :
    kn_ok (kn_add N k a b c d p q) := by
  have t1 : k ≠ 0 → ¬ kn_R N a := fun h z => nt (Or.inl ⟨h, z⟩)
  have t2 : (k = 2 ∨ k = 5) → ¬ kn_R N b := fun h z => nt (Or.inr (Or.inl ⟨h, z⟩))
  have t3 : ¬ kn_W N c := fun z => nt (Or.inr (Or.inr (Or.inl z)))
  have t4 : k = 1 → ¬ kn_W N d := fun h z => nt (Or.inr (Or.inr (Or.inr (Or.inl ⟨h, z⟩))))
  have t5 : (k = 2 ∨ k = 5) → a ≠ b := fun h z => nt (Or.inr (Or.inr (Or.inr (Or.inr (Or.inl ⟨h, z⟩)))))
  have t6 : k = 1 → c ≠ d := fun h z => nt (Or.inr (Or.inr (Or.inr (Or.inr (Or.inr ⟨h, z⟩)))))
  have nr : ∀ i x, i < kn_n N → kn_rd N i x → (k ≠ 0 ∧ (a = x ∨ ((k = 2 ∨ k = 5) ∧ b = x))) → False := by
    intro i x hi h1 h2
    rcases h2 with ⟨z, e | ⟨w, e⟩⟩
    · exact t1 z ⟨i, hi, e ▸ h1⟩
    · exact t2 w ⟨i, hi, e ▸ h1⟩
  have nw : ∀ i x, i < kn_n N → kn_wt N i x → (c = x ∨ (k = 1 ∧ d = x)) → False := by
    intro i x hi h1 h2
    rcases h2 with e | ⟨w, e⟩
    · exact t3 ⟨i, hi, e ▸ h1⟩
    · exact t4 w ⟨i, hi, e ▸ h1⟩
  refine ⟨n8, fun i hi => ?_, fun i j x hi hj h1 h2 => ?_, fun i j x hi hj h1 h2 => ?_⟩
  · rw [kn_adn] at hi
    by_cases e : i = kn_n N
    · obtain ⟨e1, e2, e3, e4, e5, -⟩ := kn_adw (N := N) (k := k) (a := a) (b := b) (c := c) (d := d) (p := p) (q := q)
      rw [e, e1, e2, e3, e4, e5]
      exact ⟨k7, a10, b12, b10, c10, d10, t5, t6⟩
    · have hi' : i < kn_n N := by omega
      obtain ⟨e1, e2, e3, e4, e5, -⟩ := kn_ado (N := N) (k := k) (a := a) (b := b) (c := c) (d := d) (p := p) (q := q) hi'
      rw [e1, e2, e3, e4, e5]
      exact hN.2.1 i hi'
  · rw [kn_adn] at hi hj
    by_cases ei : i = kn_n N
    · by_cases ej : j = kn_n N
      · omega
      · have hj' : j < kn_n N := by omega
        rw [ei, kn_adrdn] at h1
        exact (nr j x hj' ((kn_adrd hj').mp h2) h1).elim
    · have hi' : i < kn_n N := by omega
      by_cases ej : j = kn_n N
      · rw [ej, kn_adrdn] at h2
        exact (nr i x hi' ((kn_adrd hi').mp h1) h2).elim
      · have hj' : j < kn_n N := by omega
        exact hN.2.2.1 i j x hi' hj' ((kn_adrd hi').mp h1) ((kn_adrd hj').mp h2)
  · rw [kn_adn] at hi hj
    by_cases ei : i = kn_n N
    · by_cases ej : j = kn_n N
      · omega
      · have hj' : j < kn_n N := by omega
        rw [ei, kn_adwtn] at h1
        exact (nw j x hj' ((kn_adwt hj').mp h2) h1).elim
    · have hi' : i < kn_n N := by omega
      by_cases ej : j = kn_n N
      · rw [ej, kn_adwtn] at h2
        exact (nw i x hi' ((kn_adwt hi').mp h1) h2).elim
      · have hj' : j < kn_n N := by omega
        exact hN.2.2.2 i j x hi' hj' ((kn_adwt hi').mp h1) ((kn_adwt hj').mp h2)
theorem kn_adX {pc : Int32} {ki ra rb wc wd np nq nq' : Nat → Int32} {va vb vd : Int32} (hX : kn_X N pc ki ra rb wc wd np nq) (ea : va = (if k = 0 then -1 else nI a))
    (eb : vb = (if k = 2 ∨ k = 5 then nI b else -1)) (ed : vd = (if k = 1 then nI d else -1)) (hq : ∀ j, j < kn_n N → nq' j = nq j) (hq' : k = 0 → nq' (kn_n N) = q) :
    kn_X (kn_add N k a b c d p q) (nI (kn_n N + 1)) (upd ki (kn_n N) (nI k)) (upd ra (kn_n N) va) (upd rb (kn_n N) vb) (upd wc (kn_n N) (nI c)) (upd wd (kn_n N) vd) (upd np (kn_n N) p) nq' := by
  refine ⟨rfl, fun i hi => ?_⟩
  rw [kn_adn] at hi
  by_cases e : i = kn_n N
  · obtain ⟨e1, e2, e3, e4, e5, e6, e7⟩ := kn_adw (N := N) (k := k) (a := a) (b := b) (c := c) (d := d) (p := p) (q := q)
    rw [e, e1, e2, e3, e4, e5, e6, e7, pk_us, pk_us, pk_us, pk_us, pk_us, pk_us]
    exact ⟨rfl, ea, eb, rfl, ed, rfl, hq'⟩
  · have hi' : i < kn_n N := by omega
    obtain ⟨e1, e2, e3, e4, e5, e6, e7⟩ := kn_ado (N := N) (k := k) (a := a) (b := b) (c := c) (d := d) (p := p) (q := q) hi'
    rw [e1, e2, e3, e4, e5, e6, e7, pk_un e, pk_un e, pk_un e, pk_un e, pk_un e, pk_un e, hq i hi']
    exact hX.2 i hi'
theorem kn_adY {fn : Int32} {yk ya yb yc yd yp yq yq' : Nat → Int32} (hY : kn_Y N fn yk ya yb yc yd yp yq) (hq : ∀ j, j < kn_n N → yq' j = yq j) (hq' : k = 0 → yq' (kn_n N) = q) :
    kn_Y (kn_add N k a b c d p q) (nI (kn_n N + 1)) (upd yk (kn_n N) (nI k)) (upd ya (kn_n N) (nI a)) (upd yb (kn_n N) (nI b)) (upd yc (kn_n N) (nI c)) (upd yd (kn_n N) (nI d)) (upd yp (kn_n N) p) yq' := by
  refine ⟨rfl, fun i hi => ?_⟩
  rw [kn_adn] at hi
  by_cases e : i = kn_n N
  · obtain ⟨e1, e2, e3, e4, e5, e6, e7⟩ := kn_adw (N := N) (k := k) (a := a) (b := b) (c := c) (d := d) (p := p) (q := q)
    rw [e, e1, e2, e3, e4, e5, e6, e7, pk_us, pk_us, pk_us, pk_us, pk_us, pk_us]
    exact ⟨rfl, rfl, rfl, rfl, rfl, rfl, hq'⟩
  · have hi' : i < kn_n N := by omega
    obtain ⟨e1, e2, e3, e4, e5, e6, e7⟩ := kn_ado (N := N) (k := k) (a := a) (b := b) (c := c) (d := d) (p := p) (q := q) hi'
    rw [e1, e2, e3, e4, e5, e6, e7, pk_un e, pk_un e, pk_un e, pk_un e, pk_un e, pk_un e, hq i hi']
    exact hY.2 i hi'
theorem kn_adPh {ph ph' : Nat → Int32} (hp : kn_Ph N ph) (h : ∀ j, j < kn_n N → ph' j = ph j) (h' : k = 0 → ph' (kn_n N) = nI b) : kn_Ph (kn_add N k a b c d p q) ph' := by
  intro i hi
  rw [kn_adn] at hi
  by_cases e : i = kn_n N
  · obtain ⟨e1, -, e3, -⟩ := kn_adw (N := N) (k := k) (a := a) (b := b) (c := c) (d := d) (p := p) (q := q)
    rw [e, e1, e3]; exact h'
  · have hi' : i < kn_n N := by omega
    obtain ⟨e1, -, e3, -⟩ := kn_ado (N := N) (k := k) (a := a) (b := b) (c := c) (d := d) (p := p) (q := q) hi'
    rw [e1, e3, h i hi']; exact hp i hi'
end
theorem kn_flu {w : Nat → Int32} {P : Nat → Prop} {y : Nat} (h : ∀ x, x < 10 → (w x = 0 ↔ ¬ P x)) : ∀ x, x < 10 → (upd w y 1 x = 0 ↔ ¬ (P x ∨ y = x)) := by
  intro x hx
  by_cases e : x = y
  · rw [e, pk_us]
    exact ⟨fun z => absurd z (by decide), fun z => absurd (Or.inr rfl) z⟩
  · rw [pk_un e, h x hx]
    exact ⟨fun z w => w.elim z (fun q => e q.symm), fun z w => z (Or.inl w)⟩
section
variable {fb pc hr : Int32} {ki ra rb wc wd np nq sm wn tk rm me ph : Nat → Int32}
variable {N : kn_N}
theorem xx_add (hN : kn_ok N) (n8 : kn_n N < 8) (hX : kn_X N pc ki ra rb wc wd np nq) {post : Int32 → SX → Prop} {p0 p1 p2 p3 p4 : Int32}
    (h0 : vp_nar .byte p0.toInt8.toInt32 = p0) (h1 : vp_nar .byte p1.toInt8.toInt32 = p1) (h2 : vp_nar .byte p2.toInt8.toInt32 = p2) (h3 : vp_nar .byte p3.toInt8.toInt32 = p3) (h4 : vp_nar .byte p4.toInt8.toInt32 = p4)
    (K : post (nI (kn_n N)) (fb, nI (kn_n N + 1), 0, upd ki (kn_n N) p0, upd ra (kn_n N) p1, upd rb (kn_n N) p2, upd wc (kn_n N) p3, upd wd (kn_n N) p4, np, nq, sm, wn, tk, rm, me, ph)) :
    wpX_addProcess post (fb, pc, hr, ki, ra, rb, wc, wd, np, nq, sm, wn, tk, rm, me, ph) p0 p1 p2 p3 p4 := by
  have hin : vp_in (nI (kn_n N)) 8 := vp_in_nI n8 (by omega)
  unfold wpX_addProcess; dsimp only
  rw [hX.1, nI_clamp (by omega), nI_1, h0, h1, h2, h3, h4]
  exact nm_e ⟨hin, nm_e ⟨hin, nm_e ⟨hin, nm_e ⟨hin, nm_e ⟨hin, nm_e K⟩⟩⟩⟩⟩
end
section
variable {fn ct : Int32} {yk ya yb yc yd yp yq yr yw sz si md : Nat → Int32}
variable {N : kn_N}
theorem yy_add (hN : kn_ok N) (n8 : kn_n N < 8) (hY : fn = nI (kn_n N)) {post : Int32 → SY → Prop} {p0 p1 p2 p3 p4 : Int32}
    (K : post (nI (kn_n N)) (nI (kn_n N + 1), ct, upd yk (kn_n N) p0, upd ya (kn_n N) p1, upd yb (kn_n N) p2, upd yc (kn_n N) p3, upd yd (kn_n N) p4, yp, yq, yr, yw, sz, si, md)) :
    wpY_addProcess post (fn, ct, yk, ya, yb, yc, yd, yp, yq, yr, yw, sz, si, md) p0 p1 p2 p3 p4 := by
  have hin : vp_in (nI (kn_n N)) 8 := vp_in_nI n8 (by omega)
  unfold wpY_addProcess; dsimp only
  rw [hY, nI_clamp (by omega), nI_1]
  refine ⟨hin, nm_e ⟨hin, nm_e ⟨hin, nm_e ⟨hin, nm_e ⟨hin, nm_e (nm_e ?_)⟩⟩⟩⟩⟩
  rw [nI_pred]
  exact K
end
end
section
/-! the calls that build -/
theorem i_vc_source {k : Nat} {u : SX} {v : SY} (I : i_Rel k u v) (hk : k + 4 ≤ 2049) (v1 : Int32) (v2 : Int32) (v3 : Int32) : wpX_source (fun r u' => wpY_source (fun r' v' => r' = r ∧ i_Rel (k + 4) u' v') v v1 v2 v3) u v1 v2 v3 := by
  have I' := I
  obtain ⟨N, hN, hu, hv⟩ := I
  obtain ⟨fb, pc, hr, ki, ra, rb, wc, wd, np, nq, sm, wn, tk, rm, me, ph⟩ := u
  obtain ⟨fn, ct, yk, ya, yb, yc, yd, yp, yq, yr, yw, sz, si, md⟩ := v
  obtain ⟨hX, ⟨f, ef, f20⟩, hp, hrun⟩ := hu
  obtain ⟨hY, hfl⟩ := hv
  have n8' := hN.1
  unfold wpX_source wpY_source; dsimp only
  by_cases n8 : kn_n N < 8
  · have hpc : pc < 8 := by rw [hX.1]; exact nI_lt (b := 8) n8 (by omega)
    have hfn : ¬ fn = 8 := by
      rw [hY.1]
      intro e
      have := (nI_eq (b := 8) (by omega) (by omega)).mp e
      omega
    by_cases z : v1 < 0
    · exact br_t hpc (nm_e (nm_e (br_t z (br_f hfn (br_t z ⟨rfl, I'⟩)))))
    obtain ⟨ρ, hρ, rfl⟩ := nI_of z
    have e4 : nI ρ >>> ((4 : Int32) &&& 31) = nI (ρ / 16) := pk_shrN hρ _ 4 (by decide)
    have e5 : nI ρ &&& 15 = nI (ρ % 16) := pk_andN (by omega) 4 (by decide)
    have d4 : nI ρ / 16 = nI (ρ / 16) := pk_div (d := 16) hρ (by omega) (by omega)
    have d5 : nI ρ - nI ρ / 16 * 16 = nI (ρ % 16) := pk_rem (d := 16) hρ (by omega) (by omega)
    have n16 : ¬ (16 : Int32) = 0 := by decide
    rw [e4, e5, d5, d4]
    refine br_t hpc (nm_e (nm_e (br_f z ?_)))
    by_cases w : 9 < ρ / 16
    · have w' : (9 : Int32) < nI (ρ / 16) := nI_lt (a := 9) w (by omega)
      exact br_t w' (br_f hfn (br_f z ⟨n16, br_t w' ⟨rfl, I'⟩⟩))
    have w' : ¬ (9 : Int32) < nI (ρ / 16) := nI_nlt (a := 9) (by omega) (by omega)
    refine br_f w' ?_
    by_cases y : ρ % 16 ≤ 12
    · have y' : nI (ρ % 16) ≤ 12 := nI_le (b := 12) y (by omega)
      have c10 : ρ / 16 < 10 := by omega
      have ccl : (nI (ρ / 16)).toNatClampNeg = ρ / 16 := nI_clamp (by omega)
      have inc : vp_in (nI (ρ / 16)) 10 := vp_in_nI c10 (by omega)
      have F := (hfl _ c10).2
      refine br_t y' (xx_isWritten hN hX c10 (fun hW => br_f (by decide) (br_f hfn (br_f z ⟨n16, br_f w' ⟨n16, br_t y' ⟨n16, inc, ?_⟩⟩⟩))) (fun nW => br_t rfl ?_))
      · rw [ccl]
        exact br_f (fun e => F.mp e hW) ⟨rfl, I'⟩
      have hin : vp_in (nI (kn_n N)) 8 := vp_in_nI n8 (by omega)
      have icl : (nI (kn_n N)).toNatClampNeg = kn_n N := nI_clamp (by omega)
      refine xx_add hN n8 hX (kn_by (m := 0) (by omega)) kn_bym kn_bym (kn_by (by omega)) kn_bym ?_
      dsimp only
      rw [icl, kn_by (m := ρ % 16) (by omega)]
      refine ⟨hin, nm_e ⟨hin, nm_e ⟨hin, nm_e (br_f hfn (br_f z ⟨n16, br_f w' ⟨n16, br_t y' ⟨n16, inc, ?_⟩⟩⟩))⟩⟩⟩
      rw [ccl, hY.1, icl, show vp_nar .boolean 1 = 1 from rfl]
      refine br_t (F.mpr nW) ⟨n16, inc, nm_e ⟨hin, nm_e ⟨hin, nm_e ⟨n16, n16, yy_add hN n8 rfl ⟨rfl, ?_⟩⟩⟩⟩⟩
      have nt : ¬ kn_tkn N 0 0 (ρ % 16) (ρ / 16) 0 := by
        intro q
        rcases q with q | q | q | q | q | q
        · exact q.1 rfl
        · have := q.1
          omega
        · exact nW q
        · have := q.1
          omega
        · have := q.1
          omega
        · have := q.1
          omega
      refine kn_mk (N := kn_add N 0 0 (ρ % 16) (ρ / 16) 0 v2 v3) (kn_adok hN n8 (by omega) (by omega) y (fun q => absurd rfl q) c10 (by omega) nt)
        (kn_adX (k := 0) (a := 0) (d := 0) hX rfl rfl rfl (fun j hj => pk_un (by omega)) (fun _ => pk_us)) ef f20 (kn_adPh hp (fun j hj => pk_un (by omega)) (fun _ => pk_us)) (Or.inl rfl)
        (kn_adY (k := 0) (a := 0) (d := 0) hY (fun j hj => pk_un (by omega)) (fun _ => pk_us)) (fun x hx => ⟨?_, ?_⟩)
      · rw [kn_adR, (hfl x hx).1]
        exact ⟨fun q w => w.elim q (fun w => w.1 rfl), fun q w => q (Or.inl w)⟩
      · rw [kn_adW, kn_flu (P := kn_W N) (fun x hx => (hfl x hx).2) x hx]
        exact ⟨fun q w => q (w.elim Or.inl (fun w => w.elim Or.inr (fun w => absurd w.1 (by decide)))), fun q w => q (w.elim Or.inl (fun w => Or.inr (Or.inl w)))⟩
    · have y' : ¬ nI (ρ % 16) ≤ 12 := nI_ge (b := ρ % 16) (a := 12) (by omega) (by omega)
      exact br_f y' (br_f hfn (br_f z ⟨n16, br_f w' ⟨n16, br_f y' ⟨rfl, I'⟩⟩⟩))
  · have e8 : kn_n N = 8 := by omega
    have hpc : ¬ pc < 8 := by rw [hX.1, e8]; decide
    have hfn : fn = 8 := by rw [hY.1, e8]; rfl
    exact br_f hpc (br_t hfn ⟨rfl, I'⟩)
section
variable {fb pc hr : Int32} {ki ra rb wc wd np nq sm wn tk rm me ph : Nat → Int32}
variable {N : kn_N} {κ a b c d : Nat} {x3 vb vd : Int32}
theorem xx_isReadV (hN : kn_ok N) (hX : kn_X N pc ki ra rb wc wd np nq) (b10 : b < 10) (eb : vb = (if κ = 2 ∨ κ = 5 then nI b else -1)) {post : Int32 → Prop}
    (h1 : (κ = 2 ∨ κ = 5) → kn_R N b → post 1) (h0 : ((κ = 2 ∨ κ = 5) → ¬ kn_R N b) → post 0) : wpX_isRead post (fb, pc, hr, ki, ra, rb, wc, wd, np, nq, sm, wn, tk, rm, me, ph) vb := by
  by_cases k2 : κ = 2 ∨ κ = 5
  · rw [eb, if_pos k2]
    exact xx_isRead hN hX b10 (h1 k2) (fun q => h0 (fun _ => q))
  · rw [eb, if_neg k2]
    exact xx_isReadM (h0 (fun q => absurd q k2))
theorem xx_isWrittenV (hN : kn_ok N) (hX : kn_X N pc ki ra rb wc wd np nq) (d10 : d < 10) (ed : vd = (if κ = 1 then nI d else -1)) {post : Int32 → Prop}
    (h1 : κ = 1 → kn_W N d → post 1) (h0 : (κ = 1 → ¬ kn_W N d) → post 0) : wpX_isWritten post (fb, pc, hr, ki, ra, rb, wc, wd, np, nq, sm, wn, tk, rm, me, ph) vd := by
  by_cases k1 : κ = 1
  · rw [ed, if_pos k1]
    exact xx_isWritten hN hX d10 (h1 k1) (fun q => h0 (fun _ => q))
  · rw [ed, if_neg k1]
    exact xx_isWrittenM (h0 (fun q => absurd q k1))
theorem xx_100 (hN : kn_ok N) (hX : kn_X N pc ki ra rb wc wd np nq) (n8 : kn_n N < 8) (k1 : 1 ≤ κ) (k7 : κ ≤ 7) (a10 : a < 10) (b10 : b < 10) (c10 : c < 10) (d10 : d < 10)
    (eb : vb = (if κ = 2 ∨ κ = 5 then nI b else -1)) (ed : vd = (if κ = 1 then nI d else -1)) {post : Int32 → SX → Prop}
    (KT : kn_tkn N κ a b c d → post (-3) (fb, pc, hr, ki, ra, rb, wc, wd, np, nq, sm, wn, tk, rm, me, ph))
    (KN : ¬ kn_tkn N κ a b c d → post (nI (kn_n N)) (fb, nI (kn_n N + 1), 0, upd ki (kn_n N) (nI κ), upd ra (kn_n N) (nI a), upd rb (kn_n N) vb, upd wc (kn_n N) (nI c), upd wd (kn_n N) vd, upd np (kn_n N) x3, nq, sm, wn, tk, rm, me, ph)) :
    wX_process_100 post (nI κ) x3 (nI a) vb (nI c) vd fb pc hr ki ra rb wc wd np nq sm wn tk rm me ph := by
  unfold wX_process_100
  refine xx_isRead hN hX a10 (fun h => br_f (by decide) (KT (Or.inl ⟨by omega, h⟩))) (fun na => br_t rfl ?_)
  refine xx_isReadV hN hX b10 eb (fun k2 h => br_f (by decide) (KT (Or.inr (Or.inl ⟨k2, h⟩)))) (fun nb => br_t rfl ?_)
  refine xx_isWritten hN hX c10 (fun h => br_f (by decide) (KT (Or.inr (Or.inr (Or.inl h))))) (fun nc => br_t rfl ?_)
  refine xx_isWrittenV hN hX d10 ed (fun k2 h => br_f (by decide) (KT (Or.inr (Or.inr (Or.inr (Or.inl ⟨k2, h⟩)))))) (fun nd => br_t rfl ?_)
  have ea : nI a = vb ↔ ((κ = 2 ∨ κ = 5) ∧ a = b) := by
    by_cases k2 : κ = 2 ∨ κ = 5
    · rw [eb, if_pos k2, nI_eq (by omega) (by omega)]
      exact ⟨fun q => ⟨k2, q⟩, fun q => q.2⟩
    · rw [eb, if_neg k2]
      exact ⟨fun q => absurd q.symm (kn_m1n a (by omega)), fun q => absurd q.1 k2⟩
  have ec : nI c = vd ↔ (κ = 1 ∧ c = d) := by
    by_cases k2 : κ = 1
    · rw [ed, if_pos k2, nI_eq (by omega) (by omega)]
      exact ⟨fun q => ⟨k2, q⟩, fun q => q.2⟩
    · rw [ed, if_neg k2]
      exact ⟨fun q => absurd q.symm (kn_m1n c (by omega)), fun q => absurd q.1 k2⟩
  refine br_c (fun q => KT (Or.inr (Or.inr (Or.inr (Or.inr (Or.inl (ea.mp q))))))) (fun nab => br_c (fun q => KT (Or.inr (Or.inr (Or.inr (Or.inr (Or.inr (ec.mp q))))))) (fun ncd => ?_))
  have hvb : vp_nar .byte vb.toInt8.toInt32 = vb := by
    by_cases k2 : κ = 2 ∨ κ = 5
    · rw [eb, if_pos k2]; exact kn_by (by omega)
    · rw [eb, if_neg k2]; exact kn_bym
  have hvd : vp_nar .byte vd.toInt8.toInt32 = vd := by
    by_cases k2 : κ = 1
    · rw [ed, if_pos k2]; exact kn_by (by omega)
    · rw [ed, if_neg k2]; exact kn_bym
  refine xx_add hN n8 hX (kn_by (by omega)) (kn_by (by omega)) hvb (kn_by (by omega)) hvd ?_
  dsimp only
  rw [nI_clamp (by omega)]
  refine ⟨vp_in_nI n8 (by omega), nm_e (KN ?_)⟩
  intro q
  rcases q with q | q | q | q | q | q
  · exact na q.2
  · exact nb q.1 q.2
  · exact nc q
  · exact nd q.1 q.2
  · exact nab (ea.mpr q)
  · exact ncd (ec.mpr q)
theorem xx_51 (hN : kn_ok N) (hX : kn_X N pc ki ra rb wc wd np nq) (n8 : kn_n N < 8) {π : Nat} (k1 : 1 ≤ κ) (k7 : κ ≤ 7) (p4 : π ≤ 9999) {z0 : Int32} (hz : z0 = 0 ↔ ¬ (κ = 2 ∨ κ = 5)) {post : Int32 → SX → Prop}
    (KT : kn_tkn N κ (π / 1000) (π / 100 % 10) (π / 10 % 10) (π % 10) → post (-3) (fb, pc, hr, ki, ra, rb, wc, wd, np, nq, sm, wn, tk, rm, me, ph))
    (KN : ∀ vb vd, vb = (if κ = 2 ∨ κ = 5 then nI (π / 100 % 10) else -1) → vd = (if κ = 1 then nI (π % 10) else -1) → ¬ kn_tkn N κ (π / 1000) (π / 100 % 10) (π / 10 % 10) (π % 10) →
      post (nI (kn_n N)) (fb, nI (kn_n N + 1), 0, upd ki (kn_n N) (nI κ), upd ra (kn_n N) (nI (π / 1000)), upd rb (kn_n N) vb, upd wc (kn_n N) (nI (π / 10 % 10)), upd wd (kn_n N) vd, upd np (kn_n N) x3, nq, sm, wn, tk, rm, me, ph)) :
    wX_process_51 post (nI κ) (nI π) x3 z0 fb pc hr ki ra rb wc wd np nq sm wn tk rm me ph := by
  have e1 : nI π / 1000 = nI (π / 1000) := pk_div (d := 1000) (by omega) (by omega) (by omega)
  have e2 : nI π / 100 = nI (π / 100) := pk_div (d := 100) (by omega) (by omega) (by omega)
  have e3 : nI (π / 100) - nI (π / 100) / 10 * 10 = nI (π / 100 % 10) := pk_rem (d := 10) (by omega) (by omega) (by omega)
  have e4 : nI π / 10 = nI (π / 10) := pk_div (d := 10) (by omega) (by omega) (by omega)
  have e5 : nI (π / 10) - nI (π / 10) / 10 * 10 = nI (π / 10 % 10) := pk_rem (d := 10) (by omega) (by omega) (by omega)
  have e6 : nI π - nI π / 10 * 10 = nI (π % 10) := pk_rem (d := 10) (by omega) (by omega) (by omega)
  have n10 : ¬ (10 : Int32) = 0 := by decide
  have go : ∀ vb, vb = (if κ = 2 ∨ κ = 5 then nI (π / 100 % 10) else -1) → wX_process_76 post (nI κ) (nI π) x3 (nI (π / 1000)) vb fb pc hr ki ra rb wc wd np nq sm wn tk rm me ph := by
    intro vb eb
    unfold wX_process_76
    rw [e6, e4, e5]
    refine ⟨n10, n10, nm_e (pk_eq κ 1 (fun q => ⟨n10, ?_⟩) (fun q => ?_))⟩
    · exact xx_100 hN hX n8 k1 k7 (by omega) (by omega) (by omega) (by omega) eb (if_pos q).symm KT (KN vb _ eb (if_pos q).symm)
    · exact xx_100 hN hX n8 k1 k7 (by omega) (by omega) (by omega) (by omega) eb (if_neg q).symm KT (KN vb _ eb (if_neg q).symm)
  unfold wX_process_51
  rw [e1, e2, e3]
  refine ⟨by decide, nm_e (br_c (fun q => go _ (if_neg (hz.mp q)).symm) (fun q => ⟨by decide, by decide, go _ ?_⟩))⟩
  by_cases k2 : κ = 2 ∨ κ = 5
  · exact (if_pos k2).symm
  · exact absurd (hz.mpr k2) q
end
section
variable {fn ct : Int32} {yk ya yb yc yd yp yq yr yw sz si md : Nat → Int32}
variable {N : kn_N} {κ a b c d : Nat} {tw cp : Int32}
theorem yy_27 (hfl : kn_Fl N yr yw) (k1 : 1 ≤ κ) (a10 : a < 10) (b10 : b < 10) (c10 : c < 10) (d10 : d < 10) (htw : tw = 0 ↔ ¬ (κ = 2 ∨ κ = 5)) (hcp : cp = 0 ↔ ¬ κ = 1) {post : Int32 → Prop}
    (KT : kn_tkn N κ a b c d → post 1) (KN : ¬ kn_tkn N κ a b c d → post 0) : wY_isTaken_27 post (nI a) (nI b) (nI c) (nI d) tw cp fn ct yk ya yb yc yd yp yq yr yw sz si md := by
  have ac : (nI a).toNatClampNeg = a := nI_clamp (by omega)
  have bc : (nI b).toNatClampNeg = b := nI_clamp (by omega)
  have cc : (nI c).toNatClampNeg = c := nI_clamp (by omega)
  have dc : (nI d).toNatClampNeg = d := nI_clamp (by omega)
  have Fa := (hfl a a10).1
  have Fb := (hfl b b10).1
  have Fc := (hfl c c10).2
  have Fd := (hfl d d10).2
  have ht1 : ¬ tw = 0 → (κ = 2 ∨ κ = 5) := fun q => Decidable.byContradiction fun w => q (htw.mpr w)
  have hc1 : ¬ cp = 0 → κ = 1 := fun q => Decidable.byContradiction fun w => q (hcp.mpr w)
  have L89 : ¬ kn_R N a → ((κ = 2 ∨ κ = 5) → ¬ kn_R N b) → ¬ kn_W N c → (κ = 1 → ¬ kn_W N d) → ((κ = 2 ∨ κ = 5) → a ≠ b) → wY_isTaken_89 post (nI c) (nI d) cp fn ct yk ya yb yc yd yp yq yr yw sz si md := by
    intro h1 h2 h3 h4 h5
    have fin : (κ = 1 → c ≠ d) → post 0 := fun h6 => KN (fun q => by
      rcases q with q | q | q | q | q | q
      · exact h1 q.2
      · exact h2 q.1 q.2
      · exact h3 q
      · exact h4 q.1 q.2
      · exact h5 q.1 q.2
      · exact h6 q.1 q.2)
    unfold wY_isTaken_89
    refine br_c (fun q => fin (fun w => absurd w (hcp.mp q))) (fun q => ?_)
    exact pk_eq c d (fun w => KT (Or.inr (Or.inr (Or.inr (Or.inr (Or.inr ⟨hc1 q, w⟩)))))) (fun w => fin (fun _ => w))
  have L79 : ¬ kn_R N a → ((κ = 2 ∨ κ = 5) → ¬ kn_R N b) → ¬ kn_W N c → (κ = 1 → ¬ kn_W N d) → wY_isTaken_79 post (nI a) (nI b) (nI c) (nI d) tw cp fn ct yk ya yb yc yd yp yq yr yw sz si md := by
    intro h1 h2 h3 h4
    unfold wY_isTaken_79
    refine br_c (fun q => L89 h1 h2 h3 h4 (fun w => absurd w (htw.mp q))) (fun q => ?_)
    exact pk_eq a b (fun w => KT (Or.inr (Or.inr (Or.inr (Or.inr (Or.inl ⟨ht1 q, w⟩)))))) (fun w => L89 h1 h2 h3 h4 (fun _ => w))
  have L52 : ¬ kn_R N a → ((κ = 2 ∨ κ = 5) → ¬ kn_R N b) → wY_isTaken_52 post (nI a) (nI b) (nI c) (nI d) tw cp fn ct yk ya yb yc yd yp yq yr yw sz si md := by
    intro h1 h2
    unfold wY_isTaken_52
    rw [cc, dc]
    refine ⟨vp_in_nI c10 (by omega), br_c (fun q => br_c (fun w => L79 h1 h2 (Fc.mp q) (fun e => absurd e (hcp.mp w))) (fun w => ⟨vp_in_nI d10 (by omega), br_c (fun e => L79 h1 h2 (Fc.mp q) (fun _ => Fd.mp e)) (fun e => ?_)⟩)) (fun q => ?_)⟩
    · exact KT (Or.inr (Or.inr (Or.inr (Or.inl ⟨hc1 w, Classical.byContradiction fun g => e (Fd.mpr g)⟩))))
    · exact KT (Or.inr (Or.inr (Or.inl (Classical.byContradiction fun g => q (Fc.mpr g)))))
  unfold wY_isTaken_27
  rw [ac, bc]
  refine ⟨vp_in_nI a10 (by omega), br_c (fun q => br_c (fun w => L52 (Fa.mp q) (fun e => absurd e (htw.mp w))) (fun w => ⟨vp_in_nI b10 (by omega), br_c (fun e => L52 (Fa.mp q) (fun _ => Fb.mp e)) (fun e => ?_)⟩)) (fun q => ?_)⟩
  · exact KT (Or.inr (Or.inl ⟨ht1 w, Classical.byContradiction fun g => e (Fb.mpr g)⟩))
  · exact KT (Or.inl ⟨by omega, Classical.byContradiction fun g => q (Fa.mpr g)⟩)
theorem yy_15 (hfl : kn_Fl N yr yw) (k1 : 1 ≤ κ) (k7 : κ ≤ 7) (a10 : a < 10) (b10 : b < 10) (c10 : c < 10) (d10 : d < 10) (htw : tw = 0 ↔ ¬ (κ = 2 ∨ κ = 5)) {post : Int32 → Prop}
    (KT : kn_tkn N κ a b c d → post 1) (KN : ¬ kn_tkn N κ a b c d → post 0) : wY_isTaken_15 post (nI κ) (nI a) (nI b) (nI c) (nI d) tw fn ct yk ya yb yc yd yp yq yr yw sz si md := by
  unfold wY_isTaken_15
  exact pk_eq κ 1 (fun q => yy_27 hfl k1 a10 b10 c10 d10 htw ⟨fun w => absurd w (by decide), fun w => absurd q w⟩ KT KN) (fun q => yy_27 hfl k1 a10 b10 c10 d10 htw ⟨fun _ => q, fun _ => rfl⟩ KT KN)
theorem yy_isTaken (hfl : kn_Fl N yr yw) (k1 : 1 ≤ κ) (k7 : κ ≤ 7) (a10 : a < 10) (b10 : b < 10) (c10 : c < 10) (d10 : d < 10) {post : Int32 → Prop}
    (KT : kn_tkn N κ a b c d → post 1) (KN : ¬ kn_tkn N κ a b c d → post 0) : wpY_isTaken post (fn, ct, yk, ya, yb, yc, yd, yp, yq, yr, yw, sz, si, md) (nI κ) (nI a) (nI b) (nI c) (nI d) := by
  unfold wpY_isTaken; dsimp only
  unfold wY_isTaken_10
  refine pk_eq κ 2 (fun q => yy_15 hfl k1 k7 a10 b10 c10 d10 ⟨fun w => absurd w (by decide), fun w => absurd (Or.inl q) w⟩ KT KN) (fun q => pk_eq κ 5 (fun q5 => yy_15 hfl k1 k7 a10 b10 c10 d10 ⟨fun w => absurd w (by decide), fun w => absurd (Or.inr q5) w⟩ KT KN)
    (fun q5 => yy_15 hfl k1 k7 a10 b10 c10 d10 ⟨fun _ w => w.elim q q5, fun _ => rfl⟩ KT KN))
def kn_nr (yr : Nat → Int32) (κ a b : Nat) : Nat → Int32 := if κ = 2 ∨ κ = 5 then upd (upd yr a 1) b 1 else upd yr a 1
def kn_nw (yw : Nat → Int32) (κ c d : Nat) : Nat → Int32 := if κ = 1 then upd (upd yw c 1) d 1 else upd yw c 1
theorem kn_nfl {p q : Int32} (hfl : kn_Fl N yr yw) (k1 : 1 ≤ κ) : kn_Fl (kn_add N κ a b c d p q) (kn_nr yr κ a b) (kn_nw yw κ c d) := by
  intro x hx
  refine ⟨?_, ?_⟩
  · rw [kn_adR]
    unfold kn_nr
    by_cases k2 : κ = 2 ∨ κ = 5
    · rw [if_pos k2, kn_flu (P := fun x => kn_R N x ∨ a = x) (kn_flu (P := kn_R N) (fun x hx => (hfl x hx).1)) x hx]
      exact ⟨fun z w => z (w.elim (fun w => Or.inl (Or.inl w)) (fun w => w.2.elim (fun w => Or.inl (Or.inr w)) (fun w => Or.inr w.2))),
        fun z w => z (w.elim (fun w => w.elim Or.inl (fun w => Or.inr ⟨by omega, Or.inl w⟩)) (fun w => Or.inr ⟨by omega, Or.inr ⟨k2, w⟩⟩))⟩
    · rw [if_neg k2, kn_flu (P := kn_R N) (fun x hx => (hfl x hx).1) x hx]
      exact ⟨fun z w => z (w.elim Or.inl (fun w => w.2.elim Or.inr (fun w => absurd w.1 k2))), fun z w => z (w.elim Or.inl (fun w => Or.inr ⟨by omega, Or.inl w⟩))⟩
  · rw [kn_adW]
    unfold kn_nw
    by_cases k2 : κ = 1
    · rw [if_pos k2, kn_flu (P := fun x => kn_W N x ∨ c = x) (kn_flu (P := kn_W N) (fun x hx => (hfl x hx).2)) x hx]
      exact ⟨fun z w => z (w.elim (fun w => Or.inl (Or.inl w)) (fun w => w.elim (fun w => Or.inl (Or.inr w)) (fun w => Or.inr w.2))),
        fun z w => z (w.elim (fun w => w.elim Or.inl (fun w => Or.inr (Or.inl w))) (fun w => Or.inr (Or.inr ⟨k2, w⟩)))⟩
    · rw [if_neg k2, kn_flu (P := kn_W N) (fun x hx => (hfl x hx).2) x hx]
      exact ⟨fun z w => z (w.elim Or.inl (fun w => w.elim Or.inr (fun w => absurd w.1 k2))), fun z w => z (w.elim Or.inl (fun w => Or.inr (Or.inl w)))⟩
theorem yy_120 {x3 : Int32} {yw0 : Nat → Int32} (hN : kn_ok N) (n8 : kn_n N < 8) (hY : fn = nI (kn_n N)) (k1 : 1 ≤ κ) (k7 : κ ≤ 7) (d10 : d < 10) (ew : yw = upd yw0 c 1) {post : Int32 → SY → Prop}
    (K : post (nI (kn_n N)) (nI (kn_n N + 1), ct, upd yk (kn_n N) (nI κ), upd ya (kn_n N) (nI a), upd yb (kn_n N) (nI b), upd yc (kn_n N) (nI c), upd yd (kn_n N) (nI d), upd yp (kn_n N) x3, yq, yr, kn_nw yw0 κ c d, sz, si, md)) :
    wY_process_120 post (nI κ) x3 (nI a) (nI b) (nI c) (nI d) fn ct yk ya yb yc yd yp yq yr yw sz si md := by
  have hin : vp_in (nI (kn_n N)) 8 := vp_in_nI n8 (by omega)
  have icl : (nI (kn_n N)).toNatClampNeg = kn_n N := nI_clamp (by omega)
  have L : ∀ yw, yw = kn_nw yw0 κ c d → wY_process_133 post (nI κ) x3 (nI a) (nI b) (nI c) (nI d) fn ct yk ya yb yc yd yp yq yr yw sz si md := by
    intro yw e
    subst e
    unfold wY_process_133
    rw [hY, icl]
    refine ⟨hin, nm_e (yy_add hN n8 rfl ?_)⟩
    exact K
  unfold wY_process_120
  rw [nI_clamp (n := d) (by omega), show vp_nar .boolean 1 = 1 from rfl]
  refine pk_eq κ 1 (fun q => ⟨vp_in_nI d10 (by omega), nm_e (L _ ?_)⟩) (fun q => L _ ?_)
  · unfold kn_nw; rw [if_pos q, ew]
  · unfold kn_nw; rw [if_neg q, ew]
end
end
section
/-! the call that adds a process other than a source -/
section
variable {fn ct : Int32} {yk ya yb yc yd yp yq yr yw sz si md : Nat → Int32}
variable {N : kn_N} {κ π : Nat} {x3 : Int32}
theorem yy_process (hN : kn_ok N) (n8 : kn_n N < 8) (hY : fn = nI (kn_n N)) (hfl : kn_Fl N yr yw) (k1 : 1 ≤ κ) (k7 : κ ≤ 7) (p4 : π ≤ 9999) {post : Int32 → SY → Prop}
    (KT : kn_tkn N κ (π / 1000) (π / 100 % 10) (π / 10 % 10) (π % 10) → post (-3) (fn, ct, yk, ya, yb, yc, yd, yp, yq, yr, yw, sz, si, md))
    (KN : ¬ kn_tkn N κ (π / 1000) (π / 100 % 10) (π / 10 % 10) (π % 10) →
      post (nI (kn_n N)) (nI (kn_n N + 1), ct, upd yk (kn_n N) (nI κ), upd ya (kn_n N) (nI (π / 1000)), upd yb (kn_n N) (nI (π / 100 % 10)), upd yc (kn_n N) (nI (π / 10 % 10)), upd yd (kn_n N) (nI (π % 10)), upd yp (kn_n N) x3, yq, kn_nr yr κ (π / 1000) (π / 100 % 10), kn_nw yw κ (π / 10 % 10) (π % 10), sz, si, md)) :
    wpY_process post (fn, ct, yk, ya, yb, yc, yd, yp, yq, yr, yw, sz, si, md) (nI κ) (nI π) x3 := by
  have e1 : nI π / 1000 = nI (π / 1000) := pk_div (d := 1000) (by omega) (by omega) (by omega)
  have e2 : nI π / 100 = nI (π / 100) := pk_div (d := 100) (by omega) (by omega) (by omega)
  have e3 : nI (π / 100) - nI (π / 100) / 10 * 10 = nI (π / 100 % 10) := pk_rem (d := 10) (by omega) (by omega) (by omega)
  have e4 : nI π / 10 = nI (π / 10) := pk_div (d := 10) (by omega) (by omega) (by omega)
  have e5 : nI (π / 10) - nI (π / 10) / 10 * 10 = nI (π / 10 % 10) := pk_rem (d := 10) (by omega) (by omega) (by omega)
  have e6 : nI π - nI π / 10 * 10 = nI (π % 10) := pk_rem (d := 10) (by omega) (by omega) (by omega)
  have n10 : ¬ (10 : Int32) = 0 := by decide
  have n100 : ¬ (100 : Int32) = 0 := by decide
  have n1000 : ¬ (1000 : Int32) = 0 := by decide
  have hfn : ¬ fn = 8 := by
    rw [hY]
    intro e
    have := (nI_eq (b := 8) (by omega) (by omega)).mp e
    omega
  unfold wpY_process; dsimp only
  rw [e1, e2, e3, e6, e4, e5]
  refine br_f hfn (br_f (nI_nlt (b := 1) k1 (by omega)) (br_f (nI_nlt (a := 7) k7 (by omega)) (br_f (nI_pos (by omega)) (br_t (nI_le (b := 9999) p4 (by omega)) ?_))))
  refine ⟨n1000, nm_e ⟨n100, n10, nm_e ⟨n10, n10, nm_e ⟨n10, nm_e ?_⟩⟩⟩⟩
  refine yy_isTaken hfl k1 k7 (by omega) (by omega) (by omega) (by omega) (fun T => br_f (by decide) (KT T)) (fun nT => br_t rfl ?_)
  have KN := KN nT
  rw [nI_clamp (n := π / 1000) (by omega), nI_clamp (n := π / 10 % 10) (by omega), show vp_nar .boolean 1 = 1 from rfl]
  refine ⟨vp_in_nI (by omega) (by omega), nm_e ⟨vp_in_nI (by omega) (by omega), nm_e ?_⟩⟩
  have L : (κ = 2 ∨ κ = 5) → wY_process_112 post (nI κ) x3 (nI (π / 1000)) (nI (π / 100 % 10)) (nI (π / 10 % 10)) (nI (π % 10)) fn ct yk ya yb yc yd yp yq (upd yr (π / 1000) 1) (upd yw (π / 10 % 10) 1) sz si md := by
    intro k2
    unfold wY_process_112
    rw [nI_clamp (n := π / 100 % 10) (by omega), show vp_nar .boolean 1 = 1 from rfl]
    refine ⟨vp_in_nI (by omega) (by omega), nm_e (yy_120 hN n8 hY k1 k7 (by omega) rfl ?_)⟩
    have er : kn_nr yr κ (π / 1000) (π / 100 % 10) = upd (upd yr (π / 1000) 1) (π / 100 % 10) 1 := if_pos k2
    rw [← er]
    exact KN
  refine pk_eq κ 2 (fun q => L (Or.inl q)) (fun q => pk_eq κ 5 (fun q5 => L (Or.inr q5)) (fun q5 => yy_120 hN n8 hY k1 k7 (by omega) rfl ?_))
  have er : kn_nr yr κ (π / 1000) (π / 100 % 10) = upd yr (π / 1000) 1 := if_neg (fun z => z.elim q q5)
  rw [← er]
  exact KN
end
section
variable {fb pc hr : Int32} {ki ra rb wc wd np nq sm wn tk rm me ph : Nat → Int32}
variable {N : kn_N} {κ π : Nat} {x3 : Int32}
theorem xx_process (hN : kn_ok N) (hX : kn_X N pc ki ra rb wc wd np nq) (n8 : kn_n N < 8) (k1 : 1 ≤ κ) (k7 : κ ≤ 7) (p4 : π ≤ 9999) {post : Int32 → SX → Prop}
    (KT : kn_tkn N κ (π / 1000) (π / 100 % 10) (π / 10 % 10) (π % 10) → post (-3) (fb, pc, hr, ki, ra, rb, wc, wd, np, nq, sm, wn, tk, rm, me, ph))
    (KN : ∀ vb vd, vb = (if κ = 2 ∨ κ = 5 then nI (π / 100 % 10) else -1) → vd = (if κ = 1 then nI (π % 10) else -1) → ¬ kn_tkn N κ (π / 1000) (π / 100 % 10) (π / 10 % 10) (π % 10) →
      post (nI (kn_n N)) (fb, nI (kn_n N + 1), 0, upd ki (kn_n N) (nI κ), upd ra (kn_n N) (nI (π / 1000)), upd rb (kn_n N) vb, upd wc (kn_n N) (nI (π / 10 % 10)), upd wd (kn_n N) vd, upd np (kn_n N) x3, nq, sm, wn, tk, rm, me, ph)) :
    wpX_process post (fb, pc, hr, ki, ra, rb, wc, wd, np, nq, sm, wn, tk, rm, me, ph) (nI κ) (nI π) x3 := by
  have hpc : pc < 8 := by rw [hX.1]; exact nI_lt (b := 8) n8 (by omega)
  unfold wpX_process; dsimp only
  refine br_t hpc (br_f (nI_nlt (b := 1) k1 (by omega)) (br_f (nI_nlt (a := 7) k7 (by omega)) (br_f (nI_pos (by omega)) (br_t (nI_le (b := 9999) p4 (by omega)) ?_))))
  unfold wX_process_46
  refine pk_eq κ 2 (fun q => xx_51 hN hX n8 k1 k7 p4 ⟨fun w => absurd w (by decide), fun w => absurd (Or.inl q) w⟩ KT KN) (fun q => pk_eq κ 5 (fun q5 => xx_51 hN hX n8 k1 k7 p4 ⟨fun w => absurd w (by decide), fun w => absurd (Or.inr q5) w⟩ KT KN)
    (fun q5 => xx_51 hN hX n8 k1 k7 p4 ⟨fun _ w => w.elim q q5, fun _ => rfl⟩ KT KN))
end
theorem i_vc_process {k : Nat} {u : SX} {v : SY} (I : i_Rel k u v) (hk : k + 4 ≤ 2049) (v1 : Int32) (v2 : Int32) (v3 : Int32) : wpX_process (fun r u' => wpY_process (fun r' v' => r' = r ∧ i_Rel (k + 4) u' v') v v1 v2 v3) u v1 v2 v3 := by
  have I' := I
  obtain ⟨N, hN, hu, hv⟩ := I
  obtain ⟨fb, pc, hr, ki, ra, rb, wc, wd, np, nq, sm, wn, tk, rm, me, ph⟩ := u
  obtain ⟨fn, ct, yk, ya, yb, yc, yd, yp, yq, yr, yw, sz, si, md⟩ := v
  obtain ⟨hX, ⟨f, ef, f20⟩, hp, hrun⟩ := hu
  obtain ⟨hY, hfl⟩ := hv
  have n8' := hN.1
  by_cases n8 : kn_n N < 8
  · have hpc : pc < 8 := by rw [hX.1]; exact nI_lt (b := 8) n8 (by omega)
    have hfn : ¬ fn = 8 := by
      rw [hY.1]
      intro e
      have := (nI_eq (b := 8) (by omega) (by omega)).mp e
      omega
    by_cases ok : ¬ v1 < 1 ∧ ¬ 7 < v1 ∧ ¬ v2 < 0 ∧ v2 ≤ 9999
    · obtain ⟨c1, c2, c3, c4⟩ := ok
      obtain ⟨κ, hκ, rfl⟩ : ∃ κ : Nat, κ < 2 ^ 31 ∧ v1 = nI κ := nI_of (fun z => c1 (Int32.lt_trans z (by decide)))
      obtain ⟨π, hπ, rfl⟩ := nI_of c3
      have k1 : 1 ≤ κ := Decidable.byContradiction fun z => c1 (nI_lt (b := 1) (by omega) (by omega))
      have k7 : κ ≤ 7 := Decidable.byContradiction fun z => c2 (nI_lt (a := 7) (by omega) hκ)
      have p4 : π ≤ 9999 := (nI_leI (b := 9999) hπ (by omega)).mp c4
      refine xx_process hN hX n8 k1 k7 p4 (fun T => yy_process hN n8 hY.1 hfl k1 k7 p4 (fun _ => ⟨rfl, I'⟩) (fun nT => absurd T nT)) (fun vb vd eb ed nT => yy_process hN n8 hY.1 hfl k1 k7 p4 (fun T => absurd T nT) (fun _ => ⟨rfl, ?_⟩))
      exact kn_mk (N := kn_add N κ (π / 1000) (π / 100 % 10) (π / 10 % 10) (π % 10) v3 0) (kn_adok hN n8 k7 (by omega) (by omega) (fun _ => by omega) (by omega) (by omega) nT)
        (kn_adX hX (if_neg (by omega)).symm eb ed (fun _ _ => rfl) (fun z => by omega)) ef f20 (kn_adPh hp (fun _ _ => rfl) (fun z => by omega)) (Or.inl rfl) (kn_adY hY (fun _ _ => rfl) (fun z => by omega)) (kn_nfl hfl k1)
    · unfold wpX_process wpY_process; dsimp only
      refine br_t hpc ?_
      by_cases c1 : v1 < 1
      · exact br_t c1 (br_f hfn (br_t c1 ⟨rfl, I'⟩))
      refine br_f c1 ?_
      by_cases c2 : 7 < v1
      · exact br_t c2 (br_f hfn (br_f c1 (br_t c2 ⟨rfl, I'⟩)))
      refine br_f c2 ?_
      by_cases c3 : v2 < 0
      · exact br_t c3 (br_f hfn (br_f c1 (br_f c2 (br_t c3 ⟨rfl, I'⟩))))
      refine br_f c3 ?_
      by_cases c4 : v2 ≤ 9999
      · exact absurd ⟨c1, c2, c3, c4⟩ ok
      · exact br_f c4 (br_f hfn (br_f c1 (br_f c2 (br_f c3 (br_f c4 ⟨rfl, I'⟩)))))
  · have e8 : kn_n N = 8 := by omega
    have hpc : ¬ pc < 8 := by rw [hX.1, e8]; decide
    have hfn : fn = 8 := by rw [hY.1, e8]; rfl
    unfold wpX_process wpY_process; dsimp only
    exact br_f hpc (br_t hfn ⟨rfl, I'⟩)
end
