section
theorem pk_us {f : Nat → Int32} {k : Nat} {x : Int32} : upd f k x k = x := if_pos rfl
theorem pk_un {f : Nat → Int32} {k j : Nat} {x : Int32} (h : j ≠ k) : upd f k x j = f j := if_neg h
theorem pk_sub {a b : Nat} (h : b ≤ a) : nI a - nI b = nI (a - b) := by
  obtain ⟨c, rfl⟩ : ∃ c, a = c + b := ⟨a - b, by omega⟩
  rw [← nI_add, Int32.add_sub_cancel, Nat.add_sub_cancel]
theorem pk_m1 (n : Nat) : nI (n + 1) + (-1) = nI n := by
  rw [← nI_1, Int32.add_assoc, show (1 : Int32) + (-1) = 0 from rfl, Int32.add_zero]
theorem pk_mul (a b : Nat) : nI a * nI b = nI (a * b) := (Int32.ofNat_mul a b).symm
theorem pk_div {a d : Nat} (ha : a < 2 ^ 31) (h0 : 0 < d) (hd : d < 2 ^ 31) : nI a / nI d = nI (a / d) := by
  apply Int32.toInt_inj.mp
  rw [lg_idiv_nonneg (by rw [nI_toInt ha]; omega) (by rw [nI_toInt hd]; omega), nI_toInt ha, nI_toInt hd, nI_toInt (Nat.lt_of_le_of_lt (Nat.div_le_self a d) ha)]
  first | rfl | exact (Int.natCast_ediv _ _).symm
theorem pk_rem {a d : Nat} (ha : a < 2 ^ 31) (h0 : 0 < d) (hd : d < 2 ^ 31) : nI a - nI a / nI d * nI d = nI (a % d) := by
  rw [pk_div ha h0 hd, pk_mul, pk_sub (Nat.div_mul_le_self a d)]
  exact congrArg nI (by have := Nat.div_add_mod' a d; omega)
theorem pk_sub_toInt {a b : Nat} (ha : a < 2 ^ 30) (hb : b < 2 ^ 30) : (nI a - nI b).toInt = (a : Int) - b := by
  rw [Int32.toInt_sub, nI_toInt (by omega), nI_toInt (by omega)]
  exact Int.bmod_eq_of_le (by omega) (by omega)
theorem pk_sneg {a b : Nat} (hb : b < 2 ^ 30) (h : a < b) : nI a - nI b < 0 := by
  rw [Int32.lt_iff_toInt_lt, pk_sub_toInt (by omega) hb, show (0 : Int32).toInt = 0 from by decide]
  omega
theorem pk_ix (x : Int32) {n : Nat} (hn : n < 2 ^ 31) : x < 0 ∨ nI n ≤ x ∨ ∃ j : Nat, j < n ∧ x = nI j := by
  by_cases h : x < 0
  · exact Or.inl h
  · obtain ⟨j, hj, rfl⟩ := nI_of h
    by_cases h2 : j < n
    · exact Or.inr (Or.inr ⟨j, h2, rfl⟩)
    · exact Or.inr (Or.inl (nI_le (by omega) hj))
theorem pk_le {x y : Int32} {A B : Prop} (a b : Nat) (f : a ≤ b → A) (g : b < a → B) (hx : x = nI a := by rfl) (hy : y = nI b := by rfl) (ha : a < 2 ^ 31 := by omega) (hb : b < 2 ^ 31 := by omega) : (x ≤ y → A) ∧ (¬ x ≤ y → B) := by
  subst hx hy
  rw [nI_leI ha hb]
  exact ⟨f, fun z => g (by omega)⟩
theorem pk_lt {x y : Int32} {A B : Prop} (a b : Nat) (f : a < b → A) (g : b ≤ a → B) (hx : x = nI a := by rfl) (hy : y = nI b := by rfl) (ha : a < 2 ^ 31 := by omega) (hb : b < 2 ^ 31 := by omega) : (x < y → A) ∧ (¬ x < y → B) := by
  subst hx hy
  rw [nI_ltI ha hb]
  exact ⟨f, fun z => g (by omega)⟩
theorem pk_eq {x y : Int32} {A B : Prop} (a b : Nat) (f : a = b → A) (g : a ≠ b → B) (hx : x = nI a := by rfl) (hy : y = nI b := by rfl) (ha : a < 2 ^ 31 := by omega) (hb : b < 2 ^ 31 := by omega) : (x = y → A) ∧ (¬ x = y → B) := by
  subst hx hy
  rw [nI_eq ha hb]
  exact ⟨f, g⟩
theorem pk_in {x : Int32} (n N : Nat) (h : n < N) (hx : x = nI n := by rfl) (hN : N < 2 ^ 31 := by omega) : vp_in x N := by
  subst hx
  exact vp_in_nI h hN
theorem pk_cl {x : Int32} (n : Nat) (hx : x = nI n := by rfl) (h : n < 2 ^ 31 := by omega) : x.toNatClampNeg = n := by
  subst hx
  exact nI_clamp h
theorem pk_tn {n : Nat} (h : n < 2 ^ 32) : (nI n).toBitVec.toNat = n := Nat.mod_eq_of_lt h
theorem pk_and (x : Int32) {m : Int32} (k : Nat) (hm : m.toBitVec.toNat = 2 ^ k - 1) : x &&& m = nI (x.toBitVec.toNat % 2 ^ k) := by
  apply Int32.toBitVec_inj.mp
  apply BitVec.eq_of_toNat_eq
  rw [Int32.toBitVec_and, BitVec.toNat_and, hm, Nat.and_two_pow_sub_one_eq_mod]
  show _ = (BitVec.ofNat 32 _).toNat
  rw [BitVec.toNat_ofNat]
  exact (Nat.mod_eq_of_lt (Nat.lt_of_le_of_lt (Nat.mod_le _ _) x.toBitVec.isLt)).symm
theorem pk_andN {n : Nat} (h : n < 2 ^ 32) {m : Int32} (k : Nat) (hm : m.toBitVec.toNat = 2 ^ k - 1) : nI n &&& m = nI (n % 2 ^ k) := by
  rw [pk_and _ k hm, pk_tn h]
theorem pk_andE (x : Int32) {m : Int32} (k : Nat) (hm : m.toBitVec.toNat = 2 ^ k - 1) : ∃ j : Nat, j < 2 ^ k ∧ x &&& m = nI j := ⟨_, Nat.mod_lt _ (Nat.two_pow_pos k), pk_and x k hm⟩
theorem pk_andIn (x : Int32) {m : Int32} (k : Nat) (hm : m.toBitVec.toNat = 2 ^ k - 1) (hk : k ≤ 30) : vp_in (x &&& m) (2 ^ k) := by
  obtain ⟨j, hj, e⟩ := pk_andE x k hm
  rw [e]
  exact vp_in_nI hj (Nat.lt_of_le_of_lt (Nat.pow_le_pow_right (by decide) hk) (by decide))
theorem pk_shl (a s : Int32) (k : Nat) (hs : (s.toBitVec.smod 32).toNat = k) : (a <<< s).toBitVec.toNat = a.toBitVec.toNat * 2 ^ k % 2 ^ 32 := by
  show (a.toBitVec <<< (s.toBitVec.smod 32).toNat).toNat = _
  rw [hs, BitVec.toNat_shiftLeft, Nat.shiftLeft_eq]
theorem pk_shlN {n : Nat} (s : Int32) (k : Nat) (hs : (s.toBitVec.smod 32).toNat = k) (h : n * 2 ^ k < 2 ^ 32) : nI n <<< s = nI (n * 2 ^ k) := by
  apply Int32.toBitVec_inj.mp
  apply BitVec.eq_of_toNat_eq
  have hn : n < 2 ^ 32 := Nat.lt_of_le_of_lt (Nat.le_mul_of_pos_right n (Nat.two_pow_pos k)) h
  rw [pk_shl _ _ k hs, pk_tn hn, pk_tn h, Nat.mod_eq_of_lt h]
theorem pk_shr (a s : Int32) (k : Nat) (hs : (s.toBitVec.smod 32).toNat = k) : (a >>> s).toInt = a.toInt >>> k := by
  show (a.toBitVec.sshiftRight (s.toBitVec.smod 32).toNat).toInt = _
  rw [hs, BitVec.toInt_sshiftRight]
  rfl
theorem pk_shrN {n : Nat} (h : n < 2 ^ 31) (s : Int32) (k : Nat) (hs : (s.toBitVec.smod 32).toNat = k) : nI n >>> s = nI (n / 2 ^ k) := by
  apply Int32.toInt_inj.mp
  have h2 : n / 2 ^ k ≤ n := Nat.div_le_self _ _
  rw [pk_shr _ _ k hs, nI_toInt h, nI_toInt (by omega), Int.shiftRight_eq_div_pow]
  rfl
theorem pk_ushr (x s : Int32) (k : Nat) (hs : ((s.toUInt32 &&& Int32.toUInt32 31).toBitVec % 32).toNat = k) : (x.toUInt32 >>> (s.toUInt32 &&& Int32.toUInt32 31)).toInt32.toBitVec.toNat = x.toBitVec.toNat / 2 ^ k := by
  have e : (x.toUInt32 >>> (s.toUInt32 &&& Int32.toUInt32 31)).toInt32.toBitVec = x.toBitVec >>> k := by
    rw [← hs]
    exact UInt32.toBitVec_shiftRight _ _
  rw [e, BitVec.toNat_ushiftRight, Nat.shiftRight_eq_div_pow]
theorem pk_ushrN {n : Nat} (hn : n < 2 ^ 32) (s : Int32) (k : Nat) (hs : ((s.toUInt32 &&& Int32.toUInt32 31).toBitVec % 32).toNat = k) : ((nI n).toUInt32 >>> (s.toUInt32 &&& Int32.toUInt32 31)).toInt32 = nI (n / 2 ^ k) := by
  apply Int32.toBitVec_inj.mp
  apply BitVec.eq_of_toNat_eq
  rw [pk_ushr _ s k hs, pk_tn hn, pk_tn (Nat.lt_of_le_of_lt (Nat.div_le_self _ _) hn)]
theorem s_l : ∀ n, n < 32 → ((nI n &&& 31).toBitVec.smod 32).toNat = n := by decide +kernel
/-- a bit of a natural, as both sides ask it -/
theorem ov_bit {n t : Nat} (h : n < 2 ^ 31) (ht : t < 32) : ((nI n >>> (nI t &&& 31)) &&& 1) = nI (n / 2 ^ t % 2) := by
  rw [pk_shrN h _ t (s_l t ht), pk_andN (k := 1) (Nat.lt_of_le_of_lt (Nat.div_le_self _ _) (Nat.lt_trans h (by decide))) (by decide)]
end
section
/-! sums over i < n and over a list -/
def ov_s : Nat → (Nat → Nat) → Nat
  | 0, _ => 0
  | n + 1, f => ov_s n f + f n
theorem ov_s0 (f : Nat → Nat) : ov_s 0 f = 0 := rfl
theorem ov_s1 (n : Nat) (f : Nat → Nat) : ov_s (n + 1) f = ov_s n f + f n := rfl
theorem ov_sC {f g : Nat → Nat} : ∀ n : Nat, (∀ i, i < n → f i = g i) → ov_s n f = ov_s n g := by
  intro n
  induction n with
  | zero => intro _; rfl
  | succ n ih => intro h; rw [ov_s1, ov_s1, ih (fun i hi => h i (by omega)), h n (by omega)]
theorem ov_sZ {f : Nat → Nat} : ∀ n : Nat, (∀ i, i < n → f i = 0) → ov_s n f = 0 := by
  intro n
  induction n with
  | zero => intro _; rfl
  | succ n ih => intro h; rw [ov_s1, ih (fun i hi => h i (by omega)), h n (by omega)]
theorem ov_sA (f g : Nat → Nat) : ∀ n : Nat, ov_s n (fun i => f i + g i) = ov_s n f + ov_s n g := by
  intro n
  induction n with
  | zero => rfl
  | succ n ih => rw [ov_s1, ov_s1, ov_s1, ih]; omega
theorem ov_sM (a : Nat) (f : Nat → Nat) : ∀ n : Nat, ov_s n (fun i => a * f i) = a * ov_s n f := by
  intro n
  induction n with
  | zero => rfl
  | succ n ih => rw [ov_s1, ov_s1, ih, Nat.mul_add]
theorem ov_sMr (a : Nat) (f : Nat → Nat) : ∀ n : Nat, ov_s n (fun i => f i * a) = ov_s n f * a := by
  intro n
  induction n with
  | zero => exact (Nat.zero_mul a).symm
  | succ n ih => rw [ov_s1, ov_s1, ih, Nat.add_mul]
theorem ov_sX (f : Nat → Nat → Nat) (m : Nat) : ∀ n : Nat, ov_s n (fun i => ov_s m (fun j => f i j)) = ov_s m (fun j => ov_s n (fun i => f i j)) := by
  intro n
  induction n with
  | zero => exact (ov_sZ m (fun _ _ => rfl)).symm
  | succ n ih =>
    rw [ov_s1, ih, ← ov_sA]
    exact ov_sC m (fun _ _ => rfl)
theorem ov_sL {f g : Nat → Nat} : ∀ n : Nat, (∀ i, i < n → f i ≤ g i) → ov_s n f ≤ ov_s n g := by
  intro n
  induction n with
  | zero => intro _; exact Nat.le_refl _
  | succ n ih => intro h; rw [ov_s1, ov_s1]; exact Nat.add_le_add (ih (fun i hi => h i (by omega))) (h n (by omega))
theorem ov_sT {f : Nat → Nat} {i : Nat} : ∀ n : Nat, i < n → f i ≤ ov_s n f := by
  intro n
  induction n with
  | zero => intro h; omega
  | succ n ih =>
    intro h
    rw [ov_s1]
    by_cases e : i = n
    · rw [e]; omega
    · have := ih (by omega); omega
theorem ov_sB {f : Nat → Nat} {b : Nat} : ∀ n : Nat, (∀ i, i < n → f i ≤ b) → ov_s n f ≤ n * b := by
  intro n
  induction n with
  | zero => intro _; exact Nat.zero_le _
  | succ n ih =>
    intro h
    rw [ov_s1, Nat.succ_mul]
    exact Nat.add_le_add (ih (fun i hi => h i (by omega))) (h n (by omega))
theorem ov_sD (a : Nat) (f : Nat → Nat) : ∀ n : Nat, ov_s n (fun i => if i = a then f i else 0) = if a < n then f a else 0 := by
  intro n
  induction n with
  | zero => rfl
  | succ n ih =>
    rw [ov_s1, ih]
    by_cases e : n = a
    · subst e
      rw [if_neg (Nat.lt_irrefl _), if_pos rfl, if_pos (Nat.lt_succ_self _)]; omega
    · rw [if_neg e]
      by_cases l : a < n
      · rw [if_pos l, if_pos (by omega)]; rfl
      · rw [if_neg l, if_neg (by omega)]
theorem ov_sU {f : Nat → Nat} {i j : Nat} : ∀ n : Nat, ov_s n f ≤ 1 → i < n → j < n → 1 ≤ f i → 1 ≤ f j → i = j := by
  intro n
  induction n with
  | zero => intro _ h; omega
  | succ n ih =>
    intro h hi hj fi fj
    rw [ov_s1] at h
    by_cases ei : i = n
    · by_cases ej : j = n
      · omega
      · have := ov_sT (f := f) (i := j) n (by omega)
        rw [ei] at fi; omega
    · by_cases ej : j = n
      · have := ov_sT (f := f) (i := i) n (by omega)
        rw [ej] at fj; omega
      · exact ih (by omega) (by omega) (by omega) fi fj
theorem ov_sE {f : Nat → Nat} {n : Nat} : ∀ m : Nat, n ≤ m → (∀ i, n ≤ i → f i = 0) → ov_s m f = ov_s n f := by
  intro m
  induction m with
  | zero => intro h _; rw [show n = 0 by omega]
  | succ m ih =>
    intro h hz
    by_cases e : n = m + 1
    · rw [e]
    · rw [ov_s1, ih (by omega) hz, hz m (by omega)]; rfl
theorem ov_sPl (F : Nat → Nat) (m : Nat) : ∀ a : Nat, ov_s (m + a) F = ov_s m F + ov_s a (fun y => F (m + y)) := by
  intro a
  induction a with
  | zero => rfl
  | succ a ih => rw [← Nat.add_assoc, ov_s1, ih, ov_s1]; omega
theorem ov_sP (F : Nat → Nat) (a : Nat) : ∀ b : Nat, ov_s (a * b) F = ov_s b (fun d => ov_s a (fun y => F (a * d + y))) := by
  intro b
  induction b with
  | zero => rfl
  | succ b ih => rw [Nat.mul_succ, ov_sPl, ih, ov_s1]
/-- a count below a bound: the indices beyond fall away -/
theorem ov_sI (f : Nat → Nat) {h m : Nat} (hm : h ≤ m) : ov_s m (fun i => if i < h then f i else 0) = ov_s h f := by
  rw [ov_sE (n := h) m hm (fun i hi => if_neg (by omega))]
  exact ov_sC h (fun i hi => if_pos hi)
section
variable {α β : Type}
def ov_su (f : α → Nat) : List α → Nat
  | [] => 0
  | x :: xs => f x + ov_su f xs
theorem ov_u0 (f : α → Nat) : ov_su f [] = 0 := rfl
theorem ov_u1 (f : α → Nat) (x : α) (xs : List α) : ov_su f (x :: xs) = f x + ov_su f xs := rfl
theorem ov_uC {f g : α → Nat} : ∀ L : List α, (∀ x, x ∈ L → f x = g x) → ov_su f L = ov_su g L := by
  intro L
  induction L with
  | nil => intro _; rfl
  | cons x xs ih => intro h; rw [ov_u1, ov_u1, h x (List.mem_cons_self ..), ih (fun y hy => h y (List.mem_cons_of_mem _ hy))]
theorem ov_uZ {f : α → Nat} : ∀ L : List α, (∀ x, x ∈ L → f x = 0) → ov_su f L = 0 := by
  intro L
  induction L with
  | nil => intro _; rfl
  | cons x xs ih => intro h; rw [ov_u1, h x (List.mem_cons_self ..), ih (fun y hy => h y (List.mem_cons_of_mem _ hy))]
theorem ov_uA (f g : α → Nat) : ∀ L : List α, ov_su (fun i => f i + g i) L = ov_su f L + ov_su g L := by
  intro L
  induction L with
  | nil => rfl
  | cons x xs ih => rw [ov_u1, ov_u1, ov_u1, ih]; omega
theorem ov_uM (a : Nat) (f : α → Nat) : ∀ L : List α, ov_su (fun i => a * f i) L = a * ov_su f L := by
  intro L
  induction L with
  | nil => rfl
  | cons x xs ih => rw [ov_u1, ov_u1, ih, Nat.mul_add]
theorem ov_uMr (a : Nat) (f : α → Nat) : ∀ L : List α, ov_su (fun i => f i * a) L = ov_su f L * a := by
  intro L
  induction L with
  | nil => exact (Nat.zero_mul a).symm
  | cons x xs ih => rw [ov_u1, ov_u1, ih, Nat.add_mul]
theorem ov_uS (f : α → Nat → Nat) (m : Nat) : ∀ L : List α, ov_su (fun x => ov_s m (fun j => f x j)) L = ov_s m (fun j => ov_su (fun x => f x j) L) := by
  intro L
  induction L with
  | nil => exact (ov_sZ m (fun _ _ => rfl)).symm
  | cons x xs ih =>
    rw [ov_u1, ih, ← ov_sA]
    exact ov_sC m (fun _ _ => rfl)
theorem ov_uX (f : α → β → Nat) (M : List β) : ∀ L : List α, ov_su (fun x => ov_su (fun y => f x y) M) L = ov_su (fun y => ov_su (fun x => f x y) L) M := by
  intro L
  induction L with
  | nil => exact (ov_uZ M (fun _ _ => rfl)).symm
  | cons x xs ih =>
    rw [ov_u1, ih, ← ov_uA]
    exact ov_uC M (fun _ _ => rfl)
theorem ov_uL {f g : α → Nat} : ∀ L : List α, (∀ x, x ∈ L → f x ≤ g x) → ov_su f L ≤ ov_su g L := by
  intro L
  induction L with
  | nil => intro _; exact Nat.le_refl _
  | cons x xs ih => intro h; rw [ov_u1, ov_u1]; exact Nat.add_le_add (h x (List.mem_cons_self ..)) (ih (fun y hy => h y (List.mem_cons_of_mem _ hy)))
theorem ov_uT {f : α → Nat} {x : α} : ∀ L : List α, x ∈ L → f x ≤ ov_su f L := by
  intro L
  induction L with
  | nil => intro h; exact absurd h (List.not_mem_nil)
  | cons y ys ih =>
    intro h
    rw [ov_u1]
    rcases List.mem_cons.mp h with e | e
    · rw [e]; omega
    · have := ih e; omega
theorem ov_uP {f : α → Nat} : ∀ L : List α, 1 ≤ ov_su f L → ∃ x, x ∈ L ∧ 1 ≤ f x := by
  intro L
  induction L with
  | nil => intro h; rw [ov_u0] at h; omega
  | cons y ys ih =>
    intro h
    rw [ov_u1] at h
    by_cases e : 1 ≤ f y
    · exact ⟨y, List.mem_cons_self .., e⟩
    · obtain ⟨x, hx, fx⟩ := ih (by omega)
      exact ⟨x, List.mem_cons_of_mem _ hx, fx⟩
theorem ov_uU {f : α → Nat} {x y : α} : ∀ L : List α, ov_su f L ≤ 1 → x ∈ L → y ∈ L → 1 ≤ f x → 1 ≤ f y → x = y := by
  intro L
  induction L with
  | nil => intro _ h; exact absurd h (List.not_mem_nil)
  | cons z zs ih =>
    intro h hx hy fx fy
    rw [ov_u1] at h
    rcases List.mem_cons.mp hx with ex | ex
    · rcases List.mem_cons.mp hy with ey | ey
      · rw [ex, ey]
      · have := ov_uT (f := f) zs ey
        rw [ex] at fx; omega
    · rcases List.mem_cons.mp hy with ey | ey
      · have := ov_uT (f := f) zs ex
        rw [ey] at fy; omega
      · exact ih (by omega) ex ey fx fy
theorem ov_uApp (f : α → Nat) (M : List α) : ∀ L : List α, ov_su f (L ++ M) = ov_su f L + ov_su f M := by
  intro L
  induction L with
  | nil => exact (Nat.zero_add _).symm
  | cons x xs ih => rw [List.cons_append, ov_u1, ih, ov_u1, Nat.add_assoc]
theorem ov_uF (f : β → Nat) (g : α → List β) : ∀ L : List α, ov_su f (L.flatMap g) = ov_su (fun x => ov_su f (g x)) L := by
  intro L
  induction L with
  | nil => rfl
  | cons x xs ih => rw [List.flatMap_cons, ov_uApp, ih, ov_u1]
theorem ov_uR (f : β → Nat) (g : Nat → List β) : ∀ n : Nat, ov_su f ((List.range n).flatMap g) = ov_s n (fun i => ov_su f (g i)) := by
  intro n
  induction n with
  | zero => rfl
  | succ n ih =>
    rw [List.range_succ, List.flatMap_append, ov_uApp, ih, ov_s1]
    show _ + ov_su f ([n].flatMap g) = _
    rw [List.flatMap_cons, List.flatMap_nil, List.append_nil]
theorem ov_uI (f : α → Nat) (b : Bool) (x : α) : ov_su f (if b = true then [x] else []) = if b = true then f x else 0 := by
  cases b <;> rfl
theorem ov_uB {f : α → Nat} (h : ∀ x, f x ≤ 1) : ∀ L : List α, ov_su f L ≤ L.length := by
  intro L
  induction L with
  | nil => exact Nat.le_refl _
  | cons x xs ih => rw [ov_u1, List.length_cons]; have := h x; omega
theorem ov_uN : ∀ L : List α, ov_su (fun _ => 1) L = L.length := by
  intro L
  induction L with
  | nil => rfl
  | cons x xs ih => rw [ov_u1, List.length_cons, ih]; omega
end
end
section
/-! nested sums over picks; Fubini by a mask; mixed radix codes -/
def ov_set (σ : Nat → Nat) (k d : Nat) : Nat → Nat := fun j => if j = k then d else σ j
theorem ov_set_s {σ : Nat → Nat} {k d : Nat} : ov_set σ k d k = d := if_pos rfl
theorem ov_set_n {σ : Nat → Nat} {k d j : Nat} (h : j ≠ k) : ov_set σ k d j = σ j := if_neg h
def ov_mix (A : Nat → Bool) (σ τ : Nat → Nat) : Nat → Nat := fun j => if A j = true then σ j else τ j
theorem ov_mix_t {A : Nat → Bool} {σ τ : Nat → Nat} {j : Nat} (h : A j = true) : ov_mix A σ τ j = σ j := if_pos h
theorem ov_mix_f {A : Nat → Bool} {σ τ : Nat → Nat} {j : Nat} (h : A j = false) : ov_mix A σ τ j = τ j := if_neg (by rw [h]; decide)
def ov_SS (ρ : Nat → Nat) : Nat → ((Nat → Nat) → Nat) → Nat
  | 0, G => G (fun _ => 0)
  | n + 1, G => ov_s (ρ n) (fun d => ov_SS ρ n (fun σ => G (ov_set σ n d)))
theorem ov_SS_s (ρ : Nat → Nat) (n : Nat) (G : (Nat → Nat) → Nat) : ov_SS ρ (n + 1) G = ov_s (ρ n) (fun d => ov_SS ρ n (fun σ => G (ov_set σ n d))) := rfl
theorem ov_SSC (ρ : Nat → Nat) : ∀ (n : Nat) {G H : (Nat → Nat) → Nat}, (∀ σ, (∀ j, j < n → σ j < ρ j) → (∀ j, n ≤ j → σ j = 0) → G σ = H σ) → ov_SS ρ n G = ov_SS ρ n H := by
  intro n
  induction n with
  | zero => intro G H h; exact h _ (fun j hj => absurd hj (Nat.not_lt_zero j)) (fun _ _ => rfl)
  | succ n ih =>
    intro G H h
    rw [ov_SS_s, ov_SS_s]
    refine ov_sC _ (fun d hd => ih (fun σ h1 h2 => h _ (fun j hj => ?_) (fun j hj => ?_)))
    · by_cases e : j = n
      · subst e; rw [ov_set_s]; exact hd
      · rw [ov_set_n e]; exact h1 j (by omega)
    · rw [ov_set_n (by omega)]; exact h2 j (by omega)
theorem ov_SSr {ρ ρ' : Nat → Nat} : ∀ (n : Nat) (G : (Nat → Nat) → Nat), (∀ j, j < n → ρ j = ρ' j) → ov_SS ρ n G = ov_SS ρ' n G := by
  intro n
  induction n with
  | zero => intro G _; rfl
  | succ n ih =>
    intro G h
    rw [ov_SS_s, ov_SS_s, h n (by omega)]
    exact ov_sC _ (fun d _ => ih _ (fun j hj => h j (by omega)))
theorem ov_SSs (ρ : Nat → Nat) (m : Nat) : ∀ (n : Nat) (f : (Nat → Nat) → Nat → Nat), ov_SS ρ n (fun σ => ov_s m (fun i => f σ i)) = ov_s m (fun i => ov_SS ρ n (fun σ => f σ i)) := by
  intro n
  induction n with
  | zero => intro f; rfl
  | succ n ih =>
    intro f
    rw [ov_SS_s, ov_sC _ (fun d _ => ih (fun σ i => f (ov_set σ n d) i)), ov_sX]
    exact ov_sC _ (fun i _ => rfl)
theorem ov_SSz (ρ : Nat → Nat) : ∀ n : Nat, ov_SS ρ n (fun _ => 0) = 0 := by
  intro n
  induction n with
  | zero => rfl
  | succ n ih => rw [ov_SS_s]; exact ov_sZ _ (fun d _ => ih)
theorem ov_SSb (ρ : Nat → Nat) (hρ : ∀ j, ρ j ≤ 4) : ∀ (n : Nat) (G : (Nat → Nat) → Nat), (∀ σ, G σ ≤ 1) → ov_SS ρ n G ≤ 4 ^ n := by
  intro n
  induction n with
  | zero => intro G h; exact h _
  | succ n ih =>
    intro G h
    rw [ov_SS_s]
    refine Nat.le_trans (ov_sB (b := 4 ^ n) _ (fun d _ => ih _ (fun σ => h _))) ?_
    rw [Nat.pow_succ, Nat.mul_comm (4 ^ n)]
    exact Nat.mul_le_mul_right _ (hρ n)
theorem ov_fub (A : Nat → Bool) (ρ ρA ρB : Nat → Nat) (h1 : ∀ n, A n = true → ρA n = ρ n ∧ ρB n = 1) (h2 : ∀ n, A n = false → ρA n = 1 ∧ ρB n = ρ n) : ∀ (n : Nat) (G : (Nat → Nat) → Nat), ov_SS ρ n G = ov_SS ρA n (fun σ => ov_SS ρB n (fun τ => G (ov_mix A σ τ))) := by
  intro n
  induction n with
  | zero =>
    intro G
    show G _ = G _
    refine congrArg G (funext fun j => ?_)
    unfold ov_mix
    by_cases h : A j = true
    · rw [if_pos h]
    · rw [if_neg h]
  | succ n ih =>
    intro G
    rw [ov_SS_s, ov_SS_s]
    cases hA : A n with
    | true =>
      obtain ⟨e1, e2⟩ := h1 n hA
      rw [e1]
      refine ov_sC _ (fun d _ => ?_)
      rw [ih]
      refine ov_SSC _ n (fun σ _ _ => ?_)
      rw [ov_SS_s, e2]
      show _ = 0 + _
      rw [Nat.zero_add]
      refine ov_SSC _ n (fun τ _ _ => congrArg G (funext fun j => ?_))
      by_cases e : j = n
      · subst e; rw [ov_set_s, ov_mix_t hA, ov_set_s]
      · rw [ov_set_n e]
        unfold ov_mix
        rw [ov_set_n e, ov_set_n e]
    | false =>
      obtain ⟨e1, e2⟩ := h2 n hA
      rw [e1]
      show _ = 0 + _
      rw [Nat.zero_add, ov_sC _ (fun d _ => ih (fun σ => G (ov_set σ n d)))]
      rw [← ov_SSs]
      refine ov_SSC _ n (fun σ _ _ => ?_)
      rw [ov_SS_s, e2]
      refine ov_sC _ (fun d _ => ?_)
      refine ov_SSC _ n (fun τ _ _ => congrArg G (funext fun j => ?_))
      by_cases e : j = n
      · subst e; rw [ov_set_s, ov_mix_f hA, ov_set_s]
      · rw [ov_set_n e]
        unfold ov_mix
        rw [ov_set_n e, ov_set_n e]
theorem ov_set00 (n : Nat) : ov_set (fun _ => 0) n 0 = fun _ => 0 := by
  funext j
  unfold ov_set
  split <;> rfl
theorem ov_SS0 {ρ : Nat → Nat} : ∀ (n : Nat) (H : (Nat → Nat) → Nat), (∀ j, j < n → ρ j = 1) → ov_SS ρ n H = H (fun _ => 0) := by
  intro n
  induction n with
  | zero => intro H _; rfl
  | succ n ih =>
    intro H h
    rw [ov_SS_s, h n (by omega)]
    show 0 + _ = _
    rw [Nat.zero_add]
    dsimp only
    rw [ih _ (fun j hj => h j (by omega)), ov_set00]
theorem ov_SS1 {ρ : Nat → Nat} {k : Nat} (hρ : ∀ j, j ≠ k → ρ j = 1) : ∀ (n : Nat) (H : (Nat → Nat) → Nat), k < n → ov_SS ρ n H = ov_s (ρ k) (fun d => H (ov_set (fun _ => 0) k d)) := by
  intro n
  induction n with
  | zero => intro H h; omega
  | succ n ih =>
    intro H h
    rw [ov_SS_s]
    by_cases e : k = n
    · subst e
      exact ov_sC _ (fun d _ => ov_SS0 k _ (fun j hj => hρ j (by omega)))
    · rw [hρ n (by omega)]
      show 0 + _ = _
      rw [Nat.zero_add]
      dsimp only
      rw [ih _ (by omega)]
      refine ov_sC _ (fun d _ => congrArg H (funext fun j => ?_))
      by_cases e2 : j = n
      · subst e2; rw [ov_set_s, ov_set_n (by omega)]
      · rw [ov_set_n e2]
def ov_ps (ρ : Nat → Nat) : Nat → Nat
  | 0 => 1
  | n + 1 => ov_ps ρ n * ρ n
theorem ov_ps_s (ρ : Nat → Nat) (n : Nat) : ov_ps ρ (n + 1) = ov_ps ρ n * ρ n := rfl
def ov_dg (ρ : Nat → Nat) (x : Nat) : Nat → Nat := fun j => x / ov_ps ρ j % ρ j
section
variable {ρ : Nat → Nat}
theorem ov_ps_pos (hρ : ∀ j, 0 < ρ j) : ∀ n, 0 < ov_ps ρ n := by
  intro n
  induction n with
  | zero => exact Nat.one_pos
  | succ n ih => rw [ov_ps_s]; exact Nat.mul_pos ih (hρ n)
theorem ov_ps_mul (n : Nat) : ∀ m, ∃ q, ov_ps ρ (n + m) = ov_ps ρ n * q := by
  intro m
  induction m with
  | zero => exact ⟨1, (Nat.mul_one _).symm⟩
  | succ m ih =>
    obtain ⟨q, hq⟩ := ih
    exact ⟨q * ρ (n + m), by rw [← Nat.add_assoc, ov_ps_s, hq, Nat.mul_assoc]⟩
theorem ov_ps_le (hρ : ∀ j, 0 < ρ j) {n m : Nat} (h : n ≤ m) : ov_ps ρ n ≤ ov_ps ρ m := by
  obtain ⟨q, hq⟩ := ov_ps_mul (ρ := ρ) n (m - n)
  rw [show n + (m - n) = m by omega] at hq
  have hp := ov_ps_pos hρ m
  rw [hq] at hp ⊢
  exact Nat.le_mul_of_pos_right _ (Nat.pos_of_mul_pos_left hp)
theorem ov_ps_b (h4 : ∀ j, ρ j ≤ 4) : ∀ n, ov_ps ρ n ≤ 4 ^ n := by
  intro n
  induction n with
  | zero => exact Nat.le_refl _
  | succ n ih => rw [ov_ps_s, Nat.pow_succ]; exact Nat.mul_le_mul ih (h4 n)
theorem ov_dg_lo {n j d y : Nat} (hρ : ∀ j, 0 < ρ j) (h : j < n) : ov_dg ρ (ov_ps ρ n * d + y) j = ov_dg ρ y j := by
  obtain ⟨q, hq⟩ := ov_ps_mul (ρ := ρ) (j + 1) (n - (j + 1))
  rw [show j + 1 + (n - (j + 1)) = n by omega, ov_ps_s] at hq
  unfold ov_dg
  have e : ov_ps ρ n * d + y = ov_ps ρ j * (ρ j * (q * d)) + y := by
    rw [hq, Nat.mul_assoc, Nat.mul_assoc]
  rw [e, Nat.mul_add_div (ov_ps_pos hρ j), Nat.mul_add_mod]
theorem ov_dg_at {n d y : Nat} (hρ : ∀ j, 0 < ρ j) (hy : y < ov_ps ρ n) (hd : d < ρ n) : ov_dg ρ (ov_ps ρ n * d + y) n = d := by
  unfold ov_dg
  rw [Nat.mul_add_div (ov_ps_pos hρ n), Nat.div_eq_of_lt hy, Nat.add_zero, Nat.mod_eq_of_lt hd]
theorem ov_dg_hi {x j : Nat} (h : x < ov_ps ρ j) : ov_dg ρ x j = 0 := by
  unfold ov_dg
  rw [Nat.div_eq_of_lt h, Nat.zero_mod]
theorem ov_dg_set {n d y : Nat} (hρ : ∀ j, 0 < ρ j) (hy : y < ov_ps ρ n) (hd : d < ρ n) : ov_dg ρ (ov_ps ρ n * d + y) = ov_set (ov_dg ρ y) n d := by
  funext j
  by_cases e : j = n
  · subst e; rw [ov_set_s, ov_dg_at hρ hy hd]
  · rw [ov_set_n e]
    by_cases l : j < n
    · exact ov_dg_lo hρ l
    · have h1 : ov_ps ρ n * d + y < ov_ps ρ (n + 1) := by
        rw [ov_ps_s]
        have : ov_ps ρ n * (d + 1) ≤ ov_ps ρ n * ρ n := Nat.mul_le_mul_left _ hd
        rw [Nat.mul_succ] at this
        omega
      have h2 : ov_ps ρ (n + 1) ≤ ov_ps ρ j := ov_ps_le hρ (by omega)
      have h3 : ov_ps ρ n ≤ ov_ps ρ j := ov_ps_le hρ (by omega)
      rw [ov_dg_hi (by omega), ov_dg_hi (by omega)]
theorem ov_code (hρ : ∀ j, 0 < ρ j) : ∀ (n : Nat) (G : (Nat → Nat) → Nat), ov_s (ov_ps ρ n) (fun x => G (ov_dg ρ x)) = ov_SS ρ n G := by
  intro n
  induction n with
  | zero =>
    intro G
    show 0 + G _ = G _
    rw [Nat.zero_add]
    refine congrArg G (funext fun j => ?_)
    unfold ov_dg
    rw [Nat.zero_div, Nat.zero_mod]
  | succ n ih =>
    intro G
    rw [ov_ps_s, ov_sP, ov_SS_s]
    refine ov_sC _ (fun d hd => ?_)
    rw [← ih (fun σ => G (ov_set σ n d))]
    exact ov_sC _ (fun y hy => congrArg G (ov_dg_set hρ hy hd))
theorem ov_dg_lt (hρ : ∀ j, 0 < ρ j) (x j : Nat) : ov_dg ρ x j < ρ j := Nat.mod_lt _ (hρ j)
theorem ov_dv (x n : Nat) : x / ov_ps ρ n / ρ n = x / ov_ps ρ (n + 1) := by
  rw [ov_ps_s, Nat.div_div_eq_div_mul]
end
end
section
/-! the configuration c: 0 kind, 1 figure, 2 left, 3 right, 4 listed, 5 signature, 6 its cost, 7 conversion + 1, 8 literal costs, 9 variable sets -/
def ov_W (c : Nat → Nat → Nat) (N : Nat) : Prop :=
  N ≤ 12 ∧ (∀ k, k < N → c 0 k ≤ 3) ∧ (∀ k, k < N → c 0 k = 3 → c 1 k < 3 ∧ c 2 k < k ∧ c 3 k < k ∧ c 2 k ≠ c 3 k) ∧
  (∀ k, k < N → c 0 k = 0 → c 1 k ≤ 7) ∧ (∀ k, k < N → c 0 k = 1 → c 1 k < 2) ∧ (∀ k, k < N → c 0 k = 2 → c 1 k < 3) ∧
  (∀ i i' j, i < N → i' < N → c 0 i = 3 → c 0 i' = 3 → (c 2 i = j ∨ c 3 i = j) → (c 2 i' = j ∨ c 3 i' = j) → i = i') ∧
  (∀ o, c 4 o ≤ 4) ∧ (∀ s, c 5 s ≤ 26) ∧ (∀ s, c 6 s ≤ 9) ∧ (∀ s, c 7 s ≤ 10) ∧ (∀ t, c 8 t ≤ 9) ∧ (∀ v, c 9 v ≤ 7) ∧
  ov_s N (fun k => if c 0 k = 3 then 1 else 0) ≤ 3
section
variable {c : Nat → Nat → Nat} {N k : Nat}
theorem ov_Wn (W : ov_W c N) : N ≤ 12 := W.1
theorem ov_Wk (W : ov_W c N) {k : Nat} (h : k < N) : c 0 k ≤ 3 := W.2.1 k h
theorem ov_Wa (W : ov_W c N) {k : Nat} (h : k < N) (e : c 0 k = 3) : c 1 k < 3 ∧ c 2 k < k ∧ c 3 k < k ∧ c 2 k ≠ c 3 k := W.2.2.1 k h e
theorem ov_W0 (W : ov_W c N) {k : Nat} (h : k < N) (e : c 0 k = 0) : c 1 k ≤ 7 := W.2.2.2.1 k h e
theorem ov_W1 (W : ov_W c N) {k : Nat} (h : k < N) (e : c 0 k = 1) : c 1 k < 2 := W.2.2.2.2.1 k h e
theorem ov_W2 (W : ov_W c N) {k : Nat} (h : k < N) (e : c 0 k = 2) : c 1 k < 3 := W.2.2.2.2.2.1 k h e
theorem ov_Wu (W : ov_W c N) {i i' j : Nat} (h : i < N) (h' : i' < N) (e : c 0 i = 3) (e' : c 0 i' = 3) (f : c 2 i = j ∨ c 3 i = j) (f' : c 2 i' = j ∨ c 3 i' = j) : i = i' := W.2.2.2.2.2.2.1 i i' j h h' e e' f f'
theorem ov_W4 (W : ov_W c N) (o : Nat) : c 4 o ≤ 4 := W.2.2.2.2.2.2.2.1 o
theorem ov_W5 (W : ov_W c N) (s : Nat) : c 5 s ≤ 26 := W.2.2.2.2.2.2.2.2.1 s
theorem ov_W6 (W : ov_W c N) (s : Nat) : c 6 s ≤ 9 := W.2.2.2.2.2.2.2.2.2.1 s
theorem ov_W7 (W : ov_W c N) (s : Nat) : c 7 s ≤ 10 := W.2.2.2.2.2.2.2.2.2.2.1 s
theorem ov_W8 (W : ov_W c N) (s : Nat) : c 8 s ≤ 9 := W.2.2.2.2.2.2.2.2.2.2.2.1 s
theorem ov_W9 (W : ov_W c N) (s : Nat) : c 9 s ≤ 7 := W.2.2.2.2.2.2.2.2.2.2.2.2.1 s
theorem ov_Wc (W : ov_W c N) : ov_s N (fun k => if c 0 k = 3 then 1 else 0) ≤ 3 := W.2.2.2.2.2.2.2.2.2.2.2.2.2
/-- the marks after d steps of the marking loop -/
def ov_ms (c : Nat → Nat → Nat) (k : Nat) : Nat → Nat → Bool
  | 0 => fun j => decide (j = k)
  | d + 1 => fun j => ov_ms c k d j || (ov_ms c k d (k - d) && decide (c 0 (k - d) = 3) && (decide (c 2 (k - d) = j) || decide (c 3 (k - d) = j)))
def ov_Q (c : Nat → Nat → Nat) (k : Nat) : Nat → Bool := ov_ms c k (k + 1)
theorem ov_ms_s (d j : Nat) : ov_ms c k (d + 1) j = (ov_ms c k d j || (ov_ms c k d (k - d) && decide (c 0 (k - d) = 3) && (decide (c 2 (k - d) = j) || decide (c 3 (k - d) = j)))) := rfl
theorem ov_ms_0 (j : Nat) : ov_ms c k 0 j = decide (j = k) := rfl
theorem ov_ms_iff (d j : Nat) : ov_ms c k (d + 1) j = true ↔ ov_ms c k d j = true ∨ (ov_ms c k d (k - d) = true ∧ c 0 (k - d) = 3 ∧ (c 2 (k - d) = j ∨ c 3 (k - d) = j)) := by
  rw [ov_ms_s, Bool.or_eq_true, Bool.and_eq_true, Bool.and_eq_true, Bool.or_eq_true, decide_eq_true_eq, decide_eq_true_eq, decide_eq_true_eq, and_assoc]
theorem ov_ms_mono {d j : Nat} (h : ov_ms c k d j = true) : ∀ e, ov_ms c k (d + e) j = true := by
  intro e
  induction e with
  | zero => exact h
  | succ e ih => exact (ov_ms_iff _ _).mpr (Or.inl ih)
theorem ov_ms_self (d : Nat) : ov_ms c k d k = true := by
  have h : ov_ms c k 0 k = true := by rw [ov_ms_0]; exact decide_eq_true rfl
  have := ov_ms_mono h d
  rwa [Nat.zero_add] at this
theorem ov_ms_le (W : ov_W c N) (hk : k < N) : ∀ d j, ov_ms c k d j = true → j ≤ k := by
  intro d
  induction d with
  | zero => intro j h; rw [ov_ms_0, decide_eq_true_eq] at h; omega
  | succ d ih =>
    intro j h
    rcases (ov_ms_iff _ _).mp h with h | ⟨_, e, f⟩
    · exact ih j h
    · have := ov_Wa W (k := k - d) (by omega) e
      rcases f with f | f <;> omega
theorem ov_ms_stab (W : ov_W c N) (hk : k < N) {d j : Nat} (hj : k - d ≤ j) : ∀ e, ov_ms c k (d + e) j = ov_ms c k d j := by
  intro e
  induction e with
  | zero => rfl
  | succ e ih =>
    rw [Bool.eq_iff_iff, ← ih]
    refine ⟨fun h => ?_, fun h => (ov_ms_iff (d + e) j).mpr (Or.inl h)⟩
    rcases (ov_ms_iff (d + e) j).mp h with h | ⟨_, e2, f⟩
    · exact h
    · have := ov_Wa W (k := k - (d + e)) (by omega) e2
      exfalso
      rcases f with f | f <;> omega
theorem ov_Q_self : ov_Q c k k = true := ov_ms_self _
theorem ov_Q_le (W : ov_W c N) (hk : k < N) {j : Nat} (h : ov_Q c k j = true) : j ≤ k := ov_ms_le W hk _ j h
theorem ov_Q_cl (W : ov_W c N) (hk : k < N) {i j : Nat} (h : ov_Q c k i = true) (e : c 0 i = 3) (hj : c 2 i = j ∨ c 3 i = j) : ov_Q c k j = true := by
  have hi := ov_Q_le W hk h
  unfold ov_Q at h ⊢
  have h1 : ov_ms c k (k - i) i = true := by
    rw [← ov_ms_stab W hk (d := k - i) (j := i) (by omega) (i + 1), show k - i + (i + 1) = k + 1 by omega]
    exact h
  have h2 : ov_ms c k (k - i + 1) j = true := by
    refine (ov_ms_iff _ _).mpr (Or.inr ?_)
    rw [show k - (k - i) = i by omega]
    exact ⟨h1, e, hj⟩
  have h3 := ov_ms_mono h2 i
  rwa [show k - i + 1 + i = k + 1 by omega] at h3
theorem ov_Q_ind (P : Nat → Prop) (h0 : P k) (hs : ∀ i, i ≤ k → ov_Q c k i = true → P i → c 0 i = 3 → ∀ j, (c 2 i = j ∨ c 3 i = j) → P j) : ∀ j, ov_Q c k j = true → P j := by
  have key : ∀ d, d ≤ k + 1 → ∀ j, ov_ms c k d j = true → P j := by
    intro d
    induction d with
    | zero => intro _ j h; rw [ov_ms_0, decide_eq_true_eq] at h; rw [h]; exact h0
    | succ d ih =>
      intro hd j h
      rcases (ov_ms_iff _ _).mp h with h | ⟨g, e2, f⟩
      · exact ih (by omega) j h
      · refine hs (k - d) (by omega) ?_ (ih (by omega) _ g) e2 j f
        have := ov_ms_mono g (k + 1 - d)
        rwa [show d + (k + 1 - d) = k + 1 by omega] at this
  exact key (k + 1) (Nat.le_refl _)
theorem ov_Q_re {j : Nat} (h : ov_Q c k j = true) : j = k ∨ ∃ i, i ≤ k ∧ ov_Q c k i = true ∧ c 0 i = 3 ∧ (c 2 i = j ∨ c 3 i = j) := by
  refine ov_Q_ind (c := c) (k := k) (fun j => j = k ∨ ∃ i, i ≤ k ∧ ov_Q c k i = true ∧ c 0 i = 3 ∧ (c 2 i = j ∨ c 3 i = j)) (Or.inl rfl) ?_ j h
  intro i hi hq _ e j f
  exact Or.inr ⟨i, hi, hq, e, f⟩
theorem ov_Q_sub (W : ov_W c N) (hk : k < N) (e : c 0 k = 3) {l : Nat} (hl : c 2 k = l ∨ c 3 k = l) {j : Nat} (h : ov_Q c l j = true) : ov_Q c k j = true := by
  refine ov_Q_ind (c := c) (k := l) (fun j => ov_Q c k j = true) (ov_Q_cl W hk ov_Q_self e hl) ?_ j h
  intro i hi _ hq e' j f
  exact ov_Q_cl W hk hq e' f
theorem ov_Q_rev (W : ov_W c N) (hk : k < N) (e : c 0 k = 3) {j : Nat} (h : ov_Q c k j = true) : j = k ∨ ov_Q c (c 2 k) j = true ∨ ov_Q c (c 3 k) j = true := by
  have ha := ov_Wa W hk e
  refine ov_Q_ind (c := c) (k := k) (fun j => j = k ∨ ov_Q c (c 2 k) j = true ∨ ov_Q c (c 3 k) j = true) (Or.inl rfl) ?_ j h
  intro i hi _ hp e' j f
  rcases hp with hp | hp | hp
  · subst hp
    rcases f with f | f
    · exact Or.inr (Or.inl (by rw [← f]; exact ov_Q_self))
    · exact Or.inr (Or.inr (by rw [← f]; exact ov_Q_self))
  · exact Or.inr (Or.inl (ov_Q_cl W (by omega) hp e' f))
  · exact Or.inr (Or.inr (ov_Q_cl W (by omega) hp e' f))
theorem ov_Q_dis (W : ov_W c N) (hk : k < N) (e : c 0 k = 3) {l r : Nat} (hl : c 2 k = l ∨ c 3 k = l) (hr : c 2 k = r ∨ c 3 k = r) (ne : l ≠ r) {j : Nat} (h : ov_Q c l j = true) : ov_Q c r j = true → False := by
  have ha := ov_Wa W hk e
  have l1 : l < k := by rcases hl with f | f <;> omega
  have r1 : r < k := by rcases hr with f | f <;> omega
  refine ov_Q_ind (c := c) (k := l) (fun j => ov_Q c r j = true → False) ?_ ?_ j h
  · intro h2
    rcases ov_Q_re h2 with f | ⟨i, hi, hq, e', f⟩
    · exact ne f
    · have := ov_Wu W (by omega) hk e' e f hl
      omega
  · intro i hi hq ih e' j f h2
    rcases ov_Q_re h2 with g | ⟨i', hi', hq', e2, g⟩
    · subst g
      have := ov_Wu W (by omega) hk e' e f hr
      omega
    · have := ov_Wu W (by omega) (by omega) e' e2 f g
      subst this
      exact ih hq'
theorem ov_Q_leaf (e : c 0 k ≠ 3) (j : Nat) : ov_Q c k j = decide (j = k) := by
  rw [Bool.eq_iff_iff, decide_eq_true_eq]
  constructor
  · intro h
    refine ov_Q_ind (c := c) (k := k) (fun j => j = k) rfl ?_ j h
    intro i _ _ hp e' j f
    subst hp
    exact absurd e' e
  · intro h; rw [h]; exact ov_Q_self
/-- the three pieces of an application's parts: itself, left, right -/
theorem ov_Q_ap (W : ov_W c N) (hk : k < N) (e : c 0 k = 3) (j : Nat) : (j = k ∧ ov_Q c k j = true ∧ ov_Q c (c 2 k) j = false ∧ ov_Q c (c 3 k) j = false) ∨ (j ≠ k ∧ ov_Q c k j = true ∧ ov_Q c (c 2 k) j = true ∧ ov_Q c (c 3 k) j = false) ∨ (j ≠ k ∧ ov_Q c k j = true ∧ ov_Q c (c 2 k) j = false ∧ ov_Q c (c 3 k) j = true) ∨ (j ≠ k ∧ ov_Q c k j = false ∧ ov_Q c (c 2 k) j = false ∧ ov_Q c (c 3 k) j = false) := by
  have ha := ov_Wa W hk e
  by_cases h0 : j = k
  · refine Or.inl ⟨h0, by rw [h0]; exact ov_Q_self, ?_, ?_⟩
    · cases hq : ov_Q c (c 2 k) j with
      | false => rfl
      | true => have := ov_Q_le W (by omega) hq; omega
    · cases hq : ov_Q c (c 3 k) j with
      | false => rfl
      | true => have := ov_Q_le W (by omega) hq; omega
  · refine Or.inr ?_
    cases hl : ov_Q c (c 2 k) j with
    | true =>
      refine Or.inl ⟨h0, ov_Q_sub W hk e (Or.inl rfl) hl, rfl, ?_⟩
      cases hr : ov_Q c (c 3 k) j with
      | false => rfl
      | true => exact (ov_Q_dis W hk e (Or.inl rfl) (Or.inr rfl) ha.2.2.2 hl hr).elim
    | false =>
      refine Or.inr ?_
      cases hr : ov_Q c (c 3 k) j with
      | true => exact Or.inl ⟨h0, ov_Q_sub W hk e (Or.inr rfl) hr, rfl, rfl⟩
      | false =>
        refine Or.inr ⟨h0, ?_, rfl, rfl⟩
        cases hq : ov_Q c k j with
        | false => rfl
        | true =>
          rcases ov_Q_rev W hk e hq with f | f | f
          · exact absurd f h0
          · rw [hl] at f; exact absurd f (by decide)
          · rw [hr] at f; exact absurd f (by decide)
end
def ov_al : Nat → (Nat → Bool) → Bool
  | 0, _ => true
  | n + 1, f => ov_al n f && f n
theorem ov_al_iff (f : Nat → Bool) : ∀ n, ov_al n f = true ↔ ∀ j, j < n → f j = true := by
  intro n
  induction n with
  | zero => exact ⟨fun _ j hj => absurd hj (Nat.not_lt_zero j), fun _ => rfl⟩
  | succ n ih =>
    show (ov_al n f && f n) = true ↔ _
    rw [Bool.and_eq_true, ih]
    constructor
    · intro h j hj
      by_cases e : j = n
      · rw [e]; exact h.2
      · exact h.1 j (by omega)
    · intro h
      exact ⟨fun j hj => h j (by omega), h n (by omega)⟩
/-- g holds at every part -/
def ov_gd (Q g : Nat → Bool) : Bool := ov_al 12 (fun j => !Q j || g j)
theorem ov_gd_iff (Q g : Nat → Bool) : ov_gd Q g = true ↔ ∀ j, j < 12 → Q j = true → g j = true := by
  unfold ov_gd
  rw [ov_al_iff]
  constructor
  · intro h j hj hq
    have := h j hj
    rw [hq] at this
    exact this
  · intro h j hj
    cases hq : Q j with
    | false => rfl
    | true => exact h j hj hq
/-- the sum of f over the parts -/
def ov_cs (Q : Nat → Bool) (f : Nat → Nat) : Nat := ov_s 12 (fun j => if Q j = true then f j else 0)
section
variable {c : Nat → Nat → Nat} {N k : Nat}
theorem ov_cs_ap (W : ov_W c N) (hk : k < N) (e : c 0 k = 3) (f : Nat → Nat) : ov_cs (ov_Q c k) f = f k + ov_cs (ov_Q c (c 2 k)) f + ov_cs (ov_Q c (c 3 k)) f := by
  have hn := ov_Wn W
  have hd := ov_sD k f 12
  rw [if_pos (show k < 12 by omega)] at hd
  unfold ov_cs
  rw [← hd, ← ov_sA, ← ov_sA]
  refine ov_sC 12 (fun j _ => ?_)
  rcases ov_Q_ap W hk e j with ⟨a, b, d, g⟩ | ⟨a, b, d, g⟩ | ⟨a, b, d, g⟩ | ⟨a, b, d, g⟩ <;> simp [a, b, d, g]
  · subst a; simp [b, d, g]
theorem ov_cs_leaf (hk : k < 12) (e : c 0 k ≠ 3) (f : Nat → Nat) : ov_cs (ov_Q c k) f = f k := by
  have hd := ov_sD k f 12
  rw [if_pos hk] at hd
  rw [← hd]
  unfold ov_cs
  refine ov_sC 12 (fun j _ => ?_)
  rw [ov_Q_leaf e]
  by_cases h : j = k
  · rw [if_pos h, if_pos (decide_eq_true h)]
  · rw [if_neg h, if_neg (by rw [decide_eq_true_eq]; exact h)]
theorem ov_gd_ap (W : ov_W c N) (hk : k < N) (e : c 0 k = 3) (g : Nat → Bool) : ov_gd (ov_Q c k) g = (g k && ov_gd (ov_Q c (c 2 k)) g && ov_gd (ov_Q c (c 3 k)) g) := by
  have hn := ov_Wn W
  rw [Bool.eq_iff_iff, Bool.and_eq_true, Bool.and_eq_true, ov_gd_iff, ov_gd_iff, ov_gd_iff]
  constructor
  · intro h
    refine ⟨⟨h k (by omega) ov_Q_self, fun j hj hq => h j hj ?_⟩, fun j hj hq => h j hj ?_⟩
    · exact ov_Q_sub W hk e (Or.inl rfl) hq
    · exact ov_Q_sub W hk e (Or.inr rfl) hq
  · intro h j hj hq
    rcases ov_Q_rev W hk e hq with f | f | f
    · rw [f]; exact h.1.1
    · exact h.1.2 j hj f
    · exact h.2 j hj f
theorem ov_gd_leaf (hk : k < 12) (e : c 0 k ≠ 3) (g : Nat → Bool) : ov_gd (ov_Q c k) g = g k := by
  rw [Bool.eq_iff_iff, ov_gd_iff]
  constructor
  · intro h; exact h k hk ov_Q_self
  · intro h j _ hq
    rw [ov_Q_leaf e, decide_eq_true_eq] at hq
    rw [hq]; exact h
end
end
section
/-! outcomes of a node's choices: (type, cost); the count of choices -/
def ov_ok (c : Nat → Nat → Nat) (f t : Nat) : Bool := decide (1 ≤ c 7 (3 * f + t))
def ov_cc (c : Nat → Nat → Nat) (f t : Nat) : Nat := c 7 (3 * f + t) - 1
def ov_ty (c : Nat → Nat → Nat) (v σ : Nat → Nat) (k : Nat) : Nat :=
  if c 0 k = 0 then σ k else if c 0 k = 1 then v (c 1 k) else if c 0 k = 2 then c 1 k else c 5 (4 * c 1 k + σ k) % 3
/-- the pick at k is one that there is -/
def ov_pk (c : Nat → Nat → Nat) (σ : Nat → Nat) (k : Nat) : Bool :=
  if c 0 k = 0 then decide (c 1 k / 2 ^ σ k % 2 = 1) else if c 0 k = 3 then decide (σ k < c 4 (c 1 k)) else true
/-- the conversions at k are allowed -/
def ov_cn (c : Nat → Nat → Nat) (v σ : Nat → Nat) (k : Nat) : Bool :=
  if c 0 k = 3 then ov_ok c (ov_ty c v σ (c 2 k)) (c 5 (4 * c 1 k + σ k) / 9) && ov_ok c (ov_ty c v σ (c 3 k)) (c 5 (4 * c 1 k + σ k) / 3 % 3) else true
def ov_ln (c : Nat → Nat → Nat) (v σ : Nat → Nat) (k : Nat) : Nat :=
  if c 0 k = 0 then c 8 (σ k) else if c 0 k = 3 then c 6 (4 * c 1 k + σ k) + ov_cc c (ov_ty c v σ (c 2 k)) (c 5 (4 * c 1 k + σ k) / 9) + ov_cc c (ov_ty c v σ (c 3 k)) (c 5 (4 * c 1 k + σ k) / 3 % 3) else 0
def ov_g (c : Nat → Nat → Nat) (v σ : Nat → Nat) (k : Nat) : Bool := ov_pk c σ k && ov_cn c v σ k
def ov_jn (c : Nat → Nat → Nat) (s : Nat) (L R : List (Nat × Nat)) : List (Nat × Nat) :=
  L.flatMap (fun x => R.flatMap (fun y => if (ov_ok c x.1 (c 5 s / 9) && ov_ok c y.1 (c 5 s / 3 % 3)) = true then [(c 5 s % 3, c 6 s + ov_cc c x.1 (c 5 s / 9) + ov_cc c y.1 (c 5 s / 3 % 3) + x.2 + y.2)] else []))
def ov_cb (c : Nat → Nat → Nat) (v : Nat → Nat) (O : Nat → List (Nat × Nat)) (k : Nat) : List (Nat × Nat) :=
  if c 0 k = 0 then (List.range 3).flatMap (fun t => if decide (c 1 k / 2 ^ t % 2 = 1) = true then [(t, c 8 t)] else [])
  else if c 0 k = 1 then [(v (c 1 k), 0)] else if c 0 k = 2 then [(c 1 k, 0)]
  else (List.range (c 4 (c 1 k))).flatMap (fun i => ov_jn c (4 * c 1 k + i) (O (c 2 k)) (O (c 3 k)))
def ov_ot (c : Nat → Nat → Nat) (v : Nat → Nat) : Nat → Nat → List (Nat × Nat)
  | 0 => fun _ => []
  | n + 1 => fun k => if k = n then ov_cb c v (ov_ot c v n) k else ov_ot c v n k
def ov_o (c : Nat → Nat → Nat) (v : Nat → Nat) (k : Nat) : List (Nat × Nat) := ov_ot c v (k + 1) k
section
variable {c : Nat → Nat → Nat} {v : Nat → Nat} {N k : Nat}
theorem ov_ot_s (n k : Nat) : ov_ot c v (n + 1) k = if k = n then ov_cb c v (ov_ot c v n) k else ov_ot c v n k := rfl
theorem ov_ot_st {k : Nat} : ∀ n, k < n → ov_ot c v n k = ov_o c v k := by
  intro n
  induction n with
  | zero => intro h; omega
  | succ n ih =>
    intro h
    by_cases e : k = n
    · subst e; rfl
    · rw [ov_ot_s, if_neg e, ih (by omega)]
theorem ov_o_0 (e : c 0 k = 0) : ov_o c v k = (List.range 3).flatMap (fun t => if decide (c 1 k / 2 ^ t % 2 = 1) = true then [(t, c 8 t)] else []) := by
  unfold ov_o
  rw [ov_ot_s, if_pos rfl]
  unfold ov_cb
  rw [if_pos e]
theorem ov_o_1 (e : c 0 k = 1) : ov_o c v k = [(v (c 1 k), 0)] := by
  unfold ov_o
  rw [ov_ot_s, if_pos rfl]
  unfold ov_cb
  rw [if_neg (by omega), if_pos e]
theorem ov_o_2 (e : c 0 k = 2) : ov_o c v k = [(c 1 k, 0)] := by
  unfold ov_o
  rw [ov_ot_s, if_pos rfl]
  unfold ov_cb
  rw [if_neg (by omega), if_neg (by omega), if_pos e]
theorem ov_o_3 (W : ov_W c N) (hk : k < N) (e : c 0 k = 3) : ov_o c v k = (List.range (c 4 (c 1 k))).flatMap (fun i => ov_jn c (4 * c 1 k + i) (ov_o c v (c 2 k)) (ov_o c v (c 3 k))) := by
  have ha := ov_Wa W hk e
  show ov_ot c v (k + 1) k = _
  rw [ov_ot_s, if_pos rfl]
  unfold ov_cb
  rw [if_neg (by omega), if_neg (by omega), if_neg (by omega), ov_ot_st k ha.2.1, ov_ot_st k ha.2.2.1]
theorem ov_jn_u (s : Nat) (L R : List (Nat × Nat)) (φ : Nat × Nat → Nat) : ov_su φ (ov_jn c s L R) = ov_su (fun x => ov_su (fun y => if (ov_ok c x.1 (c 5 s / 9) && ov_ok c y.1 (c 5 s / 3 % 3)) = true then φ (c 5 s % 3, c 6 s + ov_cc c x.1 (c 5 s / 9) + ov_cc c y.1 (c 5 s / 3 % 3) + x.2 + y.2) else 0) R) L := by
  unfold ov_jn
  rw [ov_uF]
  refine ov_uC L (fun x _ => ?_)
  rw [ov_uF]
  exact ov_uC R (fun y _ => ov_uI _ _ _)
theorem ov_jn_mem {s : Nat} {L R : List (Nat × Nat)} {o : Nat × Nat} : o ∈ ov_jn c s L R ↔ ∃ x, x ∈ L ∧ ∃ y, y ∈ R ∧ ov_ok c x.1 (c 5 s / 9) = true ∧ ov_ok c y.1 (c 5 s / 3 % 3) = true ∧ o = (c 5 s % 3, c 6 s + ov_cc c x.1 (c 5 s / 9) + ov_cc c y.1 (c 5 s / 3 % 3) + x.2 + y.2) := by
  unfold ov_jn
  rw [List.mem_flatMap]
  constructor
  · rintro ⟨x, hx, h⟩
    rw [List.mem_flatMap] at h
    obtain ⟨y, hy, h⟩ := h
    split at h
    · rename_i hb
      rw [Bool.and_eq_true] at hb
      exact ⟨x, hx, y, hy, hb.1, hb.2, List.mem_singleton.mp h⟩
    · exact absurd h List.not_mem_nil
  · rintro ⟨x, hx, y, hy, h1, h2, h⟩
    refine ⟨x, hx, List.mem_flatMap.mpr ⟨y, hy, ?_⟩⟩
    rw [if_pos (by rw [h1, h2]; rfl), h]
    exact List.mem_singleton.mpr rfl
/-- types depend on the pick at the node alone; goodness and cost on the picks at the parts -/
theorem ov_ty_c {σ τ : Nat → Nat} (h : σ k = τ k) : ov_ty c v σ k = ov_ty c v τ k := by
  unfold ov_ty
  rw [h]
theorem ov_g_c {σ τ : Nat → Nat} (h : σ k = τ k) (hl : c 0 k = 3 → σ (c 2 k) = τ (c 2 k)) (hr : c 0 k = 3 → σ (c 3 k) = τ (c 3 k)) : ov_g c v σ k = ov_g c v τ k := by
  unfold ov_g ov_pk ov_cn
  by_cases e : c 0 k = 3
  · rw [h, ov_ty_c (k := c 2 k) (hl e), ov_ty_c (k := c 3 k) (hr e)]
  · rw [h, if_neg e, if_neg e, if_neg e]
theorem ov_ln_c {σ τ : Nat → Nat} (h : σ k = τ k) (hl : c 0 k = 3 → σ (c 2 k) = τ (c 2 k)) (hr : c 0 k = 3 → σ (c 3 k) = τ (c 3 k)) : ov_ln c v σ k = ov_ln c v τ k := by
  unfold ov_ln
  by_cases e : c 0 k = 3
  · rw [h, ov_ty_c (k := c 2 k) (hl e), ov_ty_c (k := c 3 k) (hr e)]
  · rw [h, if_neg e, if_neg e]
theorem ov_gd_c (W : ov_W c N) (hk : k < N) {σ τ : Nat → Nat} (h : ∀ j, ov_Q c k j = true → σ j = τ j) : ov_gd (ov_Q c k) (ov_g c v σ) = ov_gd (ov_Q c k) (ov_g c v τ) := by
  rw [Bool.eq_iff_iff, ov_gd_iff, ov_gd_iff]
  have key : ∀ j, ov_Q c k j = true → ov_g c v σ j = ov_g c v τ j := fun j hq => ov_g_c (h j hq) (fun e => h _ (ov_Q_cl W hk hq e (Or.inl rfl))) (fun e => h _ (ov_Q_cl W hk hq e (Or.inr rfl)))
  constructor
  · intro g j hj hq; rw [← key j hq]; exact g j hj hq
  · intro g j hj hq; rw [key j hq]; exact g j hj hq
theorem ov_cs_c (W : ov_W c N) (hk : k < N) {σ τ : Nat → Nat} (h : ∀ j, ov_Q c k j = true → σ j = τ j) : ov_cs (ov_Q c k) (ov_ln c v σ) = ov_cs (ov_Q c k) (ov_ln c v τ) := by
  unfold ov_cs
  refine ov_sC 12 (fun j _ => ?_)
  by_cases hq : ov_Q c k j = true
  · rw [if_pos hq, if_pos hq]
    exact ov_ln_c (h j hq) (fun e => h _ (ov_Q_cl W hk hq e (Or.inl rfl))) (fun e => h _ (ov_Q_cl W hk hq e (Or.inr rfl)))
  · rw [if_neg hq, if_neg hq]
/-- radices -/
def ov_rd (c : Nat → Nat → Nat) (Q : Nat → Bool) (j : Nat) : Nat := if Q j = true then (if c 0 j = 0 then 3 else if c 0 j = 3 then 4 else 1) else 1
theorem ov_rd_f {Q : Nat → Bool} {j : Nat} (h : Q j = false) : ov_rd c Q j = 1 := if_neg (by rw [h]; decide)
theorem ov_rd_t {Q : Nat → Bool} {j : Nat} (h : Q j = true) : ov_rd c Q j = if c 0 j = 0 then 3 else if c 0 j = 3 then 4 else 1 := if_pos h
theorem ov_rd_4 (Q : Nat → Bool) (j : Nat) : ov_rd c Q j ≤ 4 := by
  unfold ov_rd
  split
  · split
    · omega
    · split <;> omega
  · omega
theorem ov_rd_p (Q : Nat → Bool) (j : Nat) : 0 < ov_rd c Q j := by
  unfold ov_rd
  split
  · split
    · omega
    · split <;> omega
  · omega
/-- what is summed at a node -/
def ov_E (c : Nat → Nat → Nat) (v : Nat → Nat) (k : Nat) (φ : Nat → Nat → Nat) (σ : Nat → Nat) : Nat :=
  if ov_gd (ov_Q c k) (ov_g c v σ) = true then φ (ov_ty c v σ k) (ov_cs (ov_Q c k) (ov_ln c v σ)) else 0
theorem ov_cnt_leaf {M : Nat} (hM : k < M) (hk : k < 12) (e : c 0 k ≠ 3) (φ : Nat → Nat → Nat) : ov_SS (ov_rd c (ov_Q c k)) M (ov_E c v k φ) = ov_s (ov_rd c (ov_Q c k) k) (fun d => if ov_g c v (ov_set (fun _ => 0) k d) k = true then φ (ov_ty c v (ov_set (fun _ => 0) k d) k) (ov_ln c v (ov_set (fun _ => 0) k d) k) else 0) := by
  rw [ov_SS1 (k := k) (fun j hj => ov_rd_f (by rw [ov_Q_leaf e]; exact decide_eq_false hj)) M _ hM]
  refine ov_sC _ (fun d _ => ?_)
  unfold ov_E
  rw [ov_gd_leaf hk e, ov_cs_leaf hk e]
theorem ov_cnt_0 {M : Nat} (hM : k < M) (hk : k < 12) (e : c 0 k = 0) (φ : Nat → Nat → Nat) : ov_SS (ov_rd c (ov_Q c k)) M (ov_E c v k φ) = ov_su (fun o => φ o.1 o.2) (ov_o c v k) := by
  rw [ov_cnt_leaf hM hk (by omega), ov_rd_t ov_Q_self, if_pos e, ov_o_0 e, ov_uR]
  refine ov_sC 3 (fun d _ => ?_)
  rw [ov_uI]
  simp [ov_g, ov_pk, ov_cn, ov_ty, ov_ln, e, ov_set_s]
theorem ov_cnt_1 {M : Nat} (hM : k < M) (hk : k < 12) (e : c 0 k = 1) (φ : Nat → Nat → Nat) : ov_SS (ov_rd c (ov_Q c k)) M (ov_E c v k φ) = ov_su (fun o => φ o.1 o.2) (ov_o c v k) := by
  rw [ov_cnt_leaf hM hk (by omega), ov_rd_t ov_Q_self, if_neg (by omega), if_neg (by omega), ov_o_1 e]
  simp [ov_s, ov_su, ov_g, ov_pk, ov_cn, ov_ty, ov_ln, e]
theorem ov_cnt_2 {M : Nat} (hM : k < M) (hk : k < 12) (e : c 0 k = 2) (φ : Nat → Nat → Nat) : ov_SS (ov_rd c (ov_Q c k)) M (ov_E c v k φ) = ov_su (fun o => φ o.1 o.2) (ov_o c v k) := by
  rw [ov_cnt_leaf hM hk (by omega), ov_rd_t ov_Q_self, if_neg (by omega), if_neg (by omega), ov_o_2 e]
  simp [ov_s, ov_su, ov_g, ov_pk, ov_cn, ov_ty, ov_ln, e]
end
end
section
section
variable {c : Nat → Nat → Nat} {v : Nat → Nat} {N k : Nat}
def ov_psi (c : Nat → Nat → Nat) (φ : Nat → Nat → Nat) (s x1 x2 y1 y2 : Nat) : Nat :=
  if (ov_ok c x1 (c 5 s / 9) && ov_ok c y1 (c 5 s / 3 % 3)) = true then φ (c 5 s % 3) (c 6 s + ov_cc c x1 (c 5 s / 9) + ov_cc c y1 (c 5 s / 3 % 3) + x2 + y2) else 0
theorem ov_E_ap (W : ov_W c N) (hk : k < N) (e : c 0 k = 3) (φ : Nat → Nat → Nat) {σ τ ω : Nat → Nat} (hl : ∀ j, ov_Q c (c 2 k) j = true → ω j = σ j) (hr : ∀ j, ov_Q c (c 3 k) j = true → ω j = τ j) : ov_E c v k φ ω = if ω k < c 4 (c 1 k) then (if ov_gd (ov_Q c (c 2 k)) (ov_g c v σ) = true then ov_E c v (c 3 k) (fun y1 y2 => ov_psi c φ (4 * c 1 k + ω k) (ov_ty c v σ (c 2 k)) (ov_cs (ov_Q c (c 2 k)) (ov_ln c v σ)) y1 y2) τ else 0) else 0 := by
  have ha := ov_Wa W hk e
  unfold ov_E
  rw [ov_gd_ap W hk e, ov_cs_ap W hk e, ov_gd_c W (k := c 2 k) (by omega) hl, ov_gd_c W (k := c 3 k) (by omega) hr, ov_cs_c W (k := c 2 k) (by omega) hl, ov_cs_c W (k := c 3 k) (by omega) hr]
  have t0 : ov_ty c v ω k = c 5 (4 * c 1 k + ω k) % 3 := by
    unfold ov_ty
    rw [if_neg (by omega), if_neg (by omega), if_neg (by omega)]
  have tl : ov_ty c v ω (c 2 k) = ov_ty c v σ (c 2 k) := ov_ty_c (hl _ ov_Q_self)
  have tr : ov_ty c v ω (c 3 k) = ov_ty c v τ (c 3 k) := ov_ty_c (hr _ ov_Q_self)
  have gk : ov_g c v ω k = (decide (ω k < c 4 (c 1 k)) && (ov_ok c (ov_ty c v σ (c 2 k)) (c 5 (4 * c 1 k + ω k) / 9) && ov_ok c (ov_ty c v τ (c 3 k)) (c 5 (4 * c 1 k + ω k) / 3 % 3))) := by
    unfold ov_g ov_pk ov_cn
    rw [if_neg (by omega), if_pos e, if_pos e, tl, tr]
  have lk : ov_ln c v ω k = c 6 (4 * c 1 k + ω k) + ov_cc c (ov_ty c v σ (c 2 k)) (c 5 (4 * c 1 k + ω k) / 9) + ov_cc c (ov_ty c v τ (c 3 k)) (c 5 (4 * c 1 k + ω k) / 3 % 3) := by
    unfold ov_ln
    rw [if_neg (by omega), if_pos e, tl, tr]
  rw [t0, gk, lk]
  unfold ov_psi
  by_cases h1 : ω k < c 4 (c 1 k)
  · rw [if_pos h1, decide_eq_true h1, Bool.true_and]
    dsimp only
    cases ov_gd (ov_Q c (c 2 k)) (ov_g c v σ) <;> cases ov_gd (ov_Q c (c 3 k)) (ov_g c v τ) <;> cases (ov_ok c (ov_ty c v σ (c 2 k)) (c 5 (4 * c 1 k + ω k) / 9) && ov_ok c (ov_ty c v τ (c 3 k)) (c 5 (4 * c 1 k + ω k) / 3 % 3)) <;> rfl
  · rw [if_neg h1, decide_eq_false h1, Bool.false_and, Bool.false_and, Bool.false_and]
    rfl
theorem ov_cnt_3 {M : Nat} (W : ov_W c N) (hM : N ≤ M) (hk : k < N) (e : c 0 k = 3) (ihl : ∀ φ, ov_SS (ov_rd c (ov_Q c (c 2 k))) M (ov_E c v (c 2 k) φ) = ov_su (fun o => φ o.1 o.2) (ov_o c v (c 2 k))) (ihr : ∀ φ, ov_SS (ov_rd c (ov_Q c (c 3 k))) M (ov_E c v (c 3 k) φ) = ov_su (fun o => φ o.1 o.2) (ov_o c v (c 3 k))) (φ : Nat → Nat → Nat) : ov_SS (ov_rd c (ov_Q c k)) M (ov_E c v k φ) = ov_su (fun o => φ o.1 o.2) (ov_o c v k) := by
  have hn := ov_Wn W
  have ha := ov_Wa W hk e
  have h4 := ov_W4 W (c 1 k)
  rw [ov_fub (ov_Q c (c 2 k)) (ov_rd c (ov_Q c k)) (ov_rd c (ov_Q c (c 2 k))) (fun j => if ov_Q c (c 2 k) j = true then 1 else ov_rd c (ov_Q c k) j) (fun n hq => ⟨by rw [ov_rd_t hq, ov_rd_t (ov_Q_sub W hk e (Or.inl rfl) hq)], if_pos hq⟩) (fun n hq => ⟨ov_rd_f hq, if_neg (by rw [hq]; decide)⟩)]
  have step : ∀ σ, ov_SS (fun j => if ov_Q c (c 2 k) j = true then 1 else ov_rd c (ov_Q c k) j) M (fun τ => ov_E c v k φ (ov_mix (ov_Q c (c 2 k)) σ τ)) = ov_s (c 4 (c 1 k)) (fun d => if ov_gd (ov_Q c (c 2 k)) (ov_g c v σ) = true then ov_su (fun y => ov_psi c φ (4 * c 1 k + d) (ov_ty c v σ (c 2 k)) (ov_cs (ov_Q c (c 2 k)) (ov_ln c v σ)) y.1 y.2) (ov_o c v (c 3 k)) else 0) := by
    intro σ
    rw [ov_fub (ov_Q c (c 3 k)) _ (ov_rd c (ov_Q c (c 3 k))) (fun j => if ov_Q c (c 3 k) j = true then 1 else if ov_Q c (c 2 k) j = true then 1 else ov_rd c (ov_Q c k) j) (fun n hq => ⟨?_, if_pos hq⟩) (fun n hq => ⟨ov_rd_f hq, if_neg (by rw [hq]; decide)⟩)]
    · have s1 : ∀ τ, ov_SS (fun j => if ov_Q c (c 3 k) j = true then 1 else if ov_Q c (c 2 k) j = true then 1 else ov_rd c (ov_Q c k) j) M (fun υ => ov_E c v k φ (ov_mix (ov_Q c (c 2 k)) σ (ov_mix (ov_Q c (c 3 k)) τ υ))) = ov_s (c 4 (c 1 k)) (fun d => if ov_gd (ov_Q c (c 2 k)) (ov_g c v σ) = true then ov_E c v (c 3 k) (fun y1 y2 => ov_psi c φ (4 * c 1 k + d) (ov_ty c v σ (c 2 k)) (ov_cs (ov_Q c (c 2 k)) (ov_ln c v σ)) y1 y2) τ else 0) := by
        intro τ
        rw [ov_SS1 (k := k) (fun j hj => ?_) M _ (by omega)]
        · have e4 : (if ov_Q c (c 3 k) k = true then 1 else if ov_Q c (c 2 k) k = true then 1 else ov_rd c (ov_Q c k) k) = 4 := by
            rcases ov_Q_ap W hk e k with ⟨_, b, d, g⟩ | ⟨a, _⟩ | ⟨a, _⟩ | ⟨a, _⟩
            · rw [if_neg (by rw [g]; decide), if_neg (by rw [d]; decide), ov_rd_t b, if_neg (by omega), if_pos e]
            · exact absurd rfl a
            · exact absurd rfl a
            · exact absurd rfl a
          rw [e4, ← ov_sI _ h4]
          refine ov_sC 4 (fun d _ => ?_)
          have hl : ∀ j, ov_Q c (c 2 k) j = true → ov_mix (ov_Q c (c 2 k)) σ (ov_mix (ov_Q c (c 3 k)) τ (ov_set (fun _ => 0) k d)) j = σ j := fun j hq => ov_mix_t hq
          have hr : ∀ j, ov_Q c (c 3 k) j = true → ov_mix (ov_Q c (c 2 k)) σ (ov_mix (ov_Q c (c 3 k)) τ (ov_set (fun _ => 0) k d)) j = τ j := by
            intro j hq
            have : ov_Q c (c 2 k) j = false := by
              cases hq2 : ov_Q c (c 2 k) j with
              | false => rfl
              | true => exact (ov_Q_dis W hk e (Or.inl rfl) (Or.inr rfl) ha.2.2.2 hq2 hq).elim
            rw [ov_mix_f this, ov_mix_t hq]
          have hk0 : ov_mix (ov_Q c (c 2 k)) σ (ov_mix (ov_Q c (c 3 k)) τ (ov_set (fun _ => 0) k d)) k = d := by
            rcases ov_Q_ap W hk e k with ⟨_, b, d', g⟩ | ⟨a, _⟩ | ⟨a, _⟩ | ⟨a, _⟩
            · rw [ov_mix_f d', ov_mix_f g, ov_set_s]
            · exact absurd rfl a
            · exact absurd rfl a
            · exact absurd rfl a
          rw [ov_E_ap W hk e φ hl hr, hk0]
        · rcases ov_Q_ap W hk e j with ⟨a, _⟩ | ⟨_, b, d, g⟩ | ⟨_, b, d, g⟩ | ⟨_, b, d, g⟩
          · exact absurd a hj
          · rw [if_neg (by rw [g]; decide), if_pos d]
          · rw [if_pos g]
          · rw [if_neg (by rw [g]; decide), if_neg (by rw [d]; decide), ov_rd_f b]
      rw [ov_SSC _ M (fun τ _ _ => s1 τ), ov_SSs]
      refine ov_sC _ (fun d _ => ?_)
      cases hg : ov_gd (ov_Q c (c 2 k)) (ov_g c v σ) with
      | false => rw [ov_SSC _ M (H := fun _ => 0) (fun τ _ _ => if_neg (by decide)), ov_SSz, if_neg (by decide)]
      | true => rw [ov_SSC _ M (H := ov_E c v (c 3 k) (fun y1 y2 => ov_psi c φ (4 * c 1 k + d) (ov_ty c v σ (c 2 k)) (ov_cs (ov_Q c (c 2 k)) (ov_ln c v σ)) y1 y2)) (fun τ _ _ => if_pos rfl), ihr, if_pos rfl]
    · have : ov_Q c (c 2 k) n = false := by
        cases hq2 : ov_Q c (c 2 k) n with
        | false => rfl
        | true => exact (ov_Q_dis W hk e (Or.inl rfl) (Or.inr rfl) ha.2.2.2 hq2 hq).elim
      rw [if_neg (by rw [this]; decide), ov_rd_t hq, ov_rd_t (ov_Q_sub W hk e (Or.inr rfl) hq)]
  rw [ov_SSC _ M (fun σ _ _ => step σ), ov_SSs, ov_o_3 W hk e, ov_uR]
  refine ov_sC _ (fun d _ => ?_)
  rw [ov_jn_u]
  exact ihl (fun x1 x2 => ov_su (fun y => ov_psi c φ (4 * c 1 k + d) x1 x2 y.1 y.2) (ov_o c v (c 3 k)))
theorem ov_cnt {M : Nat} (W : ov_W c N) (hM : N ≤ M) : ∀ (n k : Nat), k < n → k < N → ∀ φ, ov_SS (ov_rd c (ov_Q c k)) M (ov_E c v k φ) = ov_su (fun o => φ o.1 o.2) (ov_o c v k) := by
  have hn := ov_Wn W
  intro n
  induction n with
  | zero => intro k h; omega
  | succ n ih =>
    intro k h hk φ
    have hk3 := ov_Wk W hk
    by_cases e0 : c 0 k = 0
    · exact ov_cnt_0 (by omega) (by omega) e0 φ
    · by_cases e1 : c 0 k = 1
      · exact ov_cnt_1 (by omega) (by omega) e1 φ
      · by_cases e2 : c 0 k = 2
        · exact ov_cnt_2 (by omega) (by omega) e2 φ
        · have e3 : c 0 k = 3 := by omega
          have ha := ov_Wa W hk e3
          exact ov_cnt_3 W hM hk e3 (ih _ (by omega) (by omega)) (ih _ (by omega) (by omega)) φ
/-- how many outcomes a node has -/
theorem ov_len (W : ov_W c N) (hk : k < N) : (ov_o c v k).length ≤ 4 ^ 12 := by
  rw [← ov_uN]
  rw [← ov_cnt W (ov_Wn W) (k + 1) k (by omega) hk (fun _ _ => 1)]
  refine ov_SSb _ (ov_rd_4 _) 12 _ (fun σ => ?_)
  unfold ov_E
  dsimp only
  split <;> omega
theorem ov_o_lt (W : ov_W c N) (hv : ∀ i, v i < 3) (hk : k < N) {o : Nat × Nat} (h : o ∈ ov_o c v k) : o.1 < 3 := by
  have hk3 := ov_Wk W hk
  by_cases e0 : c 0 k = 0
  · rw [ov_o_0 e0, List.mem_flatMap] at h
    obtain ⟨t, ht, h⟩ := h
    split at h
    · rw [List.mem_singleton.mp h]; exact List.mem_range.mp ht
    · exact absurd h List.not_mem_nil
  · by_cases e1 : c 0 k = 1
    · rw [ov_o_1 e1] at h
      rw [List.mem_singleton.mp h]; exact hv _
    · by_cases e2 : c 0 k = 2
      · rw [ov_o_2 e2] at h
        rw [List.mem_singleton.mp h]; exact ov_W2 W hk e2
      · rw [ov_o_3 W hk (by omega), List.mem_flatMap] at h
        obtain ⟨i, _, h⟩ := h
        obtain ⟨x, _, y, _, _, _, h⟩ := ov_jn_mem.mp h
        rw [h]
        exact Nat.mod_lt _ (by decide)
/-- applications below a node -/
def ov_ap (c : Nat → Nat → Nat) (k : Nat) : Nat := ov_cs (ov_Q c k) (fun j => if c 0 j = 3 then 1 else 0)
theorem ov_ap_3 (W : ov_W c N) (hk : k < N) : ov_ap c k ≤ 3 := by
  have hn := ov_Wn W
  refine Nat.le_trans ?_ (ov_Wc W)
  have h1 : ov_s 12 (fun j => if j < N then (if c 0 j = 3 then 1 else 0) else 0) = ov_s N (fun j => if c 0 j = 3 then 1 else 0) := ov_sI _ hn
  rw [← h1]
  unfold ov_ap ov_cs
  refine ov_sL 12 (fun j _ => ?_)
  by_cases hq : ov_Q c k j = true
  · have := ov_Q_le W hk hq
    rw [if_pos hq, if_pos (by omega)]
    exact Nat.le_refl _
  · rw [if_neg hq]; exact Nat.zero_le _
theorem ov_cc9 (W : ov_W c N) (f t : Nat) : ov_cc c f t ≤ 9 := by
  have := ov_W7 W (3 * f + t)
  unfold ov_cc
  omega
theorem ov_o_cost (W : ov_W c N) : ∀ (n k : Nat), k < n → k < N → ∀ o, o ∈ ov_o c v k → o.2 ≤ 36 * ov_ap c k + 9 := by
  have hn := ov_Wn W
  intro n
  induction n with
  | zero => intro k h; omega
  | succ n ih =>
    intro k h hk o ho
    have hk3 := ov_Wk W hk
    by_cases e0 : c 0 k = 0
    · rw [ov_o_0 e0, List.mem_flatMap] at ho
      obtain ⟨t, ht, ho⟩ := ho
      split at ho
      · rw [List.mem_singleton.mp ho]
        have := ov_W8 W t
        show c 8 t ≤ _
        omega
      · exact absurd ho List.not_mem_nil
    · by_cases e1 : c 0 k = 1
      · rw [ov_o_1 e1] at ho
        rw [List.mem_singleton.mp ho]; exact Nat.zero_le _
      · by_cases e2 : c 0 k = 2
        · rw [ov_o_2 e2] at ho
          rw [List.mem_singleton.mp ho]; exact Nat.zero_le _
        · have e3 : c 0 k = 3 := by omega
          have ha := ov_Wa W hk e3
          rw [ov_o_3 W hk e3, List.mem_flatMap] at ho
          obtain ⟨i, _, ho⟩ := ho
          obtain ⟨x, hx, y, hy, _, _, ho⟩ := ov_jn_mem.mp ho
          have h1 := ih _ (by omega) (by omega) x hx
          have h2 := ih _ (by omega) (by omega) y hy
          have h3 : ov_ap c k = 1 + ov_ap c (c 2 k) + ov_ap c (c 3 k) := by
            unfold ov_ap
            rw [ov_cs_ap W hk e3, if_pos e3]
          have h4 := ov_cc9 W x.1 (c 5 (4 * c 1 k + i) / 9)
          have h5 := ov_cc9 W y.1 (c 5 (4 * c 1 k + i) / 3 % 3)
          have h6 := ov_W6 W (4 * c 1 k + i)
          rw [ho]
          show c 6 (4 * c 1 k + i) + ov_cc c x.1 (c 5 (4 * c 1 k + i) / 9) + ov_cc c y.1 (c 5 (4 * c 1 k + i) / 3 % 3) + x.2 + y.2 ≤ _
          omega
theorem ov_o_117 (W : ov_W c N) (hk : k < N) {o : Nat × Nat} (h : o ∈ ov_o c v k) : o.2 ≤ 117 := by
  have := ov_o_cost W (k + 1) k (by omega) hk o h
  have := ov_ap_3 W hk
  omega
/-- a good choice is among the outcomes -/
theorem ov_o_mem (W : ov_W c N) {σ : Nat → Nat} (hs : ∀ k, k < N → c 0 k = 0 → σ k < 3) : ∀ (n k : Nat), k < n → k < N → ov_gd (ov_Q c k) (ov_g c v σ) = true → (ov_ty c v σ k, ov_cs (ov_Q c k) (ov_ln c v σ)) ∈ ov_o c v k := by
  have hn := ov_Wn W
  intro n
  induction n with
  | zero => intro k h; omega
  | succ n ih =>
    intro k h hk hg
    have hk3 := ov_Wk W hk
    by_cases e0 : c 0 k = 0
    · rw [ov_gd_leaf (by omega) (by omega)] at hg
      rw [ov_o_0 e0, ov_cs_leaf (by omega) (by omega), List.mem_flatMap]
      refine ⟨σ k, List.mem_range.mpr (hs k hk e0), ?_⟩
      unfold ov_g ov_pk at hg
      rw [if_pos e0, Bool.and_eq_true] at hg
      rw [if_pos hg.1]
      unfold ov_ty ov_ln
      rw [if_pos e0, if_pos e0]
      exact List.mem_singleton.mpr rfl
    · by_cases e1 : c 0 k = 1
      · rw [ov_o_1 e1, ov_cs_leaf (by omega) (by omega)]
        unfold ov_ty ov_ln
        rw [if_neg e0, if_pos e1, if_neg e0, if_neg (by omega)]
        exact List.mem_singleton.mpr rfl
      · by_cases e2 : c 0 k = 2
        · rw [ov_o_2 e2, ov_cs_leaf (by omega) (by omega)]
          unfold ov_ty ov_ln
          rw [if_neg e0, if_neg e1, if_pos e2, if_neg e0, if_neg (by omega)]
          exact List.mem_singleton.mpr rfl
        · have e3 : c 0 k = 3 := by omega
          have ha := ov_Wa W hk e3
          rw [ov_gd_ap W hk e3, Bool.and_eq_true, Bool.and_eq_true] at hg
          have h1 := ih _ (by omega) (by omega) hg.1.2
          have h2 := ih _ (by omega) (by omega) hg.2
          have hg0 := hg.1.1
          unfold ov_g ov_pk ov_cn at hg0
          rw [if_neg e0, if_pos e3, if_pos e3, Bool.and_eq_true, Bool.and_eq_true, decide_eq_true_eq] at hg0
          rw [ov_o_3 W hk e3, List.mem_flatMap]
          refine ⟨σ k, List.mem_range.mpr hg0.1, ov_jn_mem.mpr ⟨_, h1, _, h2, hg0.2.1, hg0.2.2, ?_⟩⟩
          rw [ov_cs_ap W hk e3]
          refine Prod.ext ?_ ?_
          · show ov_ty c v σ k = _
            unfold ov_ty
            rw [if_neg e0, if_neg e1, if_neg e2]
          · show ov_ln c v σ k + _ + _ = _ + _ + _ + ov_cs (ov_Q c (c 2 k)) (ov_ln c v σ) + ov_cs (ov_Q c (c 3 k)) (ov_ln c v σ)
            rw [show ov_ln c v σ k = c 6 (4 * c 1 k + σ k) + ov_cc c (ov_ty c v σ (c 2 k)) (c 5 (4 * c 1 k + σ k) / 9) + ov_cc c (ov_ty c v σ (c 3 k)) (c 5 (4 * c 1 k + σ k) / 3 % 3) by unfold ov_ln; rw [if_neg e0, if_pos e3]]
end
end
section
/-! tables: how many outcomes of a type at a cost; lines; convolution -/
def ov_T (c : Nat → Nat → Nat) (v : Nat → Nat) (k t e : Nat) : Nat := ov_su (fun o => if o.1 = t ∧ o.2 = e then 1 else 0) (ov_o c v k)
def ov_cv (f g : Nat → Nat) (e : Nat) : Nat := ov_s (e + 1) (fun a => f a * g (e - a))
def ov_Ln (c : Nat → Nat → Nat) (v : Nat → Nat) (k a e : Nat) : Nat := ov_s 3 (fun t => if ov_ok c t a = true ∧ ov_cc c t a ≤ e then ov_T c v k t (e - ov_cc c t a) else 0)
def ov_J (c : Nat → Nat → Nat) (v : Nat → Nat) (k s t e : Nat) : Nat :=
  if c 5 s % 3 = t ∧ c 6 s ≤ e then ov_cv (ov_Ln c v (c 2 k) (c 5 s / 9)) (ov_Ln c v (c 3 k) (c 5 s / 3 % 3)) (e - c 6 s) else 0
theorem ov_line (okf : Nat → Bool) (cf : Nat → Nat) (L : List (Nat × Nat)) (hL : ∀ x, x ∈ L → x.1 < 3) (e : Nat) : ov_s 3 (fun t => if okf t = true ∧ cf t ≤ e then ov_su (fun o => if o.1 = t ∧ o.2 = e - cf t then 1 else 0) L else 0) = ov_su (fun x => if okf x.1 = true ∧ x.2 + cf x.1 = e then 1 else 0) L := by
  have h1 : ∀ t, t < 3 → (if okf t = true ∧ cf t ≤ e then ov_su (fun o => if o.1 = t ∧ o.2 = e - cf t then 1 else 0) L else 0) = ov_su (fun x => if t = x.1 then (if okf x.1 = true ∧ x.2 + cf x.1 = e then 1 else 0) else 0) L := by
    intro t _
    by_cases h : okf t = true ∧ cf t ≤ e
    · rw [if_pos h]
      refine ov_uC L (fun x _ => ?_)
      by_cases ht : t = x.1
      · rw [if_pos ht]
        subst ht
        by_cases h2 : x.2 + cf x.1 = e
        · rw [if_pos ⟨rfl, by omega⟩, if_pos ⟨h.1, h2⟩]
        · rw [if_neg (by omega), if_neg (by omega)]
      · rw [if_neg ht, if_neg (by omega)]
    · rw [if_neg h]
      refine (ov_uZ L (fun x _ => ?_)).symm
      by_cases ht : t = x.1
      · rw [if_pos ht]
        subst ht
        refine if_neg (fun h2 => h ⟨h2.1, by omega⟩)
      · rw [if_neg ht]
  rw [ov_sC 3 h1, ← ov_uS]
  refine ov_uC L (fun x hx => ?_)
  rw [ov_sD x.1 (fun _ => if okf x.1 = true ∧ x.2 + cf x.1 = e then 1 else 0) 3, if_pos (hL x hx)]
section
variable {α β : Type}
theorem ov_conv (p : α → Bool) (r : β → Bool) (A : α → Nat) (B : β → Nat) (L : List α) (M : List β) (e : Nat) : ov_cv (fun a => ov_su (fun x => if p x = true ∧ A x = a then 1 else 0) L) (fun b => ov_su (fun y => if r y = true ∧ B y = b then 1 else 0) M) e = ov_su (fun x => ov_su (fun y => if p x = true ∧ r y = true ∧ A x + B y = e then 1 else 0) M) L := by
  unfold ov_cv
  have h1 : ∀ a, a < e + 1 → ov_su (fun x => if p x = true ∧ A x = a then 1 else 0) L * ov_su (fun y => if r y = true ∧ B y = e - a then 1 else 0) M = ov_su (fun x => ov_su (fun y => (if p x = true ∧ A x = a then 1 else 0) * (if r y = true ∧ B y = e - a then 1 else 0)) M) L := by
    intro a _
    rw [← ov_uMr]
    exact ov_uC L (fun x _ => (ov_uM _ _ M).symm)
  rw [ov_sC _ h1, ← ov_uS]
  refine ov_uC L (fun x _ => ?_)
  rw [← ov_uS]
  refine ov_uC M (fun y _ => ?_)
  have h2 : ∀ a, a < e + 1 → (if p x = true ∧ A x = a then 1 else 0) * (if r y = true ∧ B y = e - a then 1 else 0) = if a = A x then (if p x = true ∧ r y = true ∧ A x + B y = e then 1 else 0) else 0 := by
    intro a ha
    by_cases h : a = A x
    · subst h
      rw [if_pos rfl]
      by_cases hp : p x = true
      · rw [if_pos ⟨hp, rfl⟩, Nat.one_mul]
        by_cases hr : r y = true ∧ B y = e - A x
        · rw [if_pos hr, if_pos ⟨hp, hr.1, by omega⟩]
        · rw [if_neg hr, if_neg (fun h3 => hr ⟨h3.2.1, by omega⟩)]
      · rw [if_neg (fun h3 => hp h3.1), Nat.zero_mul, if_neg (fun h3 => hp h3.1)]
    · rw [if_neg h, if_neg (by omega), Nat.zero_mul]
  rw [ov_sC _ h2, ov_sD (A x) (fun _ => if p x = true ∧ r y = true ∧ A x + B y = e then 1 else 0)]
  by_cases h : A x < e + 1
  · rw [if_pos h]
  · rw [if_neg h, if_neg (by omega)]
end
section
variable {c : Nat → Nat → Nat} {v : Nat → Nat} {N k : Nat}
theorem ov_T_0 (e0 : c 0 k = 0) {t : Nat} (ht : t < 3) (e : Nat) : ov_T c v k t e = if c 1 k / 2 ^ t % 2 = 1 ∧ c 8 t = e then 1 else 0 := by
  unfold ov_T
  rw [ov_o_0 e0, ov_uR]
  have h1 : ∀ i, i < 3 → ov_su (fun o : Nat × Nat => if o.1 = t ∧ o.2 = e then 1 else 0) (if decide (c 1 k / 2 ^ i % 2 = 1) = true then [(i, c 8 i)] else []) = if i = t then (if c 1 k / 2 ^ i % 2 = 1 ∧ c 8 i = e then 1 else 0) else 0 := by
    intro i _
    rw [ov_uI]
    by_cases h : i = t
    · subst h
      by_cases hb : c 1 k / 2 ^ i % 2 = 1
      · rw [if_pos (decide_eq_true hb), if_pos rfl]
        by_cases h8 : c 8 i = e
        · rw [if_pos ⟨rfl, h8⟩, if_pos ⟨hb, h8⟩]
        · rw [if_neg (fun z => h8 z.2), if_neg (fun z => h8 z.2)]
      · rw [if_neg (by rw [decide_eq_true_eq]; exact hb), if_pos rfl, if_neg (fun z => hb z.1)]
    · rw [if_neg h]
      by_cases hb : decide (c 1 k / 2 ^ i % 2 = 1) = true
      · rw [if_pos hb, if_neg (fun z => h z.1)]
      · rw [if_neg hb]
  rw [ov_sC 3 h1, ov_sD t (fun i => if c 1 k / 2 ^ i % 2 = 1 ∧ c 8 i = e then 1 else 0), if_pos ht]
theorem ov_T_1 (e1 : c 0 k = 1) (t e : Nat) : ov_T c v k t e = if v (c 1 k) = t ∧ 0 = e then 1 else 0 := by
  unfold ov_T
  rw [ov_o_1 e1]
  exact Nat.add_zero _
theorem ov_T_2 (e2 : c 0 k = 2) (t e : Nat) : ov_T c v k t e = if c 1 k = t ∧ 0 = e then 1 else 0 := by
  unfold ov_T
  rw [ov_o_2 e2]
  exact Nat.add_zero _
theorem ov_Ln_u (W : ov_W c N) (hv : ∀ i, v i < 3) (hk : k < N) (a e : Nat) : ov_Ln c v k a e = ov_su (fun x => if ov_ok c x.1 a = true ∧ x.2 + ov_cc c x.1 a = e then 1 else 0) (ov_o c v k) :=
  ov_line (fun t => ov_ok c t a) (fun t => ov_cc c t a) (ov_o c v k) (fun _ hx => ov_o_lt W hv hk hx) e
theorem ov_J_u (W : ov_W c N) (hv : ∀ i, v i < 3) (hk : k < N) (e3 : c 0 k = 3) (s t e : Nat) : ov_J c v k s t e = ov_su (fun o => if o.1 = t ∧ o.2 = e then 1 else 0) (ov_jn c s (ov_o c v (c 2 k)) (ov_o c v (c 3 k))) := by
  have ha := ov_Wa W hk e3
  rw [ov_jn_u]
  unfold ov_J
  have e1 : ov_Ln c v (c 2 k) (c 5 s / 9) = fun e => ov_su (fun x => if ov_ok c x.1 (c 5 s / 9) = true ∧ x.2 + ov_cc c x.1 (c 5 s / 9) = e then 1 else 0) (ov_o c v (c 2 k)) := funext fun e => ov_Ln_u W hv (by omega) _ e
  have e2 : ov_Ln c v (c 3 k) (c 5 s / 3 % 3) = fun e => ov_su (fun x => if ov_ok c x.1 (c 5 s / 3 % 3) = true ∧ x.2 + ov_cc c x.1 (c 5 s / 3 % 3) = e then 1 else 0) (ov_o c v (c 3 k)) := funext fun e => ov_Ln_u W hv (by omega) _ e
  rw [e1, e2, ov_conv (fun x : Nat × Nat => ov_ok c x.1 (c 5 s / 9)) (fun y : Nat × Nat => ov_ok c y.1 (c 5 s / 3 % 3)) (fun x => x.2 + ov_cc c x.1 (c 5 s / 9)) (fun y => y.2 + ov_cc c y.1 (c 5 s / 3 % 3))]
  by_cases h : c 5 s % 3 = t ∧ c 6 s ≤ e
  · rw [if_pos h]
    refine ov_uC _ (fun x _ => ov_uC _ (fun y _ => ?_))
    by_cases hx : ov_ok c x.1 (c 5 s / 9) = true
    · by_cases hy : ov_ok c y.1 (c 5 s / 3 % 3) = true
      · rw [if_pos (show (ov_ok c x.1 (c 5 s / 9) && ov_ok c y.1 (c 5 s / 3 % 3)) = true by rw [hx, hy]; rfl)]
        by_cases he : x.2 + ov_cc c x.1 (c 5 s / 9) + (y.2 + ov_cc c y.1 (c 5 s / 3 % 3)) = e - c 6 s
        · rw [if_pos ⟨hx, hy, he⟩, if_pos ⟨h.1, by show c 6 s + _ + _ + _ + _ = e; omega⟩]
        · rw [if_neg (fun z => he z.2.2), if_neg (fun z => he (by have := z.2; dsimp only at this; omega))]
      · rw [if_neg (fun z => hy z.2.1), if_neg (by rw [Bool.and_eq_true]; exact fun z => hy z.2)]
    · rw [if_neg (fun z => hx z.1), if_neg (by rw [Bool.and_eq_true]; exact fun z => hx z.1)]
  · rw [if_neg h]
    refine (ov_uZ _ (fun x _ => ov_uZ _ (fun y _ => ?_))).symm
    by_cases hb : (ov_ok c x.1 (c 5 s / 9) && ov_ok c y.1 (c 5 s / 3 % 3)) = true
    · rw [if_pos hb, if_neg (fun z => h ⟨z.1, by have := z.2; dsimp only at this; omega⟩)]
    · rw [if_neg hb]
theorem ov_T_3 (W : ov_W c N) (hv : ∀ i, v i < 3) (hk : k < N) (e3 : c 0 k = 3) (t e : Nat) : ov_T c v k t e = ov_s (c 4 (c 1 k)) (fun i => ov_J c v k (4 * c 1 k + i) t e) := by
  unfold ov_T
  rw [ov_o_3 W hk e3, ov_uR]
  exact ov_sC _ (fun i _ => (ov_J_u W hv hk e3 _ t e).symm)
theorem ov_T_b (W : ov_W c N) (hk : k < N) (t e : Nat) : ov_T c v k t e ≤ 4 ^ 12 := by
  refine Nat.le_trans (ov_uB (fun o => ?_) _) (ov_len (v := v) W hk)
  split <;> omega
/-- the convolution as the loop adds it up: a steps of the outer loop -/
theorem ov_cv_lp (f g : Nat → Nat) {e m : Nat} (h : e < m) : ov_s m (fun a => if a < e + 1 then f a * g (e - a) else 0) = ov_cv f g e := ov_sI (fun a => f a * g (e - a)) (h := e + 1) (m := m) (by omega)
end
end
section
/-! all codes of the reference against the list of costs over the nine pairs -/
def ov_us (c : Nat → Nat → Nat) (k x : Nat) : Bool := !ov_al 12 (fun j => !(ov_Q c k j && decide (c 0 j = 1) && decide (c 1 j = x)))
theorem ov_us_iff (c : Nat → Nat → Nat) (k x : Nat) : ov_us c k x = true ↔ ∃ j, j < 12 ∧ ov_Q c k j = true ∧ c 0 j = 1 ∧ c 1 j = x := by
  unfold ov_us
  constructor
  · intro h
    rw [Bool.not_eq_true'] at h
    refine Classical.byContradiction fun hn => ?_
    have : ov_al 12 (fun j => !(ov_Q c k j && decide (c 0 j = 1) && decide (c 1 j = x))) = true := by
      rw [ov_al_iff]
      intro j hj
      cases hb : (ov_Q c k j && decide (c 0 j = 1) && decide (c 1 j = x)) with
      | false => rfl
      | true =>
        rw [Bool.and_eq_true, Bool.and_eq_true, decide_eq_true_eq, decide_eq_true_eq] at hb
        exact (hn ⟨j, hj, hb.1.1, hb.1.2, hb.2⟩).elim
    rw [this] at h
    exact absurd h (by decide)
  · rintro ⟨j, hj, h1, h2, h3⟩
    cases hb : ov_al 12 (fun j => !(ov_Q c k j && decide (c 0 j = 1) && decide (c 1 j = x))) with
    | false => rfl
    | true =>
      have := (ov_al_iff _ 12).mp hb j hj
      rw [h1, decide_eq_true h2, decide_eq_true h3] at this
      exact absurd this (by decide)
def ov_mh (c : Nat → Nat → Nat) (k x t : Nat) : Bool := if ov_us c k x = true then decide (c 9 x / 2 ^ t % 2 = 1) else decide (t = 0)
def ov_ow (c : Nat → Nat → Nat) (w t : Nat) : Bool := if w = 3 then true else ov_ok c t w
def ov_cw (c : Nat → Nat → Nat) (w t : Nat) : Nat := if w = 3 then 0 else ov_cc c t w
def ov_vp (p : Nat) : Nat → Nat := fun i => if i = 0 then p / 3 else if i = 1 then p % 3 else 0
theorem ov_vp3 {p : Nat} (hp : p < 9) (i : Nat) : ov_vp p i < 3 := by
  unfold ov_vp
  split
  · omega
  · split <;> omega
def ov_fl (c : Nat → Nat → Nat) (w : Nat) (L : List (Nat × Nat)) : List Nat := L.flatMap (fun o => if ov_ow c w o.1 = true then [o.2 + ov_cw c w o.1] else [])
def ov_AL (c : Nat → Nat → Nat) (k w : Nat) : List Nat := (List.range 9).flatMap (fun p => if (ov_mh c k 0 (p / 3) && ov_mh c k 1 (p % 3)) = true then ov_fl c w (ov_o c (ov_vp p) k) else [])
def ov_r (c : Nat → Nat → Nat) (k j : Nat) : Nat := if j < 12 then ov_rd c (ov_Q c k) j else if j = 12 then (if ov_us c k 0 = true then 3 else 1) else if j = 13 then (if ov_us c k 1 = true then 3 else 1) else 1
def ov_vr (σ : Nat → Nat) : Nat → Nat := fun i => if i < 2 then σ (12 + i) else 0
/-- the variables' picks are among their sets -/
def ov_vb (c : Nat → Nat → Nat) (k x t : Nat) : Bool := !ov_us c k x || decide (c 9 x / 2 ^ t % 2 = 1)
def ov_fit (c : Nat → Nat → Nat) (k w : Nat) (σ : Nat → Nat) : Bool := ov_vb c k 1 (σ 13) && (ov_vb c k 0 (σ 12) && (ov_gd (ov_Q c k) (ov_g c (ov_vr σ) σ) && ov_ow c w (ov_ty c (ov_vr σ) σ k)))
def ov_pr (c : Nat → Nat → Nat) (k w : Nat) (σ : Nat → Nat) : Nat := ov_cs (ov_Q c k) (ov_ln c (ov_vr σ) σ) + ov_cw c w (ov_ty c (ov_vr σ) σ k)
def ov_F (c : Nat → Nat → Nat) (k w : Nat) (ψ : Nat → Nat) (σ : Nat → Nat) : Nat := if ov_fit c k w σ = true then ψ (ov_pr c k w σ) else 0
theorem ov_fl_u (c : Nat → Nat → Nat) (w : Nat) (L : List (Nat × Nat)) (ψ : Nat → Nat) : ov_su ψ (ov_fl c w L) = ov_su (fun o => if ov_ow c w o.1 = true then ψ (o.2 + ov_cw c w o.1) else 0) L := by
  unfold ov_fl
  rw [ov_uF]
  exact ov_uC L (fun x _ => ov_uI _ _ _)
theorem ov_if3 (u : Bool) (b : Nat → Bool) (F : Nat → Nat) : ov_s (if u = true then 3 else 1) (fun x => if (!u || b x) = true then F x else 0) = ov_s 3 (fun x => if (if u = true then b x else decide (x = 0)) = true then F x else 0) := by
  cases u <;> rfl
theorem ov_s33 (f : Nat → Nat → Nat) : ov_s 9 (fun p => f (p / 3) (p % 3)) = ov_s 3 (fun y => ov_s 3 (fun x => f x y)) := by
  show 0 + f 0 0 + f 0 1 + f 0 2 + f 1 0 + f 1 1 + f 1 2 + f 2 0 + f 2 1 + f 2 2 = 0 + (0 + f 0 0 + f 1 0 + f 2 0) + (0 + f 0 1 + f 1 1 + f 2 1) + (0 + f 0 2 + f 1 2 + f 2 2)
  omega
theorem ov_ifand (a b : Bool) (x : Nat) : (if (a && b) = true then x else 0) = if a = true then (if b = true then x else 0) else 0 := by
  cases a <;> cases b <;> rfl
section
variable {c : Nat → Nat → Nat} {N k w : Nat}
theorem ov_E_c {v : Nat → Nat} (W : ov_W c N) (hk : k < N) (φ : Nat → Nat → Nat) {σ τ : Nat → Nat} (h : ∀ j, ov_Q c k j = true → σ j = τ j) : ov_E c v k φ σ = ov_E c v k φ τ := by
  unfold ov_E
  rw [ov_gd_c W hk h, ov_cs_c W hk h, ov_ty_c (h k ov_Q_self)]
theorem ov_r_p (c : Nat → Nat → Nat) (k j : Nat) : 0 < ov_r c k j := by
  unfold ov_r
  split
  · exact ov_rd_p _ _
  · split
    · split <;> omega
    · split
      · split <;> omega
      · omega
theorem ov_r_4 (c : Nat → Nat → Nat) (k j : Nat) : ov_r c k j ≤ 4 := by
  unfold ov_r
  split
  · exact ov_rd_4 _ _
  · split
    · split <;> omega
    · split
      · split <;> omega
      · omega
theorem ov_inner {M : Nat} (hM : M = 12) (W : ov_W c N) (hk : k < N) (ψ : Nat → Nat) {x y : Nat} (hx : x < 3) (hy : y < 3) : ov_SS (ov_r c k) M (fun σ => ov_F c k w ψ (ov_set (ov_set σ 12 x) 13 y)) = if ov_vb c k 1 y = true then (if ov_vb c k 0 x = true then ov_su ψ (ov_fl c w (ov_o c (ov_vp (3 * x + y)) k)) else 0) else 0 := by
  have hn := ov_Wn W
  rw [ov_SSr (ρ' := ov_rd c (ov_Q c k)) M _ (fun j hj => by unfold ov_r; rw [if_pos (by omega)])]
  have h1 : ∀ σ : Nat → Nat, (∀ j, j < M → σ j < ov_rd c (ov_Q c k) j) → (∀ j, M ≤ j → σ j = 0) → ov_F c k w ψ (ov_set (ov_set σ 12 x) 13 y) = if ov_vb c k 1 y = true then (if ov_vb c k 0 x = true then ov_E c (ov_vp (3 * x + y)) k (fun t e => if ov_ow c w t = true then ψ (e + ov_cw c w t) else 0) σ else 0) else 0 := by
    intro σ _ _
    have hv : ov_vr (ov_set (ov_set σ 12 x) 13 y) = ov_vp (3 * x + y) := by
      funext i
      unfold ov_vr ov_vp
      by_cases h0 : i = 0
      · subst h0
        rw [if_pos (by decide), if_pos rfl, ov_set_n (by decide), ov_set_s]
        omega
      · by_cases h1 : i = 1
        · subst h1
          rw [if_pos (by decide), if_neg (by decide), if_pos rfl, ov_set_s]
          omega
        · rw [if_neg (by omega), if_neg h0, if_neg h1]
    have hE := ov_E_c (v := ov_vp (3 * x + y)) W hk (fun t e => if ov_ow c w t = true then ψ (e + ov_cw c w t) else 0) (σ := ov_set (ov_set σ 12 x) 13 y) (τ := σ) (fun j hq => by
      have := ov_Q_le W hk hq
      rw [ov_set_n (by omega), ov_set_n (by omega)])
    rw [← hE]
    unfold ov_F ov_fit ov_pr ov_E
    rw [hv, ov_set_s, ov_set_n (show 12 ≠ 13 by decide), ov_set_s, ov_ifand, ov_ifand, ov_ifand]
  rw [ov_SSC _ M h1]
  cases ov_vb c k 1 y with
  | false =>
    rw [if_neg (by decide), ov_SSC _ M (H := fun _ => 0) (fun τ _ _ => if_neg (by decide))]
    exact ov_SSz _ M
  | true =>
    rw [if_pos rfl]
    cases ov_vb c k 0 x with
    | false =>
      rw [if_neg (by decide), ov_SSC _ M (H := fun _ => 0) (fun τ _ _ => by rw [if_pos rfl, if_neg (by decide)])]
      exact ov_SSz _ M
    | true =>
      rw [if_pos rfl, ov_fl_u, ov_SSC _ M (H := ov_E c (ov_vp (3 * x + y)) k (fun t e => if ov_ow c w t = true then ψ (e + ov_cw c w t) else 0)) (fun τ _ _ => by rw [if_pos rfl, if_pos rfl])]
      exact ov_cnt W (by omega) (k + 1) k (by omega) hk _
theorem ov_codesM {M : Nat} (hM : M = 12) (W : ov_W c N) (hk : k < N) (ψ : Nat → Nat) : ov_s (ov_ps (ov_r c k) (M + 1 + 1)) (fun x => ov_F c k w ψ (ov_dg (ov_r c k) x)) = ov_su ψ (ov_AL c k w) := by
  rw [ov_code (ov_r_p c k) (M + 1 + 1) (ov_F c k w ψ), ov_SS_s]
  have r13 : ov_r c k (M + 1) = if ov_us c k 1 = true then 3 else 1 := by
    unfold ov_r
    rw [if_neg (by omega), if_neg (by omega), if_pos (by omega)]
  have r12 : ov_r c k M = if ov_us c k 0 = true then 3 else 1 := by
    unfold ov_r
    rw [if_neg (by omega), if_pos hM]
  have i3 : ∀ u : Bool, (if u = true then 3 else 1) ≤ 3 := by intro u; cases u <;> decide
  have step : ∀ y, y < ov_r c k (M + 1) → ov_SS (ov_r c k) (M + 1) (fun σ => ov_F c k w ψ (ov_set σ (M + 1) y)) = if ov_vb c k 1 y = true then ov_s 3 (fun x => if ov_mh c k 0 x = true then ov_su ψ (ov_fl c w (ov_o c (ov_vp (3 * x + y)) k)) else 0) else 0 := by
    intro y hy
    have hy3 : y < 3 := by rw [r13] at hy; have := i3 (ov_us c k 1); omega
    have inner : ∀ x, x < ov_r c k M → ov_SS (ov_r c k) M (fun σ => ov_F c k w ψ (ov_set (ov_set σ M x) (M + 1) y)) = if ov_vb c k 1 y = true then (if ov_vb c k 0 x = true then ov_su ψ (ov_fl c w (ov_o c (ov_vp (3 * x + y)) k)) else 0) else 0 := by
      intro x hx
      have hx3 : x < 3 := by rw [r12] at hx; have := i3 (ov_us c k 0); omega
      have h0 := ov_inner (w := w) hM W hk ψ hx3 hy3
      rw [← h0]
      refine ov_SSC _ M (fun σ _ _ => ?_)
      rw [hM]
    rw [ov_SS_s, ov_sC _ inner]
    cases ov_vb c k 1 y with
    | false =>
      rw [if_neg (by decide)]
      exact ov_sZ _ (fun _ _ => if_neg (by decide))
    | true =>
      rw [if_pos rfl, r12]
      refine Eq.trans (ov_sC _ (fun x _ => if_pos rfl)) ?_
      exact ov_if3 (ov_us c k 0) (fun x => decide (c 9 0 / 2 ^ x % 2 = 1)) (fun x => ov_su ψ (ov_fl c w (ov_o c (ov_vp (3 * x + y)) k)))
  rw [ov_sC _ step, r13]
  have h3 := ov_if3 (ov_us c k 1) (fun y => decide (c 9 1 / 2 ^ y % 2 = 1)) (fun y => ov_s 3 (fun x => if ov_mh c k 0 x = true then ov_su ψ (ov_fl c w (ov_o c (ov_vp (3 * x + y)) k)) else 0))
  refine Eq.trans h3 ?_
  unfold ov_AL
  rw [ov_uR]
  have h4 : ∀ p, p < 9 → ov_su ψ (if (ov_mh c k 0 (p / 3) && ov_mh c k 1 (p % 3)) = true then ov_fl c w (ov_o c (ov_vp p) k) else []) = (fun x y => if ov_mh c k 1 y = true then (if ov_mh c k 0 x = true then ov_su ψ (ov_fl c w (ov_o c (ov_vp (3 * x + y)) k)) else 0) else 0) (p / 3) (p % 3) := by
    intro p _
    dsimp only
    rw [show 3 * (p / 3) + p % 3 = p by omega]
    cases ov_mh c k 0 (p / 3) <;> cases ov_mh c k 1 (p % 3) <;> rfl
  refine Eq.trans ?_ (Eq.trans (ov_s33 (fun x y => if ov_mh c k 1 y = true then (if ov_mh c k 0 x = true then ov_su ψ (ov_fl c w (ov_o c (ov_vp (3 * x + y)) k)) else 0) else 0)).symm (ov_sC 9 h4).symm)
  refine ov_sC 3 (fun y _ => ?_)
  show (if ov_mh c k 1 y = true then _ else 0) = _
  cases ov_mh c k 1 y with
  | true => rfl
  | false => exact (ov_sZ 3 (fun _ _ => rfl)).symm
theorem ov_codes (W : ov_W c N) (hk : k < N) (ψ : Nat → Nat) : ov_s (ov_ps (ov_r c k) 14) (fun x => ov_F c k w ψ (ov_dg (ov_r c k) x)) = ov_su ψ (ov_AL c k w) := ov_codesM (M := 12) rfl W hk ψ
theorem ov_tot_b (c : Nat → Nat → Nat) (k : Nat) : ov_ps (ov_r c k) 14 ≤ 4 ^ 14 := ov_ps_b (ov_r_4 c k) 14
theorem ov_AL_len (W : ov_W c N) (hk : k < N) : (ov_AL c k w).length ≤ 4 ^ 14 := by
  rw [← ov_uN, ← ov_codes W hk (fun _ => 1)]
  refine Nat.le_trans (ov_sB (b := 1) _ (fun x _ => ?_)) ?_
  · unfold ov_F
    dsimp only
    split <;> omega
  · rw [Nat.mul_one]; exact ov_tot_b c k
theorem ov_AL_lt (W : ov_W c N) (hk : k < N) {e : Nat} (h : e ∈ ov_AL c k w) : e < 128 := by
  unfold ov_AL at h
  rw [List.mem_flatMap] at h
  obtain ⟨p, _, h⟩ := h
  split at h
  · unfold ov_fl at h
    rw [List.mem_flatMap] at h
    obtain ⟨o, ho, h⟩ := h
    split at h
    · have h1 := ov_o_117 W hk ho
      have h2 : ov_cw c w o.1 ≤ 9 := by
        unfold ov_cw
        split
        · omega
        · exact ov_cc9 W _ _
      rw [List.mem_singleton.mp h]
      omega
    · exact absurd h List.not_mem_nil
  · exact absurd h List.not_mem_nil
/-- the component's total at a cost -/
def ov_to (c : Nat → Nat → Nat) (k w e : Nat) : Nat := ov_su (fun a => if a = e then 1 else 0) (ov_AL c k w)
def ov_tp (c : Nat → Nat → Nat) (k w p e : Nat) : Nat := ov_s 3 (fun t => if ov_ow c w t = true ∧ ov_cw c w t ≤ e then ov_T c (ov_vp p) k t (e - ov_cw c w t) else 0)
theorem ov_to_p (W : ov_W c N) (hk : k < N) (e : Nat) : ov_to c k w e = ov_s 9 (fun p => if (ov_mh c k 0 (p / 3) && ov_mh c k 1 (p % 3)) = true then ov_tp c k w p e else 0) := by
  unfold ov_to ov_AL
  rw [ov_uR]
  refine ov_sC 9 (fun p hp => ?_)
  cases (ov_mh c k 0 (p / 3) && ov_mh c k 1 (p % 3)) with
  | false => rfl
  | true =>
    show ov_su _ (ov_fl c w _) = ov_tp c k w p e
    rw [ov_fl_u]
    unfold ov_tp ov_T
    rw [ov_line (ov_ow c w) (ov_cw c w) (ov_o c (ov_vp p) k) (fun x hx => ov_o_lt W (ov_vp3 hp) hk hx) e]
    exact ov_uC _ (fun x _ => by
      cases ov_ow c w x.1 with
      | false => rfl
      | true =>
        by_cases h : x.2 + ov_cw c w x.1 = e
        · rw [if_pos rfl, if_pos h, if_pos ⟨rfl, h⟩]
        · rw [if_pos rfl, if_neg h, if_neg (fun z => h z.2)])
theorem ov_to_b (W : ov_W c N) (hk : k < N) (e : Nat) : ov_to c k w e ≤ 4 ^ 14 := by
  refine Nat.le_trans (ov_uB (fun o => ?_) _) (ov_AL_len (w := w) W hk)
  split <;> omega
theorem ov_to_sum (W : ov_W c N) (hk : k < N) : ov_s 128 (fun e => ov_to c k w e) = (ov_AL c k w).length := by
  unfold ov_to
  rw [← ov_uS (fun a e => if a = e then 1 else 0), ← ov_uN]
  refine ov_uC _ (fun a ha => ?_)
  have h := ov_sD a (fun _ => 1) 128
  rw [if_pos (ov_AL_lt W hk ha)] at h
  refine Eq.trans (ov_sC 128 (fun i _ => ?_)) h
  by_cases e : i = a
  · rw [if_pos e, if_pos e.symm]
  · rw [if_neg e, if_neg (fun z => e z.symm)]
end
end
section
/-! the unique best choice goes down the tree -/
section
variable {c : Nat → Nat → Nat} {v : Nat → Nat} {N k w : Nat}
theorem ov_T_mem {t e : Nat} (h : 1 ≤ ov_T c v k t e) : (t, e) ∈ ov_o c v k := by
  obtain ⟨o, ho, h⟩ := ov_uP _ h
  by_cases hh : o.1 = t ∧ o.2 = e
  · rw [← hh.1, ← hh.2]; exact ho
  · rw [if_neg hh] at h; omega
theorem ov_mem_T {t e : Nat} (h : (t, e) ∈ ov_o c v k) : 1 ≤ ov_T c v k t e := by
  have := ov_uT (f := fun o : Nat × Nat => if o.1 = t ∧ o.2 = e then 1 else 0) _ h
  rw [if_pos ⟨rfl, rfl⟩] at this
  exact this
def ov_f3 (c : Nat → Nat → Nat) (s t e : Nat) (x y : Nat × Nat) : Nat :=
  if (ov_ok c x.1 (c 5 s / 9) && ov_ok c y.1 (c 5 s / 3 % 3)) = true then (if c 5 s % 3 = t ∧ c 6 s + ov_cc c x.1 (c 5 s / 9) + ov_cc c y.1 (c 5 s / 3 % 3) + x.2 + y.2 = e then 1 else 0) else 0
theorem ov_f3_1 {s t e : Nat} {x y : Nat × Nat} (h1 : ov_ok c x.1 (c 5 s / 9) = true) (h2 : ov_ok c y.1 (c 5 s / 3 % 3) = true) (h3 : c 5 s % 3 = t) (h4 : c 6 s + ov_cc c x.1 (c 5 s / 9) + ov_cc c y.1 (c 5 s / 3 % 3) + x.2 + y.2 = e) : 1 ≤ ov_f3 c s t e x y := by
  unfold ov_f3
  rw [if_pos (by rw [h1, h2]; rfl), if_pos ⟨h3, h4⟩]
  exact Nat.le_refl _
theorem ov_T_f3 (W : ov_W c N) (hk : k < N) (e3 : c 0 k = 3) (t e : Nat) : ov_T c v k t e = ov_s (c 4 (c 1 k)) (fun i => ov_su (fun x => ov_su (fun y => ov_f3 c (4 * c 1 k + i) t e x y) (ov_o c v (c 3 k))) (ov_o c v (c 2 k))) := by
  unfold ov_T
  rw [ov_o_3 W hk e3, ov_uR]
  refine ov_sC _ (fun i _ => ?_)
  rw [ov_jn_u]
  rfl
theorem ov_un (W : ov_W c N) (hk : k < N) (e3 : c 0 k = 3) {σ : Nat → Nat} (hs : ∀ k, k < N → c 0 k = 0 → σ k < 3) (hg : ov_gd (ov_Q c k) (ov_g c v σ) = true) (h1 : ov_T c v k (ov_ty c v σ k) (ov_cs (ov_Q c k) (ov_ln c v σ)) = 1) :
    ov_T c v (c 2 k) (ov_ty c v σ (c 2 k)) (ov_cs (ov_Q c (c 2 k)) (ov_ln c v σ)) = 1 ∧ ov_T c v (c 3 k) (ov_ty c v σ (c 3 k)) (ov_cs (ov_Q c (c 3 k)) (ov_ln c v σ)) = 1 ∧
    ∀ i tl tr a b, i < c 4 (c 1 k) → c 5 (4 * c 1 k + i) % 3 = ov_ty c v σ k → ov_ok c tl (c 5 (4 * c 1 k + i) / 9) = true → ov_ok c tr (c 5 (4 * c 1 k + i) / 3 % 3) = true → c 6 (4 * c 1 k + i) + ov_cc c tl (c 5 (4 * c 1 k + i) / 9) + ov_cc c tr (c 5 (4 * c 1 k + i) / 3 % 3) + a + b = ov_cs (ov_Q c k) (ov_ln c v σ) → 1 ≤ ov_T c v (c 2 k) tl a → 1 ≤ ov_T c v (c 3 k) tr b → i = σ k ∧ tl = ov_ty c v σ (c 2 k) ∧ a = ov_cs (ov_Q c (c 2 k)) (ov_ln c v σ) ∧ tr = ov_ty c v σ (c 3 k) ∧ b = ov_cs (ov_Q c (c 3 k)) (ov_ln c v σ) := by
  have ha := ov_Wa W hk e3
  have hg' := hg
  rw [ov_gd_ap W hk e3, Bool.and_eq_true, Bool.and_eq_true] at hg'
  have m1 := ov_o_mem (v := v) W hs (c 2 k + 1) (c 2 k) (by omega) (by omega) hg'.1.2
  have m2 := ov_o_mem (v := v) W hs (c 3 k + 1) (c 3 k) (by omega) (by omega) hg'.2
  have hg0 := hg'.1.1
  unfold ov_g ov_pk ov_cn at hg0
  rw [if_neg (by omega), if_pos e3, if_pos e3, Bool.and_eq_true, Bool.and_eq_true, decide_eq_true_eq] at hg0
  have t0 : ov_ty c v σ k = c 5 (4 * c 1 k + σ k) % 3 := by
    unfold ov_ty
    rw [if_neg (by omega), if_neg (by omega), if_neg (by omega)]
  have lk : ov_ln c v σ k = c 6 (4 * c 1 k + σ k) + ov_cc c (ov_ty c v σ (c 2 k)) (c 5 (4 * c 1 k + σ k) / 9) + ov_cc c (ov_ty c v σ (c 3 k)) (c 5 (4 * c 1 k + σ k) / 3 % 3) := by
    unfold ov_ln
    rw [if_neg (by omega), if_pos e3]
  have ck := ov_cs_ap W hk e3 (ov_ln c v σ)
  rw [lk] at ck
  rw [ov_T_f3 W hk e3] at h1
  have f0 : 1 ≤ ov_f3 c (4 * c 1 k + σ k) (ov_ty c v σ k) (ov_cs (ov_Q c k) (ov_ln c v σ)) (ov_ty c v σ (c 2 k), ov_cs (ov_Q c (c 2 k)) (ov_ln c v σ)) (ov_ty c v σ (c 3 k), ov_cs (ov_Q c (c 3 k)) (ov_ln c v σ)) := ov_f3_1 hg0.2.1 hg0.2.2 t0.symm ck.symm
  generalize ov_ty c v σ k = t at *
  generalize ov_cs (ov_Q c k) (ov_ln c v σ) = e at *
  generalize ov_ty c v σ (c 2 k) = tl0 at *
  generalize ov_ty c v σ (c 3 k) = tr0 at *
  generalize ov_cs (ov_Q c (c 2 k)) (ov_ln c v σ) = a0 at *
  generalize ov_cs (ov_Q c (c 3 k)) (ov_ln c v σ) = b0 at *
  have up : ∀ i x y, x ∈ ov_o c v (c 2 k) → y ∈ ov_o c v (c 3 k) → 1 ≤ ov_f3 c (4 * c 1 k + i) t e x y → 1 ≤ ov_su (fun y => ov_f3 c (4 * c 1 k + i) t e x y) (ov_o c v (c 3 k)) ∧ 1 ≤ ov_su (fun x => ov_su (fun y => ov_f3 c (4 * c 1 k + i) t e x y) (ov_o c v (c 3 k))) (ov_o c v (c 2 k)) := by
    intro i x y hx hy h
    have a1 := ov_uT (f := fun y => ov_f3 c (4 * c 1 k + i) t e x y) _ hy
    have a2 := ov_uT (f := fun x => ov_su (fun y => ov_f3 c (4 * c 1 k + i) t e x y) (ov_o c v (c 3 k))) _ hx
    omega
  have u0 := up (σ k) _ _ m1 m2 f0
  have g1 : ov_su (fun x => ov_su (fun y => ov_f3 c (4 * c 1 k + σ k) t e x y) (ov_o c v (c 3 k))) (ov_o c v (c 2 k)) ≤ 1 := by
    refine Nat.le_trans ?_ (Nat.le_of_eq h1)
    exact ov_sT (f := fun i => ov_su (fun x => ov_su (fun y => ov_f3 c (4 * c 1 k + i) t e x y) (ov_o c v (c 3 k))) (ov_o c v (c 2 k))) _ hg0.1
  have g2 : ov_su (fun y => ov_f3 c (4 * c 1 k + σ k) t e (tl0, a0) y) (ov_o c v (c 3 k)) ≤ 1 := by
    refine Nat.le_trans ?_ g1
    exact ov_uT (f := fun x => ov_su (fun y => ov_f3 c (4 * c 1 k + σ k) t e x y) (ov_o c v (c 3 k))) _ m1
  refine ⟨Nat.le_antisymm ?_ (ov_mem_T m1), Nat.le_antisymm ?_ (ov_mem_T m2), ?_⟩
  · refine Nat.le_trans (ov_uL _ (fun x _ => ?_)) g1
    by_cases h : x.1 = tl0 ∧ x.2 = a0
    · rw [if_pos h]
      have : x = (tl0, a0) := Prod.ext h.1 h.2
      rw [this]
      exact u0.1
    · rw [if_neg h]; exact Nat.zero_le _
  · refine Nat.le_trans (ov_uL _ (fun y _ => ?_)) g2
    by_cases h : y.1 = tr0 ∧ y.2 = b0
    · rw [if_pos h]
      have : y = (tr0, b0) := Prod.ext h.1 h.2
      rw [this]
      exact f0
    · rw [if_neg h]; exact Nat.zero_le _
  · intro i tl tr a b hi k1 k2 k3 k4 k5 k6
    have n1 := ov_T_mem k5
    have n2 := ov_T_mem k6
    have f1 : 1 ≤ ov_f3 c (4 * c 1 k + i) t e (tl, a) (tr, b) := ov_f3_1 k2 k3 k1 k4
    have u1 := up i _ _ n1 n2 f1
    have ei : i = σ k := ov_sU _ (Nat.le_of_eq h1) hi hg0.1 u1.2 u0.2
    subst ei
    have ex := ov_uU _ g1 n1 m1 u1.1 u0.1
    rw [ex] at f1
    have ey := ov_uU _ g2 n2 m2 f1 f0
    exact ⟨rfl, congrArg Prod.fst ex, congrArg Prod.snd ex, congrArg Prod.fst ey, congrArg Prod.snd ey⟩
theorem ov_to_codes (W : ov_W c N) (hk : k < N) (e : Nat) : ov_s (ov_ps (ov_r c k) 14) (fun x => if ov_fit c k w (ov_dg (ov_r c k) x) = true ∧ ov_pr c k w (ov_dg (ov_r c k) x) = e then 1 else 0) = ov_to c k w e := by
  unfold ov_to
  rw [← ov_codes W hk]
  refine ov_sC _ (fun x _ => ?_)
  unfold ov_F
  cases ov_fit c k w (ov_dg (ov_r c k) x) with
  | false => rfl
  | true =>
    dsimp only
    by_cases h : ov_pr c k w (ov_dg (ov_r c k) x) = e
    · rw [if_pos ⟨rfl, h⟩, if_pos rfl, if_pos h]
    · rw [if_neg (fun z => h z.2), if_pos rfl, if_neg h]
theorem ov_fit_codes (W : ov_W c N) (hk : k < N) : ov_s (ov_ps (ov_r c k) 14) (fun x => if ov_fit c k w (ov_dg (ov_r c k) x) = true then 1 else 0) = (ov_AL c k w).length := by
  rw [← ov_uN, ← ov_codes W hk]
  exact ov_sC _ (fun x _ => rfl)
theorem ov_fit_to (W : ov_W c N) (hk : k < N) {x : Nat} (hx : x < ov_ps (ov_r c k) 14) (hf : ov_fit c k w (ov_dg (ov_r c k) x) = true) : 1 ≤ ov_to c k w (ov_pr c k w (ov_dg (ov_r c k) x)) := by
  rw [← ov_to_codes W hk]
  have := ov_sT (f := fun y => if ov_fit c k w (ov_dg (ov_r c k) y) = true ∧ ov_pr c k w (ov_dg (ov_r c k) y) = ov_pr c k w (ov_dg (ov_r c k) x) then 1 else 0) (i := x) _ hx
  rw [if_pos ⟨hf, rfl⟩] at this
  exact this
theorem ov_to_128 (W : ov_W c N) (hk : k < N) {e : Nat} (h : 1 ≤ ov_to c k w e) : e < 128 := by
  obtain ⟨a, ha, h⟩ := ov_uP _ h
  have := ov_AL_lt W hk ha
  by_cases hh : a = e
  · omega
  · rw [if_neg hh] at h; omega
theorem ov_sig (W : ov_W c N) {σ : Nat → Nat} (hσ : ∀ j, σ j < ov_r c k j) : ∀ j, j < N → c 0 j = 0 → σ j < 3 := by
  have hn := ov_Wn W
  intro j hj e
  have h := hσ j
  unfold ov_r at h
  rw [if_pos (by omega)] at h
  unfold ov_rd at h
  split at h
  · first | exact h | (rw [if_pos e] at h; exact h) | omega
  · omega
theorem ov_root (W : ov_W c N) (hk : k < N) {σ : Nat → Nat} (hσ : ∀ j, σ j < ov_r c k j) (hf : ov_fit c k w σ = true) (h1 : ov_to c k w (ov_pr c k w σ) = 1) :
    ov_gd (ov_Q c k) (ov_g c (ov_vr σ) σ) = true ∧ 3 * σ 12 + σ 13 < 9 ∧ (ov_mh c k 0 ((3 * σ 12 + σ 13) / 3) && ov_mh c k 1 ((3 * σ 12 + σ 13) % 3)) = true ∧ ov_vr σ = ov_vp (3 * σ 12 + σ 13) ∧ ov_ow c w (ov_ty c (ov_vr σ) σ k) = true ∧ ov_ty c (ov_vr σ) σ k < 3 ∧
    ov_T c (ov_vr σ) k (ov_ty c (ov_vr σ) σ k) (ov_cs (ov_Q c k) (ov_ln c (ov_vr σ) σ)) = 1 ∧
    ∀ p t, p < 9 → (ov_mh c k 0 (p / 3) && ov_mh c k 1 (p % 3)) = true → t < 3 → ov_ow c w t = true → ov_cw c w t ≤ ov_pr c k w σ → 1 ≤ ov_T c (ov_vp p) k t (ov_pr c k w σ - ov_cw c w t) → p = 3 * σ 12 + σ 13 ∧ t = ov_ty c (ov_vr σ) σ k := by
  have hn := ov_Wn W
  unfold ov_fit at hf
  rw [Bool.and_eq_true, Bool.and_eq_true, Bool.and_eq_true] at hf
  obtain ⟨f1, f0, hg, ho⟩ := hf
  have mh : ∀ x, ∀ t, ov_vb c k x t = true → t < (if ov_us c k x = true then 3 else 1) → t < 3 ∧ ov_mh c k x t = true := by
    intro x t hb ht
    unfold ov_vb at hb
    unfold ov_mh
    cases hu : ov_us c k x with
    | false =>
      rw [hu] at ht
      have : t < 1 := ht
      exact ⟨by omega, decide_eq_true (show t = 0 by omega)⟩
    | true =>
      rw [hu] at ht hb
      exact ⟨ht, hb⟩
  have b12 := hσ 12
  have b13 := hσ 13
  unfold ov_r at b12 b13
  rw [if_neg (by decide), if_pos rfl] at b12
  rw [if_neg (by decide), if_neg (by decide), if_pos rfl] at b13
  obtain ⟨l0, m0⟩ := mh 0 _ f0 b12
  obtain ⟨l1, m1⟩ := mh 1 _ f1 b13
  have hm : (ov_mh c k 0 ((3 * σ 12 + σ 13) / 3) && ov_mh c k 1 ((3 * σ 12 + σ 13) % 3)) = true := by
    rw [show (3 * σ 12 + σ 13) / 3 = σ 12 by omega, show (3 * σ 12 + σ 13) % 3 = σ 13 by omega, m0, m1]
    rfl
  have hv : ov_vr σ = ov_vp (3 * σ 12 + σ 13) := by
    funext i
    unfold ov_vr ov_vp
    by_cases h0 : i = 0
    · subst h0
      rw [if_pos (by decide), if_pos rfl]
      show σ 12 = _
      omega
    · by_cases h1 : i = 1
      · subst h1
        rw [if_pos (by decide), if_neg (by decide), if_pos rfl]
        show σ 13 = _
        omega
      · rw [if_neg (by omega), if_neg h0, if_neg h1]
  have p9 : 3 * σ 12 + σ 13 < 9 := by omega
  have hmem := ov_o_mem (v := ov_vr σ) W (ov_sig W hσ) (k + 1) k (by omega) hk hg
  have ht3 : ov_ty c (ov_vr σ) σ k < 3 := ov_o_lt W (by rw [hv]; exact ov_vp3 p9) hk hmem
  have hT := ov_mem_T hmem
  have hpr : ov_pr c k w σ = ov_cs (ov_Q c k) (ov_ln c (ov_vr σ) σ) + ov_cw c w (ov_ty c (ov_vr σ) σ k) := rfl
  rw [ov_to_p W hk] at h1
  have tp1 : ∀ p t, t < 3 → ov_ow c w t = true → ov_cw c w t ≤ ov_pr c k w σ → ov_T c (ov_vp p) k t (ov_pr c k w σ - ov_cw c w t) ≤ ov_tp c k w p (ov_pr c k w σ) := by
    intro p t ht h2 h3
    have := ov_sT (f := fun t => if ov_ow c w t = true ∧ ov_cw c w t ≤ ov_pr c k w σ then ov_T c (ov_vp p) k t (ov_pr c k w σ - ov_cw c w t) else 0) (i := t) 3 ht
    rw [if_pos ⟨h2, h3⟩] at this
    exact this
  have hcs : ov_pr c k w σ - ov_cw c w (ov_ty c (ov_vr σ) σ k) = ov_cs (ov_Q c k) (ov_ln c (ov_vr σ) σ) := by omega
  have q0 := tp1 (3 * σ 12 + σ 13) _ ht3 ho (by omega)
  rw [hcs, ← hv] at q0
  have sT := fun p (hp : p < 9) => ov_sT (f := fun p => if (ov_mh c k 0 (p / 3) && ov_mh c k 1 (p % 3)) = true then ov_tp c k w p (ov_pr c k w σ) else 0) (i := p) 9 hp
  have q1 := sT _ p9
  rw [if_pos hm, h1] at q1
  refine ⟨hg, p9, hm, hv, ho, ht3, by omega, ?_⟩
  intro p t hp hmp ht h2 h3 h4
  have q2 := tp1 p t ht h2 h3
  have ep : p = 3 * σ 12 + σ 13 := by
    refine ov_sU (f := fun p => if (ov_mh c k 0 (p / 3) && ov_mh c k 1 (p % 3)) = true then ov_tp c k w p (ov_pr c k w σ) else 0) 9 (Nat.le_of_eq h1) hp p9 ?_ ?_
    · rw [if_pos hmp]; omega
    · rw [if_pos hm]; omega
  refine ⟨ep, ?_⟩
  subst ep
  refine ov_sU (f := fun t => if ov_ow c w t = true ∧ ov_cw c w t ≤ ov_pr c k w σ then ov_T c (ov_vp (3 * σ 12 + σ 13)) k t (ov_pr c k w σ - ov_cw c w t) else 0) 3 q1 ht ht3 ?_ ?_
  · rw [if_pos ⟨h2, h3⟩]; exact h4
  · rw [if_pos ⟨ho, by omega⟩, hcs, ← hv]; exact hT
end
end
section
/-! the component's tables -/
def ov_m (x : Nat) : Int32 := if x = 0 then -1 else nI (x - 1)
theorem ov_m_p {x : Nat} (h : 1 ≤ x) : ov_m x = nI (x - 1) := if_neg (by omega)
theorem ov_m_n {x : Nat} (h : ¬ 1 ≤ x) : ov_m x = -1 := if_pos (by omega)
theorem ov_m3 (t : Nat) : (3 : Int32) * nI t = nI (3 * t) := pk_mul 3 t
theorem ov_m4 (t : Nat) : (4 : Int32) * nI t = nI (4 * t) := pk_mul 4 t
theorem ov_m9 (t : Nat) : (9 : Int32) * nI t = nI (9 * t) := pk_mul 9 t
theorem ov_x128 (t : Nat) : nI t * 128 = nI (t * 128) := pk_mul t 128
theorem ov_d3 {n : Nat} (h : n < 2 ^ 31) : nI n / 3 = nI (n / 3) := pk_div (d := 3) h (by decide) (by decide)
theorem ov_d9 {n : Nat} (h : n < 2 ^ 31) : nI n / 9 = nI (n / 9) := pk_div (d := 9) h (by decide) (by decide)
theorem ov_r3 {n : Nat} (h : n < 2 ^ 31) : nI n - nI n / 3 * 3 = nI (n % 3) := pk_rem (d := 3) h (by decide) (by decide)
theorem ov_at {a : Nat → Int32} {x : Int32} (i : Nat) (hx : x = nI i) (hi : i < 2 ^ 31 := by omega) : a x.toNatClampNeg = a i := by rw [hx, nI_clamp hi]
theorem ov_n30 : ¬ (3 : Int32) = 0 := by decide
theorem ov_n90 : ¬ (9 : Int32) = 0 := by decide
theorem ov_n40 : ¬ (4 : Int32) = 0 := by decide
def ov_b (b : Bool) : Int32 := if b = true then 1 else 0
def ov_XC (c : Nat → Nat → Nat) (cv sg sc ls vs lc so fi lo ri : Nat → Int32) : Prop :=
  (∀ i, cv i = ov_m (c 7 i)) ∧ (∀ i, sg i = nI (c 5 i)) ∧ (∀ i, sc i = nI (c 6 i)) ∧ (∀ i, ls i = nI (c 4 i)) ∧ (∀ i, vs i = nI (c 9 i)) ∧ (∀ i, lc i = nI (c 8 i)) ∧ (∀ i, so i = nI (c 0 i)) ∧ (∀ i, fi i = nI (c 1 i)) ∧ (∀ i, lo i = nI (c 2 i)) ∧ (∀ i, ri i = nI (c 3 i))
/-- adding up into an array, index by index -/
theorem ov_acc (W : Nat → Int32 → (Nat → Int32) → Prop) (K : (Nat → Int32) → Prop) (M B : Nat) (g : Nat → Int32) (hx : ∀ n a, K a → W (n + 1) (nI M) a) (hs : ∀ n i a, i < M → W n (nI (i + 1)) (upd a (B + i) (a (B + i) + g i)) → W (n + 1) (nI i) a) : ∀ (d i : Nat) (a : Nat → Int32), i + d = M → (∀ a', (∀ j, a' j = if B + i ≤ j ∧ j < B + M then a j + g (j - B) else a j) → K a') → W (d + 1) (nI i) a := by
  intro d
  induction d with
  | zero =>
    intro i a h hK
    rw [show i = M by omega]
    exact hx _ _ (hK a (fun j => (if_neg (by omega)).symm))
  | succ d ih =>
    intro i a h hK
    refine hs _ i a (by omega) (ih (i + 1) _ (by omega) (fun a' ha => hK a' (fun j => ?_)))
    rw [ha j]
    by_cases e : j = B + i
    · subst e
      rw [if_neg (by omega), if_pos ⟨Nat.le_refl _, by omega⟩, pk_us, Nat.add_sub_cancel_left]
    · rw [pk_un e]
      by_cases h2 : B + i ≤ j ∧ j < B + M
      · rw [if_pos h2, if_pos ⟨by omega, h2.2⟩]
      · rw [if_neg h2, if_neg (by omega)]
/-- a table's block stands -/
def ov_TB (c : Nat → Nat → Nat) (v : Nat → Nat) (tb : Nat → Int32) (k : Nat) : Prop := ∀ t e, t < 3 → e < 128 → tb ((3 * k + t) * 128 + e) = nI (ov_T c v k t e)
section
variable {c : Nat → Nat → Nat} {v : Nat → Nat} {N k : Nat} {post : SX → Prop} {fn fa fu : Int32} {cv sg sc ls vs lc so fi lo ri ow ip vt tb tt ll rl nd ta ch : Nat → Int32}
theorem ov_gl31 {e b : Nat} (he : e ≤ 128) (hb : b + 128 ≤ 4608) (K : ∀ ll', (∀ j, ll' j = if e ≤ j ∧ j < 128 then ll j + tb (b + (j - e)) else ll j) → post (fn, fa, fu, cv, sg, sc, ls, vs, lc, so, fi, lo, ri, ow, ip, vt, tb, tt, ll', rl, nd, ta, ch)) : wX_gatherLeft_31 post (nI e) (nI b) fn fa fu (128 - e + 1) 0 cv sg sc ls vs lc so fi lo ri ow ip vt tb tt ll rl nd ta ch :=
  ov_acc (fun n x a => wX_gatherLeft_31 post (nI e) (nI b) fn fa fu n x cv sg sc ls vs lc so fi lo ri ow ip vt tb tt a rl nd ta ch) (fun a => post (fn, fa, fu, cv, sg, sc, ls, vs, lc, so, fi, lo, ri, ow, ip, vt, tb, tt, a, rl, nd, ta, ch)) (128 - e) e (fun i => tb (b + i))
    (fun n a hK => pk_le 128 (128 - e + e) (fun _ => hK) (fun h => absurd h (by omega)) rfl (nI_add _ e))
    (fun n i a hi hW => pk_le 128 (i + e) (fun h => absurd h (by omega)) (fun _ => ⟨pk_in (i + e) 128 (by omega) (nI_add i e), pk_in (b + i) 4608 (by omega) (nI_add b i), pk_in (i + e) 128 (by omega) (nI_add i e), nm_r (e' := upd a (e + i) (a (e + i) + tb (b + i))) (by rw [nI_add, nI_add, nI_clamp (by omega), nI_clamp (by omega), Nat.add_comm i e]) (nm_r (nI_1 i) hW)⟩) rfl (nI_add i e))
    (128 - e) 0 ll (by omega) (fun a' h => K a' (fun j => by rw [h j, Nat.add_zero, show e + (128 - e) = 128 by omega]))
theorem ov_gr31 {e b : Nat} (he : e ≤ 128) (hb : b + 128 ≤ 4608) (K : ∀ rl', (∀ j, rl' j = if e ≤ j ∧ j < 128 then rl j + tb (b + (j - e)) else rl j) → post (fn, fa, fu, cv, sg, sc, ls, vs, lc, so, fi, lo, ri, ow, ip, vt, tb, tt, ll, rl', nd, ta, ch)) : wX_gatherRight_31 post (nI e) (nI b) fn fa fu (128 - e + 1) 0 cv sg sc ls vs lc so fi lo ri ow ip vt tb tt ll rl nd ta ch :=
  ov_acc (fun n x a => wX_gatherRight_31 post (nI e) (nI b) fn fa fu n x cv sg sc ls vs lc so fi lo ri ow ip vt tb tt ll a nd ta ch) (fun a => post (fn, fa, fu, cv, sg, sc, ls, vs, lc, so, fi, lo, ri, ow, ip, vt, tb, tt, ll, a, nd, ta, ch)) (128 - e) e (fun i => tb (b + i))
    (fun n a hK => pk_le 128 (128 - e + e) (fun _ => hK) (fun h => absurd h (by omega)) rfl (nI_add _ e))
    (fun n i a hi hW => pk_le 128 (i + e) (fun h => absurd h (by omega)) (fun _ => ⟨pk_in (i + e) 128 (by omega) (nI_add i e), pk_in (b + i) 4608 (by omega) (nI_add b i), pk_in (i + e) 128 (by omega) (nI_add i e), nm_r (e' := upd a (e + i) (a (e + i) + tb (b + i))) (by rw [nI_add, nI_add, nI_clamp (by omega), nI_clamp (by omega), Nat.add_comm i e]) (nm_r (nI_1 i) hW)⟩) rfl (nI_add i e))
    (128 - e) 0 rl (by omega) (fun a' h => K a' (fun j => by rw [h j, Nat.add_zero, show e + (128 - e) = 128 by omega]))
/-- what a side adds to a line for one type -/
def ov_gt (c : Nat → Nat → Nat) (v : Nat → Nat) (s a e t : Nat) : Nat := if ov_ok c t a = true ∧ ov_cc c t a ≤ e then ov_T c v s t (e - ov_cc c t a) else 0
theorem ov_add0 (x : Int32) : x + nI 0 = x := Int32.add_zero x
theorem ov_gL (W : ov_W c N) (H : ov_XC c cv sg sc ls vs lc so fi lo ri) {s t a : Nat} (hs : s < 12) (ht : t < 3) (ha : a < 3) (hT : ov_TB c v tb s) (K : ∀ ll', (∀ e, e < 128 → ll' e = ll e + nI (ov_gt c v s a e t)) → post (fn, fa, fu, cv, sg, sc, ls, vs, lc, so, fi, lo, ri, ow, ip, vt, tb, tt, ll', rl, nd, ta, ch)) : wpX_gatherLeft post (fn, fa, fu, cv, sg, sc, ls, vs, lc, so, fi, lo, ri, ow, ip, vt, tb, tt, ll, rl, nd, ta, ch) (nI s) (nI t) (nI a) := by
  have i9 : (3 : Int32) * nI t + nI a = nI (3 * t + a) := by rw [ov_m3, nI_add]
  have h7 := ov_W7 W (3 * t + a)
  refine And.intro (pk_in (3 * t + a) 9 (by omega) i9) ?_
  refine nm_r (e' := ov_m (c 7 (3 * t + a))) (by rw [i9, nI_clamp (by omega), H.1]) ?_
  refine nm_r (e' := nI ((3 * s + t) * 128)) (by rw [ov_m3, nI_add, ov_x128]) ?_
  by_cases h : 1 ≤ c 7 (3 * t + a)
  · rw [ov_m_p h]
    refine br_f (nI_pos (by omega)) ⟨_, ov_gl31 (e := c 7 (3 * t + a) - 1) (by omega) (by omega) (fun ll' hl => K ll' (fun e he => ?_))⟩
    rw [hl e]
    unfold ov_gt ov_ok ov_cc
    by_cases h2 : c 7 (3 * t + a) - 1 ≤ e
    · rw [if_pos ⟨h2, he⟩, if_pos ⟨decide_eq_true h, h2⟩, hT t _ ht (by omega)]
    · rw [if_neg (fun z => h2 z.1), if_neg (fun z => h2 z.2), ov_add0]
  · rw [ov_m_n h]
    refine br_t (by decide) (K ll (fun e he => ?_))
    unfold ov_gt ov_ok
    rw [if_neg (fun z => h (of_decide_eq_true z.1)), ov_add0]
theorem ov_gR (W : ov_W c N) (H : ov_XC c cv sg sc ls vs lc so fi lo ri) {s t a : Nat} (hs : s < 12) (ht : t < 3) (ha : a < 3) (hT : ov_TB c v tb s) (K : ∀ rl', (∀ e, e < 128 → rl' e = rl e + nI (ov_gt c v s a e t)) → post (fn, fa, fu, cv, sg, sc, ls, vs, lc, so, fi, lo, ri, ow, ip, vt, tb, tt, ll, rl', nd, ta, ch)) : wpX_gatherRight post (fn, fa, fu, cv, sg, sc, ls, vs, lc, so, fi, lo, ri, ow, ip, vt, tb, tt, ll, rl, nd, ta, ch) (nI s) (nI t) (nI a) := by
  have i9 : (3 : Int32) * nI t + nI a = nI (3 * t + a) := by rw [ov_m3, nI_add]
  have h7 := ov_W7 W (3 * t + a)
  refine And.intro (pk_in (3 * t + a) 9 (by omega) i9) ?_
  refine nm_r (e' := ov_m (c 7 (3 * t + a))) (by rw [i9, nI_clamp (by omega), H.1]) ?_
  refine nm_r (e' := nI ((3 * s + t) * 128)) (by rw [ov_m3, nI_add, ov_x128]) ?_
  by_cases h : 1 ≤ c 7 (3 * t + a)
  · rw [ov_m_p h]
    refine br_f (nI_pos (by omega)) ⟨_, ov_gr31 (e := c 7 (3 * t + a) - 1) (by omega) (by omega) (fun rl' hl => K rl' (fun e he => ?_))⟩
    rw [hl e]
    unfold ov_gt ov_ok ov_cc
    by_cases h2 : c 7 (3 * t + a) - 1 ≤ e
    · rw [if_pos ⟨h2, he⟩, if_pos ⟨decide_eq_true h, h2⟩, hT t _ ht (by omega)]
    · rw [if_neg (fun z => h2 z.1), if_neg (fun z => h2 z.2), ov_add0]
  · rw [ov_m_n h]
    refine br_t (by decide) (K rl (fun e he => ?_))
    unfold ov_gt ov_ok
    rw [if_neg (fun z => h (of_decide_eq_true z.1)), ov_add0]
/-- one row of the product -/
theorem ov_j143 {J : Int32 → (Nat → Int32) → (Nat → Int32) → (Nat → Int32) → (Nat → Int32) → (Nat → Int32) → (Nat → Int32) → (Nat → Int32) → (Nat → Int32) → (Nat → Int32) → (Nat → Int32) → (Nat → Int32) → (Nat → Int32) → (Nat → Int32) → (Nat → Int32) → (Nat → Int32) → (Nat → Int32) → (Nat → Int32) → (Nat → Int32) → (Nat → Int32) → (Nat → Int32) → Prop} {b m a : Nat} (hm : m ≤ 128) (hb : b + m ≤ 4608) (ha : a < m) (K : ∀ tb', (∀ j, tb' j = if b + a ≤ j ∧ j < b + m then tb j + ll a * rl (j - (b + a)) else tb j) → J (nI (a + 1)) cv sg sc ls vs lc so fi lo ri ow ip vt tb' tt ll rl nd ta ch) : wX_joinSides_143 post J (nI b) (nI m) (nI a) fn fa fu (m - a + 1) 0 cv sg sc ls vs lc so fi lo ri ow ip vt tb tt ll rl nd ta ch :=
  ov_acc (fun n x t => wX_joinSides_143 post J (nI b) (nI m) (nI a) fn fa fu n x cv sg sc ls vs lc so fi lo ri ow ip vt t tt ll rl nd ta ch) (fun t => J (nI (a + 1)) cv sg sc ls vs lc so fi lo ri ow ip vt t tt ll rl nd ta ch) (m - a) (b + a) (fun i => ll a * rl i)
    (fun n t hK => pk_le m (a + (m - a)) (fun _ => nm_r (nI_1 a) hK) (fun h => absurd h (by omega)) rfl (nI_add a _))
    (fun n i t hi hW => pk_le m (a + i) (fun h => absurd h (by omega)) (fun _ => ⟨pk_in (b + a + i) 4608 (by omega) (by rw [nI_add, nI_add]), pk_in a 128 (by omega), pk_in i 128 (by omega), pk_in (b + a + i) 4608 (by omega) (by rw [nI_add, nI_add]), nm_r (e' := upd t (b + a + i) (t (b + a + i) + ll a * rl i)) (by rw [nI_add, nI_add, nI_clamp (by omega), nI_clamp (by omega), nI_clamp (by omega)]) (nm_r (nI_1 i) hW)⟩) rfl (nI_add a i))
    (m - a) 0 tb (by omega) (fun a' h => K a' (fun j => by rw [h j, Nat.add_zero, show b + a + (m - a) = b + m by omega]))
def ov_cp (L R : Nat → Nat) (e a : Nat) : Nat := if a < e + 1 then L a * R (e - a) else 0
theorem ov_j123 {L R : Nat → Nat} {b m : Nat} {tb0 : Nat → Int32} (hm : m ≤ 128) (hb : b + m ≤ 4608) (hL : ∀ e, e < 128 → ll e = nI (L e)) (hR : ∀ e, e < 128 → rl e = nI (R e)) (K : ∀ tb', (∀ j, tb' j = if b ≤ j ∧ j < b + m then tb0 j + nI (ov_s m (ov_cp L R (j - b))) else tb0 j) → post (fn, fa, fu, cv, sg, sc, ls, vs, lc, so, fi, lo, ri, ow, ip, vt, tb', tt, ll, rl, nd, ta, ch)) : ∀ (d a : Nat) (tb : Nat → Int32), a + d = m → (∀ j, tb j = if b ≤ j ∧ j < b + m then tb0 j + nI (ov_s a (ov_cp L R (j - b))) else tb0 j) → wX_joinSides_123 post (nI b) (nI m) fn fa fu (d + 1) (nI a) cv sg sc ls vs lc so fi lo ri ow ip vt tb tt ll rl nd ta ch := by
  intro d
  induction d with
  | zero =>
    intro a tb h hI
    refine pk_le m a (fun _ => K tb (fun j => ?_)) (fun h => absurd h (by omega))
    rw [hI j, show a = m by omega]
  | succ d ih =>
    intro a tb h hI
    refine pk_le m a (fun h => absurd h (by omega)) (fun _ => And.intro (pk_in a 128 (by omega)) ?_)
    have hs : ∀ tb', (∀ j, tb' j = if b + a ≤ j ∧ j < b + m then tb j + ll a * rl (j - (b + a)) else tb j) → wX_joinSides_123 post (nI b) (nI m) fn fa fu (d + 1) (nI (a + 1)) cv sg sc ls vs lc so fi lo ri ow ip vt tb' tt ll rl nd ta ch := by
      intro tb' h2
      refine ih (a + 1) tb' (by omega) (fun j => ?_)
      rw [h2 j, hI j, ov_s1]
      by_cases h3 : b + a ≤ j ∧ j < b + m
      · rw [if_pos h3, if_pos ⟨by omega, h3.2⟩, if_pos ⟨by omega, h3.2⟩, hL a (by omega), hR _ (by omega), pk_mul, Int32.add_assoc, nI_add]
        unfold ov_cp
        rw [if_pos (show a < j - b + 1 by omega), show j - (b + a) = j - b - a by omega]
      · rw [if_neg h3]
        by_cases h4 : b ≤ j ∧ j < b + m
        · rw [if_pos h4, if_pos h4, show ov_cp L R (j - b) a = 0 from if_neg (by omega), Nat.add_zero]
        · rw [if_neg h4, if_neg h4]
    rw [nI_clamp (show a < 2 ^ 31 by omega)]
    by_cases hz : ll a = 0
    · refine br_t hz (nm_r (nI_1 a) (hs tb (fun j => ?_)))
      by_cases h3 : b + a ≤ j ∧ j < b + m
      · rw [if_pos h3, hz, Int32.zero_mul, Int32.add_zero]
      · rw [if_neg h3]
    · exact br_f hz ⟨_, ov_j143 hm hb (by omega) hs⟩
end
end
section
/-! the component: joinSides, fill, fillAll -/
section
variable {c : Nat → Nat → Nat} {v : Nat → Nat} {N k : Nat} {post : SX → Prop} {fn fa fu : Int32} {cv sg sc ls vs lc so fi lo ri ow ip vt tb tt ll rl nd ta ch : Nat → Int32}
/-- a table's block k is raised by J -/
def ov_up (tb tb' : Nat → Int32) (k : Nat) (J : Nat → Nat → Nat) : Prop := (∀ t e, t < 3 → e < 128 → tb' ((3 * k + t) * 128 + e) = tb ((3 * k + t) * 128 + e) + nI (J t e)) ∧ (∀ j, (j < 384 * k ∨ 384 * k + 384 ≤ j) → tb' j = tb j)
theorem ov_blk {k t t' e e' : Nat} (ht : t < 3) (ht' : t' < 3) (he : e < 128) (he' : e' < 128) (h : (3 * k + t) * 128 + e = (3 * k + t') * 128 + e') : t = t' ∧ e = e' := by omega
theorem ov_jsum {L R : Nat → Nat} {tb tb' : Nat → Int32} {r s : Nat} (hr : r < 3) (hs : s ≤ 9) (h : ∀ j, tb' j = if (3 * k + r) * 128 + s ≤ j ∧ j < (3 * k + r) * 128 + s + (128 - s) then tb j + nI (ov_s (128 - s) (ov_cp L R (j - ((3 * k + r) * 128 + s)))) else tb j) : ov_up tb tb' k (fun t e => if r = t ∧ s ≤ e then ov_cv L R (e - s) else 0) := by
  constructor
  · intro t e ht he
    rw [h]
    dsimp only
    by_cases h2 : r = t ∧ s ≤ e
    · obtain ⟨h3, h4⟩ := h2
      subst h3
      rw [if_pos ⟨by omega, by omega⟩, if_pos ⟨rfl, h4⟩, show (3 * k + r) * 128 + e - ((3 * k + r) * 128 + s) = e - s by omega]
      rw [← ov_cv_lp L R (show e - s < 128 - s by omega)]
      rfl
    · rw [if_neg h2, ov_add0, if_neg]
      intro h3
      apply h2
      omega
  · intro j hj
    rw [h, if_neg (by omega)]
theorem ov_j43 (W : ov_W c N) (H : ov_XC c cv sg sc ls vs lc so fi lo ri) (hk : k < N) (e3 : c 0 k = 3) {s : Nat} (hs : s < 12) (hl : ov_TB c v tb (c 2 k)) (hr : ov_TB c v tb (c 3 k)) (K : ∀ tb' ll' rl', ov_up tb tb' k (ov_J c v k s) → post (fn, fa, fu, cv, sg, sc, ls, vs, lc, so, fi, lo, ri, ow, ip, vt, tb', tt, ll', rl', nd, ta, ch)) : ∀ (d t : Nat) (ll rl : Nat → Int32), t + d = 3 → (∀ e, e < 128 → ll e = nI (ov_s t (ov_gt c v (c 2 k) (c 5 s / 9) e))) → (∀ e, e < 128 → rl e = nI (ov_s t (ov_gt c v (c 3 k) (c 5 s / 3 % 3) e))) → wX_joinSides_43 post (nI k) (nI s) (nI (c 5 s)) (d + 1) (nI t) fn fa fu cv sg sc ls vs lc so fi lo ri ow ip vt tb tt ll rl nd ta ch := by
  have hn := ov_Wn W
  have ha := ov_Wa W hk e3
  have h5 := ov_W5 W s
  have h6 := ov_W6 W s
  intro d
  induction d with
  | zero =>
    intro t ll rl h hL hR
    rw [show t = 3 by omega] at hL hR ⊢
    refine pk_le 3 3 (fun _ => ?_) (fun h => absurd h (by omega))
    refine ⟨ov_n30, pk_in s 12 hs, nm_r (e' := nI ((3 * k + c 5 s % 3) * 128 + c 6 s)) (by rw [nI_clamp (by omega), H.2.2.1, ov_r3 (by omega), ov_m3, nI_add, ov_x128, nI_add]) ?_⟩
    refine ⟨pk_in s 12 hs, nm_r (e' := nI (128 - c 6 s)) (by rw [nI_clamp (by omega), H.2.2.1]; exact pk_sub (a := 128) (by omega)) ?_⟩
    refine ⟨_, ov_j123 (L := ov_Ln c v (c 2 k) (c 5 s / 9)) (R := ov_Ln c v (c 3 k) (c 5 s / 3 % 3)) (tb0 := tb) (by omega) (by omega) hL hR (fun tb' h2 => K tb' ll rl ?_) (128 - c 6 s) 0 tb (by omega) (fun j => ?_)⟩
    · exact ov_jsum (by omega) h6 h2
    · rw [ov_s0, ov_add0]
      split <;> rfl
  | succ d ih =>
    intro t ll rl h hL hR
    refine pk_le 3 t (fun h => absurd h (by omega)) (fun _ => ?_)
    refine ⟨pk_in k 12 (by omega), ov_n90, ?_⟩
    rw [nI_clamp (show k < 2 ^ 31 by omega), H.2.2.2.2.2.2.2.2.1 k, ov_d9 (show c 5 s < 2 ^ 31 by omega)]
    refine ov_gL W H (v := v) (by omega) (by omega) (by omega) hl (fun ll' hl' => ?_)
    refine ⟨pk_in k 12 (by omega), ov_n30, ov_n30, ?_⟩
    rw [H.2.2.2.2.2.2.2.2.2 k, ov_d3 (show c 5 s < 2 ^ 31 by omega), ov_r3 (show c 5 s / 3 < 2 ^ 31 by omega)]
    refine ov_gR W H (v := v) (by omega) (by omega) (by omega) hr (fun rl' hr' => ?_)
    refine nm_r (nI_1 t) (ih (t + 1) ll' rl' (by omega) (fun e he => ?_) (fun e he => ?_))
    · rw [hl' e he, hL e he, nI_add, ov_s1]
    · rw [hr' e he, hR e he, nI_add, ov_s1]
theorem ov_j10 {x1 x2 x3 : Int32} (K : ∀ ll' rl', (∀ e, e < 128 → ll' e = 0) → (∀ e, e < 128 → rl' e = 0) → ∃ n, wX_joinSides_43 post x1 x2 x3 n 0 fn fa fu cv sg sc ls vs lc so fi lo ri ow ip vt tb tt ll' rl' nd ta ch) : ∀ (d i : Nat) (ll rl : Nat → Int32), i + d = 128 → (∀ e, e < i → ll e = 0) → (∀ e, e < i → rl e = 0) → wX_joinSides_10 post x1 x2 x3 fn fa fu (d + 1) (nI i) cv sg sc ls vs lc so fi lo ri ow ip vt tb tt ll rl nd ta ch := by
  intro d
  induction d with
  | zero =>
    intro i ll rl h h1 h2
    rw [show i = 128 by omega] at h1 h2 ⊢
    exact pk_le 128 128 (fun _ => K ll rl h1 h2) (fun h => absurd h (by omega))
  | succ d ih =>
    intro i ll rl h h1 h2
    refine pk_le 128 i (fun h => absurd h (by omega)) (fun _ => And.intro (pk_in i 128 (by omega)) ?_)
    rw [nI_clamp (show i < 2 ^ 31 by omega)]
    refine nm_e (And.intro (pk_in i 128 (by omega)) (nm_e (nm_r (nI_1 i) (ih (i + 1) _ _ (by omega) (fun e he => ?_) (fun e he => ?_)))))
    · by_cases h3 : e = i
      · rw [h3, pk_us]
      · rw [pk_un h3]; exact h1 e (by omega)
    · by_cases h3 : e = i
      · rw [h3, pk_us]
      · rw [pk_un h3]; exact h2 e (by omega)
theorem ov_xjoin (W : ov_W c N) (H : ov_XC c cv sg sc ls vs lc so fi lo ri) (hk : k < N) (e3 : c 0 k = 3) {s : Nat} (hs : s < 12) (hl : ov_TB c v tb (c 2 k)) (hr : ov_TB c v tb (c 3 k)) (K : ∀ tb' ll' rl', ov_up tb tb' k (ov_J c v k s) → post (fn, fa, fu, cv, sg, sc, ls, vs, lc, so, fi, lo, ri, ow, ip, vt, tb', tt, ll', rl', nd, ta, ch)) : wpX_joinSides post (fn, fa, fu, cv, sg, sc, ls, vs, lc, so, fi, lo, ri, ow, ip, vt, tb, tt, ll, rl, nd, ta, ch) (nI k) (nI s) := by
  refine And.intro (pk_in s 12 hs) ?_
  refine nm_r (e' := nI (c 5 s)) (by rw [nI_clamp (by omega), H.2.1]) ?_
  refine ⟨_, ov_j10 (fun ll' rl' h1 h2 => ⟨_, ov_j43 W H (v := v) hk e3 hs hl hr K 3 0 ll' rl' (by omega) (fun e he => ?_) (fun e he => ?_)⟩) 128 0 ll rl (by omega) (fun e he => absurd he (Nat.not_lt_zero e)) (fun e he => absurd he (Nat.not_lt_zero e))⟩
  · rw [h1 e he]; rfl
  · rw [h2 e he]; rfl
theorem ov_f160 (W : ov_W c N) (H : ov_XC c cv sg sc ls vs lc so fi lo ri) (hv : ∀ i, v i < 3) (hk : k < N) (e3 : c 0 k = 3) (K : ∀ tb' ll' rl', ov_TB c v tb' k → (∀ j, (j < 384 * k ∨ 384 * k + 384 ≤ j) → tb' j = tb j) → post (fn, fa, fu, cv, sg, sc, ls, vs, lc, so, fi, lo, ri, ow, ip, vt, tb', tt, ll', rl', nd, ta, ch)) : ∀ (d i : Nat) (tb1 ll rl : Nat → Int32), i + d = c 4 (c 1 k) → ov_TB c v tb1 (c 2 k) → ov_TB c v tb1 (c 3 k) → (∀ t e, t < 3 → e < 128 → tb1 ((3 * k + t) * 128 + e) = nI (ov_s i (fun i => ov_J c v k (4 * c 1 k + i) t e))) → (∀ j, (j < 384 * k ∨ 384 * k + 384 ≤ j) → tb1 j = tb j) → wX_fill_160 post (nI k) (d + 1) (nI i) fn fa fu cv sg sc ls vs lc so fi lo ri ow ip vt tb1 tt ll rl nd ta ch := by
  have hn := ov_Wn W
  have ha := ov_Wa W hk e3
  have h4 := ov_W4 W (c 1 k)
  have hfi : fi (nI k).toNatClampNeg = nI (c 1 k) := by rw [nI_clamp (by omega), H.2.2.2.2.2.2.2.1]
  have hls : ls (nI (c 1 k)).toNatClampNeg = nI (c 4 (c 1 k)) := by rw [nI_clamp (by omega), H.2.2.2.1]
  intro d
  induction d with
  | zero =>
    intro i tb1 ll rl h hl hr hI hO
    refine And.intro (pk_in k 12 (by omega)) ?_
    rw [hfi, hls]
    refine And.intro (pk_in (c 1 k) 3 (by omega)) (pk_le (c 4 (c 1 k)) i (fun _ => K tb1 ll rl (fun t e ht he => ?_) hO) (fun h => absurd h (by omega)))
    rw [hI t e ht he, ov_T_3 W hv hk e3, show i = c 4 (c 1 k) by omega]
  | succ d ih =>
    intro i tb1 ll rl h hl hr hI hO
    refine And.intro (pk_in k 12 (by omega)) ?_
    rw [hfi, hls]
    refine And.intro (pk_in (c 1 k) 3 (by omega)) (pk_le (c 4 (c 1 k)) i (fun h => absurd h (by omega)) (fun _ => And.intro (pk_in k 12 (by omega)) ?_))
    rw [ov_m4, nI_add]
    refine ov_xjoin W H (v := v) hk e3 (by omega) hl hr (fun tb' ll' rl' hu => ?_)
    refine nm_r (nI_1 i) (ih (i + 1) tb' ll' rl' (by omega) ?_ ?_ ?_ ?_)
    · intro t e ht he
      rw [hu.2 _ (by omega)]
      exact hl t e ht he
    · intro t e ht he
      rw [hu.2 _ (by omega)]
      exact hr t e ht he
    · intro t e ht he
      rw [hu.1 t e ht he, hI t e ht he, nI_add, ov_s1]
    · intro j hj
      rw [hu.2 j hj]
      exact hO j hj
theorem ov_f43 (W : ov_W c N) (H : ov_XC c cv sg sc ls vs lc so fi lo ri) (hk : k < N) (e0 : c 0 k = 0) (K : ∀ tb', ov_TB c v tb' k → (∀ j, (j < 384 * k ∨ 384 * k + 384 ≤ j) → tb' j = tb j) → post (fn, fa, fu, cv, sg, sc, ls, vs, lc, so, fi, lo, ri, ow, ip, vt, tb', tt, ll, rl, nd, ta, ch)) : ∀ (d i : Nat) (tb1 : Nat → Int32), i + d = 3 → (∀ t e, t < 3 → e < 128 → tb1 ((3 * k + t) * 128 + e) = nI (if t < i then ov_T c v k t e else 0)) → (∀ j, (j < 384 * k ∨ 384 * k + 384 ≤ j) → tb1 j = tb j) → wX_fill_43 post (nI k) (nI (3 * k * 128)) fn fa fu (d + 1) (nI i) cv sg sc ls vs lc so fi lo ri ow ip vt tb1 tt ll rl nd ta ch := by
  have hn := ov_Wn W
  have h7 := ov_W0 W hk e0
  intro d
  induction d with
  | zero =>
    intro i tb1 h hI hO
    rw [show i = 3 by omega] at hI ⊢
    refine pk_le 3 3 (fun _ => K tb1 (fun t e ht he => ?_) hO) (fun h => absurd h (by omega))
    rw [hI t e ht he, if_pos ht]
  | succ d ih =>
    intro i tb1 h hI hO
    have h8 := ov_W8 W i
    refine pk_le 3 i (fun h => absurd h (by omega)) (fun _ => And.intro (pk_in k 12 (by omega)) ?_)
    rw [nI_clamp (show k < 2 ^ 31 by omega), H.2.2.2.2.2.2.2.1 k, ov_bit (show c 1 k < 2 ^ 31 by omega) (show i < 32 by omega)]
    refine pk_eq (c 1 k / 2 ^ i % 2) 1 (fun hb => ?_) (fun hb => ?_)
    · refine And.intro (pk_in i 3 (by omega)) ?_
      have hx : nI (3 * k * 128) + nI i * 128 + lc (nI i).toNatClampNeg = nI ((3 * k + i) * 128 + c 8 i) := by
        rw [nI_clamp (by omega), H.2.2.2.2.2.1, ov_x128, nI_add, nI_add]
        exact congrArg nI (by omega)
      rw [hx]
      refine And.intro (pk_in ((3 * k + i) * 128 + c 8 i) 4608 (by omega)) ?_
      rw [nI_clamp (show (3 * k + i) * 128 + c 8 i < 2 ^ 31 by omega)]
      refine nm_e (nm_r (nI_1 i) (ih (i + 1) _ (by omega) (fun t e ht he => ?_) (fun j hj => ?_)))
      · by_cases h3 : (3 * k + t) * 128 + e = (3 * k + i) * 128 + c 8 i
        · rw [h3, pk_us, if_pos (by omega)]
          have : t = i ∧ e = c 8 i := by omega
          rw [this.1, this.2, ov_T_0 e0 (by omega), if_pos ⟨hb, rfl⟩]
          rfl
        · rw [pk_un h3, hI t e ht he]
          by_cases h4 : t < i
          · rw [if_pos h4, if_pos (by omega)]
          · rw [if_neg h4]
            by_cases h5 : t = i
            · subst h5
              rw [if_pos (by omega), ov_T_0 e0 (by omega), if_neg (fun z => h3 (by rw [z.2]))]
            · rw [if_neg (by omega)]
      · rw [pk_un (by omega)]; exact hO j hj
    · refine nm_r (nI_1 i) (ih (i + 1) tb1 (by omega) (fun t e ht he => ?_) hO)
      rw [hI t e ht he]
      by_cases h4 : t < i
      · rw [if_pos h4, if_pos (by omega)]
      · rw [if_neg h4]
        by_cases h5 : t = i
        · subst h5
          rw [if_pos (by omega), ov_T_0 e0 (by omega), if_neg (fun z => hb z.1)]
        · rw [if_neg (by omega)]
theorem ov_f10 (W : ov_W c N) (H : ov_XC c cv sg sc ls vs lc so fi lo ri) (hv : ∀ i, v i < 3) (hvt : ∀ i, i < 2 → vt i = nI (v i)) (hk : k < N) (hl : c 0 k = 3 → ov_TB c v tb (c 2 k) ∧ ov_TB c v tb (c 3 k)) (K : ∀ tb' ll' rl', ov_TB c v tb' k → (∀ j, (j < 384 * k ∨ 384 * k + 384 ≤ j) → tb' j = tb j) → post (fn, fa, fu, cv, sg, sc, ls, vs, lc, so, fi, lo, ri, ow, ip, vt, tb', tt, ll', rl', nd, ta, ch)) : ∀ (d i : Nat) (tb1 : Nat → Int32), i + d = 384 → (∀ j, j < i → tb1 (384 * k + j) = 0) → (∀ j, (j < 384 * k ∨ 384 * k + 384 ≤ j) → tb1 j = tb j) → wX_fill_10 post (nI k) (nI (3 * k * 128)) fn fa fu (d + 1) (nI i) cv sg sc ls vs lc so fi lo ri ow ip vt tb1 tt ll rl nd ta ch := by
  have hn := ov_Wn W
  have hk3 := ov_Wk W hk
  have hso : so (nI k).toNatClampNeg = nI (c 0 k) := by rw [nI_clamp (by omega), H.2.2.2.2.2.2.1]
  have hfi : fi (nI k).toNatClampNeg = nI (c 1 k) := by rw [nI_clamp (by omega), H.2.2.2.2.2.2.2.1]
  intro d
  induction d with
  | zero =>
    intro i tb1 h hI hO
    have hz : ∀ t e, t < 3 → e < 128 → tb1 ((3 * k + t) * 128 + e) = nI 0 := by
      intro t e ht he
      rw [show (3 * k + t) * 128 + e = 384 * k + (t * 128 + e) by omega]
      exact hI _ (by omega)
    refine pk_le 384 i (fun _ => And.intro (pk_in k 12 (by omega)) ?_) (fun h => absurd h (by omega))
    rw [hso, hfi]
    refine pk_eq (c 0 k) 0 (fun e0 => ?_) (fun e0 => And.intro (pk_in k 12 (by omega)) (pk_eq (c 0 k) 1 (fun e1 => ?_) (fun e1 => And.intro (pk_in k 12 (by omega)) (pk_eq (c 0 k) 2 (fun e2 => ?_) (fun e2 => ?_)))))
    · refine ⟨_, ov_f43 (v := v) W H hk e0 (fun tb' h1 h2 => K tb' ll rl h1 h2) 3 0 tb1 (by omega) (fun t e ht he => ?_) hO⟩
      rw [hz t e ht he, if_neg (by omega)]
    · have h1 := ov_W1 W hk e1
      have h3 := hv (c 1 k)
      have hx : nI (3 * k * 128) + vt (nI (c 1 k)).toNatClampNeg * 128 = nI ((3 * k + v (c 1 k)) * 128 + 0) := by
        rw [nI_clamp (by omega), hvt _ h1, ov_x128, nI_add]
        exact congrArg nI (by omega)
      refine And.intro (pk_in k 12 (by omega)) (And.intro (pk_in (c 1 k) 2 h1) ?_)
      rw [hx]
      refine And.intro (pk_in ((3 * k + v (c 1 k)) * 128 + 0) 4608 (by omega)) ?_
      rw [nI_clamp (show (3 * k + v (c 1 k)) * 128 + 0 < 2 ^ 31 by omega)]
      refine nm_e (K _ ll rl (fun t e ht he => ?_) (fun j hj => ?_))
      · rw [ov_T_1 e1]
        by_cases h4 : v (c 1 k) = t ∧ 0 = e
        · rw [if_pos h4, ← h4.1, ← h4.2, pk_us]; rfl
        · rw [if_neg h4, pk_un (by omega), hz t e ht he]
      · rw [pk_un (by omega)]; exact hO j hj
    · have h1 := ov_W2 W hk e2
      have hx : nI (3 * k * 128) + nI (c 1 k) * 128 = nI ((3 * k + c 1 k) * 128 + 0) := by
        rw [ov_x128, nI_add]
        exact congrArg nI (by omega)
      refine And.intro (pk_in k 12 (by omega)) ?_
      rw [hx]
      refine And.intro (pk_in ((3 * k + c 1 k) * 128 + 0) 4608 (by omega)) ?_
      rw [nI_clamp (show (3 * k + c 1 k) * 128 + 0 < 2 ^ 31 by omega)]
      refine nm_e (K _ ll rl (fun t e ht he => ?_) (fun j hj => ?_))
      · rw [ov_T_2 e2]
        by_cases h4 : c 1 k = t ∧ 0 = e
        · rw [if_pos h4, ← h4.1, ← h4.2, pk_us]; rfl
        · rw [if_neg h4, pk_un (by omega), hz t e ht he]
      · rw [pk_un (by omega)]; exact hO j hj
    · have e3 : c 0 k = 3 := by omega
      have ha := ov_Wa W hk e3
      obtain ⟨t1, t2⟩ := hl e3
      refine ⟨_, ov_f160 (v := v) (tb := tb) W H hv hk e3 K (c 4 (c 1 k)) 0 tb1 ll rl (by omega) ?_ ?_ (fun t e ht he => hz t e ht he) hO⟩
      · intro t e ht he
        rw [hO _ (by omega)]
        exact t1 t e ht he
      · intro t e ht he
        rw [hO _ (by omega)]
        exact t2 t e ht he
  | succ d ih =>
    intro i tb1 h hI hO
    refine pk_le 384 i (fun h => absurd h (by omega)) (fun _ => ?_)
    have hx : nI (3 * k * 128) + nI i = nI (384 * k + i) := by
      rw [nI_add]
      exact congrArg nI (by omega)
    rw [hx]
    refine And.intro (pk_in (384 * k + i) 4608 (by omega)) ?_
    rw [nI_clamp (show 384 * k + i < 2 ^ 31 by omega)]
    refine nm_e (nm_r (nI_1 i) (ih (i + 1) _ (by omega) (fun j hj => ?_) (fun j hj => ?_)))
    · by_cases h3 : j = i
      · rw [h3, pk_us]
      · rw [pk_un (by omega)]; exact hI j (by omega)
    · rw [pk_un (by omega)]; exact hO j hj
theorem ov_xfill (W : ov_W c N) (H : ov_XC c cv sg sc ls vs lc so fi lo ri) (hv : ∀ i, v i < 3) (hvt : ∀ i, i < 2 → vt i = nI (v i)) (hk : k < N) (hl : c 0 k = 3 → ov_TB c v tb (c 2 k) ∧ ov_TB c v tb (c 3 k)) (K : ∀ tb' ll' rl', ov_TB c v tb' k → (∀ j, (j < 384 * k ∨ 384 * k + 384 ≤ j) → tb' j = tb j) → post (fn, fa, fu, cv, sg, sc, ls, vs, lc, so, fi, lo, ri, ow, ip, vt, tb', tt, ll', rl', nd, ta, ch)) : wpX_fill post (fn, fa, fu, cv, sg, sc, ls, vs, lc, so, fi, lo, ri, ow, ip, vt, tb, tt, ll, rl, nd, ta, ch) (nI k) := by
  refine nm_r (e' := nI (3 * k * 128)) (by rw [ov_m3, ov_x128]) ?_
  exact ⟨_, ov_f10 (v := v) W H hv hvt hk hl K 384 0 tb (by omega) (fun j hj => absurd hj (Nat.not_lt_zero j)) (fun _ _ => rfl)⟩
theorem ov_fa20 (W : ov_W c N) (H : ov_XC c cv sg sc ls vs lc so fi lo ri) (hv : ∀ i, v i < 3) (hvt : ∀ i, i < 2 → vt i = nI (v i)) (hk : k < N) (hip : ∀ j, j < 12 → ip j = ov_b (ov_Q c k j)) (K : ∀ tb' ll' rl', (∀ j, j ≤ k → ov_Q c k j = true → ov_TB c v tb' j) → post (fn, fa, fu, cv, sg, sc, ls, vs, lc, so, fi, lo, ri, ow, ip, vt, tb', tt, ll', rl', nd, ta, ch)) : ∀ (d i : Nat) (tb ll rl : Nat → Int32), i + d = k + 1 → (∀ j, j < i → ov_Q c k j = true → ov_TB c v tb j) → wX_fillAll_20 post (nI k) (d + 1) (nI i) fn fa fu cv sg sc ls vs lc so fi lo ri ow ip vt tb tt ll rl nd ta ch := by
  have hn := ov_Wn W
  intro d
  induction d with
  | zero =>
    intro i tb ll rl h hI
    exact pk_lt k i (fun _ => K tb ll rl (fun j hj => hI j (by omega))) (fun h => absurd h (by omega))
  | succ d ih =>
    intro i tb ll rl h hI
    refine pk_lt k i (fun h => absurd h (by omega)) (fun _ => And.intro (pk_in i 12 (by omega)) ?_)
    rw [nI_clamp (show i < 2 ^ 31 by omega), hip i (by omega)]
    cases hq : ov_Q c k i with
    | false =>
      refine br_t rfl (nm_r (nI_1 i) (ih (i + 1) tb ll rl (by omega) (fun j hj hq' => ?_)))
      by_cases h3 : j = i
      · rw [h3, hq] at hq'; exact absurd hq' (by decide)
      · exact hI j (by omega) hq'
    | true =>
      refine br_f (by decide) ?_
      refine ov_xfill (v := v) W H hv hvt (by omega) (fun e3 => ?_) (fun tb' ll' rl' h1 h2 => ?_)
      · have ha := ov_Wa W (k := i) (by omega) e3
        exact ⟨hI _ (by omega) (ov_Q_cl W hk hq e3 (Or.inl rfl)), hI _ (by omega) (ov_Q_cl W hk hq e3 (Or.inr rfl))⟩
      · refine nm_r (nI_1 i) (ih (i + 1) tb' ll' rl' (by omega) (fun j hj hq' => ?_))
        by_cases h3 : j = i
        · rw [h3]; exact h1
        · intro t e ht he
          rw [h2 _ (by omega)]
          exact hI j (by omega) hq' t e ht he
theorem ov_xfillAll (W : ov_W c N) (H : ov_XC c cv sg sc ls vs lc so fi lo ri) (hk : k < N) (hip : ∀ j, j < 12 → ip j = ov_b (ov_Q c k j)) {p : Nat} (hp : p < 9) (K : ∀ vt' tb' ll' rl', (∀ j, j ≤ k → ov_Q c k j = true → ov_TB c (ov_vp p) tb' j) → post (fn, fa, fu, cv, sg, sc, ls, vs, lc, so, fi, lo, ri, ow, ip, vt', tb', tt, ll', rl', nd, ta, ch)) : wpX_fillAll post (fn, fa, fu, cv, sg, sc, ls, vs, lc, so, fi, lo, ri, ow, ip, vt, tb, tt, ll, rl, nd, ta, ch) (nI k) (nI p) := by
  refine And.intro ov_n30 ?_
  rw [ov_d3 (show p < 2 ^ 31 by omega)]
  refine nm_e (And.intro ov_n30 ?_)
  have hx : nI p - nI (p / 3) * 3 = nI (p % 3) := by rw [← ov_d3 (show p < 2 ^ 31 by omega)]; exact ov_r3 (by omega)
  rw [hx]
  refine nm_e ⟨_, ov_fa20 (v := ov_vp p) W H (ov_vp3 hp) (fun i hi => ?_) hk hip (K _) (k + 1) 0 tb ll rl (by omega) (fun j hj => absurd hj (Nat.not_lt_zero j))⟩
  by_cases h0 : i = 0
  · subst h0
    rw [pk_un (by decide), pk_us]; rfl
  · have h1 : i = 1 := by omega
    subst h1
    rw [pk_us]; rfl
end
end
section
/-! the component: markParts, mayHave, addTable, sumUp, leastOf -/
def ov_ub (a b : Bool) : Int32 := if a = true then (if b = true then 3 else 1) else (if b = true then 2 else 0)
theorem ov_ub_0 (a b : Bool) : ov_ub a b ||| ((1 : Int32) <<< (nI 0 &&& 31)) = ov_ub true b := by cases a <;> cases b <;> decide +kernel
theorem ov_ub_1 (a b : Bool) : ov_ub a b ||| ((1 : Int32) <<< (nI 1 &&& 31)) = ov_ub a true := by cases a <;> cases b <;> decide +kernel
theorem ov_ubb0 (a b : Bool) : ((ov_ub a b >>> (nI 0 &&& 31)) &&& 1) = ov_b a := by cases a <;> cases b <;> decide +kernel
theorem ov_ubb1 (a b : Bool) : ((ov_ub a b >>> (nI 1 &&& 31)) &&& 1) = ov_b b := by cases a <;> cases b <;> decide +kernel
theorem ov_nb1 : vp_nar .boolean 1 = 1 := rfl
theorem ov_nb0 : vp_nar .boolean 0 = 0 := rfl
theorem ov_bt : ¬ ov_b true = 0 := by decide
theorem ov_bf : ov_b false = 0 := rfl
/-- variable x is used by a part above i -/
def ov_ui (c : Nat → Nat → Nat) (k i x : Nat) : Prop := ∃ j, j ≤ k ∧ i ≤ j ∧ ov_Q c k j = true ∧ c 0 j = 1 ∧ c 1 j = x
section
variable {c : Nat → Nat → Nat} {v : Nat → Nat} {N k w : Nat} {post : SX → Prop} {fn fa fu : Int32} {cv sg sc ls vs lc so fi lo ri ow ip vt tb tt ll rl nd ta ch : Nat → Int32}
theorem ov_ui_s {x i : Nat} (hn : ¬ (ov_Q c k i = true ∧ c 0 i = 1 ∧ c 1 i = x)) : ov_ui c k (i + 1) x ↔ ov_ui c k i x := by
  constructor
  · rintro ⟨j, h1, h2, h3⟩; exact ⟨j, h1, by omega, h3⟩
  · rintro ⟨j, h1, h2, h3⟩
    refine ⟨j, h1, ?_, h3⟩
    by_cases e : j = i
    · subst e; exact (hn h3).elim
    · omega
theorem ov_ui_0 (W : ov_W c N) (hk : k < N) (x : Nat) : ov_ui c k 0 x ↔ ov_us c k x = true := by
  have hn := ov_Wn W
  rw [ov_us_iff]
  constructor
  · rintro ⟨j, h1, _, h3⟩; exact ⟨j, by omega, h3⟩
  · rintro ⟨j, _, h3⟩; exact ⟨j, ov_Q_le W hk h3.1, Nat.zero_le _, h3⟩
theorem ov_xmark37 (W : ov_W c N) (H : ov_XC c cv sg sc ls vs lc so fi lo ri) (hk : k < N) (K : ∀ ip', (∀ j, j < 12 → ip' j = ov_b (ov_Q c k j)) → post (fn, fa, ov_ub (ov_us c k 0) (ov_us c k 1), cv, sg, sc, ls, vs, lc, so, fi, lo, ri, ow, ip', vt, tb, tt, ll, rl, nd, ta, ch)) : ∀ (i : Nat) (ip : Nat → Int32) (a b : Bool), i ≤ k + 1 → (∀ j, j < 12 → ip j = ov_b (ov_ms c k (k + 1 - i) j)) → (a = true ↔ ov_ui c k i 0) → (b = true ↔ ov_ui c k i 1) → wX_markParts_37 post fn fa (i + 1) (nI i + (-1)) (ov_ub a b) cv sg sc ls vs lc so fi lo ri ow ip vt tb tt ll rl nd ta ch := by
  have hn := ov_Wn W
  intro i
  induction i with
  | zero =>
    intro ip a b hi hI ha hb
    have ea : a = ov_us c k 0 := by rw [Bool.eq_iff_iff, ha, ov_ui_0 W hk]
    have eb : b = ov_us c k 1 := by rw [Bool.eq_iff_iff, hb, ov_ui_0 W hk]
    rw [ea, eb]
    exact br_t (by decide) (K ip hI)
  | succ i ih =>
    intro ip a b hi hI ha hb
    rw [pk_m1]
    have hq : ov_ms c k (k + 1 - (i + 1)) i = ov_Q c k i := by
      unfold ov_Q
      have := ov_ms_stab W hk (d := k + 1 - (i + 1)) (j := i) (by omega) (i + 1)
      rw [show k + 1 - (i + 1) + (i + 1) = k + 1 by omega] at this
      exact this.symm
    have hms : ∀ j, ov_ms c k (k + 1 - i) j = (ov_ms c k (k + 1 - (i + 1)) j || (ov_Q c k i && decide (c 0 i = 3) && (decide (c 2 i = j) || decide (c 3 i = j)))) := by
      intro j
      rw [← hq]
      have e1 : k + 1 - i = (k + 1 - (i + 1)) + 1 := by omega
      rw [e1, ov_ms_s, show k - (k + 1 - (i + 1)) = i by omega]
    have hci : (nI i).toNatClampNeg = i := nI_clamp (by omega)
    have hpi : ip i = ov_b (ov_Q c k i) := by rw [hI i (by omega), hq]
    refine br_f (nI_pos (by omega)) (And.intro (pk_in i 12 (by omega)) ?_)
    rw [hci, hpi]
    have h84 : ∀ ip', ip' i = ov_b (ov_Q c k i) → (∀ j, j < 12 → ip' j = ov_b (ov_ms c k (k + 1 - i) j)) → wX_markParts_84 post (wX_markParts_37 post fn fa (i + 1)) (nI i) fn fa (ov_ub a b) cv sg sc ls vs lc so fi lo ri ow ip' vt tb tt ll rl nd ta ch := by
      intro ip' h1 h2
      refine And.intro (pk_in i 12 (by omega)) ?_
      rw [hci, h1]
      cases hq2 : ov_Q c k i with
      | false =>
        refine br_t rfl (nm_e (ih ip' a b (by omega) h2 ?_ ?_))
        · rw [ha]; exact ov_ui_s (fun z => by rw [hq2] at z; exact absurd z.1 (by decide))
        · rw [hb]; exact ov_ui_s (fun z => by rw [hq2] at z; exact absurd z.1 (by decide))
      | true =>
        refine br_f ov_bt (And.intro (pk_in i 12 (by omega)) ?_)
        have h3 := ov_Wk W (k := i) (by omega)
        rw [H.2.2.2.2.2.2.1 i, H.2.2.2.2.2.2.2.1 i]
        refine pk_eq (c 0 i) 1 (fun e1 => And.intro (pk_in i 12 (by omega)) ?_) (fun e1 => nm_e (ih ip' a b (by omega) h2 ?_ ?_))
        · have h4 := ov_W1 W (k := i) (by omega) e1
          by_cases e0 : c 1 i = 0
          · rw [e0]
            refine nm_r (ov_ub_0 a b) (nm_e (ih ip' true b (by omega) h2 ?_ ?_))
            · exact ⟨fun _ => ⟨i, by omega, Nat.le_refl _, hq2, e1, e0⟩, fun _ => rfl⟩
            · rw [hb]; exact ov_ui_s (fun z => by omega)
          · have e2 : c 1 i = 1 := by omega
            rw [e2]
            refine nm_r (ov_ub_1 a b) (nm_e (ih ip' a true (by omega) h2 ?_ ?_))
            · rw [ha]; exact ov_ui_s (fun z => by omega)
            · exact ⟨fun _ => ⟨i, by omega, Nat.le_refl _, hq2, e1, e2⟩, fun _ => rfl⟩
        · rw [ha]; exact ov_ui_s (fun z => e1 z.2.1)
        · rw [hb]; exact ov_ui_s (fun z => e1 z.2.1)
    cases hq2 : ov_Q c k i with
    | false =>
      refine br_t rfl (h84 ip hpi (fun j hj => ?_))
      rw [hI j hj, hms j, hq2, Bool.false_and, Bool.false_and, Bool.or_false]
    | true =>
      refine br_f ov_bt (And.intro (pk_in i 12 (by omega)) ?_)
      have h3 := ov_Wk W (k := i) (by omega)
      rw [H.2.2.2.2.2.2.1 i]
      refine pk_eq (c 0 i) 3 (fun e3 => ?_) (fun e3 => h84 ip hpi (fun j hj => ?_))
      · have hw := ov_Wa W (k := i) (by omega) e3
        rw [H.2.2.2.2.2.2.2.2.1 i, H.2.2.2.2.2.2.2.2.2 i]
        refine ⟨pk_in i 12 (by omega), pk_in (c 2 i) 12 (by omega), ?_⟩
        rw [nI_clamp (show c 2 i < 2 ^ 31 by omega), ov_nb1]
        refine nm_e ⟨pk_in i 12 (by omega), pk_in (c 3 i) 12 (by omega), ?_⟩
        rw [nI_clamp (show c 3 i < 2 ^ 31 by omega)]
        refine nm_e (h84 _ ?_ (fun j hj => ?_))
        · rw [pk_un (by omega), pk_un (by omega), hpi]
        · rw [hms j, hq2, decide_eq_true e3, Bool.true_and, Bool.true_and]
          by_cases h5 : j = c 3 i
          · rw [h5, pk_us, decide_eq_true (show c 3 i = c 3 i from rfl), Bool.or_true, Bool.or_true]; rfl
          · rw [pk_un h5, decide_eq_false (fun z : c 3 i = j => h5 z.symm), Bool.or_false]
            by_cases h6 : j = c 2 i
            · rw [h6, pk_us, decide_eq_true (show c 2 i = c 2 i from rfl), Bool.or_true]; rfl
            · rw [pk_un h6, decide_eq_false (fun z : c 2 i = j => h6 z.symm), Bool.or_false, hI j hj]
      · rw [hI j hj, hms j, decide_eq_false e3, Bool.and_false, Bool.false_and, Bool.or_false]
theorem ov_xmark2 (hk : k < 12) (K : ∀ ip', (∀ j, j < 12 → ip' j = ov_b (decide (j = k))) → ∃ n, wX_markParts_37 post fn fa n (nI k) 0 cv sg sc ls vs lc so fi lo ri ow ip' vt tb tt ll rl nd ta ch) : ∀ (d i : Nat) (ip : Nat → Int32), i + d = 12 → (∀ j, j < i → ip j = ov_b (decide (j = k))) → wX_markParts_2 post (nI k) fn fa fu (d + 1) (nI i) cv sg sc ls vs lc so fi lo ri ow ip vt tb tt ll rl nd ta ch := by
  intro d
  induction d with
  | zero =>
    intro i ip h hI
    rw [show i = 12 by omega] at hI ⊢
    exact pk_le 12 12 (fun _ => K ip hI) (fun h => absurd h (by omega))
  | succ d ih =>
    intro i ip h hI
    refine pk_le 12 i (fun h => absurd h (by omega)) (fun _ => pk_eq i k (fun e => And.intro (pk_in i 12 (by omega)) ?_) (fun e => And.intro (pk_in i 12 (by omega)) ?_))
    · rw [nI_clamp (show i < 2 ^ 31 by omega), ov_nb1]
      refine nm_e (nm_r (nI_1 i) (ih (i + 1) _ (by omega) (fun j hj => ?_)))
      by_cases h3 : j = i
      · rw [h3, pk_us, decide_eq_true e]; rfl
      · rw [pk_un h3]; exact hI j (by omega)
    · rw [nI_clamp (show i < 2 ^ 31 by omega), ov_nb0]
      refine nm_e (nm_r (nI_1 i) (ih (i + 1) _ (by omega) (fun j hj => ?_)))
      by_cases h3 : j = i
      · rw [h3, pk_us, decide_eq_false e]; rfl
      · rw [pk_un h3]; exact hI j (by omega)
theorem ov_xmark (W : ov_W c N) (H : ov_XC c cv sg sc ls vs lc so fi lo ri) (hk : k < N) (K : ∀ ip', (∀ j, j < 12 → ip' j = ov_b (ov_Q c k j)) → post (fn, fa, ov_ub (ov_us c k 0) (ov_us c k 1), cv, sg, sc, ls, vs, lc, so, fi, lo, ri, ow, ip', vt, tb, tt, ll, rl, nd, ta, ch)) : wpX_markParts post (fn, fa, fu, cv, sg, sc, ls, vs, lc, so, fi, lo, ri, ow, ip, vt, tb, tt, ll, rl, nd, ta, ch) (nI k) := by
  have hn := ov_Wn W
  refine ⟨_, ov_xmark2 (by omega) (fun ip' h => ?_) 12 0 ip (by omega) (fun j hj => absurd hj (Nat.not_lt_zero j))⟩
  have h1 := ov_xmark37 W H hk K (k + 1) ip' false false (Nat.le_refl _) (fun j hj => by rw [h j hj, Nat.sub_self]; rfl) ⟨fun z => absurd z (by decide), fun ⟨j, h1, h2, _⟩ => by omega⟩ ⟨fun z => absurd z (by decide), fun ⟨j, h1, h2, _⟩ => by omega⟩
  rw [pk_m1] at h1
  exact ⟨_, h1⟩
theorem ov_xmay {post : Int32 → Prop} (W : ov_W c N) (H : ov_XC c cv sg sc ls vs lc so fi lo ri) {x t : Nat} (hx : x < 2) (ht : t < 3) (K : post (ov_b (ov_mh c k x t))) : wpX_mayHave post (fn, fa, ov_ub (ov_us c k 0) (ov_us c k 1), cv, sg, sc, ls, vs, lc, so, fi, lo, ri, ow, ip, vt, tb, tt, ll, rl, nd, ta, ch) (nI x) (nI t) := by
  have h9 := ov_W9 W x
  have hb : ((ov_ub (ov_us c k 0) (ov_us c k 1) >>> (nI x &&& 31)) &&& 1) = ov_b (ov_us c k x) := by
    by_cases h0 : x = 0
    · subst h0; exact ov_ubb0 _ _
    · rw [show x = 1 by omega]; exact ov_ubb1 _ _
  unfold wpX_mayHave
  dsimp only
  rw [hb]
  unfold ov_mh at K
  cases hu : ov_us c k x with
  | false =>
    rw [hu] at K
    refine br_t rfl (pk_eq t 0 (fun e => ?_) (fun e => ?_))
    · rw [if_neg (by decide), decide_eq_true e] at K; exact K
    · rw [if_neg (by decide), decide_eq_false e] at K; exact K
  | true =>
    rw [hu] at K
    refine br_f ov_bt (And.intro (pk_in x 2 hx) ?_)
    rw [nI_clamp (show x < 2 ^ 31 by omega), H.2.2.2.2.1 x, ov_bit (show c 9 x < 2 ^ 31 by omega) (show t < 32 by omega)]
    refine pk_eq (c 9 x / 2 ^ t % 2) 1 (fun e => ?_) (fun e => ?_)
    · rw [if_pos rfl, decide_eq_true e] at K; exact K
    · rw [if_pos rfl, decide_eq_false e] at K; exact K
theorem ov_xcc {post : Int32 → Prop} (H : ov_XC c cv sg sc ls vs lc so fi lo ri) {t : Nat} (hw : w ≤ 3) (ht : t < 3) (K : post (if w = 3 then 0 else ov_m (c 7 (3 * t + w)))) : wpX_conversionCost post (fn, fa, fu, cv, sg, sc, ls, vs, lc, so, fi, lo, ri, ow, ip, vt, tb, tt, ll, rl, nd, ta, ch) (nI t) (nI w) := by
  have i9 : (3 : Int32) * nI t + nI w = nI (3 * t + w) := by rw [ov_m3, nI_add]
  refine pk_eq w 3 (fun e => ?_) (fun e => And.intro (pk_in (3 * t + w) 9 (by omega) i9) ?_)
  · rw [if_pos e] at K; exact K
  · rw [if_neg e] at K
    rw [i9, nI_clamp (by omega), H.1]
    exact K
/-- a conversion's cost as the classes hold it -/
theorem ov_wcost (W : ov_W c N) (t : Nat) : (ov_ow c w t = true ∧ (if w = 3 then 0 else ov_m (c 7 (3 * t + w))) = nI (ov_cw c w t) ∧ ov_cw c w t ≤ 9) ∨ (ov_ow c w t = false ∧ (if w = 3 then 0 else ov_m (c 7 (3 * t + w))) = -1) := by
  have h7 := ov_W7 W (3 * t + w)
  unfold ov_ow ov_cw
  by_cases e : w = 3
  · rw [if_pos e, if_pos e, if_pos e]
    exact Or.inl ⟨rfl, rfl, by omega⟩
  · rw [if_neg e, if_neg e, if_neg e]
    unfold ov_ok ov_cc
    by_cases h : 1 ≤ c 7 (3 * t + w)
    · exact Or.inl ⟨decide_eq_true h, ov_m_p h, by omega⟩
    · exact Or.inr ⟨decide_eq_false h, ov_m_n h⟩
def ov_wt (c : Nat → Nat → Nat) (v : Nat → Nat) (k w e t : Nat) : Nat := if ov_ow c w t = true ∧ ov_cw c w t ≤ e then ov_T c v k t (e - ov_cw c w t) else 0
theorem ov_at28 {e b : Nat} (he : e ≤ 128) (hb : b + 128 ≤ 4608) (K : ∀ tt', (∀ j, tt' j = if e ≤ j ∧ j < 128 then tt j + tb (b + (j - e)) else tt j) → post (fn, fa, fu, cv, sg, sc, ls, vs, lc, so, fi, lo, ri, ow, ip, vt, tb, tt', ll, rl, nd, ta, ch)) : wX_addTable_28 post (nI e) (nI b) fn fa fu (128 - e + 1) 0 cv sg sc ls vs lc so fi lo ri ow ip vt tb tt ll rl nd ta ch :=
  ov_acc (fun n x a => wX_addTable_28 post (nI e) (nI b) fn fa fu n x cv sg sc ls vs lc so fi lo ri ow ip vt tb a ll rl nd ta ch) (fun a => post (fn, fa, fu, cv, sg, sc, ls, vs, lc, so, fi, lo, ri, ow, ip, vt, tb, a, ll, rl, nd, ta, ch)) (128 - e) e (fun i => tb (b + i))
    (fun n a hK => pk_le 128 (128 - e + e) (fun _ => hK) (fun h => absurd h (by omega)) rfl (nI_add _ e))
    (fun n i a hi hW => pk_le 128 (i + e) (fun h => absurd h (by omega)) (fun _ => ⟨pk_in (i + e) 128 (by omega) (nI_add i e), pk_in (b + i) 4608 (by omega) (nI_add b i), pk_in (i + e) 128 (by omega) (nI_add i e), nm_r (e' := upd a (e + i) (a (e + i) + tb (b + i))) (by rw [nI_add, nI_add, nI_clamp (by omega), nI_clamp (by omega), Nat.add_comm i e]) (nm_r (nI_1 i) hW)⟩) rfl (nI_add i e))
    (128 - e) 0 tt (by omega) (fun a' h => K a' (fun j => by rw [h j, Nat.add_zero, show e + (128 - e) = 128 by omega]))
theorem ov_xadd (W : ov_W c N) (H : ov_XC c cv sg sc ls vs lc so fi lo ri) (hk : k < 12) (hw : w ≤ 3) {t : Nat} (ht : t < 3) (hT : ov_TB c v tb k) (K : ∀ tt', (∀ e, e < 128 → tt' e = tt e + nI (ov_wt c v k w e t)) → post (fn, fa, fu, cv, sg, sc, ls, vs, lc, so, fi, lo, ri, ow, ip, vt, tb, tt', ll, rl, nd, ta, ch)) : wpX_addTable post (fn, fa, fu, cv, sg, sc, ls, vs, lc, so, fi, lo, ri, ow, ip, vt, tb, tt, ll, rl, nd, ta, ch) (nI k) (nI t) (nI w) := by
  unfold wpX_addTable
  dsimp only
  refine ov_xcc H hw ht ?_
  have hx : ((3 : Int32) * nI k + nI t) * 128 = nI ((3 * k + t) * 128) := by rw [ov_m3, nI_add, ov_x128]
  rcases ov_wcost (w := w) W t with ⟨h1, h2, h3⟩ | ⟨h1, h2⟩
  · rw [h2]
    refine br_t (nI_pos' (by omega)) (nm_r hx ⟨_, ov_at28 (by omega) (by omega) (fun tt' hl => K tt' (fun e he => ?_))⟩)
    rw [hl e]
    unfold ov_wt
    by_cases h4 : ov_cw c w t ≤ e
    · rw [if_pos ⟨h4, he⟩, if_pos ⟨h1, h4⟩, hT t _ ht (by omega)]
    · rw [if_neg (fun z => h4 z.1), if_neg (fun z => h4 z.2), ov_add0]
  · rw [h2]
    refine br_f (by decide) (K tt (fun e he => ?_))
    unfold ov_wt
    rw [if_neg (fun z => by rw [h1] at z; exact absurd z.1 (by decide)), ov_add0]
end
end
section
/-! the component: sumUp, leastOf, the sum, refused -/
section
variable {c : Nat → Nat → Nat} {v : Nat → Nat} {N k w : Nat} {post : SX → Prop} {fn fa fu : Int32} {cv sg sc ls vs lc so fi lo ri ow ip vt tb tt ll rl nd ta ch : Nat → Int32}
theorem ov_s66 (W : ov_W c N) (H : ov_XC c cv sg sc ls vs lc so fi lo ri) (hk : k < 12) (hw : w ≤ 3) (hT : ov_TB c v tb k) {p n : Nat} {tt0 : Nat → Int32} (K : ∀ tt', (∀ e, e < 128 → tt' e = tt0 e + nI (ov_s 3 (ov_wt c v k w e))) → wX_sumUp_29 post (nI k) (nI w) n (nI (p + 1)) fn fa fu cv sg sc ls vs lc so fi lo ri ow ip vt tb tt' ll rl nd ta ch) : ∀ (d t : Nat) (tt : Nat → Int32), t + d = 3 → (∀ e, e < 128 → tt e = tt0 e + nI (ov_s t (ov_wt c v k w e))) → wX_sumUp_66 post (wX_sumUp_29 post (nI k) (nI w) n) (nI k) (nI w) (nI p) (d + 1) (nI t) fn fa fu cv sg sc ls vs lc so fi lo ri ow ip vt tb tt ll rl nd ta ch := by
  intro d
  induction d with
  | zero =>
    intro t tt h hI
    rw [show t = 3 by omega] at hI ⊢
    exact pk_le 3 3 (fun _ => nm_r (nI_1 p) (K tt hI)) (fun h => absurd h (by omega))
  | succ d ih =>
    intro t tt h hI
    refine pk_le 3 t (fun h => absurd h (by omega)) (fun _ => ?_)
    refine ov_xadd (v := v) W H hk hw (by omega) hT (fun tt' h2 => ?_)
    refine nm_r (nI_1 t) (ih (t + 1) tt' (by omega) (fun e he => ?_))
    rw [h2 e he, hI e he, Int32.add_assoc, nI_add, ov_s1]
def ov_tq (c : Nat → Nat → Nat) (k w e p : Nat) : Nat := if (ov_mh c k 0 (p / 3) && ov_mh c k 1 (p % 3)) = true then ov_tp c k w p e else 0
theorem ov_s29 (W : ov_W c N) (H : ov_XC c cv sg sc ls vs lc so fi lo ri) (hk : k < N) (hw : w ≤ 3) (hip : ∀ j, j < 12 → ip j = ov_b (ov_Q c k j)) (K : ∀ vt' tb' tt' ll' rl', (∀ e, e < 128 → tt' e = nI (ov_to c k w e)) → post (fn, fa, ov_ub (ov_us c k 0) (ov_us c k 1), cv, sg, sc, ls, vs, lc, so, fi, lo, ri, ow, ip, vt', tb', tt', ll', rl', nd, ta, ch)) : ∀ (d p : Nat) (vt tb tt ll rl : Nat → Int32), p + d = 9 → (∀ e, e < 128 → tt e = nI (ov_s p (ov_tq c k w e))) → wX_sumUp_29 post (nI k) (nI w) (d + 1) (nI p) fn fa (ov_ub (ov_us c k 0) (ov_us c k 1)) cv sg sc ls vs lc so fi lo ri ow ip vt tb tt ll rl nd ta ch := by
  have hn := ov_Wn W
  intro d
  induction d with
  | zero =>
    intro p vt tb tt ll rl h hI
    refine pk_le 9 p (fun _ => K vt tb tt ll rl (fun e he => ?_)) (fun h => absurd h (by omega))
    rw [hI e he, ov_to_p W hk, show p = 9 by omega]
    rfl
  | succ d ih =>
    intro p vt tb tt ll rl h hI
    have hno : (ov_mh c k 0 (p / 3) && ov_mh c k 1 (p % 3)) = false → wX_sumUp_29 post (nI k) (nI w) (d + 1) (nI (p + 1)) fn fa (ov_ub (ov_us c k 0) (ov_us c k 1)) cv sg sc ls vs lc so fi lo ri ow ip vt tb tt ll rl nd ta ch := by
      intro hm
      refine ih (p + 1) vt tb tt ll rl (by omega) (fun e he => ?_)
      rw [hI e he, ov_s1]
      unfold ov_tq
      rw [hm, if_neg (by decide), Nat.add_zero]
    refine pk_le 9 p (fun h => absurd h (by omega)) (fun _ => And.intro ov_n30 ?_)
    rw [ov_d3 (show p < 2 ^ 31 by omega)]
    refine ov_xmay W H (x := 0) (by omega) (by omega) ?_
    cases h0 : ov_mh c k 0 (p / 3) with
    | false => exact br_t rfl (nm_r (nI_1 p) (hno (by rw [h0]; rfl)))
    | true =>
      refine br_f ov_bt (And.intro ov_n30 ?_)
      have hx : nI p - nI (p / 3) * 3 = nI (p % 3) := by rw [← ov_d3 (show p < 2 ^ 31 by omega)]; exact ov_r3 (by omega)
      rw [hx]
      refine ov_xmay W H (x := 1) (by omega) (by omega) ?_
      cases h1 : ov_mh c k 1 (p % 3) with
      | false => exact br_t rfl (nm_r (nI_1 p) (hno (by rw [h0, h1]; rfl)))
      | true =>
        refine br_f ov_bt ?_
        refine ov_xfillAll W H hk hip (by omega) (fun vt' tb' ll' rl' hT => ?_)
        refine ⟨_, ov_s66 (v := ov_vp p) (tt0 := tt) W H (by omega) hw (hT k (Nat.le_refl _) ov_Q_self) (fun tt' h2 => ?_) 3 0 tt (by omega) (fun e he => (ov_add0 _).symm)⟩
        refine ih (p + 1) vt' tb' tt' ll' rl' (by omega) (fun e he => ?_)
        have hq : ov_tq c k w e p = ov_s 3 (ov_wt c (ov_vp p) k w e) := by
          unfold ov_tq
          rw [h0, h1]
          rfl
        rw [h2 e he, hI e he, nI_add, ov_s1 p, hq]
theorem ov_s7 {x1 x2 : Int32} (K : ∀ tt', (∀ e, e < 128 → tt' e = 0) → ∃ n, wX_sumUp_29 post x1 x2 n 0 fn fa fu cv sg sc ls vs lc so fi lo ri ow ip vt tb tt' ll rl nd ta ch) : ∀ (d i : Nat) (tt : Nat → Int32), i + d = 128 → (∀ e, e < i → tt e = 0) → wX_sumUp_7 post x1 x2 fn fa fu (d + 1) (nI i) cv sg sc ls vs lc so fi lo ri ow ip vt tb tt ll rl nd ta ch := by
  intro d
  induction d with
  | zero =>
    intro i tt h h1
    rw [show i = 128 by omega] at h1 ⊢
    exact pk_le 128 128 (fun _ => K tt h1) (fun h => absurd h (by omega))
  | succ d ih =>
    intro i tt h h1
    refine pk_le 128 i (fun h => absurd h (by omega)) (fun _ => And.intro (pk_in i 128 (by omega)) ?_)
    rw [nI_clamp (show i < 2 ^ 31 by omega)]
    refine nm_e (nm_r (nI_1 i) (ih (i + 1) _ (by omega) (fun e he => ?_)))
    by_cases h3 : e = i
    · rw [h3, pk_us]
    · rw [pk_un h3]; exact h1 e (by omega)
theorem ov_xsum (W : ov_W c N) (H : ov_XC c cv sg sc ls vs lc so fi lo ri) (hk : k < N) (hw : w ≤ 3) (K : ∀ ip' vt' tb' tt' ll' rl', (∀ j, j < 12 → ip' j = ov_b (ov_Q c k j)) → (∀ e, e < 128 → tt' e = nI (ov_to c k w e)) → post (fn, fa, ov_ub (ov_us c k 0) (ov_us c k 1), cv, sg, sc, ls, vs, lc, so, fi, lo, ri, ow, ip', vt', tb', tt', ll', rl', nd, ta, ch)) : wpX_sumUp post (fn, fa, fu, cv, sg, sc, ls, vs, lc, so, fi, lo, ri, ow, ip, vt, tb, tt, ll, rl, nd, ta, ch) (nI k) (nI w) := by
  unfold wpX_sumUp
  dsimp only
  refine ov_xmark W H hk (fun ip' hip => ?_)
  refine ⟨_, ov_s7 (fun tt' hz => ⟨_, ov_s29 W H hk hw hip (fun vt' tb' tt' ll' rl' h => K ip' vt' tb' tt' ll' rl' hip h) 9 0 vt tb tt' ll rl (by omega) (fun e he => ?_)⟩) 128 0 tt (by omega) (fun e he => absurd he (Nat.not_lt_zero e))⟩
  rw [hz e he]; rfl
theorem ov_lof2 {post : Int32 → Prop} {f : Nat → Nat} (hf : ∀ e, e < 128 → tt e = nI (f e)) (hb : ∀ e, f e < 2 ^ 31) (K : ∀ m, m ≤ 128 → (∀ e, e < m → f e = 0) → (m < 128 → 1 ≤ f m) → post (nI m)) : ∀ (d i : Nat), i + d = 128 → (∀ e, e < i → f e = 0) → wX_leastOf_2 post fn fa fu cv sg sc ls vs lc so fi lo ri ow ip vt tb tt ll rl nd ta ch (d + 1) (nI i) := by
  intro d
  induction d with
  | zero =>
    intro i h hI
    rw [show i = 128 by omega] at hI ⊢
    exact pk_le 128 128 (fun _ => K 128 (Nat.le_refl _) hI (fun h => absurd h (by omega))) (fun h => absurd h (by omega))
  | succ d ih =>
    intro i h hI
    have h2 := hb i
    refine pk_le 128 i (fun h => absurd h (by omega)) (fun _ => And.intro (pk_in i 128 (by omega)) ?_)
    rw [nI_clamp (show i < 2 ^ 31 by omega), hf i (by omega)]
    refine pk_le (f i) 0 (fun hz => nm_r (nI_1 i) (ih (i + 1) (by omega) (fun e he => ?_))) (fun hz => K i (by omega) hI (fun _ => hz)) rfl rfl h2
    by_cases h3 : e = i
    · rw [h3]; omega
    · exact hI e (by omega)
theorem ov_xleast {post : Int32 → Prop} (W : ov_W c N) (hk : k < N) (hf : ∀ e, e < 128 → tt e = nI (ov_to c k w e)) (K : ∀ m, m ≤ 128 → (∀ e, e < m → ov_to c k w e = 0) → (m < 128 → 1 ≤ ov_to c k w m) → post (nI m)) : wpX_leastOf post (fn, fa, fu, cv, sg, sc, ls, vs, lc, so, fi, lo, ri, ow, ip, vt, tb, tt, ll, rl, nd, ta, ch) := by
  refine ⟨_, ov_lof2 (f := ov_to c k w) hf (fun e => ?_) K 128 0 (by omega) (fun e he => absurd he (Nat.not_lt_zero e))⟩
  have := ov_to_b (w := w) W hk e
  omega
theorem ov_sol25 {post : Int32 → SX → Prop} {f : Nat → Nat} (hf : ∀ e, e < 128 → tt e = nI (f e)) (K : post (nI (ov_s 128 f)) (fn, fa, fu, cv, sg, sc, ls, vs, lc, so, fi, lo, ri, ow, ip, vt, tb, tt, ll, rl, nd, ta, ch)) : ∀ (d i : Nat), i + d = 128 → wX_solutions_25 post fn fa fu cv sg sc ls vs lc so fi lo ri ow ip vt tb tt ll rl nd ta ch (d + 1) (nI (ov_s i f)) (nI i) := by
  intro d
  induction d with
  | zero =>
    intro i h
    rw [show i = 128 by omega]
    exact pk_le 128 128 (fun _ => K) (fun h => absurd h (by omega))
  | succ d ih =>
    intro i h
    refine pk_le 128 i (fun h => absurd h (by omega)) (fun _ => And.intro (pk_in i 128 (by omega)) ?_)
    rw [nI_clamp (show i < 2 ^ 31 by omega), hf i (by omega), nI_add]
    exact nm_e (nm_r (nI_1 i) (ih (i + 1) (by omega)))
/-- the two arguments of a query -/
theorem ov_args {N : Nat} (hN : N ≤ 12) (v1 v2 : Int32) : (v1 < 0 ∨ (¬ v1 < 0 ∧ nI N ≤ v1)) ∨ (∃ k, k < N ∧ v1 = nI k ∧ (v2 < 0 ∨ (¬ v2 < 0 ∧ ¬ v2 ≤ 3))) ∨ (∃ k w, k < N ∧ w ≤ 3 ∧ v1 = nI k ∧ v2 = nI w) := by
  by_cases h : v1 < 0
  · exact Or.inl (Or.inl h)
  · rcases pk_ix v1 (n := N) (by omega) with h1 | h1 | ⟨k, hk, rfl⟩
    · exact Or.inl (Or.inl h1)
    · exact Or.inl (Or.inr ⟨h, h1⟩)
    · right
      by_cases h2 : v2 < 0
      · exact Or.inl ⟨k, hk, rfl, Or.inl h2⟩
      · by_cases h3 : v2 ≤ 3
        · obtain ⟨w, hw, rfl⟩ := nI_of2 (M := 3) (n := 3) (by decide) h2 h3
          exact Or.inr ⟨k, w, hk, hw, rfl, rfl⟩
        · exact Or.inl ⟨k, hk, rfl, Or.inr ⟨h2, h3⟩⟩
theorem ov_xnode {post : Int32 → Prop} {j : Nat} (hN : N ≤ 12) (hj : j < N) (K : post 1) : wpX_isNode post (nI N, fa, fu, cv, sg, sc, ls, vs, lc, so, fi, lo, ri, ow, ip, vt, tb, tt, ll, rl, nd, ta, ch) (nI j) :=
  br_f (nI_pos (by omega)) (pk_le N j (fun h => absurd h (by omega)) (fun _ => K))
theorem ov_xnodeN {post : Int32 → Prop} {x : Int32} (h : x < 0 ∨ (¬ x < 0 ∧ nI N ≤ x)) (K : post 0) : wpX_isNode post (nI N, fa, fu, cv, sg, sc, ls, vs, lc, so, fi, lo, ri, ow, ip, vt, tb, tt, ll, rl, nd, ta, ch) x := by
  rcases h with h | ⟨h, h2⟩
  · exact br_t h K
  · exact br_f h (br_t h2 K)
theorem ov_xrefA {post : Int32 → Prop} {v1 v2 : Int32} (h : v1 < 0 ∨ (¬ v1 < 0 ∧ nI N ≤ v1)) (K : post (-1)) : wpX_refused post (nI N, fa, fu, cv, sg, sc, ls, vs, lc, so, fi, lo, ri, ow, ip, vt, tb, tt, ll, rl, nd, ta, ch) v1 v2 := by
  unfold wpX_refused
  dsimp only
  exact ov_xnodeN h (br_t rfl K)
theorem ov_xrefB {post : Int32 → Prop} {v2 : Int32} (hN : N ≤ 12) (hk : k < N) (h : v2 < 0 ∨ (¬ v2 < 0 ∧ ¬ v2 ≤ 3)) (K : post (-2)) : wpX_refused post (nI N, fa, fu, cv, sg, sc, ls, vs, lc, so, fi, lo, ri, ow, ip, vt, tb, tt, ll, rl, nd, ta, ch) (nI k) v2 := by
  unfold wpX_refused
  dsimp only
  refine ov_xnode hN hk (br_f (by decide) ?_)
  rcases h with h | ⟨h, h2⟩
  · exact br_t h K
  · exact br_f h (br_f h2 K)
theorem ov_xrefC {post : Int32 → Prop} (hN : N ≤ 12) (hk : k < N) (hw : w ≤ 3) (K : post 0) : wpX_refused post (nI N, fa, fu, cv, sg, sc, ls, vs, lc, so, fi, lo, ri, ow, ip, vt, tb, tt, ll, rl, nd, ta, ch) (nI k) (nI w) := by
  unfold wpX_refused
  dsimp only
  exact ov_xnode hN hk (br_f (by decide) (br_f (nI_pos (by omega)) (pk_le w 3 (fun _ => K) (fun h => absurd h (by omega)))))
end
end
section
/-! the reference: names, mark -/
def ov_YC (c : Nat → Nat → Nat) (N : Nat) (zcv zls zle zrg zre zsc zvs zlc zso zfi zq zr : Nat → Int32) : Prop :=
  (∀ i, zcv i = ov_m (c 7 i)) ∧ (∀ i, zls i = nI (c 4 i)) ∧ (∀ i, zle i = nI (c 5 i / 9)) ∧ (∀ i, zrg i = nI (c 5 i / 3 % 3)) ∧ (∀ i, zre i = nI (c 5 i % 3)) ∧ (∀ i, zsc i = nI (c 6 i)) ∧ (∀ i, zvs i = nI (c 9 i)) ∧ (∀ i, zlc i = nI (c 8 i)) ∧ (∀ i, zso i = nI (c 0 i)) ∧ (∀ i, zfi i = nI (c 1 i)) ∧ (∀ k, k < N → c 0 k = 3 → zq k = nI (c 2 k)) ∧ (∀ k, k < N → c 0 k = 3 → zr k = nI (c 3 k))
section
variable {c : Nat → Nat → Nat} {N : Nat} {zcv zls zle zrg zre zsc zvs zlc zso zfi zq zr : Nat → Int32}
theorem ov_ycv (H : ov_YC c N zcv zls zle zrg zre zsc zvs zlc zso zfi zq zr) (i : Nat) : zcv i = ov_m (c 7 i) := H.1 i
theorem ov_yls (H : ov_YC c N zcv zls zle zrg zre zsc zvs zlc zso zfi zq zr) (i : Nat) : zls i = nI (c 4 i) := H.2.1 i
theorem ov_yle (H : ov_YC c N zcv zls zle zrg zre zsc zvs zlc zso zfi zq zr) (i : Nat) : zle i = nI (c 5 i / 9) := H.2.2.1 i
theorem ov_yrg (H : ov_YC c N zcv zls zle zrg zre zsc zvs zlc zso zfi zq zr) (i : Nat) : zrg i = nI (c 5 i / 3 % 3) := H.2.2.2.1 i
theorem ov_yre (H : ov_YC c N zcv zls zle zrg zre zsc zvs zlc zso zfi zq zr) (i : Nat) : zre i = nI (c 5 i % 3) := H.2.2.2.2.1 i
theorem ov_ysc (H : ov_YC c N zcv zls zle zrg zre zsc zvs zlc zso zfi zq zr) (i : Nat) : zsc i = nI (c 6 i) := H.2.2.2.2.2.1 i
theorem ov_yvs (H : ov_YC c N zcv zls zle zrg zre zsc zvs zlc zso zfi zq zr) (i : Nat) : zvs i = nI (c 9 i) := H.2.2.2.2.2.2.1 i
theorem ov_ylc (H : ov_YC c N zcv zls zle zrg zre zsc zvs zlc zso zfi zq zr) (i : Nat) : zlc i = nI (c 8 i) := H.2.2.2.2.2.2.2.1 i
theorem ov_yso (H : ov_YC c N zcv zls zle zrg zre zsc zvs zlc zso zfi zq zr) (i : Nat) : zso i = nI (c 0 i) := H.2.2.2.2.2.2.2.2.1 i
theorem ov_yfi (H : ov_YC c N zcv zls zle zrg zre zsc zvs zlc zso zfi zq zr) (i : Nat) : zfi i = nI (c 1 i) := H.2.2.2.2.2.2.2.2.2.1 i
theorem ov_yq (H : ov_YC c N zcv zls zle zrg zre zsc zvs zlc zso zfi zq zr) {i : Nat} (h : i < N) (e : c 0 i = 3) : zq i = nI (c 2 i) := H.2.2.2.2.2.2.2.2.2.2.1 i h e
theorem ov_yr (H : ov_YC c N zcv zls zle zrg zre zsc zvs zlc zso zfi zq zr) {i : Nat} (h : i < N) (e : c 0 i = 3) : zr i = nI (c 3 i) := H.2.2.2.2.2.2.2.2.2.2.2 i h e
end
section
variable {c : Nat → Nat → Nat} {N k w : Nat} {post : SY → Prop} {gn gt gf gl gb gc gs : Int32} {zcv zls zle zrg zre zsc zvs zlc zso zfi zq zr ztk zpt zpi zpv zty : Nat → Int32}
theorem ov_yn2 {post : Int32 → Prop} (W : ov_W c N) (H : ov_YC c N zcv zls zle zrg zre zsc zvs zlc zso zfi zq zr) (hk : k < N) (hpt : ∀ j, j < 12 → zpt j = ov_b (ov_Q c k j)) {x : Nat} (hx : x < 2) (K : post (ov_b (ov_us c k x))) : ∀ (d i : Nat), i + d = N → (∀ j, j < i → ¬ (ov_Q c k j = true ∧ c 0 j = 1 ∧ c 1 j = x)) → wY_names_2 post (nI x) (nI N) gt gf gl gb gc gs zcv zls zle zrg zre zsc zvs zlc zso zfi zq zr ztk zpt zpi zpv zty (d + 1) (nI i) := by
  have hn := ov_Wn W
  intro d
  induction d with
  | zero =>
    intro i h hI
    refine pk_le N i (fun _ => ?_) (fun h => absurd h (by omega))
    have : ov_us c k x = false := by
      cases hu : ov_us c k x with
      | false => rfl
      | true =>
        obtain ⟨j, _, h2⟩ := (ov_us_iff c k x).mp hu
        have := ov_Q_le W hk h2.1
        exact (hI j (by omega) h2).elim
    rw [this] at K
    exact K
  | succ d ih =>
    intro i h hI
    have nx : ¬ (ov_Q c k i = true ∧ c 0 i = 1 ∧ c 1 i = x) → wY_names_2 post (nI x) (nI N) gt gf gl gb gc gs zcv zls zle zrg zre zsc zvs zlc zso zfi zq zr ztk zpt zpi zpv zty (d + 1) (nI (i + 1)) := by
      intro hn2
      refine ih (i + 1) (by omega) (fun j hj => ?_)
      by_cases e : j = i
      · rw [e]; exact hn2
      · exact hI j (by omega)
    refine pk_le N i (fun h => absurd h (by omega)) (fun _ => pk_le 12 i (fun h => absurd h (by omega)) (fun _ => And.intro (pk_in i 12 (by omega)) ?_))
    rw [nI_clamp (show i < 2 ^ 31 by omega), hpt i (by omega)]
    cases hq : ov_Q c k i with
    | false => exact br_t rfl (nm_r (nI_1 i) (nx (fun z => by rw [hq] at z; exact absurd z.1 (by decide))))
    | true =>
      refine br_f ov_bt (And.intro (pk_in i 12 (by omega)) ?_)
      have h3 := ov_Wk W (k := i) (by omega)
      rw [ov_yso H i, ov_yfi H i]
      refine pk_eq (c 0 i) 1 (fun e1 => And.intro (pk_in i 12 (by omega)) ?_) (fun e1 => nm_r (nI_1 i) (nx (fun z => e1 z.2.1)))
      have h4 := ov_W1 W (k := i) (by omega) e1
      refine pk_eq (c 1 i) x (fun e2 => ?_) (fun e2 => nm_r (nI_1 i) (nx (fun z => e2 z.2.2)))
      rw [(ov_us_iff c k x).mpr ⟨i, by omega, hq, e1, e2⟩] at K
      exact K
theorem ov_ynames {post : Int32 → Prop} (W : ov_W c N) (H : ov_YC c N zcv zls zle zrg zre zsc zvs zlc zso zfi zq zr) (hk : k < N) (hpt : ∀ j, j < 12 → zpt j = ov_b (ov_Q c k j)) {x : Nat} (hx : x < 2) (K : post (ov_b (ov_us c k x))) : wpY_names post (nI N, gt, gf, gl, gb, gc, gs, zcv, zls, zle, zrg, zre, zsc, zvs, zlc, zso, zfi, zq, zr, ztk, zpt, zpi, zpv, zty) (nI x) :=
  ⟨_, ov_yn2 W H hk hpt hx K N 0 (by omega) (fun j hj => absurd hj (Nat.not_lt_zero j))⟩
theorem ov_r12 (c : Nat → Nat → Nat) (k : Nat) : ov_r c k 12 = if ov_us c k 0 = true then 3 else 1 := by
  unfold ov_r
  rw [if_neg (by omega), if_pos rfl]
theorem ov_r13 (c : Nat → Nat → Nat) (k : Nat) : ov_r c k 13 = if ov_us c k 1 = true then 3 else 1 := by
  unfold ov_r
  rw [if_neg (by omega), if_neg (by omega), if_pos rfl]
theorem ov_rN {j : Nat} (W : ov_W c N) (hk : k < N) (h1 : N ≤ j) (h2 : j < 12) : ov_r c k j = 1 := by
  unfold ov_r
  rw [if_pos h2]
  refine ov_rd_f ?_
  cases hq : ov_Q c k j with
  | false => rfl
  | true => have := ov_Q_le W hk hq; omega
theorem ov_psN (W : ov_W c N) (hk : k < N) : ∀ m, N + m ≤ 12 → ov_ps (ov_r c k) (N + m) = ov_ps (ov_r c k) N := by
  intro m
  induction m with
  | zero => intro _; rfl
  | succ m ih =>
    intro h
    rw [← Nat.add_assoc, ov_ps_s, ih (by omega), ov_rN W hk (by omega) (by omega), Nat.mul_one]
theorem ov_ps12 (W : ov_W c N) (hk : k < N) : ov_ps (ov_r c k) 12 = ov_ps (ov_r c k) N := by
  have hn := ov_Wn W
  have := ov_psN W hk (12 - N) (by omega)
  rwa [show N + (12 - N) = 12 by omega] at this
theorem ov_ymark187 (W : ov_W c N) (H : ov_YC c N zcv zls zle zrg zre zsc zvs zlc zso zfi zq zr) (hk : k < N) (hpt : ∀ j, j < 12 → zpt j = ov_b (ov_Q c k j)) (K : post (nI N, nI (ov_ps (ov_r c k) 14), gf, gl, gb, gc, gs, zcv, zls, zle, zrg, zre, zsc, zvs, zlc, zso, zfi, zq, zr, ztk, zpt, zpi, zpv, zty)) : wY_mark_187 post (nI N) (nI (ov_ps (ov_r c k) 13)) gf gl gb gc gs zcv zls zle zrg zre zsc zvs zlc zso zfi zq zr ztk zpt zpi zpv zty := by
  unfold wY_mark_187
  refine ov_ynames W H hk hpt (x := 1) (by omega) ?_
  rw [ov_ps_s _ 13, ov_r13] at K
  cases hu : ov_us c k 1 with
  | false =>
    rw [hu, if_neg (by decide), Nat.mul_one] at K
    exact br_t rfl K
  | true =>
    rw [hu, if_pos rfl] at K
    exact br_f ov_bt (nm_r (pk_mul _ 3) K)
theorem ov_ymark169 (W : ov_W c N) (H : ov_YC c N zcv zls zle zrg zre zsc zvs zlc zso zfi zq zr) (hk : k < N) (hpt : ∀ j, j < 12 → zpt j = ov_b (ov_Q c k j)) (K : post (nI N, nI (ov_ps (ov_r c k) 14), gf, gl, gb, gc, gs, zcv, zls, zle, zrg, zre, zsc, zvs, zlc, zso, zfi, zq, zr, ztk, zpt, zpi, zpv, zty)) : wY_mark_169 post (nI N) (nI (ov_ps (ov_r c k) 12)) gf gl gb gc gs zcv zls zle zrg zre zsc zvs zlc zso zfi zq zr ztk zpt zpi zpv zty := by
  have K2 := ov_ymark187 W H hk hpt K
  unfold wY_mark_169
  refine ov_ynames W H hk hpt (x := 0) (by omega) ?_
  rw [ov_ps_s _ 12, ov_r12] at K2
  cases hu : ov_us c k 0 with
  | false =>
    rw [hu, if_neg (by decide), Nat.mul_one] at K2
    exact br_t rfl K2
  | true =>
    rw [hu, if_pos rfl] at K2
    exact br_f ov_bt (nm_r (pk_mul _ 3) K2)
theorem ov_ymark92 (W : ov_W c N) (H : ov_YC c N zcv zls zle zrg zre zsc zvs zlc zso zfi zq zr) (hk : k < N) (hpt : ∀ j, j < 12 → zpt j = ov_b (ov_Q c k j)) (K : post (nI N, nI (ov_ps (ov_r c k) 14), gf, gl, gb, gc, gs, zcv, zls, zle, zrg, zre, zsc, zvs, zlc, zso, zfi, zq, zr, ztk, zpt, zpi, zpv, zty)) : ∀ (d i : Nat), i + d = N → wY_mark_92 post (nI N) gf gl gb gc gs zcv zls zle zrg zre zsc zvs zlc zso zfi zq zr ztk zpt zpi zpv zty (d + 1) (nI i) (nI (ov_ps (ov_r c k) i)) := by
  have hn := ov_Wn W
  have K2 := ov_ymark169 W H hk hpt K
  intro d
  induction d with
  | zero =>
    intro i h
    refine pk_le N i (fun _ => ?_) (fun h => absurd h (by omega))
    rw [ov_ps12 W hk] at K2
    rw [show i = N by omega]
    exact K2
  | succ d ih =>
    intro i h
    have hr : ov_r c k i = ov_rd c (ov_Q c k) i := by unfold ov_r; rw [if_pos (by omega)]
    have hci : (nI i).toNatClampNeg = i := nI_clamp (by omega)
    have h3 := ov_Wk W (k := i) (by omega)
    have ih2 := ih (i + 1) (by omega)
    rw [ov_ps_s, hr] at ih2
    have h134 : ∀ T, nI (ov_ps (ov_r c k) i * ov_rd c (ov_Q c k) i) = (if ov_Q c k i = true ∧ c 0 i = 3 then nI T * 4 else nI T) → wY_mark_134 post (wY_mark_92 post (nI N) gf gl gb gc gs zcv zls zle zrg zre zsc zvs zlc zso zfi zq zr ztk zpt zpi zpv zty (d + 1)) (nI i) (nI N) (nI T) gf gl gb gc gs zcv zls zle zrg zre zsc zvs zlc zso zfi zq zr ztk zpt zpi zpv zty := by
      intro T hT
      refine And.intro (pk_in i 12 (by omega)) ?_
      rw [hci, hpt i (by omega)]
      rw [hT] at ih2
      cases hq : ov_Q c k i with
      | false =>
        rw [hq, if_neg (fun z => absurd z.1 (by decide))] at ih2
        exact br_t rfl (nm_r (nI_1 i) ih2)
      | true =>
        refine br_f ov_bt (And.intro (pk_in i 12 (by omega)) ?_)
        rw [ov_yso H i]
        refine pk_eq (c 0 i) 3 (fun e3 => ?_) (fun e3 => ?_)
        · rw [if_pos ⟨hq, e3⟩] at ih2
          exact nm_e (nm_r (nI_1 i) ih2)
        · rw [if_neg (fun z => e3 z.2)] at ih2
          exact nm_r (nI_1 i) ih2
    refine pk_le N i (fun h => absurd h (by omega)) (fun _ => pk_le 12 i (fun h => absurd h (by omega)) (fun _ => And.intro (pk_in i 12 (by omega)) ?_))
    rw [hci, hpt i (by omega)]
    cases hq : ov_Q c k i with
    | false =>
      refine br_t rfl (h134 _ ?_)
      rw [if_neg (fun z => by rw [hq] at z; exact absurd z.1 (by decide)), ov_rd_f hq, Nat.mul_one]
    | true =>
      refine br_f ov_bt (And.intro (pk_in i 12 (by omega)) ?_)
      rw [ov_yso H i]
      refine pk_eq (c 0 i) 0 (fun e0 => nm_r (pk_mul _ 3) (h134 _ ?_)) (fun e0 => h134 _ ?_)
      · rw [if_neg (fun z => by omega), ov_rd_t hq, if_pos e0]
      · rw [ov_rd_t hq, if_neg e0]
        by_cases e3 : c 0 i = 3
        · rw [if_pos e3, if_pos ⟨hq, e3⟩]; exact (pk_mul _ 4).symm
        · rw [if_neg e3, if_neg (fun z => e3 z.2), Nat.mul_one]
theorem ov_ymark32 (W : ov_W c N) (H : ov_YC c N zcv zls zle zrg zre zsc zvs zlc zso zfi zq zr) (hk : k < N) (K : ∀ zpt', (∀ j, j < 12 → zpt' j = ov_b (ov_Q c k j)) → post (nI N, nI (ov_ps (ov_r c k) 14), gf, gl, gb, gc, gs, zcv, zls, zle, zrg, zre, zsc, zvs, zlc, zso, zfi, zq, zr, ztk, zpt', zpi, zpv, zty)) : ∀ (i : Nat) (zpt : Nat → Int32), i ≤ k + 1 → (∀ j, j < 12 → zpt j = ov_b (ov_ms c k (k + 1 - i) j)) → wY_mark_32 post (nI N) gt gf gl gb gc gs (i + 1) (nI i + (-1)) zcv zls zle zrg zre zsc zvs zlc zso zfi zq zr ztk zpt zpi zpv zty := by
  have hn := ov_Wn W
  intro i
  induction i with
  | zero =>
    intro zpt hi hI
    exact br_t (by decide) ⟨_, ov_ymark92 W H hk hI (K zpt hI) N 0 (by omega)⟩
  | succ i ih =>
    intro zpt hi hI
    rw [pk_m1]
    have hq : ov_ms c k (k + 1 - (i + 1)) i = ov_Q c k i := by
      unfold ov_Q
      have := ov_ms_stab W hk (d := k + 1 - (i + 1)) (j := i) (by omega) (i + 1)
      rw [show k + 1 - (i + 1) + (i + 1) = k + 1 by omega] at this
      exact this.symm
    have hms : ∀ j, ov_ms c k (k + 1 - i) j = (ov_ms c k (k + 1 - (i + 1)) j || (ov_Q c k i && decide (c 0 i = 3) && (decide (c 2 i = j) || decide (c 3 i = j)))) := by
      intro j
      rw [← hq]
      have e1 : k + 1 - i = (k + 1 - (i + 1)) + 1 := by omega
      rw [e1, ov_ms_s, show k - (k + 1 - (i + 1)) = i by omega]
    have hci : (nI i).toNatClampNeg = i := nI_clamp (by omega)
    have hpi : zpt i = ov_b (ov_Q c k i) := by rw [hI i (by omega), hq]
    refine br_f (nI_pos (by omega)) (And.intro (pk_in i 12 (by omega)) ?_)
    rw [hci, hpi]
    cases hq2 : ov_Q c k i with
    | false =>
      refine br_t rfl (nm_e (ih zpt (by omega) (fun j hj => ?_)))
      rw [hI j hj, hms j, hq2, Bool.false_and, Bool.false_and, Bool.or_false]
    | true =>
      refine br_f ov_bt (And.intro (pk_in i 12 (by omega)) ?_)
      have h3 := ov_Wk W (k := i) (by omega)
      rw [ov_yso H i]
      refine pk_eq (c 0 i) 3 (fun e3 => ?_) (fun e3 => nm_e (ih zpt (by omega) (fun j hj => ?_)))
      · have hw := ov_Wa W (k := i) (by omega) e3
        rw [ov_yq H (by omega) e3, ov_yr H (by omega) e3]
        refine ⟨pk_in i 12 (by omega), pk_in (c 2 i) 12 (by omega), ?_⟩
        rw [nI_clamp (show c 2 i < 2 ^ 31 by omega), ov_nb1]
        refine nm_e ⟨pk_in i 12 (by omega), pk_in (c 3 i) 12 (by omega), ?_⟩
        rw [nI_clamp (show c 3 i < 2 ^ 31 by omega)]
        refine nm_e (nm_e (ih _ (by omega) (fun j hj => ?_)))
        rw [hms j, hq2, decide_eq_true e3, Bool.true_and, Bool.true_and]
        by_cases h5 : j = c 3 i
        · rw [h5, pk_us, decide_eq_true (show c 3 i = c 3 i from rfl), Bool.or_true, Bool.or_true]; rfl
        · rw [pk_un h5, decide_eq_false (fun z : c 3 i = j => h5 z.symm), Bool.or_false]
          by_cases h6 : j = c 2 i
          · rw [h6, pk_us, decide_eq_true (show c 2 i = c 2 i from rfl), Bool.or_true]; rfl
          · rw [pk_un h6, decide_eq_false (fun z : c 2 i = j => h6 z.symm), Bool.or_false, hI j hj]
      · rw [hI j hj, hms j, decide_eq_false e3, Bool.and_false, Bool.false_and, Bool.or_false]
theorem ov_ymark2 (hk : k < 12) (K : ∀ zpt', (∀ j, j < 12 → zpt' j = ov_b (decide (j = k))) → ∃ n, wY_mark_32 post gn gt gf gl gb gc gs n (nI k) zcv zls zle zrg zre zsc zvs zlc zso zfi zq zr ztk zpt' zpi zpv zty) : ∀ (d i : Nat) (zpt : Nat → Int32), i + d = 12 → (∀ j, j < i → zpt j = ov_b (decide (j = k))) → wY_mark_2 post (nI k) gn gt gf gl gb gc gs (d + 1) (nI i) zcv zls zle zrg zre zsc zvs zlc zso zfi zq zr ztk zpt zpi zpv zty := by
  intro d
  induction d with
  | zero =>
    intro i ip h hI
    rw [show i = 12 by omega] at hI ⊢
    exact pk_le 12 12 (fun _ => K ip hI) (fun h => absurd h (by omega))
  | succ d ih =>
    intro i ip h hI
    refine pk_le 12 i (fun h => absurd h (by omega)) (fun _ => pk_eq i k (fun e => And.intro (pk_in i 12 (by omega)) ?_) (fun e => And.intro (pk_in i 12 (by omega)) ?_))
    · rw [nI_clamp (show i < 2 ^ 31 by omega), ov_nb1]
      refine nm_e (nm_r (nI_1 i) (ih (i + 1) _ (by omega) (fun j hj => ?_)))
      by_cases h3 : j = i
      · rw [h3, pk_us, decide_eq_true e]; rfl
      · rw [pk_un h3]; exact hI j (by omega)
    · rw [nI_clamp (show i < 2 ^ 31 by omega), ov_nb0]
      refine nm_e (nm_r (nI_1 i) (ih (i + 1) _ (by omega) (fun j hj => ?_)))
      by_cases h3 : j = i
      · rw [h3, pk_us, decide_eq_false e]; rfl
      · rw [pk_un h3]; exact hI j (by omega)
theorem ov_ymark (W : ov_W c N) (H : ov_YC c N zcv zls zle zrg zre zsc zvs zlc zso zfi zq zr) (hk : k < N) (K : ∀ zpt', (∀ j, j < 12 → zpt' j = ov_b (ov_Q c k j)) → post (nI N, nI (ov_ps (ov_r c k) 14), gf, gl, gb, gc, gs, zcv, zls, zle, zrg, zre, zsc, zvs, zlc, zso, zfi, zq, zr, ztk, zpt', zpi, zpv, zty)) : wpY_mark post (nI N, gt, gf, gl, gb, gc, gs, zcv, zls, zle, zrg, zre, zsc, zvs, zlc, zso, zfi, zq, zr, ztk, zpt, zpi, zpv, zty) (nI k) := by
  have hn := ov_Wn W
  refine ⟨_, ov_ymark2 (by omega) (fun zpt' h => ?_) 12 0 zpt (by omega) (fun j hj => absurd hj (Nat.not_lt_zero j))⟩
  have h1 := ov_ymark32 (gt := gt) W H hk K (k + 1) zpt' (Nat.le_refl _) (fun j hj => by rw [h j hj, Nat.sub_self]; rfl)
  rw [pk_m1] at h1
  exact ⟨_, h1⟩
end
end
section
/-! the reference: read -/
theorem ov_al_s (n : Nat) (f : Nat → Bool) : ov_al (n + 1) f = (ov_al n f && f n) := rfl
theorem ov_m_3 {n : Nat} (h : n < 2 ^ 31) : nI n - nI (n / 3) * 3 = nI (n % 3) := by rw [← ov_d3 h]; exact ov_r3 h
theorem ov_d4 {n : Nat} (h : n < 2 ^ 31) : nI n / 4 = nI (n / 4) := pk_div (d := 4) h (by decide) (by decide)
theorem ov_m_4 {n : Nat} (h : n < 2 ^ 31) : nI n - nI (n / 4) * 4 = nI (n % 4) := by rw [← ov_d4 h]; exact pk_rem (d := 4) h (by decide) (by decide)
/-- the picks are there: what read answers -/
def ov_rg (c : Nat → Nat → Nat) (k : Nat) (σ : Nat → Nat) : Bool := ov_vb c k 1 (σ 13) && (ov_vb c k 0 (σ 12) && ov_gd (ov_Q c k) (ov_pk c σ))
section
variable {c : Nat → Nat → Nat} {N k w : Nat} {post : Int32 → SY → Prop} {gn gt gf gl gb gc gs : Int32} {zcv zls zle zrg zre zsc zvs zlc zso zfi zq zr ztk zpt zpi zpv zty : Nat → Int32}
theorem ov_gdN (W : ov_W c N) (hk : k < N) (g : Nat → Bool) : ov_al N (fun j => !ov_Q c k j || g j) = ov_gd (ov_Q c k) g := by
  have hn := ov_Wn W
  rw [Bool.eq_iff_iff, ov_gd_iff, ov_al_iff]
  constructor
  · intro h j _ hq
    have h1 := ov_Q_le W hk hq
    have h2 := h j (by omega)
    rw [hq] at h2
    exact h2
  · intro h j hj
    cases hq : ov_Q c k j with
    | false => rfl
    | true => exact h j (by omega) hq
theorem ov_nar (b : Bool) : narrow .boolean (.int (ov_b b)) = .int (ov_b b) := by cases b <;> rfl
/-- one variable of read -/
theorem ov_yread155 (W : ov_W c N) (H : ov_YC c N zcv zls zle zrg zre zsc zvs zlc zso zfi zq zr) (hk : k < N) (hpt : ∀ j, j < 12 → zpt j = ov_b (ov_Q c k j)) {x : Nat} (hx : x < 2 ^ 31) (g : Bool) (hg : g = ov_gd (ov_Q c k) (ov_pk c (ov_dg (ov_r c k) x))) (K : ∀ zpv', (∀ v, v < 2 → ov_us c k v = true → zpv' v = nI (ov_dg (ov_r c k) x (12 + v))) → post (ov_b (ov_rg c k (ov_dg (ov_r c k) x))) (nI N, gt, gf, gl, gb, gc, gs, zcv, zls, zle, zrg, zre, zsc, zvs, zlc, zso, zfi, zq, zr, ztk, zpt, zpi, zpv', zty)) : ∃ n, wY_read_155 post (nI N) gt gf gl gb gc gs n (nI (x / ov_ps (ov_r c k) 12)) (ov_b g) 0 zcv zls zle zrg zre zsc zvs zlc zso zfi zq zr ztk zpt zpi zpv zty := by
  have hn := ov_Wn W
  have e12 : x / ov_ps (ov_r c k) 12 % ov_r c k 12 = ov_dg (ov_r c k) x 12 := rfl
  have e13 : x / ov_ps (ov_r c k) 13 % ov_r c k 13 = ov_dg (ov_r c k) x 13 := rfl
  have d12 : x / ov_ps (ov_r c k) 12 / ov_r c k 12 = x / ov_ps (ov_r c k) 13 := ov_dv x 12
  have l12 : x / ov_ps (ov_r c k) 12 < 2 ^ 31 := Nat.lt_of_le_of_lt (Nat.div_le_self _ _) hx
  have l13 : x / ov_ps (ov_r c k) 13 < 2 ^ 31 := Nat.lt_of_le_of_lt (Nat.div_le_self _ _) hx
  have h90 := ov_W9 W 0
  have h91 := ov_W9 W 1
  have t13 : ov_dg (ov_r c k) x 13 < 3 := by have h := ov_dg_lt (ov_r_p c k) x 13; rw [ov_r13] at h; split at h <;> omega
  have t12 : ov_dg (ov_r c k) x 12 < 3 := by have h := ov_dg_lt (ov_r_p c k) x 12; rw [ov_r12] at h; split at h <;> omega
  -- the end
  have s2 : ∀ zpv', (∀ v, v < 2 → ov_us c k v = true → zpv' v = nI (ov_dg (ov_r c k) x (12 + v))) → ∀ y, wY_read_155 post (nI N) gt gf gl gb gc gs 1 y (ov_b (ov_rg c k (ov_dg (ov_r c k) x))) (nI 2) zcv zls zle zrg zre zsc zvs zlc zso zfi zq zr ztk zpt zpi zpv' zty := by
    intro zpv' h y
    exact pk_le 2 2 (fun _ => And.intro (ov_nar _) (K zpv' h)) (fun h => absurd h (by omega))
  -- variable 1
  have s1 : ∀ zpv', (ov_us c k 0 = true → zpv' 0 = nI (ov_dg (ov_r c k) x 12)) → wY_read_155 post (nI N) gt gf gl gb gc gs 2 (nI (x / ov_ps (ov_r c k) 13)) (ov_b (ov_vb c k 0 (ov_dg (ov_r c k) x 12) && ov_gd (ov_Q c k) (ov_pk c (ov_dg (ov_r c k) x)))) (nI 1) zcv zls zle zrg zre zsc zvs zlc zso zfi zq zr ztk zpt zpi zpv' zty := by
    intro zpv' h0
    refine pk_le 2 1 (fun h => absurd h (by omega)) (fun _ => ?_)
    refine ov_ynames W H hk hpt (x := 1) (by omega) ?_
    cases hu : ov_us c k 1 with
    | false =>
      refine br_t rfl (nm_r (nI_1 1) ?_)
      have he : (ov_vb c k 0 (ov_dg (ov_r c k) x 12) && ov_gd (ov_Q c k) (ov_pk c (ov_dg (ov_r c k) x))) = ov_rg c k (ov_dg (ov_r c k) x) := by
        unfold ov_rg
        rw [show ov_vb c k 1 (ov_dg (ov_r c k) x 13) = true by unfold ov_vb; rw [hu]; rfl, Bool.true_and]
      rw [he]
      refine s2 zpv' (fun v hv hu2 => ?_) _
      have : v = 0 := by
        refine Classical.byContradiction fun hne => ?_
        rw [show v = 1 by omega, hu] at hu2
        exact absurd hu2 (by decide)
      subst this
      exact h0 hu2
    | true =>
      have r3 : ov_r c k 13 = 3 := by rw [ov_r13, hu]; rfl
      refine br_f ov_bt ⟨ov_n30, pk_in 1 2 (by omega), ?_⟩
      rw [ov_d3 l13, ov_m_3 l13]
      rw [r3] at e13
      rw [e13]
      refine nm_e ⟨ov_n30, nm_e ⟨pk_in 1 2 (by omega), pk_in 1 2 (by omega), ?_⟩⟩
      rw [show (nI 1).toNatClampNeg = 1 from nI_clamp (by omega), pk_us, ov_yvs H 1, ov_bit (show c 9 1 < 2 ^ 31 by omega) (show ov_dg (ov_r c k) x 13 < 32 by omega)]
      have hv2 : ∀ v, v < 2 → ov_us c k v = true → upd zpv' 1 (nI (ov_dg (ov_r c k) x 13)) v = nI (ov_dg (ov_r c k) x (12 + v)) := by
        intro v hv hu2
        by_cases e : v = 1
        · subst e; rw [pk_us]
        · rw [pk_un e]
          have : v = 0 := by omega
          subst this
          exact h0 hu2
      refine pk_eq (c 9 1 / 2 ^ ov_dg (ov_r c k) x 13 % 2) 0 (fun hb => nm_r (nI_1 1) ?_) (fun hb => nm_r (nI_1 1) ?_)
      · have he : ov_rg c k (ov_dg (ov_r c k) x) = false := by
          unfold ov_rg ov_vb
          rw [hu, decide_eq_false (show ¬ c 9 1 / 2 ^ ov_dg (ov_r c k) x 13 % 2 = 1 by omega)]
          rfl
        have := s2 _ hv2 (nI (x / ov_ps (ov_r c k) 13 / 3))
        rw [he] at this
        exact this
      · have he : (ov_vb c k 0 (ov_dg (ov_r c k) x 12) && ov_gd (ov_Q c k) (ov_pk c (ov_dg (ov_r c k) x))) = ov_rg c k (ov_dg (ov_r c k) x) := by
          unfold ov_rg
          rw [show ov_vb c k 1 (ov_dg (ov_r c k) x 13) = true by unfold ov_vb; rw [decide_eq_true (show c 9 1 / 2 ^ ov_dg (ov_r c k) x 13 % 2 = 1 by omega), Bool.or_true], Bool.true_and]
        rw [he]
        exact s2 _ hv2 _
  -- variable 0
  refine ⟨3, ?_⟩
  refine pk_le 2 0 (fun h => absurd h (by omega)) (fun _ => ?_)
  refine ov_ynames W H hk hpt (x := 0) (by omega) ?_
  cases hu : ov_us c k 0 with
  | false =>
    have r1 : ov_r c k 12 = 1 := by rw [ov_r12, hu]; rfl
    refine br_t rfl (nm_r (nI_1 0) ?_)
    have he : ov_vb c k 0 (ov_dg (ov_r c k) x 12) = true := by unfold ov_vb; rw [hu]; rfl
    have := s1 zpv (fun z => by rw [hu] at z; exact absurd z (by decide))
    rw [he, Bool.true_and, ← hg, ← d12, r1, Nat.div_one] at this
    exact this
  | true =>
    have r3 : ov_r c k 12 = 3 := by rw [ov_r12, hu]; rfl
    refine br_f ov_bt ⟨ov_n30, pk_in 0 2 (by omega), ?_⟩
    rw [ov_d3 l12, ov_m_3 l12]
    rw [r3] at e12 d12
    rw [e12, d12]
    refine nm_e ⟨ov_n30, nm_e ⟨pk_in 0 2 (by omega), pk_in 0 2 (by omega), ?_⟩⟩
    rw [show (0 : Int32).toNatClampNeg = 0 from rfl, pk_us, ov_yvs H 0, ov_bit (show c 9 0 < 2 ^ 31 by omega) (show ov_dg (ov_r c k) x 12 < 32 by omega)]
    have hs := s1 (upd zpv 0 (nI (ov_dg (ov_r c k) x 12))) (fun _ => pk_us)
    refine pk_eq (c 9 0 / 2 ^ ov_dg (ov_r c k) x 12 % 2) 0 (fun hb => nm_r (nI_1 0) ?_) (fun hb => nm_r (nI_1 0) ?_)
    · have he : ov_vb c k 0 (ov_dg (ov_r c k) x 12) = false := by
        unfold ov_vb
        rw [hu, decide_eq_false (show ¬ c 9 0 / 2 ^ ov_dg (ov_r c k) x 12 % 2 = 1 by omega)]
        rfl
      rw [he, Bool.false_and] at hs
      exact hs
    · have he : ov_vb c k 0 (ov_dg (ov_r c k) x 12) = true := by
        unfold ov_vb
        rw [decide_eq_true (show c 9 0 / 2 ^ ov_dg (ov_r c k) x 12 % 2 = 1 by omega), Bool.or_true]
      rw [he, Bool.true_and, ← hg] at hs
      exact hs
theorem ov_yread7 (W : ov_W c N) (H : ov_YC c N zcv zls zle zrg zre zsc zvs zlc zso zfi zq zr) (hk : k < N) (hpt : ∀ j, j < 12 → zpt j = ov_b (ov_Q c k j)) {x : Nat} (hx : x < 2 ^ 31) (K : ∀ zpi' zpv', (∀ j, j < N → zpi' j = nI (ov_dg (ov_r c k) x j)) → (∀ v, v < 2 → ov_us c k v = true → zpv' v = nI (ov_dg (ov_r c k) x (12 + v))) → post (ov_b (ov_rg c k (ov_dg (ov_r c k) x))) (nI N, gt, gf, gl, gb, gc, gs, zcv, zls, zle, zrg, zre, zsc, zvs, zlc, zso, zfi, zq, zr, ztk, zpt, zpi', zpv', zty)) : ∀ (d i : Nat) (zpi : Nat → Int32), i + d = N → (∀ j, j < i → zpi j = nI (ov_dg (ov_r c k) x j)) → wY_read_7 post (nI N) gt gf gl gb gc gs (d + 1) (nI (x / ov_ps (ov_r c k) i)) (ov_b (ov_al i (fun j => !ov_Q c k j || ov_pk c (ov_dg (ov_r c k) x) j))) (nI i) zcv zls zle zrg zre zsc zvs zlc zso zfi zq zr ztk zpt zpi zpv zty := by
  have hn := ov_Wn W
  intro d
  induction d with
  | zero =>
    intro i zpi h hI
    refine pk_le N i (fun _ => ?_) (fun h => absurd h (by omega))
    rw [show i = N by omega, ← ov_ps12 W hk]
    exact ov_yread155 W H hk hpt hx _ (ov_gdN W hk _) (fun zpv' hv => K zpi zpv' (fun j hj => hI j (by omega)) hv)
  | succ d ih =>
    intro i zpi h hI
    have hci : (nI i).toNatClampNeg = i := nI_clamp (by omega)
    have h3 := ov_Wk W (k := i) (by omega)
    have hr : ov_r c k i = ov_rd c (ov_Q c k) i := by unfold ov_r; rw [if_pos (by omega)]
    have ed : x / ov_ps (ov_r c k) i % ov_r c k i = ov_dg (ov_r c k) x i := rfl
    have dv : x / ov_ps (ov_r c k) i / ov_r c k i = x / ov_ps (ov_r c k) (i + 1) := ov_dv x i
    have lx : x / ov_ps (ov_r c k) i < 2 ^ 31 := Nat.lt_of_le_of_lt (Nat.div_le_self _ _) hx
    -- what stands when the index goes on
    have nx : ∀ (zpi' : Nat → Int32) (b : Bool), (∀ j, j < i → zpi' j = zpi j) → zpi' i = nI (ov_dg (ov_r c k) x i) → b = (ov_al i (fun j => !ov_Q c k j || ov_pk c (ov_dg (ov_r c k) x) j) && (!ov_Q c k i || ov_pk c (ov_dg (ov_r c k) x) i)) → wY_read_7 post (nI N) gt gf gl gb gc gs (d + 1) (nI (x / ov_ps (ov_r c k) (i + 1))) (ov_b b) (nI (i + 1)) zcv zls zle zrg zre zsc zvs zlc zso zfi zq zr ztk zpt zpi' zpv zty := by
      intro zpi' b h1 h2 h4
      have := ih (i + 1) zpi' (by omega) (fun j hj => by
        by_cases e : j = i
        · rw [e]; exact h2
        · rw [h1 j (by omega)]; exact hI j (by omega))
      rw [ov_al_s, ← h4] at this
      exact this
    refine pk_le N i (fun h => absurd h (by omega)) (fun _ => pk_le 12 i (fun h => absurd h (by omega)) (fun _ => And.intro (pk_in i 12 (by omega)) ?_))
    rw [hci]
    refine nm_e (And.intro (pk_in i 12 (by omega)) ?_)
    rw [hpt i (by omega)]
    cases hq : ov_Q c k i with
    | false =>
      have r1 : ov_r c k i = 1 := by rw [hr, ov_rd_f hq]
      rw [r1] at ed dv
      rw [Nat.mod_one] at ed
      rw [Nat.div_one] at dv
      refine br_t rfl (And.intro (pk_in i 12 (by omega)) ?_)
      rw [hci, hpt i (by omega), hq]
      refine br_t rfl (nm_r (nI_1 i) ?_)
      have := nx (upd zpi i 0) (ov_al i (fun j => !ov_Q c k j || ov_pk c (ov_dg (ov_r c k) x) j)) (fun j hj => pk_un (by omega)) (by rw [pk_us, ← ed]; rfl) (by rw [hq]; exact (Bool.and_true _).symm)
      rw [← dv] at this
      exact this
    | true =>
      refine br_f ov_bt (And.intro (pk_in i 12 (by omega)) ?_)
      rw [ov_yso H i]
      have r1 : ov_r c k i = if c 0 i = 0 then 3 else if c 0 i = 3 then 4 else 1 := by rw [hr, ov_rd_t hq]
      refine pk_eq (c 0 i) 0 (fun e0 => ?_) (fun e0 => ?_)
      · rw [if_pos e0] at r1
        have h7 := ov_W0 W (k := i) (by omega) e0
        have d3 := ov_dg_lt (ov_r_p c k) x i
        rw [r1] at d3 ed dv
        refine ⟨ov_n30, pk_in i 12 (by omega), ?_⟩
        rw [ov_d3 lx, ov_m_3 lx, ed, dv]
        refine nm_e ⟨ov_n30, nm_e ⟨pk_in i 12 (by omega), pk_in i 12 (by omega), ?_⟩⟩
        rw [pk_us, ov_yfi H i, ov_bit (show c 1 i < 2 ^ 31 by omega) (show ov_dg (ov_r c k) x i < 32 by omega)]
        have pk0 : ov_pk c (ov_dg (ov_r c k) x) i = decide (c 1 i / 2 ^ ov_dg (ov_r c k) x i % 2 = 1) := by unfold ov_pk; rw [if_pos e0]
        have hu1 : ∀ j, j < i → upd (upd zpi i 0) i (nI (ov_dg (ov_r c k) x i)) j = zpi j := fun j hj => by rw [pk_un (by omega), pk_un (by omega)]
        refine pk_eq (c 1 i / 2 ^ ov_dg (ov_r c k) x i % 2) 0 (fun hb => ?_) (fun hb => ?_)
        · refine And.intro (pk_in i 12 (by omega)) ?_
          rw [hci, hpt i (by omega), hq]
          refine br_f ov_bt (And.intro (pk_in i 12 (by omega)) ?_)
          rw [ov_yso H i]
          refine pk_eq (c 0 i) 3 (fun e3 => absurd e3 (by omega)) (fun e3 => nm_r (nI_1 i) ?_)
          exact nx _ false hu1 pk_us (by rw [hq, pk0, decide_eq_false (by omega)]; exact (Bool.and_false _).symm)
        · refine And.intro (pk_in i 12 (by omega)) ?_
          rw [hci, hpt i (by omega), hq]
          refine br_f ov_bt (And.intro (pk_in i 12 (by omega)) ?_)
          rw [ov_yso H i]
          refine pk_eq (c 0 i) 3 (fun e3 => absurd e3 (by omega)) (fun e3 => nm_r (nI_1 i) ?_)
          exact nx _ _ hu1 pk_us (by rw [hq, pk0, decide_eq_true (by omega)]; exact (Bool.and_true _).symm)
      · rw [if_neg e0] at r1
        refine And.intro (pk_in i 12 (by omega)) ?_
        rw [hci, hpt i (by omega), hq]
        refine br_f ov_bt (And.intro (pk_in i 12 (by omega)) ?_)
        rw [ov_yso H i]
        refine pk_eq (c 0 i) 3 (fun e3 => ?_) (fun e3 => nm_r (nI_1 i) ?_)
        · rw [if_pos e3] at r1
          have hw := ov_Wa W (k := i) (by omega) e3
          have h4 := ov_W4 W (c 1 i)
          have d3 := ov_dg_lt (ov_r_p c k) x i
          rw [r1] at d3 ed dv
          refine ⟨ov_n40, pk_in i 12 (by omega), ?_⟩
          rw [ov_d4 lx, ov_m_4 lx, ed, dv]
          refine nm_e ⟨ov_n40, nm_e ⟨pk_in i 12 (by omega), pk_in i 12 (by omega), ?_⟩⟩
          rw [pk_us, ov_yfi H i]
          refine And.intro (pk_in (c 1 i) 3 (by omega)) ?_
          rw [nI_clamp (show c 1 i < 2 ^ 31 by omega), ov_yls H]
          have pk0 : ov_pk c (ov_dg (ov_r c k) x) i = decide (ov_dg (ov_r c k) x i < c 4 (c 1 i)) := by unfold ov_pk; rw [if_neg e0, if_pos e3]
          have hu1 : ∀ j, j < i → upd (upd zpi i 0) i (nI (ov_dg (ov_r c k) x i)) j = zpi j := fun j hj => by rw [pk_un (by omega), pk_un (by omega)]
          refine pk_lt (ov_dg (ov_r c k) x i) (c 4 (c 1 i)) (fun hb => nm_r (nI_1 i) ?_) (fun hb => nm_r (nI_1 i) ?_)
          · exact nx _ _ hu1 pk_us (by rw [hq, pk0, decide_eq_true hb]; exact (Bool.and_true _).symm)
          · exact nx _ false hu1 pk_us (by rw [hq, pk0, decide_eq_false (by omega)]; exact (Bool.and_false _).symm)
        · rw [if_neg e3] at r1
          rw [r1] at ed dv
          rw [Nat.mod_one] at ed
          rw [Nat.div_one] at dv
          have pk0 : ov_pk c (ov_dg (ov_r c k) x) i = true := by unfold ov_pk; rw [if_neg e0, if_neg e3]
          have := nx (upd zpi i 0) (ov_al i (fun j => !ov_Q c k j || ov_pk c (ov_dg (ov_r c k) x) j)) (fun j hj => pk_un (by omega)) (by rw [pk_us, ← ed]; rfl) (by rw [pk0, Bool.or_true, Bool.and_true])
          rw [← dv] at this
          exact this
theorem ov_yread (W : ov_W c N) (H : ov_YC c N zcv zls zle zrg zre zsc zvs zlc zso zfi zq zr) (hk : k < N) (hpt : ∀ j, j < 12 → zpt j = ov_b (ov_Q c k j)) {x : Nat} (hx : x < 2 ^ 31) (K : ∀ zpi' zpv', (∀ j, j < N → zpi' j = nI (ov_dg (ov_r c k) x j)) → (∀ v, v < 2 → ov_us c k v = true → zpv' v = nI (ov_dg (ov_r c k) x (12 + v))) → post (ov_b (ov_rg c k (ov_dg (ov_r c k) x))) (nI N, gt, gf, gl, gb, gc, gs, zcv, zls, zle, zrg, zre, zsc, zvs, zlc, zso, zfi, zq, zr, ztk, zpt, zpi', zpv', zty)) : wpY_read post (nI N, gt, gf, gl, gb, gc, gs, zcv, zls, zle, zrg, zre, zsc, zvs, zlc, zso, zfi, zq, zr, ztk, zpt, zpi, zpv, zty) (nI x) := by
  have h := ov_yread7 (zpv := zpv) W H hk hpt hx K N 0 zpi (by omega) (fun j hj => absurd hj (Nat.not_lt_zero j))
  rw [show ov_ps (ov_r c k) 0 = 1 from rfl, Nat.div_one] at h
  exact ⟨_, h⟩
end
end
section
/-! the reference: price -/
/-- the conversions are allowed: what price finds -/
def ov_pg (c : Nat → Nat → Nat) (k w : Nat) (σ : Nat → Nat) : Bool := ov_gd (ov_Q c k) (ov_cn c (ov_vr σ) σ) && ov_ow c w (ov_ty c (ov_vr σ) σ k)
section
variable {c : Nat → Nat → Nat} {N k w : Nat} {σ : Nat → Nat} {post : Int32 → SY → Prop} {gn gt gf gl gb gc gs : Int32} {zcv zls zle zrg zre zsc zvs zlc zso zfi zq zr ztk zpt zpi zpv zty : Nat → Int32}
theorem ov_gd_and (Q f g : Nat → Bool) : ov_gd Q (fun j => f j && g j) = (ov_gd Q f && ov_gd Q g) := by
  rw [Bool.eq_iff_iff, Bool.and_eq_true, ov_gd_iff, ov_gd_iff, ov_gd_iff]
  constructor
  · intro h
    exact ⟨fun j hj hq => ((Bool.and_eq_true _ _).mp (h j hj hq)).1, fun j hj hq => ((Bool.and_eq_true _ _).mp (h j hj hq)).2⟩
  · intro h j hj hq
    rw [h.1 j hj hq, h.2 j hj hq]; rfl
theorem ov_fit_rp (c : Nat → Nat → Nat) (k w : Nat) (σ : Nat → Nat) : ov_fit c k w σ = (ov_rg c k σ && ov_pg c k w σ) := by
  have h : ov_gd (ov_Q c k) (ov_g c (ov_vr σ) σ) = (ov_gd (ov_Q c k) (ov_pk c σ) && ov_gd (ov_Q c k) (ov_cn c (ov_vr σ) σ)) := ov_gd_and _ _ _
  unfold ov_fit ov_rg ov_pg
  rw [h]
  cases ov_vb c k 1 (σ 13) <;> cases ov_vb c k 0 (σ 12) <;> cases ov_gd (ov_Q c k) (ov_pk c σ) <;> cases ov_gd (ov_Q c k) (ov_cn c (ov_vr σ) σ) <;> rfl
theorem ov_r_3 (hσ : ∀ j, σ j < ov_r c k j) {v : Nat} (hv : v < 2) : σ (12 + v) < 3 := by
  by_cases e : v = 0
  · subst e
    have h := hσ 12
    rw [ov_r12] at h
    show σ 12 < 3
    split at h <;> omega
  · have h := hσ 13
    rw [ov_r13] at h
    rw [show v = 1 by omega]
    show σ 13 < 3
    split at h <;> omega
theorem ov_ty3 (W : ov_W c N) (hσ : ∀ j, σ j < ov_r c k j) {j : Nat} (hj : j < N) : ov_ty c (ov_vr σ) σ j < 3 := by
  have h3 := ov_Wk W hj
  unfold ov_ty
  by_cases e0 : c 0 j = 0
  · rw [if_pos e0]; exact ov_sig W hσ j hj e0
  · rw [if_neg e0]
    by_cases e1 : c 0 j = 1
    · rw [if_pos e1]
      have h1 := ov_W1 W hj e1
      unfold ov_vr
      rw [if_pos h1]
      exact ov_r_3 hσ h1
    · rw [if_neg e1]
      by_cases e2 : c 0 j = 2
      · rw [if_pos e2]; exact ov_W2 W hj e2
      · rw [if_neg e2]; exact Nat.mod_lt _ (by decide)
theorem ov_cs_k (W : ov_W c N) (hk : k < N) (f : Nat → Nat) : ov_s (k + 1) (fun j => if ov_Q c k j = true then f j else 0) = ov_cs (ov_Q c k) f := by
  have hn := ov_Wn W
  unfold ov_cs
  refine (ov_sE 12 (by omega) (fun i hi => if_neg (fun hq => ?_))).symm
  have := ov_Q_le W hk hq
  omega
theorem ov_okm (W : ov_W c N) (f t : Nat) : (ov_ok c f t = true ∧ ov_m (c 7 (3 * f + t)) = nI (ov_cc c f t) ∧ ov_cc c f t ≤ 9) ∨ (ov_ok c f t = false ∧ ov_m (c 7 (3 * f + t)) = -1) := by
  have h7 := ov_W7 W (3 * f + t)
  unfold ov_ok ov_cc
  by_cases h : 1 ≤ c 7 (3 * f + t)
  · exact Or.inl ⟨decide_eq_true h, ov_m_p h, by omega⟩
  · exact Or.inr ⟨decide_eq_false h, ov_m_n h⟩
theorem ov_yprice256 (W : ov_W c N) (H : ov_YC c N zcv zls zle zrg zre zsc zvs zlc zso zfi zq zr) (hk : k < N) (hw : w ≤ 3) (hσ : ∀ j, σ j < ov_r c k j) (hty : zty k = nI (ov_ty c (ov_vr σ) σ k)) (K1 : ov_ow c w (ov_ty c (ov_vr σ) σ k) = true → post (nI (ov_pr c k w σ)) (nI N, gt, gf, gl, gb, gc, gs, zcv, zls, zle, zrg, zre, zsc, zvs, zlc, zso, zfi, zq, zr, ztk, zpt, zpi, zpv, zty)) (K2 : ov_ow c w (ov_ty c (ov_vr σ) σ k) = false → post (-1) (nI N, gt, gf, gl, gb, gc, gs, zcv, zls, zle, zrg, zre, zsc, zvs, zlc, zso, zfi, zq, zr, ztk, zpt, zpi, zpv, zty)) : wY_price_256 post (nI k) (nI w) (nI (ov_cs (ov_Q c k) (ov_ln c (ov_vr σ) σ))) (nI N) gt gf gl gb gc gs zcv zls zle zrg zre zsc zvs zlc zso zfi zq zr ztk zpt zpi zpv zty := by
  have hn := ov_Wn W
  have ht := ov_ty3 W hσ hk
  refine pk_eq w 3 (fun e => ?_) (fun e => ?_)
  · have := K1 (by unfold ov_ow; rw [if_pos e])
    unfold ov_pr ov_cw at this
    rw [if_pos e, Nat.add_zero] at this
    exact this
  · refine And.intro (pk_in k 12 (by omega)) ?_
    rw [nI_clamp (show k < 2 ^ 31 by omega), hty, ov_m3, nI_add]
    refine And.intro (pk_in (3 * ov_ty c (ov_vr σ) σ k + w) 9 (by omega)) ?_
    rw [nI_clamp (show 3 * ov_ty c (ov_vr σ) σ k + w < 2 ^ 31 by omega), ov_ycv H]
    have ho : ov_ow c w (ov_ty c (ov_vr σ) σ k) = ov_ok c (ov_ty c (ov_vr σ) σ k) w := by unfold ov_ow; rw [if_neg e]
    rw [ho] at K1 K2
    rcases ov_okm W (ov_ty c (ov_vr σ) σ k) w with ⟨h1, h2, h3⟩ | ⟨h1, h2⟩
    · rw [h2]
      have := K1 h1
      unfold ov_pr ov_cw at this
      rw [if_neg e, ← nI_add] at this
      exact nm_e (br_t (nI_pos' (by omega)) this)
    · rw [h2]
      exact nm_e (br_f (by decide) (K2 h1))
theorem ov_yprice5 (W : ov_W c N) (H : ov_YC c N zcv zls zle zrg zre zsc zvs zlc zso zfi zq zr) (hk : k < N) (hw : w ≤ 3) (hpt : ∀ j, j < 12 → zpt j = ov_b (ov_Q c k j)) (hσ : ∀ j, σ j < ov_r c k j) (hpi : ∀ j, j < N → zpi j = nI (σ j)) (hpv : ∀ v, v < 2 → ov_us c k v = true → zpv v = nI (σ (12 + v))) (hrg : ov_gd (ov_Q c k) (ov_pk c σ) = true) (K1 : ov_pg c k w σ = true → ∀ zty', (∀ j, j ≤ k → ov_Q c k j = true → zty' j = nI (ov_ty c (ov_vr σ) σ j)) → post (nI (ov_pr c k w σ)) (nI N, gt, gf, gl, gb, gc, gs, zcv, zls, zle, zrg, zre, zsc, zvs, zlc, zso, zfi, zq, zr, ztk, zpt, zpi, zpv, zty')) (K2 : ov_pg c k w σ = false → ∀ zty', post (-1) (nI N, gt, gf, gl, gb, gc, gs, zcv, zls, zle, zrg, zre, zsc, zvs, zlc, zso, zfi, zq, zr, ztk, zpt, zpi, zpv, zty')) : ∀ (d i : Nat) (zty : Nat → Int32), i + d = k + 1 → (∀ j, j < i → ov_Q c k j = true → zty j = nI (ov_ty c (ov_vr σ) σ j)) → (∀ j, j < i → ov_Q c k j = true → ov_cn c (ov_vr σ) σ j = true) → wY_price_5 post (nI k) (nI w) (nI N) gt gf gl gb gc gs (d + 1) (nI (ov_s i (fun j => if ov_Q c k j = true then ov_ln c (ov_vr σ) σ j else 0))) (nI i) zcv zls zle zrg zre zsc zvs zlc zso zfi zq zr ztk zpt zpi zpv zty := by
  have hn := ov_Wn W
  have hbad : ∀ i, i ≤ k → ov_Q c k i = true → ov_cn c (ov_vr σ) σ i = false → ov_pg c k w σ = false := by
    intro i hi hq hc
    unfold ov_pg
    cases hg : ov_gd (ov_Q c k) (ov_cn c (ov_vr σ) σ) with
    | false => rfl
    | true =>
      have := (ov_gd_iff _ _).mp hg i (by omega) hq
      rw [hc] at this
      exact absurd this (by decide)
  intro d
  induction d with
  | zero =>
    intro i zty h hI hC
    have hg : ov_gd (ov_Q c k) (ov_cn c (ov_vr σ) σ) = true := (ov_gd_iff _ _).mpr (fun j _ hq => hC j (by have := ov_Q_le W hk hq; omega) hq)
    refine pk_lt k i (fun _ => ?_) (fun h => absurd h (by omega))
    rw [show i = k + 1 by omega, ov_cs_k W hk]
    refine ov_yprice256 W H hk hw hσ (hI k (by omega) ov_Q_self) (fun ho => K1 ?_ zty (fun j hj hq => hI j (by omega) hq)) (fun ho => K2 ?_ zty)
    · unfold ov_pg; rw [hg, ho]; rfl
    · unfold ov_pg; rw [hg, ho]; rfl
  | succ d ih =>
    intro i zty h hI hC
    have hci : (nI i).toNatClampNeg = i := nI_clamp (by omega)
    have h3 := ov_Wk W (k := i) (by omega)
    refine pk_lt k i (fun h => absurd h (by omega)) (fun _ => pk_le 12 i (fun h => absurd h (by omega)) (fun _ => And.intro (pk_in i 12 (by omega)) ?_))
    rw [hci, hpt i (by omega)]
    cases hq : ov_Q c k i with
    | false =>
      refine br_t rfl (nm_r (nI_1 i) ?_)
      have := ih (i + 1) zty (by omega) (fun j hj hq' => by
          by_cases e : j = i
          · rw [e, hq] at hq'; exact absurd hq' (by decide)
          · exact hI j (by omega) hq') (fun j hj hq' => by
          by_cases e : j = i
          · rw [e, hq] at hq'; exact absurd hq' (by decide)
          · exact hC j (by omega) hq')
      rw [ov_s1, if_neg (by rw [hq]; decide), Nat.add_zero] at this
      exact this
    | true =>
      have hpk := (ov_gd_iff _ _).mp hrg i (by omega) hq
      have nx : ∀ T, T = nI (ov_ty c (ov_vr σ) σ i) → ov_cn c (ov_vr σ) σ i = true → wY_price_5 post (nI k) (nI w) (nI N) gt gf gl gb gc gs (d + 1) (nI (ov_s i (fun j => if ov_Q c k j = true then ov_ln c (ov_vr σ) σ j else 0)) + nI (ov_ln c (ov_vr σ) σ i)) (nI (i + 1)) zcv zls zle zrg zre zsc zvs zlc zso zfi zq zr ztk zpt zpi zpv (upd zty i T) := by
        intro T hT hc
        have := ih (i + 1) (upd zty i T) (by omega) (fun j hj hq' => by
          by_cases e : j = i
          · rw [e, pk_us]; exact hT
          · rw [pk_un e]; exact hI j (by omega) hq') (fun j hj hq' => by
          by_cases e : j = i
          · rw [e]; exact hc
          · exact hC j (by omega) hq')
        rw [ov_s1, if_pos hq, ← nI_add] at this
        exact this
      refine br_f ov_bt (And.intro (pk_in i 12 (by omega)) ?_)
      rw [ov_yso H i]
      refine pk_eq (c 0 i) 0 (fun e0 => ?_) (fun e0 => And.intro (pk_in i 12 (by omega)) ?_)
      · have hs := ov_sig W hσ i (by omega) e0
        rw [hpi i (by omega)]
        refine ⟨pk_in i 12 (by omega), pk_in i 12 (by omega), nm_e ⟨pk_in i 12 (by omega), pk_in (σ i) 3 hs, ?_⟩⟩
        rw [nI_clamp (show σ i < 2 ^ 31 by omega), ov_ylc H]
        have ht : ov_ty c (ov_vr σ) σ i = σ i := by unfold ov_ty; rw [if_pos e0]
        have hl : ov_ln c (ov_vr σ) σ i = c 8 (σ i) := by unfold ov_ln; rw [if_pos e0]
        have := nx (nI (σ i)) (by rw [ht]) (by unfold ov_cn; rw [if_neg (by omega)])
        rw [hl] at this
        exact nm_e (nm_r (nI_1 i) this)
      · refine pk_eq (c 0 i) 1 (fun e1 => ?_) (fun e1 => And.intro (pk_in i 12 (by omega)) (pk_eq (c 0 i) 2 (fun e2 => ?_) (fun e2 => ?_)))
        · have h1 := ov_W1 W (k := i) (by omega) e1
          rw [ov_yfi H i]
          refine ⟨pk_in i 12 (by omega), pk_in (c 1 i) 2 h1, pk_in i 12 (by omega), ?_⟩
          have hu : ov_us c k (c 1 i) = true := (ov_us_iff _ _ _).mpr ⟨i, by omega, hq, e1, rfl⟩
          rw [nI_clamp (show c 1 i < 2 ^ 31 by omega), hpv _ h1 hu]
          have ht : ov_ty c (ov_vr σ) σ i = σ (12 + c 1 i) := by unfold ov_ty ov_vr; rw [if_neg e0, if_pos e1, if_pos h1]
          have hl : ov_ln c (ov_vr σ) σ i = 0 := by unfold ov_ln; rw [if_neg e0, if_neg (by omega)]
          have := nx (nI (σ (12 + c 1 i))) (by rw [ht]) (by unfold ov_cn; rw [if_neg (by omega)])
          rw [hl, ov_add0] at this
          exact nm_e (nm_r (nI_1 i) this)
        · rw [ov_yfi H i]
          refine ⟨pk_in i 12 (by omega), pk_in i 12 (by omega), ?_⟩
          have ht : ov_ty c (ov_vr σ) σ i = c 1 i := by unfold ov_ty; rw [if_neg e0, if_neg e1, if_pos e2]
          have hl : ov_ln c (ov_vr σ) σ i = 0 := by unfold ov_ln; rw [if_neg e0, if_neg (by omega)]
          have := nx (nI (c 1 i)) (by rw [ht]) (by unfold ov_cn; rw [if_neg (by omega)])
          rw [hl, ov_add0] at this
          exact nm_e (nm_r (nI_1 i) this)
        · have e3 : c 0 i = 3 := by omega
          have ha := ov_Wa W (k := i) (by omega) e3
          have h4 := ov_W4 W (c 1 i)
          unfold ov_pk at hpk
          rw [if_neg e0, if_pos e3, decide_eq_true_eq] at hpk
          have h5 := ov_W5 W (4 * c 1 i + σ i)
          have tl3 := ov_ty3 W hσ (j := c 2 i) (by omega)
          have tr3 := ov_ty3 W hσ (j := c 3 i) (by omega)
          have ql := ov_Q_cl W hk hq e3 (Or.inl rfl)
          have qr := ov_Q_cl W hk hq e3 (Or.inr rfl)
          have ht : ov_ty c (ov_vr σ) σ i = c 5 (4 * c 1 i + σ i) % 3 := by unfold ov_ty; rw [if_neg e0, if_neg e1, if_neg e2]
          have hc : ov_cn c (ov_vr σ) σ i = (ov_ok c (ov_ty c (ov_vr σ) σ (c 2 i)) (c 5 (4 * c 1 i + σ i) / 9) && ov_ok c (ov_ty c (ov_vr σ) σ (c 3 i)) (c 5 (4 * c 1 i + σ i) / 3 % 3)) := by unfold ov_cn; rw [if_pos e3]
          have hl : ov_ln c (ov_vr σ) σ i = c 6 (4 * c 1 i + σ i) + ov_cc c (ov_ty c (ov_vr σ) σ (c 2 i)) (c 5 (4 * c 1 i + σ i) / 9) + ov_cc c (ov_ty c (ov_vr σ) σ (c 3 i)) (c 5 (4 * c 1 i + σ i) / 3 % 3) := by unfold ov_ln; rw [if_neg e0, if_pos e3]
          have yl : upd zty i (nI (c 5 (4 * c 1 i + σ i) % 3)) (c 2 i) = nI (ov_ty c (ov_vr σ) σ (c 2 i)) := by rw [pk_un (by omega)]; exact hI _ (by omega) ql
          have yr : upd zty i (nI (c 5 (4 * c 1 i + σ i) % 3)) (c 3 i) = nI (ov_ty c (ov_vr σ) σ (c 3 i)) := by rw [pk_un (by omega)]; exact hI _ (by omega) qr
          have nx' := nx (nI (c 5 (4 * c 1 i + σ i) % 3)) (by rw [ht])
          have hb := hbad i (by omega) hq
          rw [hc, hl] at nx'
          rw [hc] at hb
          generalize hs : 4 * c 1 i + σ i = s at *
          generalize htl : ov_ty c (ov_vr σ) σ (c 2 i) = tl at *
          generalize htr : ov_ty c (ov_vr σ) σ (c 3 i) = tr at *
          rw [ov_yfi H i, hpi i (by omega), ov_yq H (by omega) e3, ov_yr H (by omega) e3]
          refine ⟨pk_in i 12 (by omega), pk_in i 12 (by omega), nm_r (e' := nI s) (by rw [ov_m4, nI_add, hs]) ?_⟩
          rw [nI_clamp (show s < 2 ^ 31 by omega), ov_yre H s, ov_yle H s, ov_yrg H s, ov_ysc H s, nI_clamp (show c 2 i < 2 ^ 31 by omega), nI_clamp (show c 3 i < 2 ^ 31 by omega)]
          refine ⟨pk_in s 12 (by omega), pk_in i 12 (by omega), nm_e ?_⟩
          rw [yl, yr, ov_m3, ov_m3, nI_add, nI_add, nI_clamp (show 3 * tl + c 5 s / 9 < 2 ^ 31 by omega), nI_clamp (show 3 * tr + c 5 s / 3 % 3 < 2 ^ 31 by omega), ov_ycv H, ov_ycv H]
          refine ⟨pk_in i 12 (by omega), pk_in (c 2 i) 12 (by omega), pk_in s 12 (by omega), pk_in (3 * tl + c 5 s / 9) 9 (by omega), nm_e ⟨pk_in i 12 (by omega), pk_in (c 3 i) 12 (by omega), pk_in s 12 (by omega), pk_in (3 * tr + c 5 s / 3 % 3) 9 (by omega), nm_e ?_⟩⟩
          rcases ov_okm W tl (c 5 s / 9) with ⟨a1, a2, a3⟩ | ⟨a1, a2⟩
          · rw [a2]
            refine br_f (nI_pos (by omega)) ?_
            rcases ov_okm W tr (c 5 s / 3 % 3) with ⟨b1, b2, b3⟩ | ⟨b1, b2⟩
            · rw [b2]
              refine br_t (nI_pos' (by omega)) (And.intro (pk_in s 12 (by omega)) ?_)
              have := nx' (by rw [a1, b1]; rfl)
              rw [← nI_add, ← nI_add] at this
              exact nm_e (nm_r (nI_1 i) this)
            · rw [b2]
              exact br_f (by decide) (K2 (hb (by rw [b1, Bool.and_false])) _)
          · rw [a2]
            exact br_t (by decide) (K2 (hb (by rw [a1, Bool.false_and])) _)
theorem ov_yprice (W : ov_W c N) (H : ov_YC c N zcv zls zle zrg zre zsc zvs zlc zso zfi zq zr) (hk : k < N) (hw : w ≤ 3) (hpt : ∀ j, j < 12 → zpt j = ov_b (ov_Q c k j)) (hσ : ∀ j, σ j < ov_r c k j) (hpi : ∀ j, j < N → zpi j = nI (σ j)) (hpv : ∀ v, v < 2 → ov_us c k v = true → zpv v = nI (σ (12 + v))) (hrg : ov_rg c k σ = true) (K1 : ov_pg c k w σ = true → ∀ zty', (∀ j, j ≤ k → ov_Q c k j = true → zty' j = nI (ov_ty c (ov_vr σ) σ j)) → post (nI (ov_pr c k w σ)) (nI N, gt, gf, gl, gb, gc, gs, zcv, zls, zle, zrg, zre, zsc, zvs, zlc, zso, zfi, zq, zr, ztk, zpt, zpi, zpv, zty')) (K2 : ov_pg c k w σ = false → ∀ zty', post (-1) (nI N, gt, gf, gl, gb, gc, gs, zcv, zls, zle, zrg, zre, zsc, zvs, zlc, zso, zfi, zq, zr, ztk, zpt, zpi, zpv, zty')) : wpY_price post (nI N, gt, gf, gl, gb, gc, gs, zcv, zls, zle, zrg, zre, zsc, zvs, zlc, zso, zfi, zq, zr, ztk, zpt, zpi, zpv, zty) (nI k) (nI w) := by
  have hg : ov_gd (ov_Q c k) (ov_pk c σ) = true := by
    unfold ov_rg at hrg
    rw [Bool.and_eq_true, Bool.and_eq_true] at hrg
    exact hrg.2.2
  exact ⟨_, ov_yprice5 W H hk hw hpt hσ hpi hpv hg K1 K2 (k + 1) 0 zty (by omega) (fun j hj => absurd hj (Nat.not_lt_zero j)) (fun j hj => absurd hj (Nat.not_lt_zero j))⟩
end
end
section
/-! the reference: tryAll -/
def ov_fx (c : Nat → Nat → Nat) (k w x : Nat) : Bool := ov_fit c k w (ov_dg (ov_r c k) x)
def ov_px (c : Nat → Nat → Nat) (k w x : Nat) : Nat := ov_pr c k w (ov_dg (ov_r c k) x)
def ov_T3 (c : Nat → Nat → Nat) (k w m : Nat) (gl gb gc : Int32) : Prop :=
  ((∀ x, x < m → ov_fx c k w x = false) ∧ gl = -3 ∧ gb = 0) ∨
  (∃ y, y < m ∧ ov_fx c k w y = true ∧ gl = nI (ov_px c k w y) ∧ gc = nI y ∧ (∀ x, x < m → ov_fx c k w x = true → ov_px c k w y ≤ ov_px c k w x) ∧ gb = nI (ov_s m (fun x => if ov_fx c k w x = true ∧ ov_px c k w x = ov_px c k w y then 1 else 0)))
def ov_c1 (c : Nat → Nat → Nat) (k w x : Nat) : Nat := if ov_fx c k w x = true then 1 else 0
def ov_c2 (c : Nat → Nat → Nat) (k w : Nat) (A : Int32) (x : Nat) : Nat := if ov_fx c k w x = true ∧ nI (ov_px c k w x) = A then 1 else 0
section
variable {c : Nat → Nat → Nat} {N k w : Nat} {post : SY → Prop} {gn gt gf gl gb gc gs : Int32} {zcv zls zle zrg zre zsc zvs zlc zso zfi zq zr ztk zpt zpi zpv zty : Nat → Int32}
theorem ov_T3n {m : Nat} (h : ov_T3 c k w m gl gb gc) (hf : ov_fx c k w m = false) : ov_T3 c k w (m + 1) gl gb gc := by
  rcases h with ⟨h1, h2, h3⟩ | ⟨y, h1, h2, h3, h4, h5, h6⟩
  · refine Or.inl ⟨fun x hx => ?_, h2, h3⟩
    by_cases e : x = m
    · rw [e]; exact hf
    · exact h1 x (by omega)
  · refine Or.inr ⟨y, by omega, h2, h3, h4, fun x hx hfx => ?_, ?_⟩
    · by_cases e : x = m
      · rw [e, hf] at hfx; exact absurd hfx (by decide)
      · exact h5 x (by omega) hfx
    · rw [ov_s1, if_neg (fun z => by rw [hf] at z; exact absurd z.1 (by decide)), Nat.add_zero]
      exact h6
theorem ov_T3new {m : Nat} (hf : ov_fx c k w m = true) (hl : ∀ x, x < m → ov_fx c k w x = true → ov_px c k w m < ov_px c k w x) : ov_T3 c k w (m + 1) (nI (ov_px c k w m)) (nI 1) (nI m) := by
  refine Or.inr ⟨m, by omega, hf, rfl, rfl, fun x hx hfx => ?_, ?_⟩
  · by_cases e : x = m
    · rw [e]; exact Nat.le_refl _
    · exact Nat.le_of_lt (hl x (by omega) hfx)
  · rw [ov_s1, if_pos ⟨hf, rfl⟩, ov_sZ m (fun x hx => if_neg (fun z => ?_))]
    have := hl x hx z.1
    omega
theorem ov_y124 {x1 x2 x3 : Int32} {n m l b g : Nat} (hb : l < 128) (hm : ov_px c k w m < 128) (hc : gc = nI g) (hl : gl = nI l) (hgb : gb = nI b) (K : wY_tryAll_34 post x1 x2 x3 n (nI (m + 1)) gn gt gf (nI l) (nI (b + if ov_px c k w m = l then 1 else 0)) (nI g) gs zcv zls zle zrg zre zsc zvs zlc zso zfi zq zr ztk zpt zpi zpv zty) : wY_tryAll_124 post (wY_tryAll_34 post x1 x2 x3 n) x1 x2 x3 (nI m) (nI (ov_px c k w m)) gn gt gf gl gb gc gs zcv zls zle zrg zre zsc zvs zlc zso zfi zq zr ztk zpt zpi zpv zty := by
  subst hc hl hgb
  unfold wY_tryAll_124
  refine pk_eq (ov_px c k w m) l (fun e => ?_) (fun e => ?_)
  · rw [if_pos e] at K
    exact nm_r (nI_1 b) (nm_r (nI_1 m) K)
  · rw [if_neg e] at K
    exact nm_r (nI_1 m) K
theorem ov_y91 {x1 x2 x3 : Int32} {n m : Nat} (hT : ov_T3 c k w m gl gb gc) (hf : ov_fx c k w m = true) (hp : ∀ x, x ≤ m → ov_fx c k w x = true → ov_px c k w x < 128) (K : ∀ gl' gb' gc', ov_T3 c k w (m + 1) gl' gb' gc' → wY_tryAll_34 post x1 x2 x3 n (nI (m + 1)) gn gt gf gl' gb' gc' gs zcv zls zle zrg zre zsc zvs zlc zso zfi zq zr ztk zpt zpi zpv zty) : wY_tryAll_91 post (wY_tryAll_34 post x1 x2 x3 n) x1 x2 x3 (nI m) (nI (ov_px c k w m)) gn gt gf gl gb gc gs zcv zls zle zrg zre zsc zvs zlc zso zfi zq zr ztk zpt zpi zpv zty := by
  have hm := hp m (Nat.le_refl _) hf
  have h107 : (∀ x, x < m → ov_fx c k w x = true → ov_px c k w m < ov_px c k w x) → wY_tryAll_107 post (wY_tryAll_34 post x1 x2 x3 n) x1 x2 x3 (nI m) (nI (ov_px c k w m)) gn gt gf gl gb gc gs zcv zls zle zrg zre zsc zvs zlc zso zfi zq zr ztk zpt zpi zpv zty := by
    intro hl
    unfold wY_tryAll_107
    refine ov_y124 (l := ov_px c k w m) (b := 0) (g := m) hm hm rfl rfl rfl ?_
    rw [if_pos rfl]
    exact K _ _ _ (ov_T3new hf hl)
  unfold wY_tryAll_91
  rcases hT with ⟨h1, h2, h3⟩ | ⟨y, h1, h2, h3, h4, h5, h6⟩
  · rw [h2] at h107 ⊢
    refine br_t (by decide) (h107 (fun x hx hfx => ?_))
    rw [h1 x hx] at hfx
    exact absurd hfx (by decide)
  · have hy := hp y (by omega) h2
    rw [h3] at h107 ⊢
    refine br_f (nI_pos (by omega)) (pk_le (ov_px c k w y) (ov_px c k w m) (fun hle => ?_) (fun hlt => h107 (fun x hx hfx => ?_)))
    · refine ov_y124 (l := ov_px c k w y) (b := ov_s m (fun x => if ov_fx c k w x = true ∧ ov_px c k w x = ov_px c k w y then 1 else 0)) (g := y) hy hm h4 rfl h6 (K _ _ _ ?_)
      refine Or.inr ⟨y, by omega, h2, rfl, rfl, fun x hx hfx => ?_, ?_⟩
      · by_cases e : x = m
        · rw [e]; exact hle
        · exact h5 x (by omega) hfx
      · rw [ov_s1]
        by_cases e : ov_px c k w m = ov_px c k w y
        · rw [if_pos e, if_pos ⟨hf, e⟩]
        · rw [if_neg e, if_neg (fun z => e z.2)]
    · have := h5 x hx hfx
      omega
theorem ov_px128 (W : ov_W c N) (hk : k < N) {x : Nat} (hx : x < ov_ps (ov_r c k) 14) (hf : ov_fx c k w x = true) : ov_px c k w x < 128 := ov_to_128 W hk (ov_fit_to W hk hx hf)
theorem ov_tot31 (c : Nat → Nat → Nat) (k : Nat) : ov_ps (ov_r c k) 14 < 2 ^ 31 := Nat.lt_of_le_of_lt (ov_tot_b c k) (by decide)
theorem ov_ytry34 (W : ov_W c N) (H : ov_YC c N zcv zls zle zrg zre zsc zvs zlc zso zfi zq zr) (hk : k < N) (hw : w ≤ 3) (hpt : ∀ j, j < 12 → zpt j = ov_b (ov_Q c k j)) {A : Int32} (K : ∀ gl' gb' gc' zpi' zpv' zty', ov_T3 c k w (ov_ps (ov_r c k) 14) gl' gb' gc' → post (nI N, nI (ov_ps (ov_r c k) 14), nI (ov_s (ov_ps (ov_r c k) 14) (ov_c1 c k w)), gl', gb', gc', nI (ov_s (ov_ps (ov_r c k) 14) (ov_c2 c k w A)), zcv, zls, zle, zrg, zre, zsc, zvs, zlc, zso, zfi, zq, zr, ztk, zpt, zpi', zpv', zty')) : ∀ (d m : Nat) (gl gb gc : Int32) (zpi zpv zty : Nat → Int32), m + d = ov_ps (ov_r c k) 14 → ov_T3 c k w m gl gb gc → wY_tryAll_34 post (nI k) (nI w) A (d + 1) (nI m) (nI N) (nI (ov_ps (ov_r c k) 14)) (nI (ov_s m (ov_c1 c k w))) gl gb gc (nI (ov_s m (ov_c2 c k w A))) zcv zls zle zrg zre zsc zvs zlc zso zfi zq zr ztk zpt zpi zpv zty := by
  have hb := ov_tot31 c k
  intro d
  induction d with
  | zero =>
    intro m gl gb gc zpi zpv zty h hT
    refine pk_le (ov_ps (ov_r c k) 14) m (fun _ => ?_) (fun h => absurd h (by omega)) rfl rfl hb (by omega)
    rw [show m = ov_ps (ov_r c k) 14 by omega] at hT ⊢
    exact K gl gb gc zpi zpv zty hT
  | succ d ih =>
    intro m gl gb gc zpi zpv zty h hT
    have hfr := ov_fit_rp c k w (ov_dg (ov_r c k) m)
    have nofit : ov_fx c k w m = false → ∀ zpi' zpv' zty', wY_tryAll_34 post (nI k) (nI w) A (d + 1) (nI (m + 1)) (nI N) (nI (ov_ps (ov_r c k) 14)) (nI (ov_s m (ov_c1 c k w))) gl gb gc (nI (ov_s m (ov_c2 c k w A))) zcv zls zle zrg zre zsc zvs zlc zso zfi zq zr ztk zpt zpi' zpv' zty' := by
      intro hf zpi' zpv' zty'
      have := ih (m + 1) gl gb gc zpi' zpv' zty' (by omega) (ov_T3n hT hf)
      rw [ov_s1, ov_s1, show ov_c1 c k w m = 0 from if_neg (by rw [hf]; decide), show ov_c2 c k w A m = 0 from if_neg (fun z => by rw [hf] at z; exact absurd z.1 (by decide)), Nat.add_zero, Nat.add_zero] at this
      exact this
    refine pk_le (ov_ps (ov_r c k) 14) m (fun h => absurd h (by omega)) (fun _ => ?_) rfl rfl hb (by omega)
    refine ov_yread W H hk hpt (x := m) (by omega) (fun zpi' zpv' h1 h2 => ?_)
    cases hr : ov_rg c k (ov_dg (ov_r c k) m) with
    | false =>
      have hf : ov_fx c k w m = false := by unfold ov_fx; rw [hfr, hr]; rfl
      exact br_t rfl (nm_r (nI_1 m) (nofit hf zpi' zpv' zty))
    | true =>
      refine br_f ov_bt ?_
      refine ov_yprice W H hk hw hpt (fun j => ov_dg_lt (ov_r_p c k) m j) h1 h2 hr (fun hg zty' _ => ?_) (fun hg zty' => ?_)
      · have hf : ov_fx c k w m = true := by unfold ov_fx; rw [hfr, hr, hg]; rfl
        have hp : ∀ x, x ≤ m → ov_fx c k w x = true → ov_px c k w x < 128 := fun x hx hfx => ov_px128 W hk (by omega) hfx
        have hpm := hp m (Nat.le_refl _) hf
        refine br_f (nI_pos (show ov_px c k w m < 2 ^ 31 by omega)) (nm_r (nI_1 _) ?_)
        have e1 : ov_s m (ov_c1 c k w) + 1 = ov_s (m + 1) (ov_c1 c k w) := by rw [ov_s1, show ov_c1 c k w m = 1 from if_pos hf]
        rw [e1]
        refine br_c (fun hA => nm_r (nI_1 _) ?_) (fun hA => ?_)
        · have e2 : ov_s m (ov_c2 c k w A) + 1 = ov_s (m + 1) (ov_c2 c k w A) := by rw [ov_s1, show ov_c2 c k w A m = 1 from if_pos ⟨hf, hA⟩]
          rw [e2]
          exact ov_y91 hT hf hp (fun gl' gb' gc' hT' => ih (m + 1) gl' gb' gc' zpi' zpv' zty' (by omega) hT')
        · have e2 : ov_s m (ov_c2 c k w A) = ov_s (m + 1) (ov_c2 c k w A) := by rw [ov_s1, show ov_c2 c k w A m = 0 from if_neg (fun z => hA z.2), Nat.add_zero]
          rw [e2]
          exact ov_y91 hT hf hp (fun gl' gb' gc' hT' => ih (m + 1) gl' gb' gc' zpi' zpv' zty' (by omega) hT')
      · have hf : ov_fx c k w m = false := by unfold ov_fx; rw [hfr, hr, hg]; rfl
        exact br_t (by decide) (nm_r (nI_1 m) (nofit hf zpi' zpv' zty'))
theorem ov_ytry (W : ov_W c N) (H : ov_YC c N zcv zls zle zrg zre zsc zvs zlc zso zfi zq zr) (hk : k < N) (hw : w ≤ 3) {A : Int32} (K : ∀ gl' gb' gc' zpt' zpi' zpv' zty', (∀ j, j < 12 → zpt' j = ov_b (ov_Q c k j)) → ov_T3 c k w (ov_ps (ov_r c k) 14) gl' gb' gc' → post (nI N, nI (ov_ps (ov_r c k) 14), nI (ov_s (ov_ps (ov_r c k) 14) (ov_c1 c k w)), gl', gb', gc', nI (ov_s (ov_ps (ov_r c k) 14) (ov_c2 c k w A)), zcv, zls, zle, zrg, zre, zsc, zvs, zlc, zso, zfi, zq, zr, ztk, zpt', zpi', zpv', zty')) : wpY_tryAll post (nI N, gt, gf, gl, gb, gc, gs, zcv, zls, zle, zrg, zre, zsc, zvs, zlc, zso, zfi, zq, zr, ztk, zpt, zpi, zpv, zty) (nI k) (nI w) A := by
  unfold wpY_tryAll
  dsimp only
  refine ov_ymark W H hk (fun zpt' hpt => ?_)
  exact ⟨_, ov_ytry34 W H hk hw hpt (fun gl' gb' gc' zpi' zpv' zty' h => K gl' gb' gc' zpt' zpi' zpv' zty' hpt h) (ov_ps (ov_r c k) 14) 0 (-3) 0 0 zpi zpv zty (by omega) (Or.inl ⟨fun x hx => absurd hx (Nat.not_lt_zero x), rfl, rfl⟩)⟩
theorem ov_c1_len (W : ov_W c N) (hk : k < N) : ov_s (ov_ps (ov_r c k) 14) (ov_c1 c k w) = (ov_AL c k w).length := ov_fit_codes W hk
theorem ov_c2_to (W : ov_W c N) (hk : k < N) {a : Nat} (ha : a < 128) : ov_s (ov_ps (ov_r c k) 14) (ov_c2 c k w (nI a)) = ov_to c k w a := by
  rw [← ov_to_codes W hk]
  refine ov_sC _ (fun x hx => ?_)
  unfold ov_c2
  by_cases hf : ov_fx c k w x = true
  · have hp := ov_px128 W hk hx hf
    have e : nI (ov_px c k w x) = nI a ↔ ov_px c k w x = a := nI_eq (by omega) (by omega)
    by_cases h : ov_px c k w x = a
    · rw [if_pos ⟨hf, e.mpr h⟩, if_pos ⟨hf, h⟩]
    · rw [if_neg (fun z => h (e.mp z.2)), if_neg (fun z => h z.2)]
  · rw [if_neg (fun z => hf z.1), if_neg (fun z => hf z.1)]
theorem ov_c2_0 (W : ov_W c N) (hk : k < N) {A : Int32} (hA : ∀ a, a < 128 → nI a ≠ A) : ov_s (ov_ps (ov_r c k) 14) (ov_c2 c k w A) = 0 := by
  refine ov_sZ _ (fun x hx => if_neg (fun z => ?_))
  exact hA _ (ov_px128 W hk hx z.1) z.2
/-- the least cost on both sides -/
theorem ov_least (W : ov_W c N) (hk : k < N) (hT : ov_T3 c k w (ov_ps (ov_r c k) 14) gl gb gc) {m : Nat} (hm : m ≤ 128) (h0 : ∀ e, e < m → ov_to c k w e = 0) (h1 : m < 128 → 1 ≤ ov_to c k w m) : (m = 128 ∧ gl = -3 ∧ gb = 0) ∨ (m < 128 ∧ ∃ y, y < ov_ps (ov_r c k) 14 ∧ ov_fx c k w y = true ∧ ov_px c k w y = m ∧ gl = nI m ∧ gc = nI y ∧ gb = nI (ov_to c k w m)) := by
  rcases hT with ⟨g1, g2, g3⟩ | ⟨y, g1, g2, g3, g4, g5, g6⟩
  · refine Or.inl ⟨?_, g2, g3⟩
    refine Classical.byContradiction fun hne => ?_
    have h2 := h1 (by omega)
    rw [← ov_to_codes W hk, ov_sZ _ (fun x hx => if_neg (fun z => ?_))] at h2
    · omega
    · have := g1 x hx
      unfold ov_fx at this
      rw [this] at z
      exact absurd z.1 (by decide)
  · have hp := ov_px128 W hk g1 g2
    have h2 : 1 ≤ ov_to c k w (ov_px c k w y) := ov_fit_to W hk g1 g2
    have h3 : ¬ ov_px c k w y < m := fun hlt => by have := h0 _ hlt; omega
    have h4 : ov_px c k w y = m := by
      refine Classical.byContradiction fun hne => ?_
      have hlt : m < ov_px c k w y := by omega
      have h5 := h1 (by omega)
      rw [← ov_to_codes W hk, ov_sZ _ (fun x hx => if_neg (fun z => ?_))] at h5
      · omega
      · have h6 := g5 x hx z.1
        have h7 : ov_px c k w x = m := z.2
        omega
    refine Or.inr ⟨by omega, y, g1, g2, h4, by rw [g3, h4], g4, ?_⟩
    rw [g6, ← ov_to_codes W hk, ← h4]
    rfl
end
end
section
/-! the component: startAt, descend -/
theorem ov_sub3 {a b x y : Nat} (h : b + x + y ≤ a) : nI a - nI b - nI x - nI y = nI (a - (b + x + y)) := by
  rw [pk_sub (by omega), pk_sub (by omega), pk_sub (by omega)]
  exact congrArg nI (by omega)
theorem ov_sub3n {a b x y : Nat} (hb : b + x + y < 2 ^ 30) (h : a < b + x + y) : nI a - nI b - nI x - nI y < 0 := by
  have e : nI a - nI b - nI x - nI y = nI a - nI (b + x + y) := by
    rw [← nI_add, ← nI_add]
    generalize nI a = A
    generalize nI b = B
    generalize nI x = X
    generalize nI y = Y
    grind
  rw [e]
  exact pk_sneg hb h
section
variable {c : Nat → Nat → Nat} {v : Nat → Nat} {N k w : Nat} {fn fa fu : Int32} {cv sg sc ls vs lc so fi lo ri ow ip vt tb tt ll rl nd ta ch : Nat → Int32}
def ov_sq (c : Nat → Nat → Nat) (v : Nat → Nat) (k w m t : Nat) : Prop := ov_ow c w t = true ∧ ov_cw c w t ≤ m ∧ 1 ≤ ov_T c v k t (m - ov_cw c w t)
theorem ov_xst3 {post : Int32 → SX → Prop} (W : ov_W c N) (H : ov_XC c cv sg sc ls vs lc so fi lo ri) (hk : k < N) (hw : w ≤ 3) {m : Nat} (hm : m < 128) (hT : ov_TB c v tb k) (K1 : ∀ t, t < 3 → ov_sq c v k w m t → post 1 (fn, fa, fu, cv, sg, sc, ls, vs, lc, so, fi, lo, ri, ow, ip, vt, tb, tt, ll, rl, upd nd k (nI (m - ov_cw c w t)), upd ta k (nI t), ch)) (K0 : (∀ t, t < 3 → ¬ ov_sq c v k w m t) → post 0 (fn, fa, fu, cv, sg, sc, ls, vs, lc, so, fi, lo, ri, ow, ip, vt, tb, tt, ll, rl, nd, ta, ch)) : ∀ (d t : Nat), t + d = 3 → (∀ t', t' < t → ¬ ov_sq c v k w m t') → wX_startAt_3 post (nI k) (nI w) (nI m) fn fa fu cv sg sc ls vs lc so fi lo ri ow ip vt tb tt ll rl nd ta ch (d + 1) (nI t) := by
  have hn := ov_Wn W
  intro d
  induction d with
  | zero =>
    intro t h hI
    exact pk_le 3 t (fun _ => K0 (fun t' ht => hI t' (by omega))) (fun h => absurd h (by omega))
  | succ d ih =>
    intro t h hI
    have nx : ¬ ov_sq c v k w m t → wX_startAt_3 post (nI k) (nI w) (nI m) fn fa fu cv sg sc ls vs lc so fi lo ri ow ip vt tb tt ll rl nd ta ch (d + 1) (nI (t + 1)) := by
      intro hq
      refine ih (t + 1) (by omega) (fun t' ht => ?_)
      by_cases e : t' = t
      · rw [e]; exact hq
      · exact hI t' (by omega)
    refine pk_le 3 t (fun h => absurd h (by omega)) (fun _ => ?_)
    refine ov_xcc H hw (by omega) ?_
    rcases ov_wcost (w := w) W t with ⟨h1, h2, h3⟩ | ⟨h1, h2⟩
    · rw [h2]
      by_cases hc : ov_cw c w t ≤ m
      · rw [pk_sub hc]
        have hx : ((3 : Int32) * nI k + nI t) * 128 + nI (m - ov_cw c w t) = nI ((3 * k + t) * 128 + (m - ov_cw c w t)) := by rw [ov_m3, nI_add, ov_x128, nI_add]
        refine nm_e (br_f (nI_pos (by omega)) (br_f (nI_pos (by omega)) ?_))
        rw [hx]
        refine And.intro (pk_in ((3 * k + t) * 128 + (m - ov_cw c w t)) 4608 (by omega)) ?_
        rw [nI_clamp (show (3 * k + t) * 128 + (m - ov_cw c w t) < 2 ^ 31 by omega), hT t _ (by omega) (by omega), nI_clamp (show k < 2 ^ 31 by omega)]
        have hb := ov_T_b (v := v) W hk t (m - ov_cw c w t)
        refine pk_le (ov_T c v k t (m - ov_cw c w t)) 0 (fun hz => nm_r (nI_1 t) (nx (fun z => ?_))) (fun hz => ?_) rfl rfl (Nat.lt_of_le_of_lt hb (by decide))
        · have := z.2.2; omega
        · exact And.intro (pk_in k 12 (by omega)) (nm_e (And.intro (pk_in k 12 (by omega)) (nm_e (K1 t (by omega) ⟨h1, hc, hz⟩))))
      · refine nm_e (br_f (nI_pos (by omega)) (br_t (pk_sneg (by omega) (by omega)) (nm_r (nI_1 t) (nx (fun z => hc z.2.1)))))
    · rw [h2]
      exact nm_e (br_t (by decide) (nm_r (nI_1 t) (nx (fun z => by have := z.1; rw [h1] at this; exact absurd this (by decide)))))
theorem ov_xstart {post : Int32 → SX → Prop} (W : ov_W c N) (H : ov_XC c cv sg sc ls vs lc so fi lo ri) (hk : k < N) (hw : w ≤ 3) {m : Nat} (hm : m < 128) (hT : ov_TB c v tb k) (K1 : ∀ t, t < 3 → ov_sq c v k w m t → post 1 (fn, fa, fu, cv, sg, sc, ls, vs, lc, so, fi, lo, ri, ow, ip, vt, tb, tt, ll, rl, upd nd k (nI (m - ov_cw c w t)), upd ta k (nI t), ch)) (K0 : (∀ t, t < 3 → ¬ ov_sq c v k w m t) → post 0 (fn, fa, fu, cv, sg, sc, ls, vs, lc, so, fi, lo, ri, ow, ip, vt, tb, tt, ll, rl, nd, ta, ch)) : wpX_startAt post (fn, fa, fu, cv, sg, sc, ls, vs, lc, so, fi, lo, ri, ow, ip, vt, tb, tt, ll, rl, nd, ta, ch) (nI k) (nI w) (nI m) :=
  ⟨_, ov_xst3 W H hk hw hm hT K1 K0 3 0 (by omega) (fun t' ht => absurd ht (Nat.not_lt_zero t'))⟩
variable {post : SX → Prop}
/-- the costs of a turn that fit -/
def ov_dc (c : Nat → Nat → Nat) (v : Nat → Nat) (k tl tr rest e : Nat) : Prop := 1 ≤ ov_T c v (c 2 k) tl e ∧ 1 ≤ ov_T c v (c 3 k) tr (rest - e)
theorem ov_d175n (W : ov_W c N) (H : ov_XC c cv sg sc ls vs lc so fi lo ri) (hk : k < N) (e3 : c 0 k = 3) {op u tl tr rest n : Nat} (hl : ov_TB c v tb (c 2 k)) (hr : ov_TB c v tb (c 3 k)) (htl : tl < 3) (htr : tr < 3) (hrest : rest < 128) (K : wX_descend_9 post (nI k) (nI op) fn fa fu n (nI (u + 1)) cv sg sc ls vs lc so fi lo ri ow ip vt tb tt ll rl nd ta ch) : ∀ (d i : Nat), i + d = rest + 1 → (∀ e, i ≤ e → e ≤ rest → ¬ ov_dc c v k tl tr rest e) → wX_descend_175 post (wX_descend_9 post (nI k) (nI op) fn fa fu n) (nI k) (nI op) (nI u) (nI tl) (nI tr) (nI rest) (nI ((3 * c 2 k + tl) * 128)) (nI ((3 * c 3 k + tr) * 128)) fn fa fu (d + 1) (nI i) cv sg sc ls vs lc so fi lo ri ow ip vt tb tt ll rl nd ta ch := by
  have hn := ov_Wn W
  have ha := ov_Wa W hk e3
  intro d
  induction d with
  | zero =>
    intro i h hI
    exact pk_lt rest i (fun _ => nm_r (nI_1 u) K) (fun h => absurd h (by omega))
  | succ d ih =>
    intro i h hI
    have hnx := ih (i + 1) (by omega) (fun e he he2 => hI e (by omega) he2)
    refine pk_lt rest i (fun h => absurd h (by omega)) (fun _ => pk_le 128 i (fun h => absurd h (by omega)) (fun _ => ?_))
    rw [pk_sub (show i ≤ rest by omega)]
    refine pk_le 128 (rest - i) (fun h => absurd h (by omega)) (fun _ => ?_)
    have b1 := ov_T_b (v := v) W (k := c 2 k) (by omega) tl i
    have b2 := ov_T_b (v := v) W (k := c 3 k) (by omega) tr (rest - i)
    rw [nI_add, nI_add, pk_sub (show i ≤ (3 * c 3 k + tr) * 128 + rest by omega), show (3 * c 3 k + tr) * 128 + rest - i = (3 * c 3 k + tr) * 128 + (rest - i) by omega]
    refine And.intro (pk_in ((3 * c 2 k + tl) * 128 + i) 4608 (by omega)) ?_
    rw [nI_clamp (show (3 * c 2 k + tl) * 128 + i < 2 ^ 31 by omega), nI_clamp (show (3 * c 3 k + tr) * 128 + (rest - i) < 2 ^ 31 by omega), hl tl i htl (by omega), hr tr (rest - i) htr (by omega)]
    refine pk_le (ov_T c v (c 2 k) tl i) 0 (fun _ => nm_r (nI_1 i) hnx) (fun h1 => And.intro (pk_in ((3 * c 3 k + tr) * 128 + (rest - i)) 4608 (by omega)) ?_) rfl rfl (Nat.lt_of_le_of_lt b1 (by decide))
    exact pk_le (ov_T c v (c 3 k) tr (rest - i)) 0 (fun _ => nm_r (nI_1 i) hnx) (fun h2 => (hI i (Nat.le_refl _) (by omega) ⟨h1, h2⟩).elim) rfl rfl (Nat.lt_of_le_of_lt b2 (by decide))
theorem ov_d175s (W : ov_W c N) (H : ov_XC c cv sg sc ls vs lc so fi lo ri) (hk : k < N) (e3 : c 0 k = 3) {op u tl tr rest n q : Nat} (hu : u < 100) (hl : ov_TB c v tb (c 2 k)) (hr : ov_TB c v tb (c 3 k)) (htl : tl < 3) (htr : tr < 3) (hrest : rest < 128) (hq : q ≤ rest) (hdc : ov_dc c v k tl tr rest q) (hun : ∀ e, e ≤ rest → ov_dc c v k tl tr rest e → e = q) (K : wX_descend_9 post (nI k) (nI op) fn fa fu n (nI (u + 1)) cv sg sc ls vs lc so fi lo ri ow ip vt tb tt ll rl (upd (upd nd (c 2 k) (nI q)) (c 3 k) (nI (rest - q))) (upd (upd ta (c 2 k) (nI tl)) (c 3 k) (nI tr)) (upd ch k (nI (u / 9)))) : ∀ (d i : Nat), i + d = q → wX_descend_175 post (wX_descend_9 post (nI k) (nI op) fn fa fu n) (nI k) (nI op) (nI u) (nI tl) (nI tr) (nI rest) (nI ((3 * c 2 k + tl) * 128)) (nI ((3 * c 3 k + tr) * 128)) fn fa fu (d + (rest - q + 1) + 1) (nI i) cv sg sc ls vs lc so fi lo ri ow ip vt tb tt ll rl nd ta ch := by
  have hn := ov_Wn W
  have ha := ov_Wa W hk e3
  intro d
  induction d with
  | zero =>
    intro i h
    have hi : i = q := by omega
    subst hi
    rw [Nat.zero_add]
    refine pk_lt rest i (fun h => absurd h (by omega)) (fun _ => pk_le 128 i (fun h => absurd h (by omega)) (fun _ => ?_))
    rw [pk_sub (show i ≤ rest by omega)]
    refine pk_le 128 (rest - i) (fun h => absurd h (by omega)) (fun _ => ?_)
    have b1 := ov_T_b (v := v) W (k := c 2 k) (by omega) tl i
    have b2 := ov_T_b (v := v) W (k := c 3 k) (by omega) tr (rest - i)
    have hd1 := hdc.1
    have hd2 := hdc.2
    rw [nI_add, nI_add, pk_sub (show i ≤ (3 * c 3 k + tr) * 128 + rest by omega), show (3 * c 3 k + tr) * 128 + rest - i = (3 * c 3 k + tr) * 128 + (rest - i) by omega]
    refine And.intro (pk_in ((3 * c 2 k + tl) * 128 + i) 4608 (by omega)) ?_
    rw [nI_clamp (show (3 * c 2 k + tl) * 128 + i < 2 ^ 31 by omega), nI_clamp (show (3 * c 3 k + tr) * 128 + (rest - i) < 2 ^ 31 by omega), hl tl i htl (by omega), hr tr (rest - i) htr (by omega)]
    refine pk_le (ov_T c v (c 2 k) tl i) 0 (fun h => absurd h (by omega)) (fun h1 => And.intro (pk_in ((3 * c 3 k + tr) * 128 + (rest - i)) 4608 (by omega)) ?_) rfl rfl (Nat.lt_of_le_of_lt b1 (by decide))
    refine pk_le (ov_T c v (c 3 k) tr (rest - i)) 0 (fun h => absurd h (by omega)) (fun h2 => ?_) rfl rfl (Nat.lt_of_le_of_lt b2 (by decide))
    rw [nI_clamp (show k < 2 ^ 31 by omega), H.2.2.2.2.2.2.2.2.1 k, H.2.2.2.2.2.2.2.2.2 k, nI_clamp (show c 2 k < 2 ^ 31 by omega), nI_clamp (show c 3 k < 2 ^ 31 by omega), ov_d9 (show u < 2 ^ 31 by omega)]
    refine ⟨ov_n90, pk_in k 12 (by omega), nm_e ⟨pk_in k 12 (by omega), pk_in (c 2 k) 12 (by omega), nm_e ⟨pk_in k 12 (by omega), pk_in (c 3 k) 12 (by omega), nm_e ⟨pk_in k 12 (by omega), pk_in (c 2 k) 12 (by omega), nm_e ⟨pk_in k 12 (by omega), pk_in (c 3 k) 12 (by omega), nm_e (nm_r (nI_1 i) ?_)⟩⟩⟩⟩⟩
    exact ov_d175n W H hk e3 hl hr htl htr hrest K (rest - i) (i + 1) (by omega) (fun e he he2 hd => by have := hun e he2 hd; omega)
  | succ d ih =>
    intro i h
    have hnx := ih (i + 1) (by omega)
    rw [show d + 1 + (rest - q + 1) + 1 = d + (rest - q + 1) + 1 + 1 by omega]
    refine pk_lt rest i (fun h => absurd h (by omega)) (fun _ => pk_le 128 i (fun h => absurd h (by omega)) (fun _ => ?_))
    rw [pk_sub (show i ≤ rest by omega)]
    refine pk_le 128 (rest - i) (fun h => absurd h (by omega)) (fun _ => ?_)
    have b1 := ov_T_b (v := v) W (k := c 2 k) (by omega) tl i
    have b2 := ov_T_b (v := v) W (k := c 3 k) (by omega) tr (rest - i)
    rw [nI_add, nI_add, pk_sub (show i ≤ (3 * c 3 k + tr) * 128 + rest by omega), show (3 * c 3 k + tr) * 128 + rest - i = (3 * c 3 k + tr) * 128 + (rest - i) by omega]
    refine And.intro (pk_in ((3 * c 2 k + tl) * 128 + i) 4608 (by omega)) ?_
    rw [nI_clamp (show (3 * c 2 k + tl) * 128 + i < 2 ^ 31 by omega), nI_clamp (show (3 * c 3 k + tr) * 128 + (rest - i) < 2 ^ 31 by omega), hl tl i htl (by omega), hr tr (rest - i) htr (by omega)]
    refine pk_le (ov_T c v (c 2 k) tl i) 0 (fun _ => nm_r (nI_1 i) hnx) (fun h1 => And.intro (pk_in ((3 * c 3 k + tr) * 128 + (rest - i)) 4608 (by omega)) ?_) rfl rfl (Nat.lt_of_le_of_lt b1 (by decide))
    exact pk_le (ov_T c v (c 3 k) tr (rest - i)) 0 (fun _ => nm_r (nI_1 i) hnx) (fun h2 => by have := hun i (by omega) ⟨h1, h2⟩; omega) rfl rfl (Nat.lt_of_le_of_lt b2 (by decide))
/-- a turn's own fit: signature, both conversions, the rest of the cost -/
def ov_tf (c : Nat → Nat → Nat) (k u ty need : Nat) : Prop := c 5 (4 * c 1 k + u / 9) % 3 = ty ∧ ov_ok c (u / 3 % 3) (c 5 (4 * c 1 k + u / 9) / 9) = true ∧ ov_ok c (u % 3) (c 5 (4 * c 1 k + u / 9) / 3 % 3) = true ∧ c 6 (4 * c 1 k + u / 9) + ov_cc c (u / 3 % 3) (c 5 (4 * c 1 k + u / 9) / 9) + ov_cc c (u % 3) (c 5 (4 * c 1 k + u / 9) / 3 % 3) ≤ need
def ov_rs (c : Nat → Nat → Nat) (k u need : Nat) : Nat := need - (c 6 (4 * c 1 k + u / 9) + ov_cc c (u / 3 % 3) (c 5 (4 * c 1 k + u / 9) / 9) + ov_cc c (u % 3) (c 5 (4 * c 1 k + u / 9) / 3 % 3))
theorem ov_d9s (W : ov_W c N) (H : ov_XC c cv sg sc ls vs lc so fi lo ri) (hk : k < N) (e3 : c 0 k = 3) {u ty need n : Nat} (hu : u < 9 * c 4 (c 1 k)) (hty : ty < 3) (hneed : need < 128) (hta : ta k = nI ty) (hnd : nd k = nI need) (Kn : ¬ ov_tf c k u ty need → wX_descend_9 post (nI k) (nI (c 1 k)) fn fa fu n (nI (u + 1)) cv sg sc ls vs lc so fi lo ri ow ip vt tb tt ll rl nd ta ch) (Kf : ov_tf c k u ty need → ∃ m, wX_descend_175 post (wX_descend_9 post (nI k) (nI (c 1 k)) fn fa fu n) (nI k) (nI (c 1 k)) (nI u) (nI (u / 3 % 3)) (nI (u % 3)) (nI (ov_rs c k u need)) (nI ((3 * c 2 k + u / 3 % 3) * 128)) (nI ((3 * c 3 k + u % 3) * 128)) fn fa fu m 0 cv sg sc ls vs lc so fi lo ri ow ip vt tb tt ll rl nd ta ch) : wX_descend_9 post (nI k) (nI (c 1 k)) fn fa fu (n + 1) (nI u) cv sg sc ls vs lc so fi lo ri ow ip vt tb tt ll rl nd ta ch := by
  have hn := ov_Wn W
  have ha := ov_Wa W hk e3
  have h4 := ov_W4 W (c 1 k)
  have h5 := ov_W5 W (4 * c 1 k + u / 9)
  have h6 := ov_W6 W (4 * c 1 k + u / 9)
  unfold ov_tf at Kn Kf
  unfold ov_rs at Kf
  refine And.intro (pk_in (c 1 k) 3 (by omega)) ?_
  rw [nI_clamp (show c 1 k < 2 ^ 31 by omega), H.2.2.2.1, ov_m9]
  refine pk_le (9 * c 4 (c 1 k)) u (fun h => absurd h (by omega)) (fun _ => ?_)
  rw [ov_d9 (show u < 2 ^ 31 by omega), ov_m4, nI_add, ov_d3 (show u < 2 ^ 31 by omega), ov_r3 (show u / 3 < 2 ^ 31 by omega), ov_m_3 (show u < 2 ^ 31 by omega)]
  refine ⟨ov_n90, nm_e ⟨ov_n30, ov_n30, nm_e ⟨ov_n30, nm_e ?_⟩⟩⟩
  generalize hs : 4 * c 1 k + u / 9 = s at *
  rw [nI_clamp (show s < 2 ^ 31 by omega), H.2.1 s, H.2.2.1 s]
  refine ⟨pk_in s 12 (by omega), nm_e ?_⟩
  have ix1 : (3 : Int32) * nI (u / 3 % 3) + nI (c 5 s) / 9 = nI (3 * (u / 3 % 3) + c 5 s / 9) := by rw [ov_d9 (by omega), ov_m3, nI_add]
  have ix2 : (3 : Int32) * nI (u % 3) + (nI (c 5 s) / 3 - nI (c 5 s) / 3 / 3 * 3) = nI (3 * (u % 3) + c 5 s / 3 % 3) := by rw [ov_d3 (show c 5 s < 2 ^ 31 by omega), ov_r3 (by omega), ov_m3, nI_add]
  rw [ix1, ix2, nI_clamp (show 3 * (u / 3 % 3) + c 5 s / 9 < 2 ^ 31 by omega), nI_clamp (show 3 * (u % 3) + c 5 s / 3 % 3 < 2 ^ 31 by omega), H.1, H.1]
  refine ⟨ov_n90, pk_in (3 * (u / 3 % 3) + c 5 s / 9) 9 (by omega), nm_e ⟨ov_n30, ov_n30, pk_in (3 * (u % 3) + c 5 s / 3 % 3) 9 (by omega), nm_e ⟨pk_in k 12 (by omega), pk_in s 12 (by omega), nm_e ⟨ov_n30, pk_in k 12 (by omega), ?_⟩⟩⟩⟩
  rw [ov_r3 (show c 5 s < 2 ^ 31 by omega), nI_clamp (show k < 2 ^ 31 by omega), hta, hnd]
  refine pk_eq (c 5 s % 3) ty (fun t1 => ?_) (fun t1 => nm_r (nI_1 u) (Kn (fun z => t1 z.1)))
  rcases ov_okm W (u / 3 % 3) (c 5 s / 9) with ⟨a1, a2, a3⟩ | ⟨a1, a2⟩
  · rw [a2]
    refine br_f (nI_pos (by omega)) ?_
    rcases ov_okm W (u % 3) (c 5 s / 3 % 3) with ⟨b1, b2, b3⟩ | ⟨b1, b2⟩
    · rw [b2]
      refine br_f (nI_pos (by omega)) ?_
      by_cases hr : c 6 s + ov_cc c (u / 3 % 3) (c 5 s / 9) + ov_cc c (u % 3) (c 5 s / 3 % 3) ≤ need
      · rw [ov_sub3 hr]
        refine br_f (nI_pos (by omega)) ?_
        rw [H.2.2.2.2.2.2.2.2.1 k, H.2.2.2.2.2.2.2.2.2 k]
        refine ⟨pk_in k 12 (by omega), nm_r (e' := nI ((3 * c 2 k + u / 3 % 3) * 128)) (by rw [ov_m3, nI_add, ov_x128]) ⟨pk_in k 12 (by omega), nm_r (e' := nI ((3 * c 3 k + u % 3) * 128)) (by rw [ov_m3, nI_add, ov_x128]) ?_⟩⟩
        exact Kf ⟨t1, a1, b1, hr⟩
      · exact br_t (ov_sub3n (by omega) (by omega)) (nm_r (nI_1 u) (Kn (fun z => hr z.2.2.2)))
    · rw [b2]
      exact br_t (by decide) (nm_r (nI_1 u) (Kn (fun z => by have := z.2.2.1; rw [b1] at this; exact absurd this (by decide))))
  · rw [a2]
    exact br_t (by decide) (nm_r (nI_1 u) (Kn (fun z => by have := z.2.1; rw [a1] at this; exact absurd this (by decide))))
end
end
section
/-! the component: descend, settle -/
section
variable {c : Nat → Nat → Nat} {v σ : Nat → Nat} {N k w : Nat} {post : SX → Prop} {fn fa fu : Int32} {cv sg sc ls vs lc so fi lo ri ow ip vt tb tt ll rl nd ta ch : Nat → Int32}
theorem ov_Q_tr (W : ov_W c N) (hk : k < N) {i j : Nat} (hi : ov_Q c k i = true) (hj : ov_Q c i j = true) : ov_Q c k j = true := by
  refine ov_Q_ind (c := c) (k := i) (fun j => ov_Q c k j = true) hi ?_ j hj
  intro a _ _ hp e b f
  exact ov_Q_cl W hk hp e f
theorem ov_gd_sub (W : ov_W c N) (hk : k < N) {i : Nat} {g : Nat → Bool} (hi : ov_Q c k i = true) (h : ov_gd (ov_Q c k) g = true) : ov_gd (ov_Q c i) g = true := by
  rw [ov_gd_iff] at h ⊢
  exact fun j hj hq => h j hj (ov_Q_tr W hk hi hq)
theorem ov_xd9 (W : ov_W c N) (H : ov_XC c cv sg sc ls vs lc so fi lo ri) (hk : k < N) (e3 : c 0 k = 3) (hs : ∀ j, j < N → c 0 j = 0 → σ j < 3) (h3 : ∀ j, j < N → ov_ty c v σ j < 3) (hg : ov_gd (ov_Q c k) (ov_g c v σ) = true) (h1 : ov_T c v k (ov_ty c v σ k) (ov_cs (ov_Q c k) (ov_ln c v σ)) = 1) (hl : ov_TB c v tb (c 2 k)) (hr : ov_TB c v tb (c 3 k)) (hta : ta k = nI (ov_ty c v σ k)) (hnd : nd k = nI (ov_cs (ov_Q c k) (ov_ln c v σ))) (K : post (fn, fa, fu, cv, sg, sc, ls, vs, lc, so, fi, lo, ri, ow, ip, vt, tb, tt, ll, rl, upd (upd nd (c 2 k) (nI (ov_cs (ov_Q c (c 2 k)) (ov_ln c v σ)))) (c 3 k) (nI (ov_cs (ov_Q c (c 3 k)) (ov_ln c v σ))), upd (upd ta (c 2 k) (nI (ov_ty c v σ (c 2 k)))) (c 3 k) (nI (ov_ty c v σ (c 3 k))), upd ch k (nI (σ k)))) : wpX_descend post (fn, fa, fu, cv, sg, sc, ls, vs, lc, so, fi, lo, ri, ow, ip, vt, tb, tt, ll, rl, nd, ta, ch) (nI k) := by
  have hn := ov_Wn W
  have ha := ov_Wa W hk e3
  have h4 := ov_W4 W (c 1 k)
  have hun := ov_un W hk e3 hs hg h1
  have hmem := ov_o_mem (v := v) W hs (k + 1) k (by omega) hk hg
  have h117 : ov_cs (ov_Q c k) (ov_ln c v σ) ≤ 117 := ov_o_117 W hk hmem
  have hty := h3 k hk
  have htl := h3 (c 2 k) (by omega)
  have htr := h3 (c 3 k) (by omega)
  have hg' := hg
  rw [ov_gd_ap W hk e3, Bool.and_eq_true, Bool.and_eq_true] at hg'
  have hg0 := hg'.1.1
  unfold ov_g ov_pk ov_cn at hg0
  rw [if_neg (by omega), if_pos e3, if_pos e3, Bool.and_eq_true, Bool.and_eq_true, decide_eq_true_eq] at hg0
  have t0 : ov_ty c v σ k = c 5 (4 * c 1 k + σ k) % 3 := by
    unfold ov_ty
    rw [if_neg (by omega), if_neg (by omega), if_neg (by omega)]
  have lk : ov_ln c v σ k = c 6 (4 * c 1 k + σ k) + ov_cc c (ov_ty c v σ (c 2 k)) (c 5 (4 * c 1 k + σ k) / 9) + ov_cc c (ov_ty c v σ (c 3 k)) (c 5 (4 * c 1 k + σ k) / 3 % 3) := by
    unfold ov_ln
    rw [if_neg (by omega), if_pos e3]
  have ck := ov_cs_ap W hk e3 (ov_ln c v σ)
  rw [lk] at ck
  have hml := ov_mem_T (ov_o_mem (v := v) W hs (c 2 k + 1) (c 2 k) (by omega) (by omega) hg'.1.2)
  have hmr := ov_mem_T (ov_o_mem (v := v) W hs (c 3 k + 1) (c 3 k) (by omega) (by omega) hg'.2)
  generalize ov_ty c v σ k = t at *
  generalize ov_cs (ov_Q c k) (ov_ln c v σ) = need at *
  generalize ov_ty c v σ (c 2 k) = tl0 at *
  generalize ov_ty c v σ (c 3 k) = tr0 at *
  generalize ov_cs (ov_Q c (c 2 k)) (ov_ln c v σ) = a0 at *
  generalize ov_cs (ov_Q c (c 3 k)) (ov_ln c v σ) = b0 at *
  obtain ⟨_, _, hun⟩ := hun
  -- a fitting turn and cost is the one
  have key : ∀ u e, u < 9 * c 4 (c 1 k) → ov_tf c k u t need → e ≤ ov_rs c k u need → ov_dc c v k (u / 3 % 3) (u % 3) (ov_rs c k u need) e → u = 9 * σ k + 3 * tl0 + tr0 ∧ e = a0 := by
    intro u e hu htf he hdc
    unfold ov_tf at htf
    unfold ov_rs at he hdc
    obtain ⟨f1, f2, f3, f4⟩ := htf
    obtain ⟨g1, g2, g3, g4, g5⟩ := hun (u / 9) (u / 3 % 3) (u % 3) e _ (by omega) f1 f2 f3 (by omega) hdc.1 hdc.2
    omega
  -- any other turn
  have other : ∀ (nd ta ch : Nat → Int32) (n u : Nat), u < 9 * c 4 (c 1 k) → u ≠ 9 * σ k + 3 * tl0 + tr0 → ta k = nI t → nd k = nI need → wX_descend_9 post (nI k) (nI (c 1 k)) fn fa fu n (nI (u + 1)) cv sg sc ls vs lc so fi lo ri ow ip vt tb tt ll rl nd ta ch → wX_descend_9 post (nI k) (nI (c 1 k)) fn fa fu (n + 1) (nI u) cv sg sc ls vs lc so fi lo ri ow ip vt tb tt ll rl nd ta ch := by
    intro nd ta ch n u hu hne hta hnd hK
    refine ov_d9s W H hk e3 hu hty (by omega) hta hnd (fun _ => hK) (fun htf => ⟨ov_rs c k u need + 1 + 1, ?_⟩)
    refine ov_d175n (v := v) W H hk e3 hl hr (by omega) (by omega) (by unfold ov_rs; omega) hK (ov_rs c k u need + 1) 0 (by omega) (fun e _ he hdc => ?_)
    exact hne (key u e hu htf he hdc).1
  have after : ∀ (nd ta ch : Nat → Int32), ta k = nI t → nd k = nI need → post (fn, fa, fu, cv, sg, sc, ls, vs, lc, so, fi, lo, ri, ow, ip, vt, tb, tt, ll, rl, nd, ta, ch) → ∀ (d u : Nat), u + d = 9 * c 4 (c 1 k) → 9 * σ k + 3 * tl0 + tr0 < u → wX_descend_9 post (nI k) (nI (c 1 k)) fn fa fu (d + 1) (nI u) cv sg sc ls vs lc so fi lo ri ow ip vt tb tt ll rl nd ta ch := by
    intro nd ta ch hta hnd hK d
    induction d with
    | zero =>
      intro u h hu
      refine And.intro (pk_in (c 1 k) 3 (by omega)) ?_
      rw [nI_clamp (show c 1 k < 2 ^ 31 by omega), H.2.2.2.1, ov_m9]
      exact pk_le (9 * c 4 (c 1 k)) u (fun _ => hK) (fun h => absurd h (by omega))
    | succ d ih =>
      intro u h hu
      exact other nd ta ch (d + 1) u (by omega) (by omega) hta hnd (ih (u + 1) (by omega) (by omega))
  have d9 : (9 * σ k + 3 * tl0 + tr0) / 9 = σ k := by omega
  have d3 : (9 * σ k + 3 * tl0 + tr0) / 3 % 3 = tl0 := by omega
  have m3 : (9 * σ k + 3 * tl0 + tr0) % 3 = tr0 := by omega
  have b9 : 9 * σ k + 3 * tl0 + tr0 < 9 * c 4 (c 1 k) := by omega
  have htf : ov_tf c k (9 * σ k + 3 * tl0 + tr0) t need := by
    unfold ov_tf
    rw [d9, d3, m3]
    exact ⟨t0.symm, hg0.2.1, hg0.2.2, by omega⟩
  have hrs : ov_rs c k (9 * σ k + 3 * tl0 + tr0) need = a0 + b0 := by
    unfold ov_rs
    rw [d9, d3, m3]
    omega
  have hdc : ov_dc c v k tl0 tr0 (a0 + b0) a0 := ⟨hml, by rw [Nat.add_sub_cancel_left]; exact hmr⟩
  have at0 : wX_descend_9 post (nI k) (nI (c 1 k)) fn fa fu (9 * c 4 (c 1 k) - (9 * σ k + 3 * tl0 + tr0 + 1) + 1 + 1) (nI (9 * σ k + 3 * tl0 + tr0)) cv sg sc ls vs lc so fi lo ri ow ip vt tb tt ll rl nd ta ch := by
    refine ov_d9s W H hk e3 b9 hty (by omega) hta hnd (fun z => absurd htf z) (fun _ => ⟨a0 + (a0 + b0 - a0 + 1) + 1, ?_⟩)
    have hd := fun e (he : e ≤ ov_rs c k (9 * σ k + 3 * tl0 + tr0) need) hdc => (key (9 * σ k + 3 * tl0 + tr0) e b9 htf he hdc).2
    rw [hrs, d3, m3] at hd
    rw [hrs, d3, m3]
    refine ov_d175s (v := v) (q := a0) W H hk e3 (by omega) hl hr htl htr (by omega) (by omega) hdc hd ?_ a0 0 (by omega)
    rw [d9, Nat.add_sub_cancel_left]
    exact after _ _ _ (by rw [pk_un (by omega), pk_un (by omega)]; exact hta) (by rw [pk_un (by omega), pk_un (by omega)]; exact hnd) K _ _ (by omega) (by omega)
  have before : ∀ (d u : Nat), u + d = 9 * σ k + 3 * tl0 + tr0 → wX_descend_9 post (nI k) (nI (c 1 k)) fn fa fu (d + (9 * c 4 (c 1 k) - (9 * σ k + 3 * tl0 + tr0 + 1) + 1 + 1)) (nI u) cv sg sc ls vs lc so fi lo ri ow ip vt tb tt ll rl nd ta ch := by
    intro d
    induction d with
    | zero =>
      intro u h
      rw [Nat.zero_add, show u = 9 * σ k + 3 * tl0 + tr0 by omega]
      exact at0
    | succ d ih =>
      intro u h
      rw [show d + 1 + (9 * c 4 (c 1 k) - (9 * σ k + 3 * tl0 + tr0 + 1) + 1 + 1) = d + (9 * c 4 (c 1 k) - (9 * σ k + 3 * tl0 + tr0 + 1) + 1 + 1) + 1 by omega]
      exact other nd ta ch _ u (by omega) (by omega) hta hnd (ih (u + 1) (by omega))
  refine And.intro (pk_in k 12 (by omega)) ?_
  rw [nI_clamp (show k < 2 ^ 31 by omega), H.2.2.2.2.2.2.2.1 k]
  exact nm_e ⟨_, before (9 * σ k + 3 * tl0 + tr0) 0 (by omega)⟩
variable {post : Int32 → SX → Prop}
theorem ov_x93 (W : ov_W c N) (H : ov_XC c cv sg sc ls vs lc so fi lo ri) (hk : k < N) (hs : ∀ j, j < N → c 0 j = 0 → σ j < 3) (h3 : ∀ j, j < N → ov_ty c v σ j < 3) (hg : ov_gd (ov_Q c k) (ov_g c v σ) = true) (hip : ∀ j, j < 12 → ip j = ov_b (ov_Q c k j)) (hTB : ∀ j, j ≤ k → ov_Q c k j = true → ov_TB c v tb j) (K : ∀ nd' ta' ch', (∀ j, ov_Q c k j = true → ta' j = nI (ov_ty c v σ j)) → (∀ j, ov_Q c k j = true → c 0 j = 3 → ch' j = nI (σ j)) → post 1 (fn, fa, fu, cv, sg, sc, ls, vs, lc, so, fi, lo, ri, ow, ip, vt, tb, tt, ll, rl, nd', ta', ch')) : ∀ (i : Nat) (nd ta ch : Nat → Int32), i ≤ k + 1 → (∀ j, ov_ms c k (k + 1 - i) j = true → ta j = nI (ov_ty c v σ j) ∧ nd j = nI (ov_cs (ov_Q c j) (ov_ln c v σ)) ∧ ov_T c v j (ov_ty c v σ j) (ov_cs (ov_Q c j) (ov_ln c v σ)) = 1) → (∀ j, i ≤ j → ov_Q c k j = true → c 0 j = 3 → ch j = nI (σ j)) → wX_settle_93 post (i + 1) (nI i + (-1)) fn fa fu cv sg sc ls vs lc so fi lo ri ow ip vt tb tt ll rl nd ta ch := by
  have hn := ov_Wn W
  intro i
  induction i with
  | zero =>
    intro nd ta ch hi hI hC
    exact br_t (by decide) (K nd ta ch (fun j hq => (hI j hq).1) (fun j hq e => hC j (Nat.zero_le _) hq e))
  | succ i ih =>
    intro nd ta ch hi hI hC
    rw [pk_m1]
    have hq : ov_ms c k (k + 1 - (i + 1)) i = ov_Q c k i := by
      unfold ov_Q
      have := ov_ms_stab W hk (d := k + 1 - (i + 1)) (j := i) (by omega) (i + 1)
      rw [show k + 1 - (i + 1) + (i + 1) = k + 1 by omega] at this
      exact this.symm
    have hms : ∀ j, ov_ms c k (k + 1 - i) j = (ov_ms c k (k + 1 - (i + 1)) j || (ov_Q c k i && decide (c 0 i = 3) && (decide (c 2 i = j) || decide (c 3 i = j)))) := by
      intro j
      rw [← hq]
      have e1 : k + 1 - i = (k + 1 - (i + 1)) + 1 := by omega
      rw [e1, ov_ms_s, show k - (k + 1 - (i + 1)) = i by omega]
    have hci : (nI i).toNatClampNeg = i := nI_clamp (by omega)
    refine br_f (nI_pos (by omega)) (And.intro (pk_in i 12 (by omega)) ?_)
    rw [hci, hip i (by omega)]
    have hC2 : ¬ (ov_Q c k i = true ∧ c 0 i = 3) → ∀ j, i ≤ j → ov_Q c k j = true → c 0 j = 3 → ch j = nI (σ j) := by
      intro hne j hj hqj e
      by_cases ej : j = i
      · rw [ej] at hqj e; exact (hne ⟨hqj, e⟩).elim
      · exact hC j (by omega) hqj e
    cases hq2 : ov_Q c k i with
    | false =>
      refine br_t rfl (nm_e (ih nd ta ch (by omega) (fun j hj => ?_) (hC2 (fun z => by rw [hq2] at z; exact absurd z.1 (by decide)))))
      rw [hms j, hq2, Bool.false_and, Bool.false_and, Bool.or_false] at hj
      exact hI j hj
    | true =>
      refine br_f ov_bt (And.intro (pk_in i 12 (by omega)) ?_)
      have h3' := ov_Wk W (k := i) (by omega)
      rw [H.2.2.2.2.2.2.1 i]
      refine pk_eq (c 0 i) 3 (fun e3 => ?_) (fun e3 => nm_e (ih nd ta ch (by omega) (fun j hj => ?_) (hC2 (fun z => e3 z.2))))
      · have hw := ov_Wa W (k := i) (by omega) e3
        have hgi := ov_gd_sub W hk hq2 hg
        obtain ⟨i1, i2, i3⟩ := hI i (by rw [hq]; exact hq2)
        have hun := ov_un W (k := i) (by omega) e3 hs hgi i3
        refine ov_xd9 (v := v) (σ := σ) W H (by omega) e3 hs h3 hgi i3 (hTB _ (by omega) (ov_Q_cl W hk hq2 e3 (Or.inl rfl))) (hTB _ (by omega) (ov_Q_cl W hk hq2 e3 (Or.inr rfl))) i1 i2 ?_
        refine nm_e (ih _ _ _ (by omega) (fun j hj => ?_) (fun j hj hqj e => ?_))
        · rw [hms j, hq2, decide_eq_true e3, Bool.true_and, Bool.true_and] at hj
          by_cases h5 : j = c 3 i
          · subst h5
            rw [pk_us, pk_us]
            exact ⟨rfl, rfl, hun.2.1⟩
          · rw [pk_un h5, pk_un h5]
            rw [decide_eq_false (fun z : c 3 i = j => h5 z.symm), Bool.or_false] at hj
            by_cases h6 : j = c 2 i
            · subst h6
              rw [pk_us, pk_us]
              exact ⟨rfl, rfl, hun.1⟩
            · rw [pk_un h6, pk_un h6]
              rw [decide_eq_false (fun z : c 2 i = j => h6 z.symm), Bool.or_false] at hj
              exact hI j hj
        · by_cases ej : j = i
          · rw [ej, pk_us]
          · rw [pk_un ej]; exact hC j (by omega) hqj e
      · rw [hms j, decide_eq_false e3, Bool.and_false, Bool.false_and, Bool.or_false] at hj
        exact hI j hj
theorem ov_x33 (W : ov_W c N) (H : ov_XC c cv sg sc ls vs lc so fi lo ri) (hk : k < N) (hw : w ≤ 3) (hσ : ∀ j, σ j < ov_r c k j) (hf : ov_fit c k w σ = true) (h1 : ov_to c k w (ov_pr c k w σ) = 1) (hip : ∀ j, j < 12 → ip j = ov_b (ov_Q c k j)) (K : ∀ vt' tb' ll' rl' nd' ta' ch', (∀ j, ov_Q c k j = true → ta' j = nI (ov_ty c (ov_vr σ) σ j)) → (∀ j, ov_Q c k j = true → c 0 j = 3 → ch' j = nI (σ j)) → post 1 (fn, fa, ov_ub (ov_us c k 0) (ov_us c k 1), cv, sg, sc, ls, vs, lc, so, fi, lo, ri, ow, ip, vt', tb', tt, ll', rl', nd', ta', ch')) : ∀ (d p : Nat) (vt tb ll rl nd ta : Nat → Int32), p + d = 3 * σ 12 + σ 13 → wX_settle_33 post (nI k) (nI w) (nI (ov_pr c k w σ)) (d + 1) (nI p) fn fa (ov_ub (ov_us c k 0) (ov_us c k 1)) cv sg sc ls vs lc so fi lo ri ow ip vt tb tt ll rl nd ta ch := by
  have hn := ov_Wn W
  obtain ⟨hg, p9, hm0, hv, ho, ht3, hT1, huni⟩ := ov_root W hk hσ hf h1
  have hm128 : ov_pr c k w σ < 128 := ov_to_128 W hk (Nat.le_of_eq h1.symm)
  have uq : ∀ p t, p < 9 → (ov_mh c k 0 (p / 3) && ov_mh c k 1 (p % 3)) = true → t < 3 → ov_sq c (ov_vp p) k w (ov_pr c k w σ) t → p = 3 * σ 12 + σ 13 ∧ t = ov_ty c (ov_vr σ) σ k := fun p t hp hm ht hq => huni p t hp hm ht hq.1 hq.2.1 hq.2.2
  intro d
  induction d with
  | zero =>
    intro p vt tb ll rl nd ta h
    have hp : p = 3 * σ 12 + σ 13 := by omega
    refine pk_le 9 p (fun h => absurd h (by omega)) (fun _ => And.intro ov_n30 ?_)
    rw [ov_d3 (show p < 2 ^ 31 by omega)]
    rw [← hp, Bool.and_eq_true] at hm0
    refine ov_xmay W H (x := 0) (by omega) (by omega) ?_
    rw [hm0.1]
    refine br_f ov_bt (And.intro ov_n30 ?_)
    rw [ov_m_3 (show p < 2 ^ 31 by omega)]
    refine ov_xmay W H (x := 1) (by omega) (by omega) ?_
    rw [hm0.2]
    refine br_f ov_bt ?_
    refine ov_xfillAll W H hk hip (by omega) (fun vt' tb' ll' rl' hT => ?_)
    rw [← hp] at hv
    rw [← hv] at hT
    refine ov_xstart (v := ov_vr σ) W H hk hw hm128 (hT k (Nat.le_refl _) ov_Q_self) (fun t ht hq => ?_) (fun hno => ?_)
    · have et := (uq p t (by omega) (by rw [hm0.1, hm0.2]; rfl) ht (by rw [← hv]; exact hq)).2
      have h93 := ov_x93 (v := ov_vr σ) (σ := σ) (post := post) (fn := fn) (fa := fa) (fu := ov_ub (ov_us c k 0) (ov_us c k 1)) (ow := ow) (vt := vt') (tt := tt) (ll := ll') (rl := rl') W H hk (ov_sig W hσ) (fun j hj => ov_ty3 W hσ hj) hg hip hT (fun nd' ta' ch' a1 a2 => K vt' tb' ll' rl' nd' ta' ch' a1 a2) (k + 1) (upd nd k (nI (ov_pr c k w σ - ov_cw c w t))) (upd ta k (nI t)) ch (Nat.le_refl _) (fun j hj => ?_) (fun j hj hqj _ => ?_)
      · rw [pk_m1] at h93
        exact br_f (by decide) ⟨_, h93⟩
      · rw [Nat.sub_self, ov_ms_0, decide_eq_true_eq] at hj
        subst hj
        rw [pk_us, pk_us, et]
        refine ⟨rfl, congrArg nI ?_, hT1⟩
        unfold ov_pr
        omega
      · have := ov_Q_le W hk hqj
        omega
    · refine absurd ⟨ho, ?_, ?_⟩ (hno _ ht3)
      · unfold ov_pr; omega
      · have e : ov_pr c k w σ - ov_cw c w (ov_ty c (ov_vr σ) σ k) = ov_cs (ov_Q c k) (ov_ln c (ov_vr σ) σ) := by unfold ov_pr; omega
        rw [e, hT1]
        exact Nat.le_refl _
  | succ d ih =>
    intro p vt tb ll rl nd ta h
    refine pk_le 9 p (fun h => absurd h (by omega)) (fun _ => And.intro ov_n30 ?_)
    rw [ov_d3 (show p < 2 ^ 31 by omega)]
    refine ov_xmay W H (x := 0) (by omega) (by omega) ?_
    cases h0 : ov_mh c k 0 (p / 3) with
    | false => exact br_t rfl (nm_r (nI_1 p) (ih (p + 1) vt tb ll rl nd ta (by omega)))
    | true =>
      refine br_f ov_bt (And.intro ov_n30 ?_)
      rw [ov_m_3 (show p < 2 ^ 31 by omega)]
      refine ov_xmay W H (x := 1) (by omega) (by omega) ?_
      cases h1' : ov_mh c k 1 (p % 3) with
      | false => exact br_t rfl (nm_r (nI_1 p) (ih (p + 1) vt tb ll rl nd ta (by omega)))
      | true =>
        refine br_f ov_bt ?_
        refine ov_xfillAll W H hk hip (by omega) (fun vt' tb' ll' rl' hT => ?_)
        refine ov_xstart (v := ov_vp p) W H hk hw hm128 (hT k (Nat.le_refl _) ov_Q_self) (fun t ht hq => ?_) (fun hno => ?_)
        · have := (uq p t (by omega) (by rw [h0, h1']; rfl) ht hq).1
          omega
        · exact br_t rfl (nm_r (nI_1 p) (ih (p + 1) vt' tb' ll' rl' nd ta (by omega)))
/-- the least total, as the component finds it -/
theorem ov_min (c : Nat → Nat → Nat) (k w : Nat) : ∃ m, m ≤ 128 ∧ (∀ e, e < m → ov_to c k w e = 0) ∧ (m < 128 → 1 ≤ ov_to c k w m) := by
  have key : ∀ d i, i + d = 128 → (∀ e, e < i → ov_to c k w e = 0) → ∃ m, m ≤ 128 ∧ (∀ e, e < m → ov_to c k w e = 0) ∧ (m < 128 → 1 ≤ ov_to c k w m) := by
    intro d
    induction d with
    | zero => intro i h hI; exact ⟨i, by omega, hI, fun h => absurd h (by omega)⟩
    | succ d ih =>
      intro i h hI
      by_cases h1 : 1 ≤ ov_to c k w i
      · exact ⟨i, by omega, hI, fun _ => h1⟩
      · refine ih (i + 1) (by omega) (fun e he => ?_)
        by_cases e1 : e = i
        · rw [e1]; omega
        · exact hI e (by omega)
  exact key 128 0 (by omega) (fun e he => absurd he (Nat.not_lt_zero e))
theorem ov_min_u {m m' : Nat} (h : m ≤ 128) (h0 : ∀ e, e < m → ov_to c k w e = 0) (h1 : m < 128 → 1 ≤ ov_to c k w m) (h' : m' ≤ 128) (h0' : ∀ e, e < m' → ov_to c k w e = 0) (h1' : m' < 128 → 1 ≤ ov_to c k w m') : m = m' := by
  rcases Nat.lt_trichotomy m m' with h2 | h2 | h2
  · have := h0' m h2; have := h1 (by omega); omega
  · exact h2
  · have := h0 m' h2; have := h1' (by omega); omega
theorem ov_xsettle0 (W : ov_W c N) (H : ov_XC c cv sg sc ls vs lc so fi lo ri) (hk : k < N) (hw : w ≤ 3) {m : Nat} (hm : m ≤ 128) (h0 : ∀ e, e < m → ov_to c k w e = 0) (h1 : m < 128 → 1 ≤ ov_to c k w m) (hne : m = 128 ∨ ov_to c k w m ≠ 1) (K : ∀ fu' ip' vt' tb' tt' ll' rl', post 0 (fn, fa, fu', cv, sg, sc, ls, vs, lc, so, fi, lo, ri, ow, ip', vt', tb', tt', ll', rl', nd, ta, ch)) : wpX_settle post (fn, fa, fu, cv, sg, sc, ls, vs, lc, so, fi, lo, ri, ow, ip, vt, tb, tt, ll, rl, nd, ta, ch) (nI k) (nI w) := by
  unfold wpX_settle
  dsimp only
  refine ov_xsum W H hk hw (fun ip' vt' tb' tt' ll' rl' hip htt => ?_)
  dsimp only
  refine ov_xleast W hk htt (fun m' g1 g2 g3 => ?_)
  have em := ov_min_u g1 g2 g3 hm h0 h1
  subst em
  have hb := ov_to_b (w := w) W hk m'
  refine pk_eq m' 128 (fun e => K _ _ _ _ _ _ _) (fun e => And.intro (pk_in m' 128 (by omega)) ?_)
  rw [nI_clamp (show m' < 2 ^ 31 by omega), htt m' (by omega)]
  refine pk_eq (ov_to c k w m') 1 (fun e1 => ?_) (fun _ => K _ _ _ _ _ _ _) rfl rfl (Nat.lt_of_le_of_lt hb (by decide))
  rcases hne with z | z
  · exact absurd z e
  · exact absurd e1 z
theorem ov_xsettle1 (W : ov_W c N) (H : ov_XC c cv sg sc ls vs lc so fi lo ri) (hk : k < N) (hw : w ≤ 3) (hσ : ∀ j, σ j < ov_r c k j) (hf : ov_fit c k w σ = true) (h0 : ∀ e, e < ov_pr c k w σ → ov_to c k w e = 0) (h1 : ov_to c k w (ov_pr c k w σ) = 1) (K : ∀ fu' ip' vt' tb' tt' ll' rl' nd' ta' ch', (∀ j, ov_Q c k j = true → ta' j = nI (ov_ty c (ov_vr σ) σ j)) → (∀ j, ov_Q c k j = true → c 0 j = 3 → ch' j = nI (σ j)) → post 1 (fn, fa, fu', cv, sg, sc, ls, vs, lc, so, fi, lo, ri, ow, ip', vt', tb', tt', ll', rl', nd', ta', ch')) : wpX_settle post (fn, fa, fu, cv, sg, sc, ls, vs, lc, so, fi, lo, ri, ow, ip, vt, tb, tt, ll, rl, nd, ta, ch) (nI k) (nI w) := by
  have hm128 : ov_pr c k w σ < 128 := ov_to_128 W hk (Nat.le_of_eq h1.symm)
  unfold wpX_settle
  dsimp only
  refine ov_xsum W H hk hw (fun ip' vt' tb' tt' ll' rl' hip htt => ?_)
  dsimp only
  refine ov_xleast W hk htt (fun m' g1 g2 g3 => ?_)
  have em := ov_min_u g1 g2 g3 (Nat.le_of_lt hm128) h0 (fun _ => Nat.le_of_eq h1.symm)
  subst em
  refine pk_eq (ov_pr c k w σ) 128 (fun e => absurd e (by omega)) (fun e => And.intro (pk_in (ov_pr c k w σ) 128 (by omega)) ?_)
  rw [nI_clamp (show ov_pr c k w σ < 2 ^ 31 by omega), htt _ (by omega), h1]
  refine br_t rfl ⟨_, ov_x33 W H hk hw hσ hf h1 hip (fun vt' tb' ll' rl' nd' ta' ch' a1 a2 => K _ _ _ _ _ _ _ _ _ _ a1 a2) (3 * σ 12 + σ 13) 0 vt' tb' ll' rl' nd ta (by omega)⟩
end
end
section
/-! the relation, and what its changes keep -/
def ov_OW (c : Nat → Nat → Nat) (N : Nat) (ow ztk : Nat → Int32) : Prop := (∀ j, j < N → ow j = ztk j) ∧ (∀ j, N ≤ j → j < 12 → ow j = 0) ∧ (∀ j, j < N → c 0 j = 3 → ow (c 2 j) = 1 ∧ ow (c 3 j) = 1)
def ov_na (c : Nat → Nat → Nat) (N : Nat) : Nat := ov_s N (fun k => if c 0 k = 3 then 1 else 0)
def ov_RR (c : Nat → Nat → Nat) (N : Nat) (fn fa : Int32) (cv sg sc ls vs lc so fi lo ri ow : Nat → Int32) (gn : Int32) (zcv zls zle zrg zre zsc zvs zlc zso zfi zq zr ztk : Nat → Int32) : Prop :=
  fn = nI N ∧ gn = nI N ∧ fa = nI (ov_na c N) ∧ ov_W c N ∧ ov_XC c cv sg sc ls vs lc so fi lo ri ∧ ov_YC c N zcv zls zle zrg zre zsc zvs zlc zso zfi zq zr ∧ ov_OW c N ow ztk
def ov_R1 (u : SX) (v : SY) (c : Nat → Nat → Nat) (N : Nat) : Prop := match u, v with
  | (fn, fa, fu, cv, sg, sc, ls, vs, lc, so, fi, lo, ri, ow, ip, vt, tb, tt, ll, rl, nd, ta, ch), (gn, gt, gf, gl, gb, gc, gs, zcv, zls, zle, zrg, zre, zsc, zvs, zlc, zso, zfi, zq, zr, ztk, zpt, zpi, zpv, zty) => ov_RR c N fn fa cv sg sc ls vs lc so fi lo ri ow gn zcv zls zle zrg zre zsc zvs zlc zso zfi zq zr ztk
/-- the relation: one configuration on both sides -/
def i_Rel (k : Nat) (u : SX) (v : SY) : Prop := ∃ c N, ov_R1 u v c N
theorem i_up {k : Nat} {u : SX} {v : SY} (h : i_Rel k u v) : i_Rel (k + 4) u v := h
theorem ov_el {P : SX → SY → Prop} {k : Nat} {u : SX} {v : SY} (I : i_Rel k u v) (h : ∀ (c : Nat → Nat → Nat) (N : Nat) (fu gt gf gl gb gc gs : Int32) (cv sg sc ls vs lc so fi lo ri ow ip vt tb tt ll rl nd ta ch zcv zls zle zrg zre zsc zvs zlc zso zfi zq zr ztk zpt zpi zpv zty : Nat → Int32), ov_W c N → ov_XC c cv sg sc ls vs lc so fi lo ri → ov_YC c N zcv zls zle zrg zre zsc zvs zlc zso zfi zq zr → ov_OW c N ow ztk → P (nI N, nI (ov_na c N), fu, cv, sg, sc, ls, vs, lc, so, fi, lo, ri, ow, ip, vt, tb, tt, ll, rl, nd, ta, ch) (nI N, gt, gf, gl, gb, gc, gs, zcv, zls, zle, zrg, zre, zsc, zvs, zlc, zso, zfi, zq, zr, ztk, zpt, zpi, zpv, zty)) : P u v := by
  obtain ⟨c, N, I⟩ := I
  obtain ⟨fn, fa, fu, cv, sg, sc, ls, vs, lc, so, fi, lo, ri, ow, ip, vt, tb, tt, ll, rl, nd, ta, ch⟩ := u
  obtain ⟨gn, gt, gf, gl, gb, gc, gs, zcv, zls, zle, zrg, zre, zsc, zvs, zlc, zso, zfi, zq, zr, ztk, zpt, zpi, zpv, zty⟩ := v
  obtain ⟨h1, h2, h3, h4, h5, h6, h7⟩ := I
  rw [h1, h2, h3]
  exact h c N _ _ _ _ _ _ _ _ _ _ _ _ _ _ _ _ _ _ _ _ _ _ _ _ _ _ _ _ _ _ _ _ _ _ _ _ _ _ _ _ _ _ _ _ h4 h5 h6 h7
section
variable {c c' : Nat → Nat → Nat} {N : Nat} {fn fa fu : Int32} {cv sg sc ls vs lc so fi lo ri ow ip vt tb tt ll rl nd ta ch : Nat → Int32} {gn gt gf gl gb gc gs : Int32} {zcv zls zle zrg zre zsc zvs zlc zso zfi zq zr ztk zpt zpi zpv zty : Nat → Int32}
theorem ov_mk {k : Nat} (h4 : ov_W c N) (h5 : ov_XC c cv sg sc ls vs lc so fi lo ri) (h6 : ov_YC c N zcv zls zle zrg zre zsc zvs zlc zso zfi zq zr) (h7 : ov_OW c N ow ztk) : i_Rel k (nI N, nI (ov_na c N), fu, cv, sg, sc, ls, vs, lc, so, fi, lo, ri, ow, ip, vt, tb, tt, ll, rl, nd, ta, ch) (nI N, gt, gf, gl, gb, gc, gs, zcv, zls, zle, zrg, zre, zsc, zvs, zlc, zso, zfi, zq, zr, ztk, zpt, zpi, zpv, zty) := ⟨c, N, rfl, rfl, rfl, h4, h5, h6, h7⟩
end
/-- the configuration with one of its functions replaced -/
def ov_pt (c : Nat → Nat → Nat) (a : Nat) (f : Nat → Nat) : Nat → Nat → Nat := fun b => if b = a then f else c b
section
variable {c c' : Nat → Nat → Nat} {N : Nat} {a z : Nat → Int32} {g : Nat → Nat}
theorem ov_updn (h : ∀ i, a i = nI (g i)) (j x : Nat) : ∀ i, upd a j (nI x) i = nI (ov_set g j x i) := by
  intro i
  by_cases e : i = j
  · subst e; rw [pk_us, ov_set_s]
  · rw [pk_un e, ov_set_n e]; exact h i
theorem ov_updm (h : ∀ i, a i = ov_m (g i)) (j x : Nat) : ∀ i, upd a j (ov_m x) i = ov_m (ov_set g j x i) := by
  intro i
  by_cases e : i = j
  · subst e; rw [pk_us, ov_set_s]
  · rw [pk_un e, ov_set_n e]; exact h i
theorem ov_updf (F : Nat → Nat) (h : ∀ i, a i = nI (F (g i))) (j x : Nat) : ∀ i, upd a j (nI (F x)) i = nI (F (ov_set g j x i)) := by
  intro i
  by_cases e : i = j
  · subst e; rw [pk_us, ov_set_s]
  · rw [pk_un e, ov_set_n e]; exact h i
theorem ov_setb {b : Nat} (h : ∀ i, g i ≤ b) {j x : Nat} (hx : x ≤ b) : ∀ i, ov_set g j x i ≤ b := by
  intro i
  by_cases e : i = j
  · subst e; rw [ov_set_s]; exact hx
  · rw [ov_set_n e]; exact h i
theorem ov_Wext (W : ov_W c N) (hN : N < 12) (hold : ∀ k, k < N → c' 0 k = c 0 k ∧ c' 1 k = c 1 k ∧ c' 2 k = c 2 k ∧ c' 3 k = c 3 k) (h4 : c' 4 = c 4) (h5 : c' 5 = c 5) (h6 : c' 6 = c 6) (h7 : c' 7 = c 7) (h8 : c' 8 = c 8) (h9 : c' 9 = c 9) (n3 : c' 0 N ≤ 3) (na : c' 0 N = 3 → c' 1 N < 3 ∧ c' 2 N < N ∧ c' 3 N < N ∧ c' 2 N ≠ c' 3 N) (n0 : c' 0 N = 0 → c' 1 N ≤ 7) (n1 : c' 0 N = 1 → c' 1 N < 2) (n2 : c' 0 N = 2 → c' 1 N < 3) (nu : c' 0 N = 3 → ∀ i, i < N → c 0 i = 3 → ∀ j, (c 2 i = j ∨ c 3 i = j) → (c' 2 N = j ∨ c' 3 N = j) → False) (nc : ov_na c N + (if c' 0 N = 3 then 1 else 0) ≤ 3) : ov_W c' (N + 1) := by
  have split : ∀ k, k < N + 1 → k = N ∨ k < N := fun k hk => by omega
  refine ⟨by omega, fun k hk => ?_, fun k hk e => ?_, fun k hk e => ?_, fun k hk e => ?_, fun k hk e => ?_, fun i i' j hi hi' e e' f f' => ?_, ?_, ?_, ?_, ?_, ?_, ?_, ?_⟩
  · rcases split k hk with h | h
    · rw [h]; exact n3
    · rw [(hold k h).1]; exact ov_Wk W h
  · rcases split k hk with h | h
    · rw [h] at e ⊢; exact na e
    · rw [(hold k h).1] at e
      rw [(hold k h).2.1, (hold k h).2.2.1, (hold k h).2.2.2]; exact ov_Wa W h e
  · rcases split k hk with h | h
    · rw [h] at e ⊢; exact n0 e
    · rw [(hold k h).1] at e
      rw [(hold k h).2.1]; exact ov_W0 W h e
  · rcases split k hk with h | h
    · rw [h] at e ⊢; exact n1 e
    · rw [(hold k h).1] at e
      rw [(hold k h).2.1]; exact ov_W1 W h e
  · rcases split k hk with h | h
    · rw [h] at e ⊢; exact n2 e
    · rw [(hold k h).1] at e
      rw [(hold k h).2.1]; exact ov_W2 W h e
  · rcases split i hi with h | h
    · rcases split i' hi' with h' | h'
      · omega
      · rw [h] at e f
        rw [(hold i' h').1] at e'
        rw [(hold i' h').2.2.1, (hold i' h').2.2.2] at f'
        exact (nu e i' h' e' j f' f).elim
    · rw [(hold i h).1] at e
      rw [(hold i h).2.2.1, (hold i h).2.2.2] at f
      rcases split i' hi' with h' | h'
      · rw [h'] at e' f'
        exact (nu e' i h e j f f').elim
      · rw [(hold i' h').1] at e'
        rw [(hold i' h').2.2.1, (hold i' h').2.2.2] at f'
        exact ov_Wu W h h' e e' f f'
  · rw [h4]; exact ov_W4 W
  · rw [h5]; exact ov_W5 W
  · rw [h6]; exact ov_W6 W
  · rw [h7]; exact ov_W7 W
  · rw [h8]; exact ov_W8 W
  · rw [h9]; exact ov_W9 W
  · rw [ov_s1, ov_sC N (g := fun k => if c 0 k = 3 then 1 else 0) (fun k hk => by rw [(hold k hk).1])]
    exact nc
theorem ov_na_s (hold : ∀ k, k < N → c' 0 k = c 0 k) : ov_na c' (N + 1) = ov_na c N + (if c' 0 N = 3 then 1 else 0) := by
  unfold ov_na
  rw [ov_s1, ov_sC N (g := fun k => if c 0 k = 3 then 1 else 0) (fun k hk => by rw [hold k hk])]
end
/-- an argument as a type, a bounded number .. -/
theorem ov_c3 (x : Int32) {M : Int32} {n : Nat} (hM : M.toInt = n) : (x < 0 ∨ (¬ x < 0 ∧ ¬ x ≤ M)) ∨ ∃ t, t ≤ n ∧ x = nI t := by
  by_cases h : x < 0
  · exact Or.inl (Or.inl h)
  · by_cases h2 : x ≤ M
    · exact Or.inr (nI_of2 hM h h2)
    · exact Or.inl (Or.inr ⟨h, h2⟩)
section
variable {N : Nat} {post : Int32 → Prop} {fn fa fu : Int32} {cv sg sc ls vs lc so fi lo ri ow ip vt tb tt ll rl nd ta ch : Nat → Int32} {gn gt gf gl gb gc gs : Int32} {zcv zls zle zrg zre zsc zvs zlc zso zfi zq zr ztk zpt zpi zpv zty : Nat → Int32}
theorem ov_xtyp {t : Nat} (ht : t ≤ 2) (K : post 1) : wpX_isType post (nI t) :=
  br_f (nI_pos (by omega)) (pk_lt 2 t (fun h => absurd h (by omega)) (fun _ => K))
theorem ov_xtypN {x : Int32} (h : x < 0 ∨ (¬ x < 0 ∧ ¬ x ≤ 2)) (K : post 0) : wpX_isType post x := by
  rcases h with h | ⟨h, h2⟩
  · exact br_t h K
  · exact br_f h (br_t (Int32.not_le.mp h2) K)
theorem ov_ytyp {t : Nat} (ht : t ≤ 2) (K : post 0) : wpY_badType post (gn, gt, gf, gl, gb, gc, gs, zcv, zls, zle, zrg, zre, zsc, zvs, zlc, zso, zfi, zq, zr, ztk, zpt, zpi, zpv, zty) (nI t) :=
  br_f (nI_pos (by omega)) (pk_le t 2 (fun _ => K) (fun h => absurd h (by omega)))
theorem ov_ytypN {x : Int32} (h : x < 0 ∨ (¬ x < 0 ∧ ¬ x ≤ 2)) (K : post 1) : wpY_badType post (gn, gt, gf, gl, gb, gc, gs, zcv, zls, zle, zrg, zre, zsc, zvs, zlc, zso, zfi, zq, zr, ztk, zpt, zpi, zpv, zty) x := by
  rcases h with h | ⟨h, h2⟩
  · exact br_t h K
  · exact br_f h (br_f h2 K)
theorem ov_yop {t : Nat} (ht : t ≤ 2) (K : post 0) : wpY_badOp post (gn, gt, gf, gl, gb, gc, gs, zcv, zls, zle, zrg, zre, zsc, zvs, zlc, zso, zfi, zq, zr, ztk, zpt, zpi, zpv, zty) (nI t) :=
  br_f (nI_pos (by omega)) (pk_le t 2 (fun _ => K) (fun h => absurd h (by omega)))
theorem ov_yopN {x : Int32} (h : x < 0 ∨ (¬ x < 0 ∧ ¬ x ≤ 2)) (K : post 1) : wpY_badOp post (gn, gt, gf, gl, gb, gc, gs, zcv, zls, zle, zrg, zre, zsc, zvs, zlc, zso, zfi, zq, zr, ztk, zpt, zpi, zpv, zty) x := by
  rcases h with h | ⟨h, h2⟩
  · exact br_t h K
  · exact br_f h (br_f h2 K)
theorem ov_ycost {t : Nat} (ht : t ≤ 9) (K : post 0) : wpY_badCost post (gn, gt, gf, gl, gb, gc, gs, zcv, zls, zle, zrg, zre, zsc, zvs, zlc, zso, zfi, zq, zr, ztk, zpt, zpi, zpv, zty) (nI t) :=
  br_f (nI_pos (by omega)) (pk_le t 9 (fun _ => K) (fun h => absurd h (by omega)))
theorem ov_ycostN {x : Int32} (h : x < 0 ∨ (¬ x < 0 ∧ ¬ x ≤ 9)) (K : post 1) : wpY_badCost post (gn, gt, gf, gl, gb, gc, gs, zcv, zls, zle, zrg, zre, zsc, zvs, zlc, zso, zfi, zq, zr, ztk, zpt, zpi, zpv, zty) x := by
  rcases h with h | ⟨h, h2⟩
  · exact br_t h K
  · exact br_f h (br_f h2 K)
theorem ov_ynode {j : Nat} (hN : N ≤ 12) (hj : j < N) (K : post 0) : wpY_badNode post (nI N, gt, gf, gl, gb, gc, gs, zcv, zls, zle, zrg, zre, zsc, zvs, zlc, zso, zfi, zq, zr, ztk, zpt, zpi, zpv, zty) (nI j) :=
  br_f (nI_pos (by omega)) (pk_le N j (fun h => absurd h (by omega)) (fun _ => pk_lt j 12 (fun _ => K) (fun h => absurd h (by omega))))
theorem ov_ynodeN {x : Int32} (h : x < 0 ∨ (¬ x < 0 ∧ nI N ≤ x)) (K : post 1) : wpY_badNode post (nI N, gt, gf, gl, gb, gc, gs, zcv, zls, zle, zrg, zre, zsc, zvs, zlc, zso, zfi, zq, zr, ztk, zpt, zpi, zpv, zty) x := by
  rcases h with h | ⟨h, h2⟩
  · exact br_t h K
  · exact br_f h (br_t h2 K)
end
end
section
/-! the constructors and the calls that change the configuration -/
section
variable {c : Nat → Nat → Nat} {N : Nat} {f : Nat → Nat}
theorem ov_W_4 (W : ov_W c N) (h : ∀ i, f i ≤ 4) : ov_W (ov_pt c 4 f) N := ⟨W.1, W.2.1, W.2.2.1, W.2.2.2.1, W.2.2.2.2.1, W.2.2.2.2.2.1, W.2.2.2.2.2.2.1, h, W.2.2.2.2.2.2.2.2.1, W.2.2.2.2.2.2.2.2.2.1, W.2.2.2.2.2.2.2.2.2.2.1, W.2.2.2.2.2.2.2.2.2.2.2.1, W.2.2.2.2.2.2.2.2.2.2.2.2.1, W.2.2.2.2.2.2.2.2.2.2.2.2.2⟩
theorem ov_W_5 (W : ov_W c N) (h : ∀ i, f i ≤ 26) : ov_W (ov_pt c 5 f) N := ⟨W.1, W.2.1, W.2.2.1, W.2.2.2.1, W.2.2.2.2.1, W.2.2.2.2.2.1, W.2.2.2.2.2.2.1, W.2.2.2.2.2.2.2.1, h, W.2.2.2.2.2.2.2.2.2.1, W.2.2.2.2.2.2.2.2.2.2.1, W.2.2.2.2.2.2.2.2.2.2.2.1, W.2.2.2.2.2.2.2.2.2.2.2.2.1, W.2.2.2.2.2.2.2.2.2.2.2.2.2⟩
theorem ov_W_6 (W : ov_W c N) (h : ∀ i, f i ≤ 9) : ov_W (ov_pt c 6 f) N := ⟨W.1, W.2.1, W.2.2.1, W.2.2.2.1, W.2.2.2.2.1, W.2.2.2.2.2.1, W.2.2.2.2.2.2.1, W.2.2.2.2.2.2.2.1, W.2.2.2.2.2.2.2.2.1, h, W.2.2.2.2.2.2.2.2.2.2.1, W.2.2.2.2.2.2.2.2.2.2.2.1, W.2.2.2.2.2.2.2.2.2.2.2.2.1, W.2.2.2.2.2.2.2.2.2.2.2.2.2⟩
theorem ov_W_7 (W : ov_W c N) (h : ∀ i, f i ≤ 10) : ov_W (ov_pt c 7 f) N := ⟨W.1, W.2.1, W.2.2.1, W.2.2.2.1, W.2.2.2.2.1, W.2.2.2.2.2.1, W.2.2.2.2.2.2.1, W.2.2.2.2.2.2.2.1, W.2.2.2.2.2.2.2.2.1, W.2.2.2.2.2.2.2.2.2.1, h, W.2.2.2.2.2.2.2.2.2.2.2.1, W.2.2.2.2.2.2.2.2.2.2.2.2.1, W.2.2.2.2.2.2.2.2.2.2.2.2.2⟩
theorem ov_W_8 (W : ov_W c N) (h : ∀ i, f i ≤ 9) : ov_W (ov_pt c 8 f) N := ⟨W.1, W.2.1, W.2.2.1, W.2.2.2.1, W.2.2.2.2.1, W.2.2.2.2.2.1, W.2.2.2.2.2.2.1, W.2.2.2.2.2.2.2.1, W.2.2.2.2.2.2.2.2.1, W.2.2.2.2.2.2.2.2.2.1, W.2.2.2.2.2.2.2.2.2.2.1, h, W.2.2.2.2.2.2.2.2.2.2.2.2.1, W.2.2.2.2.2.2.2.2.2.2.2.2.2⟩
theorem ov_W_9 (W : ov_W c N) (h : ∀ i, f i ≤ 7) : ov_W (ov_pt c 9 f) N := ⟨W.1, W.2.1, W.2.2.1, W.2.2.2.1, W.2.2.2.2.1, W.2.2.2.2.2.1, W.2.2.2.2.2.2.1, W.2.2.2.2.2.2.2.1, W.2.2.2.2.2.2.2.2.1, W.2.2.2.2.2.2.2.2.2.1, W.2.2.2.2.2.2.2.2.2.2.1, W.2.2.2.2.2.2.2.2.2.2.2.1, h, W.2.2.2.2.2.2.2.2.2.2.2.2.2⟩
end
def ov_g7 (i : Nat) : Nat := if i < 9 ∧ i % 4 ≠ 0 then 0 else 1
theorem ov_r4 {n : Nat} (h : n < 2 ^ 31) : nI n - nI n / 4 * 4 = nI (n % 4) := pk_rem (d := 4) h (by decide) (by decide)
section
variable {fn fa fu : Int32} {cv sg sc ls vs lc so fi lo ri ow ip vt tb tt ll rl nd ta ch : Nat → Int32} {gn gt gf gl gb gc gs : Int32} {zcv zls zle zrg zre zsc zvs zlc zso zfi zq zr ztk zpt zpi zpv zty : Nat → Int32}
theorem ov_xinit {post : SX → Prop} (K : ∀ cv', (∀ i, cv' i = ov_m (ov_g7 i)) → post (fn, fa, fu, cv', sg, sc, ls, upd (upd vs 0 7) 1 7, lc, so, fi, lo, ri, ow, ip, vt, tb, tt, ll, rl, nd, ta, ch)) : ∀ (d i : Nat) (cv : Nat → Int32), i + d = 9 → (∀ j, cv j = if j < i then ov_m (ov_g7 j) else 0) → wX_init_166 post fn fa fu (d + 1) (nI i) cv sg sc ls vs lc so fi lo ri ow ip vt tb tt ll rl nd ta ch := by
  intro d
  induction d with
  | zero =>
    intro i cv h hI
    refine pk_le 9 i (fun _ => nm_e (nm_e (K cv (fun j => ?_)))) (fun h => absurd h (by omega))
    rw [hI j]
    by_cases hj : j < i
    · rw [if_pos hj]
    · rw [if_neg hj, show ov_g7 j = 1 from if_neg (fun z => by omega)]; rfl
  | succ d ih =>
    intro i cv h hI
    refine pk_le 9 i (fun h => absurd h (by omega)) (fun _ => And.intro ov_n40 ?_)
    rw [ov_r4 (show i < 2 ^ 31 by omega), nI_clamp (show i < 2 ^ 31 by omega)]
    refine pk_eq (i % 4) 0 (fun e => And.intro (pk_in i 9 (by omega)) (nm_e (nm_r (nI_1 i) (ih (i + 1) _ (by omega) (fun j => ?_))))) (fun e => And.intro (pk_in i 9 (by omega)) (nm_e (nm_r (nI_1 i) (ih (i + 1) _ (by omega) (fun j => ?_)))))
    · by_cases hj : j = i
      · rw [hj, pk_us, if_pos (by omega), show ov_g7 i = 1 from if_neg (fun z => z.2 e)]; rfl
      · rw [pk_un hj, hI j]
        by_cases h2 : j < i
        · rw [if_pos h2, if_pos (by omega)]
        · rw [if_neg h2, if_neg (by omega)]
    · by_cases hj : j = i
      · rw [hj, pk_us, if_pos (by omega), show ov_g7 i = 0 from if_pos ⟨by omega, e⟩]; rfl
      · rw [pk_un hj, hI j]
        by_cases h2 : j < i
        · rw [if_pos h2, if_pos (by omega)]
        · rw [if_neg h2, if_neg (by omega)]
theorem ov_yinit {post : SY → Prop} (K : ∀ zcv', (∀ i, zcv' i = ov_m (ov_g7 i)) → post (gn, gt, gf, gl, gb, gc, gs, zcv', zls, zle, zrg, zre, zsc, upd (upd zvs 0 7) 1 7, zlc, zso, zfi, zq, zr, ztk, zpt, zpi, zpv, zty)) : ∀ (d i : Nat) (zcv : Nat → Int32), i + d = 9 → (∀ j, zcv j = if j < i then ov_m (ov_g7 j) else 0) → wY_init_138 post gn gt gf gl gb gc gs (d + 1) (nI i) zcv zls zle zrg zre zsc zvs zlc zso zfi zq zr ztk zpt zpi zpv zty := by
  intro d
  induction d with
  | zero =>
    intro i cv h hI
    refine pk_le 9 i (fun _ => nm_e (nm_e (K cv (fun j => ?_)))) (fun h => absurd h (by omega))
    rw [hI j]
    by_cases hj : j < i
    · rw [if_pos hj]
    · rw [if_neg hj, show ov_g7 j = 1 from if_neg (fun z => by omega)]; rfl
  | succ d ih =>
    intro i cv h hI
    refine pk_le 9 i (fun h => absurd h (by omega)) (fun _ => And.intro ov_n40 ?_)
    rw [ov_r4 (show i < 2 ^ 31 by omega), nI_clamp (show i < 2 ^ 31 by omega)]
    refine pk_eq (i % 4) 0 (fun e => And.intro (pk_in i 9 (by omega)) (nm_e (nm_r (nI_1 i) (ih (i + 1) _ (by omega) (fun j => ?_))))) (fun e => And.intro (pk_in i 9 (by omega)) (nm_e (nm_r (nI_1 i) (ih (i + 1) _ (by omega) (fun j => ?_)))))
    · by_cases hj : j = i
      · rw [hj, pk_us, if_pos (by omega), show ov_g7 i = 1 from if_neg (fun z => z.2 e)]; rfl
      · rw [pk_un hj, hI j]
        by_cases h2 : j < i
        · rw [if_pos h2, if_pos (by omega)]
        · rw [if_neg h2, if_neg (by omega)]
    · by_cases hj : j = i
      · rw [hj, pk_us, if_pos (by omega), show ov_g7 i = 0 from if_pos ⟨by omega, e⟩]; rfl
      · rw [pk_un hj, hI j]
        by_cases h2 : j < i
        · rw [if_pos h2, if_pos (by omega)]
        · rw [if_neg h2, if_neg (by omega)]
end
def ov_c0 : Nat → Nat → Nat := ov_pt (ov_pt (fun _ _ => 0) 7 ov_g7) 9 (ov_set (ov_set (fun _ => 0) 0 7) 1 7)
theorem ov_W00 : ov_W (fun _ _ => 0) 0 := ⟨by omega, fun k hk => absurd hk (Nat.not_lt_zero k), fun k hk => absurd hk (Nat.not_lt_zero k), fun k hk => absurd hk (Nat.not_lt_zero k), fun k hk => absurd hk (Nat.not_lt_zero k), fun k hk => absurd hk (Nat.not_lt_zero k), fun i _ _ hi => absurd hi (Nat.not_lt_zero i), fun _ => Nat.zero_le _, fun _ => Nat.zero_le _, fun _ => Nat.zero_le _, fun _ => Nat.zero_le _, fun _ => Nat.zero_le _, fun _ => Nat.zero_le _, Nat.zero_le _⟩
theorem ov_W0c : ov_W ov_c0 0 := ov_W_9 (ov_W_7 ov_W00 (fun i => by unfold ov_g7; split <;> omega)) (ov_setb (ov_setb (fun _ => Nat.zero_le _) (Nat.le_refl _)) (Nat.le_refl _))
theorem ov_vs0 : ∀ i, upd (upd (fun _ => 0) 0 7) 1 7 i = nI (ov_set (ov_set (fun _ => 0) 0 7) 1 7 i) := ov_updn (ov_updn (fun _ => rfl) 0 7) 1 7
theorem i_vc0 : wpX_init (fun u => wpY_init (fun v => i_Rel 0 u v)) := by
  refine ⟨10, ov_xinit (fun cv' h => ?_) 9 0 (fun _ => 0) (by omega) (fun j => (if_neg (Nat.not_lt_zero j)).symm)⟩
  refine ⟨10, ov_yinit (fun zcv' h' => ?_) 9 0 (fun _ => 0) (by omega) (fun j => (if_neg (Nat.not_lt_zero j)).symm)⟩
  refine ov_mk (c := ov_c0) (N := 0) ov_W0c ?_ ?_ ?_
  · exact ⟨h, fun _ => rfl, fun _ => rfl, fun _ => rfl, ov_vs0, fun _ => rfl, fun _ => rfl, fun _ => rfl, fun _ => rfl, fun _ => rfl⟩
  · exact ⟨h', fun _ => rfl, fun _ => (show (0 : Int32) = nI (0 / 9) from rfl), fun _ => (show (0 : Int32) = nI (0 / 3 % 3) from rfl), fun _ => (show (0 : Int32) = nI (0 % 3) from rfl), fun _ => rfl, ov_vs0, fun _ => rfl, fun _ => rfl, fun _ => rfl, fun k hk => absurd hk (Nat.not_lt_zero k), fun k hk => absurd hk (Nat.not_lt_zero k)⟩
  · exact ⟨fun j hj => absurd hj (Nat.not_lt_zero j), fun _ _ _ => rfl, fun j hj => absurd hj (Nat.not_lt_zero j)⟩
theorem ov_cm {x : Int32} (h : ¬ x < (-1)) (h2 : x ≤ 9) : ∃ y, y ≤ 10 ∧ x = ov_m y := by
  by_cases h0 : x < 0
  · refine ⟨0, by omega, ?_⟩
    apply Int32.toInt_inj.mp
    rw [Int32.lt_iff_toInt_lt, show (-1 : Int32).toInt = -1 by decide] at h
    rw [Int32.lt_iff_toInt_lt, show (0 : Int32).toInt = 0 by decide] at h0
    show _ = (-1 : Int32).toInt
    rw [show (-1 : Int32).toInt = -1 by decide]
    omega
  · obtain ⟨j, hj, rfl⟩ := nI_of2 (M := 9) (n := 9) (by decide) h0 h2
    exact ⟨j + 1, by omega, rfl⟩
theorem i_vc_convert {k : Nat} {u : SX} {v : SY} (I : i_Rel k u v) (hk : k + 4 ≤ 2048) (v1 : Int32) (v2 : Int32) (v3 : Int32) : wpX_convert (fun r u' => wpY_convert (fun r' v' => r' = r ∧ i_Rel (k + 4) u' v') v v1 v2 v3) u v1 v2 v3 := by
  refine ov_el (P := fun u v => wpX_convert (fun r u' => wpY_convert (fun r' v' => r' = r ∧ i_Rel (k + 4) u' v') v v1 v2 v3) u v1 v2 v3) I ?_
  intro c N fu gt gf gl gb gc gs cv sg sc ls vs lc so fi lo ri ow ip vt tb tt ll rl nd ta ch zcv zls zle zrg zre zsc zvs zlc zso zfi zq zr ztk zpt zpi zpv zty W HX HY HO
  unfold wpX_convert wpY_convert
  dsimp only
  rcases ov_c3 v1 (M := 2) (n := 2) (by decide) with b | ⟨f, hf, rfl⟩
  · exact ov_xtypN b (br_t rfl (ov_ytypN b (br_f (by decide) ⟨rfl, ov_mk W HX HY HO⟩)))
  · refine ov_xtyp hf (br_f (by decide) ?_)
    rcases ov_c3 v2 (M := 2) (n := 2) (by decide) with b | ⟨t, ht, rfl⟩
    · exact ov_xtypN b (br_t rfl (ov_ytyp hf (br_t rfl (ov_ytypN b (br_f (by decide) ⟨rfl, ov_mk W HX HY HO⟩)))))
    · refine ov_xtyp ht (br_f (by decide) ?_)
      refine pk_eq f t (fun e => ?_) (fun e => ?_)
      · exact ov_ytyp hf (br_t rfl (ov_ytyp ht (br_t rfl (br_t (by rw [e]) ⟨rfl, ov_mk W HX HY HO⟩))))
      · have ne : ¬ nI f = nI t := fun z => e ((nI_eq (by omega) (by omega)).mp z)
        by_cases h1 : v3 < (-1)
        · exact br_t h1 (ov_ytyp hf (br_t rfl (ov_ytyp ht (br_t rfl (br_f ne (br_t h1 ⟨rfl, ov_mk W HX HY HO⟩))))))
        · refine br_f h1 ?_
          by_cases h2 : v3 ≤ 9
          · obtain ⟨y, hy, rfl⟩ := ov_cm h1 h2
            have hx : (3 : Int32) * nI f + nI t = nI (3 * f + t) := by rw [ov_m3, nI_add]
            rw [hx]
            refine br_t h2 (And.intro (pk_in (3 * f + t) 9 (by omega)) (nm_e ?_))
            refine ov_ytyp hf (br_t rfl (ov_ytyp ht (br_t rfl (br_f ne (br_f h1 (br_t h2 (And.intro (pk_in (3 * f + t) 9 (by omega)) (nm_e ⟨rfl, ?_⟩))))))))
            rw [nI_clamp (show 3 * f + t < 2 ^ 31 by omega)]
            exact ov_mk (c := ov_pt c 7 (ov_set (c 7) (3 * f + t) y)) (ov_W_7 W (ov_setb (ov_W7 W) hy)) ⟨ov_updm HX.1 _ _, HX.2⟩ ⟨ov_updm HY.1 _ _, HY.2⟩ HO
          · exact br_f h2 (ov_ytyp hf (br_t rfl (ov_ytyp ht (br_t rfl (br_f ne (br_f h1 (br_f h2 ⟨rfl, ov_mk W HX HY HO⟩)))))))
theorem i_vc_forget {k : Nat} {u : SX} {v : SY} (I : i_Rel k u v) (hk : k + 4 ≤ 2048) (v1 : Int32) : wpX_forget (fun r u' => wpY_forget (fun r' v' => r' = r ∧ i_Rel (k + 4) u' v') v v1) u v1 := by
  refine ov_el (P := fun u v => wpX_forget (fun r u' => wpY_forget (fun r' v' => r' = r ∧ i_Rel (k + 4) u' v') v v1) u v1) I ?_
  intro c N fu gt gf gl gb gc gs cv sg sc ls vs lc so fi lo ri ow ip vt tb tt ll rl nd ta ch zcv zls zle zrg zre zsc zvs zlc zso zfi zq zr ztk zpt zpi zpv zty W HX HY HO
  unfold wpX_forget wpY_forget
  dsimp only
  rcases ov_c3 v1 (M := 2) (n := 2) (by decide) with b | ⟨f, hf, rfl⟩
  · exact ov_xtypN b (br_t rfl (ov_yopN b (br_f (by decide) ⟨rfl, ov_mk W HX HY HO⟩)))
  · refine ov_xtyp hf (br_f (by decide) ⟨pk_in f 3 (by omega), nm_e ⟨pk_in f 3 (by omega), nm_e ?_⟩⟩)
    refine ov_yop hf (br_t rfl ⟨pk_in f 3 (by omega), nm_e ⟨pk_in f 3 (by omega), nm_e ⟨?_, ?_⟩⟩⟩)
    · rw [nI_clamp (show f < 2 ^ 31 by omega), ov_yls HY, HX.2.2.2.1]
    · rw [nI_clamp (show f < 2 ^ 31 by omega)]
      exact ov_mk (c := ov_pt c 4 (ov_set (c 4) f 0)) (ov_W_4 W (ov_setb (ov_W4 W) (Nat.zero_le _))) ⟨HX.1, HX.2.1, HX.2.2.1, ov_updn HX.2.2.2.1 _ 0, HX.2.2.2.2⟩ ⟨HY.1, ov_updn HY.2.1 _ 0, HY.2.2⟩ HO
theorem i_vc_literalCost {k : Nat} {u : SX} {v : SY} (I : i_Rel k u v) (hk : k + 4 ≤ 2048) (v1 : Int32) (v2 : Int32) : wpX_literalCost (fun r u' => wpY_literalCost (fun r' v' => r' = r ∧ i_Rel (k + 4) u' v') v v1 v2) u v1 v2 := by
  refine ov_el (P := fun u v => wpX_literalCost (fun r u' => wpY_literalCost (fun r' v' => r' = r ∧ i_Rel (k + 4) u' v') v v1 v2) u v1 v2) I ?_
  intro c N fu gt gf gl gb gc gs cv sg sc ls vs lc so fi lo ri ow ip vt tb tt ll rl nd ta ch zcv zls zle zrg zre zsc zvs zlc zso zfi zq zr ztk zpt zpi zpv zty W HX HY HO
  unfold wpX_literalCost wpY_literalCost
  dsimp only
  rcases ov_c3 v1 (M := 2) (n := 2) (by decide) with b | ⟨f, hf, rfl⟩
  · exact ov_xtypN b (br_t rfl (ov_ytypN b (br_f (by decide) ⟨rfl, ov_mk W HX HY HO⟩)))
  · refine ov_xtyp hf (br_f (by decide) ?_)
    rcases ov_c3 v2 (M := 9) (n := 9) (by decide) with b | ⟨t, ht, rfl⟩
    · rcases b with b | ⟨b, b2⟩
      · exact br_t b (ov_ytyp hf (br_t rfl (ov_ycostN (Or.inl b) (br_f (by decide) ⟨rfl, ov_mk W HX HY HO⟩))))
      · exact br_f b (br_f b2 (ov_ytyp hf (br_t rfl (ov_ycostN (Or.inr ⟨b, b2⟩) (br_f (by decide) ⟨rfl, ov_mk W HX HY HO⟩)))))
    · refine br_f (nI_pos (by omega)) (pk_le t 9 (fun _ => And.intro (pk_in f 3 (by omega)) (nm_e ?_)) (fun h => absurd h (by omega)))
      refine ov_ytyp hf (br_t rfl (ov_ycost ht (br_t rfl (And.intro (pk_in f 3 (by omega)) (nm_e ⟨rfl, ?_⟩)))))
      rw [nI_clamp (show f < 2 ^ 31 by omega)]
      exact ov_mk (c := ov_pt c 8 (ov_set (c 8) f t)) (ov_W_8 W (ov_setb (ov_W8 W) ht)) ⟨HX.1, HX.2.1, HX.2.2.1, HX.2.2.2.1, HX.2.2.2.2.1, ov_updn HX.2.2.2.2.2.1 _ _, HX.2.2.2.2.2.2⟩ ⟨HY.1, HY.2.1, HY.2.2.1, HY.2.2.2.1, HY.2.2.2.2.1, HY.2.2.2.2.2.1, HY.2.2.2.2.2.2.1, ov_updn HY.2.2.2.2.2.2.2.1 _ _, HY.2.2.2.2.2.2.2.2⟩ HO
theorem ov_cx2 (x : Int32) : (¬ x = 0 ∧ ¬ x = 1 ∧ (x < 0 ∨ (¬ x < 0 ∧ ¬ x ≤ 1))) ∨ ∃ t, t ≤ 1 ∧ x = nI t := by
  rcases ov_c3 x (M := 1) (n := 1) (by decide) with b | h
  · refine Or.inl ⟨fun e => ?_, fun e => ?_, b⟩
    · subst e; revert b; decide
    · subst e; revert b; decide
  · exact Or.inr h
end
section
/-! declare, overload, and the calls that make nodes -/
theorem ov_c7 (x : Int32) : (x < 1 ∨ (¬ x < 1 ∧ ¬ x ≤ 7)) ∨ ∃ s, 1 ≤ s ∧ s ≤ 7 ∧ x = nI s := by
  by_cases h : x < 1
  · exact Or.inl (Or.inl h)
  · by_cases h2 : x ≤ 7
    · have h0 : ¬ x < 0 := fun z => h (Int32.lt_trans z (by decide))
      obtain ⟨s, hs, rfl⟩ := nI_of2 (M := 7) (n := 7) (by decide) h0 h2
      refine Or.inr ⟨s, ?_, hs, rfl⟩
      refine Classical.byContradiction fun hn => h ?_
      rw [show s = 0 by omega]
      decide
    · exact Or.inl (Or.inr ⟨h, h2⟩)
theorem ov_x01 {A B : Prop} {t : Nat} (ht : t ≤ 1) (K : A) : (nI t = 0 → A) ∧ (¬ nI t = 0 → ((nI t = 1 → A) ∧ (¬ nI t = 1 → B))) := by
  by_cases e : t = 0
  · subst e; exact br_t rfl K
  · rw [show t = 1 by omega]; exact br_f (by decide) (br_t rfl K)
theorem ov_1lt {s : Nat} (h : 1 ≤ s) (h2 : s ≤ 7) : ¬ nI s < 1 := nI_nlt (b := 1) h (by omega)
theorem i_vc_declare {k : Nat} {u : SX} {v : SY} (I : i_Rel k u v) (hk : k + 4 ≤ 2048) (v1 : Int32) (v2 : Int32) : wpX_declare (fun r u' => wpY_declare (fun r' v' => r' = r ∧ i_Rel (k + 4) u' v') v v1 v2) u v1 v2 := by
  refine ov_el (P := fun u v => wpX_declare (fun r u' => wpY_declare (fun r' v' => r' = r ∧ i_Rel (k + 4) u' v') v v1 v2) u v1 v2) I ?_
  intro c N fu gt gf gl gb gc gs cv sg sc ls vs lc so fi lo ri ow ip vt tb tt ll rl nd ta ch zcv zls zle zrg zre zsc zvs zlc zso zfi zq zr ztk zpt zpi zpv zty W HX HY HO
  unfold wpX_declare wpY_declare
  dsimp only
  rcases ov_cx2 v1 with ⟨b0, b1, b⟩ | ⟨t, ht, rfl⟩
  · refine br_f b0 (br_f b1 ?_)
    rcases b with b | ⟨b, b2⟩
    · exact br_t b ⟨rfl, ov_mk W HX HY HO⟩
    · exact br_f b (br_f b2 ⟨rfl, ov_mk W HX HY HO⟩)
  · refine ov_x01 ht ?_
    unfold wX_declare_11
    dsimp only
    have t1 : nI t ≤ 1 := nI_le (b := 1) ht (by decide)
    have t0 : ¬ nI t < 0 := nI_pos (by omega)
    rcases ov_c7 v2 with b | ⟨s, h1, h7, rfl⟩
    · rcases b with b | ⟨b, b2⟩
      · exact br_t b (br_f t0 (br_t t1 (br_t b ⟨rfl, ov_mk W HX HY HO⟩)))
      · exact br_f b (br_f b2 (br_f t0 (br_t t1 (br_f b (br_f b2 ⟨rfl, ov_mk W HX HY HO⟩)))))
    · have b := ov_1lt h1 h7
      have b2 : nI s ≤ 7 := nI_le (b := 7) h7 (by decide)
      refine br_f b (br_t b2 ⟨pk_in t 2 (by omega), nm_e ⟨pk_in t 2 (by omega), nm_e ?_⟩⟩)
      refine br_f t0 (br_t t1 (br_f b (br_t b2 ⟨pk_in t 2 (by omega), nm_e ⟨pk_in t 2 (by omega), nm_e ⟨?_, ?_⟩⟩⟩)))
      · rw [nI_clamp (show t < 2 ^ 31 by omega), ov_yvs HY, HX.2.2.2.2.1]
      · rw [nI_clamp (show t < 2 ^ 31 by omega)]
        exact ov_mk (c := ov_pt c 9 (ov_set (c 9) t s)) (ov_W_9 W (ov_setb (ov_W9 W) h7)) ⟨HX.1, HX.2.1, HX.2.2.1, HX.2.2.2.1, ov_updn HX.2.2.2.2.1 _ _, HX.2.2.2.2.2⟩ ⟨HY.1, HY.2.1, HY.2.2.1, HY.2.2.2.1, HY.2.2.2.2.1, HY.2.2.2.2.2.1, ov_updn HY.2.2.2.2.2.2.1 _ _, HY.2.2.2.2.2.2.2⟩ HO
theorem i_vc_overload {k : Nat} {u : SX} {v : SY} (I : i_Rel k u v) (hk : k + 4 ≤ 2048) (v1 : Int32) (v2 : Int32) (v3 : Int32) : wpX_overload (fun r u' => wpY_overload (fun r' v' => r' = r ∧ i_Rel (k + 4) u' v') v v1 v2 v3) u v1 v2 v3 := by
  refine ov_el (P := fun u v => wpX_overload (fun r u' => wpY_overload (fun r' v' => r' = r ∧ i_Rel (k + 4) u' v') v v1 v2 v3) u v1 v2 v3) I ?_
  intro c N fu gt gf gl gb gc gs cv sg sc ls vs lc so fi lo ri ow ip vt tb tt ll rl nd ta ch zcv zls zle zrg zre zsc zvs zlc zso zfi zq zr ztk zpt zpi zpv zty W HX HY HO
  unfold wpX_overload wpY_overload
  dsimp only
  rcases ov_c3 v1 (M := 2) (n := 2) (by decide) with b | ⟨f, hf, rfl⟩
  · exact ov_xtypN b (br_t rfl (ov_yopN b (br_f (by decide) ⟨rfl, ov_mk W HX HY HO⟩)))
  · refine ov_xtyp hf (br_f (by decide) ?_)
    rcases ov_c3 v2 (M := 26) (n := 26) (by decide) with b | ⟨t, ht, rfl⟩
    · rcases b with b | ⟨b, b2⟩
      · exact br_t b (ov_yop hf (br_t rfl (br_t b ⟨rfl, ov_mk W HX HY HO⟩)))
      · exact br_f b (br_f b2 (ov_yop hf (br_t rfl (br_f b (br_f b2 ⟨rfl, ov_mk W HX HY HO⟩)))))
    · have p1 : ¬ nI t < 0 := nI_pos (by omega)
      have p2 : nI t ≤ 26 := nI_le (b := 26) ht (by decide)
      refine br_f p1 (br_t p2 ?_)
      rcases ov_c3 v3 (M := 9) (n := 9) (by decide) with b | ⟨g, hg, rfl⟩
      · rcases b with b | ⟨b, b2⟩
        · exact br_t b (ov_yop hf (br_t rfl (br_f p1 (br_t p2 (ov_ycostN (Or.inl b) (br_f (by decide) ⟨rfl, ov_mk W HX HY HO⟩))))))
        · exact br_f b (br_f b2 (ov_yop hf (br_t rfl (br_f p1 (br_t p2 (ov_ycostN (Or.inr ⟨b, b2⟩) (br_f (by decide) ⟨rfl, ov_mk W HX HY HO⟩)))))))
      · refine br_f (nI_pos (by omega)) (br_t (nI_le (b := 9) hg (by decide)) (And.intro (pk_in f 3 (by omega)) ?_))
        have h4 := ov_W4 W f
        have hls : ls f = nI (c 4 f) := HX.2.2.2.1 f
        have hzl : zls f = nI (c 4 f) := HY.2.1 f
        have hx : (4 : Int32) * nI f + nI (c 4 f) = nI (4 * f + c 4 f) := by rw [ov_m4, nI_add]
        rw [nI_clamp (show f < 2 ^ 31 by omega), hls, hx]
        refine pk_eq (c 4 f) 4 (fun e => ?_) (fun e => ?_)
        · refine ov_yop hf (br_t rfl (br_f p1 (br_t p2 (ov_ycost hg (br_t rfl (And.intro (pk_in f 3 (by omega)) ?_))))))
          rw [hzl]
          exact pk_lt (c 4 f) 4 (fun h => absurd h (by omega)) (fun _ => ⟨rfl, ov_mk W HX HY HO⟩)
        · rw [nI_clamp (show 4 * f + c 4 f < 2 ^ 31 by omega)]
          refine ⟨pk_in f 3 (by omega), pk_in (4 * f + c 4 f) 12 (by omega), nm_e ⟨pk_in f 3 (by omega), pk_in (4 * f + c 4 f) 12 (by omega), nm_e ⟨pk_in f 3 (by omega), pk_in f 3 (by omega), nm_e ⟨pk_in f 3 (by omega), ?_⟩⟩⟩⟩
          refine ov_yop hf (br_t rfl (br_f p1 (br_t p2 (ov_ycost hg (br_t rfl (And.intro (pk_in f 3 (by omega)) ?_))))))
          rw [hzl]
          refine pk_lt (c 4 f) 4 (fun _ => And.intro (pk_in f 3 (by omega)) (nm_r (e' := nI (4 * f + c 4 f)) hx ?_)) (fun h => absurd h (by omega))
          rw [nI_clamp (show 4 * f + c 4 f < 2 ^ 31 by omega), ov_d9 (show t < 2 ^ 31 by omega), ov_r3 (show t < 2 ^ 31 by omega), ov_d3 (show t < 2 ^ 31 by omega), ov_r3 (show t / 3 < 2 ^ 31 by omega), nI_1]
          refine ⟨ov_n90, pk_in (4 * f + c 4 f) 12 (by omega), nm_e ⟨ov_n30, ov_n30, pk_in (4 * f + c 4 f) 12 (by omega), nm_e ⟨ov_n30, pk_in (4 * f + c 4 f) 12 (by omega), nm_e ⟨pk_in (4 * f + c 4 f) 12 (by omega), nm_e ⟨pk_in f 3 (by omega), pk_in f 3 (by omega), nm_e ⟨pk_in f 3 (by omega), ?_, ?_⟩⟩⟩⟩⟩⟩
          · rw [pk_us, pk_us]
          · exact ov_mk (c := ov_pt (ov_pt (ov_pt c 5 (ov_set (c 5) (4 * f + c 4 f) t)) 6 (ov_set (c 6) (4 * f + c 4 f) g)) 4 (ov_set (c 4) f (c 4 f + 1))) (ov_W_4 (ov_W_6 (ov_W_5 W (ov_setb (ov_W5 W) ht)) (ov_setb (ov_W6 W) hg)) (ov_setb (ov_W4 W) (by omega))) ⟨HX.1, ov_updn HX.2.1 _ _, ov_updn HX.2.2.1 _ _, ov_updn HX.2.2.2.1 _ _, HX.2.2.2.2⟩ ⟨HY.1, ov_updn HY.2.1 _ _, ov_updf (fun x => x / 9) HY.2.2.1 _ _, ov_updf (fun x => x / 3 % 3) HY.2.2.2.1 _ _, ov_updf (fun x => x % 3) HY.2.2.2.2.1 _ _, ov_updn HY.2.2.2.2.2.1 _ _, HY.2.2.2.2.2.2⟩ HO
section
variable {c : Nat → Nat → Nat} {N : Nat} {fn fa fu : Int32} {cv sg sc ls vs lc so fi lo ri ow ip vt tb tt ll rl nd ta ch : Nat → Int32} {gn gt gf gl gb gc gs : Int32} {zcv zls zle zrg zre zsc zvs zlc zso zfi zq zr ztk zpt zpi zpv zty : Nat → Int32}
theorem ov_xnew {post : Int32 → SX → Prop} {a b : Int32} (hN : N < 12) (K : post (nI N) (nI (N + 1), fa, fu, cv, sg, sc, ls, vs, lc, upd so N a, upd fi N b, lo, ri, ow, ip, vt, tb, tt, ll, rl, nd, ta, ch)) : wpX_newNode post (nI N, fa, fu, cv, sg, sc, ls, vs, lc, so, fi, lo, ri, ow, ip, vt, tb, tt, ll, rl, nd, ta, ch) a b := by
  unfold wpX_newNode
  dsimp only
  rw [nI_clamp (show N < 2 ^ 31 by omega)]
  refine ⟨pk_in N 12 hN, nm_e ⟨pk_in N 12 hN, nm_e (nm_r (nI_1 N) ?_)⟩⟩
  rw [nI_pred]
  exact K
theorem ov_ynew {post : Int32 → SY → Prop} {a b p q : Int32} (hN : N < 12) (K : post (nI N) (nI (N + 1), gt, gf, gl, gb, gc, gs, zcv, zls, zle, zrg, zre, zsc, zvs, zlc, upd zso N a, upd zfi N b, upd zq N p, upd zr N q, upd ztk N 0, zpt, zpi, zpv, zty)) : wpY_node post (nI N, gt, gf, gl, gb, gc, gs, zcv, zls, zle, zrg, zre, zsc, zvs, zlc, zso, zfi, zq, zr, ztk, zpt, zpi, zpv, zty) a b p q := by
  unfold wpY_node
  dsimp only
  rw [nI_clamp (show N < 2 ^ 31 by omega)]
  exact pk_lt N 12 (fun _ => ⟨pk_in N 12 hN, nm_e ⟨pk_in N 12 hN, nm_e ⟨pk_in N 12 hN, nm_e ⟨pk_in N 12 hN, nm_e ⟨pk_in N 12 hN, nm_e (nm_r (nI_1 N) K)⟩⟩⟩⟩⟩) (fun h => absurd h (by omega))
theorem ov_ynewN {post : Int32 → SY → Prop} {a b p q : Int32} (hN : N = 12) (K : post (-2) (nI N, gt, gf, gl, gb, gc, gs, zcv, zls, zle, zrg, zre, zsc, zvs, zlc, zso, zfi, zq, zr, ztk, zpt, zpi, zpv, zty)) : wpY_node post (nI N, gt, gf, gl, gb, gc, gs, zcv, zls, zle, zrg, zre, zsc, zvs, zlc, zso, zfi, zq, zr, ztk, zpt, zpi, zpv, zty) a b p q :=
  pk_lt N 12 (fun h => absurd h (by omega)) (fun _ => K)
theorem ov_leaf {k kd fg : Nat} (W : ov_W c N) (HX : ov_XC c cv sg sc ls vs lc so fi lo ri) (HY : ov_YC c N zcv zls zle zrg zre zsc zvs zlc zso zfi zq zr) (HO : ov_OW c N ow ztk) (hN : N < 12) (hkd : kd ≤ 2) (h0 : kd = 0 → fg ≤ 7) (h1 : kd = 1 → fg < 2) (h2 : kd = 2 → fg < 3) : i_Rel k (nI (N + 1), nI (ov_na c N), fu, cv, sg, sc, ls, vs, lc, upd so N (nI kd), upd fi N (nI fg), lo, ri, ow, ip, vt, tb, tt, ll, rl, nd, ta, ch) (nI (N + 1), gt, gf, gl, gb, gc, gs, zcv, zls, zle, zrg, zre, zsc, zvs, zlc, upd zso N (nI kd), upd zfi N (nI fg), upd zq N 0, upd zr N 0, upd ztk N 0, zpt, zpi, zpv, zty) := by
  have e0 : ∀ k, ov_pt (ov_pt c 0 (ov_set (c 0) N kd)) 1 (ov_set (c 1) N fg) 0 k = ov_set (c 0) N kd k := fun k => rfl
  have e1 : ∀ k, ov_pt (ov_pt c 0 (ov_set (c 0) N kd)) 1 (ov_set (c 1) N fg) 1 k = ov_set (c 1) N fg k := fun k => rfl
  have e2 : ∀ k, ov_pt (ov_pt c 0 (ov_set (c 0) N kd)) 1 (ov_set (c 1) N fg) 2 k = c 2 k := fun k => rfl
  have e3 : ∀ k, ov_pt (ov_pt c 0 (ov_set (c 0) N kd)) 1 (ov_set (c 1) N fg) 3 k = c 3 k := fun k => rfl
  have n0 : ov_pt (ov_pt c 0 (ov_set (c 0) N kd)) 1 (ov_set (c 1) N fg) 0 N = kd := by rw [e0, ov_set_s]
  have n1 : ov_pt (ov_pt c 0 (ov_set (c 0) N kd)) 1 (ov_set (c 1) N fg) 1 N = fg := by rw [e1, ov_set_s]
  have hold : ∀ k, k < N → ov_pt (ov_pt c 0 (ov_set (c 0) N kd)) 1 (ov_set (c 1) N fg) 0 k = c 0 k := fun k hk => by rw [e0, ov_set_n (by omega)]
  have hna : ov_na (ov_pt (ov_pt c 0 (ov_set (c 0) N kd)) 1 (ov_set (c 1) N fg)) (N + 1) = ov_na c N := by
    rw [ov_na_s hold, n0, if_neg (by omega)]; rfl
  rw [← hna]
  have ne3 : ∀ k, k < N + 1 → ov_pt (ov_pt c 0 (ov_set (c 0) N kd)) 1 (ov_set (c 1) N fg) 0 k = 3 → k < N ∧ c 0 k = 3 := by
    intro k hk e
    by_cases ek : k = N
    · rw [ek, n0] at e; omega
    · have : k < N := by omega
      rw [hold k this] at e
      exact ⟨this, e⟩
  refine ov_mk (c := ov_pt (ov_pt c 0 (ov_set (c 0) N kd)) 1 (ov_set (c 1) N fg)) ?_ ?_ ?_ ?_
  · refine ov_Wext W hN (fun k hk => ⟨hold k hk, by rw [e1, ov_set_n (by omega)], rfl, rfl⟩) rfl rfl rfl rfl rfl rfl (by omega) (fun e => ?_) (fun e => ?_) (fun e => ?_) (fun e => ?_) (fun e => ?_) ?_
    · omega
    · rw [n1]; exact h0 (by omega)
    · rw [n1]; exact h1 (by omega)
    · rw [n1]; exact h2 (by omega)
    · omega
    · rw [n0, if_neg (by omega)]; exact ov_Wc W
  · exact ⟨HX.1, HX.2.1, HX.2.2.1, HX.2.2.2.1, HX.2.2.2.2.1, HX.2.2.2.2.2.1, ov_updn HX.2.2.2.2.2.2.1 _ _, ov_updn HX.2.2.2.2.2.2.2.1 _ _, HX.2.2.2.2.2.2.2.2⟩
  · refine ⟨HY.1, HY.2.1, HY.2.2.1, HY.2.2.2.1, HY.2.2.2.2.1, HY.2.2.2.2.2.1, HY.2.2.2.2.2.2.1, HY.2.2.2.2.2.2.2.1, ov_updn HY.2.2.2.2.2.2.2.2.1 _ _, ov_updn HY.2.2.2.2.2.2.2.2.2.1 _ _, fun k hk e => ?_, fun k hk e => ?_⟩
    · obtain ⟨a1, a2⟩ := ne3 k hk e
      rw [pk_un (by omega), e2]; exact ov_yq HY a1 a2
    · obtain ⟨a1, a2⟩ := ne3 k hk e
      rw [pk_un (by omega), e3]; exact ov_yr HY a1 a2
  · refine ⟨fun j hj => ?_, fun j hj hj2 => HO.2.1 j (by omega) hj2, fun j hj e => ?_⟩
    · by_cases ej : j = N
      · rw [ej, pk_us]; exact HO.2.1 N (Nat.le_refl _) hN
      · rw [pk_un ej]; exact HO.1 j (by omega)
    · obtain ⟨a1, a2⟩ := ne3 j hj e
      rw [e2, e3]; exact HO.2.2 j a1 a2
end
theorem i_vc_literal {k : Nat} {u : SX} {v : SY} (I : i_Rel k u v) (hk : k + 4 ≤ 2048) (v1 : Int32) : wpX_literal (fun r u' => wpY_literal (fun r' v' => r' = r ∧ i_Rel (k + 4) u' v') v v1) u v1 := by
  refine ov_el (P := fun u v => wpX_literal (fun r u' => wpY_literal (fun r' v' => r' = r ∧ i_Rel (k + 4) u' v') v v1) u v1) I ?_
  intro c N fu gt gf gl gb gc gs cv sg sc ls vs lc so fi lo ri ow ip vt tb tt ll rl nd ta ch zcv zls zle zrg zre zsc zvs zlc zso zfi zq zr ztk zpt zpi zpv zty W HX HY HO
  have hn := ov_Wn W
  unfold wpX_literal wpY_literal
  dsimp only
  rcases ov_c7 v1 with b | ⟨s, h1, h7, rfl⟩
  · rcases b with b | ⟨b, b2⟩
    · exact br_t b (br_t b ⟨rfl, ov_mk W HX HY HO⟩)
    · exact br_f b (br_f b2 (br_f b (br_f b2 ⟨rfl, ov_mk W HX HY HO⟩)))
  · have b := ov_1lt h1 h7
    have b2 : nI s ≤ 7 := nI_le (b := 7) h7 (by decide)
    refine br_f b (br_t b2 (pk_eq N 12 (fun e => ?_) (fun e => ?_)))
    · exact br_f b (br_t b2 (ov_ynewN e ⟨rfl, ov_mk W HX HY HO⟩))
    · refine ov_xnew (by omega) ?_
      refine br_f b (br_t b2 (ov_ynew (by omega) ⟨rfl, ?_⟩))
      exact ov_leaf (kd := 0) W HX HY HO (by omega) (by omega) (fun _ => h7) (fun h => absurd h (by decide)) (fun h => absurd h (by decide))
theorem i_vc_use {k : Nat} {u : SX} {v : SY} (I : i_Rel k u v) (hk : k + 4 ≤ 2048) (v1 : Int32) : wpX_use (fun r u' => wpY_use (fun r' v' => r' = r ∧ i_Rel (k + 4) u' v') v v1) u v1 := by
  refine ov_el (P := fun u v => wpX_use (fun r u' => wpY_use (fun r' v' => r' = r ∧ i_Rel (k + 4) u' v') v v1) u v1) I ?_
  intro c N fu gt gf gl gb gc gs cv sg sc ls vs lc so fi lo ri ow ip vt tb tt ll rl nd ta ch zcv zls zle zrg zre zsc zvs zlc zso zfi zq zr ztk zpt zpi zpv zty W HX HY HO
  have hn := ov_Wn W
  unfold wpX_use wpY_use
  dsimp only
  rcases ov_cx2 v1 with ⟨b0, b1, b⟩ | ⟨t, ht, rfl⟩
  · refine br_f b0 (br_f b1 ?_)
    rcases b with b | ⟨b, b2⟩
    · exact br_t b ⟨rfl, ov_mk W HX HY HO⟩
    · exact br_f b (br_f b2 ⟨rfl, ov_mk W HX HY HO⟩)
  · refine ov_x01 ht ?_
    unfold wX_use_11
    dsimp only
    have t1 : nI t ≤ 1 := nI_le (b := 1) ht (by decide)
    have t0 : ¬ nI t < 0 := nI_pos (by omega)
    refine pk_eq N 12 (fun e => ?_) (fun e => ?_)
    · exact br_f t0 (br_t t1 (ov_ynewN e ⟨rfl, ov_mk W HX HY HO⟩))
    · refine ov_xnew (by omega) ?_
      refine br_f t0 (br_t t1 (ov_ynew (by omega) ⟨rfl, ?_⟩))
      exact ov_leaf (kd := 1) W HX HY HO (by omega) (by omega) (fun h => absurd h (by decide)) (fun _ => by omega) (fun h => absurd h (by decide))
theorem i_vc_constant {k : Nat} {u : SX} {v : SY} (I : i_Rel k u v) (hk : k + 4 ≤ 2048) (v1 : Int32) : wpX_constant (fun r u' => wpY_constant (fun r' v' => r' = r ∧ i_Rel (k + 4) u' v') v v1) u v1 := by
  refine ov_el (P := fun u v => wpX_constant (fun r u' => wpY_constant (fun r' v' => r' = r ∧ i_Rel (k + 4) u' v') v v1) u v1) I ?_
  intro c N fu gt gf gl gb gc gs cv sg sc ls vs lc so fi lo ri ow ip vt tb tt ll rl nd ta ch zcv zls zle zrg zre zsc zvs zlc zso zfi zq zr ztk zpt zpi zpv zty W HX HY HO
  have hn := ov_Wn W
  unfold wpX_constant wpY_constant
  dsimp only
  rcases ov_c3 v1 (M := 2) (n := 2) (by decide) with b | ⟨f, hf, rfl⟩
  · exact ov_xtypN b (br_t rfl (ov_ytypN b (br_f (by decide) ⟨rfl, ov_mk W HX HY HO⟩)))
  · refine ov_xtyp hf (br_f (by decide) ?_)
    refine pk_eq N 12 (fun e => ?_) (fun e => ?_)
    · exact ov_ytyp hf (br_t rfl (ov_ynewN e ⟨rfl, ov_mk W HX HY HO⟩))
    · refine ov_xnew (by omega) ?_
      refine ov_ytyp hf (br_t rfl (ov_ynew (by omega) ⟨rfl, ?_⟩))
      exact ov_leaf (kd := 2) W HX HY HO (by omega) (by omega) (fun h => absurd h (by decide)) (fun h => absurd h (by decide)) (fun _ => by omega)
theorem i_vc_nodes {k : Nat} {u : SX} {v : SY} (I : i_Rel k u v) (hk : k + 4 ≤ 2048) : wpX_nodes (fun r => wpY_nodes (fun r' => r' = r ∧ i_Rel (k + 4) u v) v) u := by
  refine ov_el (P := fun u v => wpX_nodes (fun r => wpY_nodes (fun r' => r' = r ∧ i_Rel (k + 4) u v) v) u) I ?_
  intro c N fu gt gf gl gb gc gs cv sg sc ls vs lc so fi lo ri ow ip vt tb tt ll rl nd ta ch zcv zls zle zrg zre zsc zvs zlc zso zfi zq zr ztk zpt zpi zpv zty W HX HY HO
  exact ⟨rfl, ov_mk W HX HY HO⟩
end
section
/-! apply, clear -/
section
variable {c : Nat → Nat → Nat} {N : Nat} {fn fa fu : Int32} {cv sg sc ls vs lc so fi lo ri ow ip vt tb tt ll rl nd ta ch : Nat → Int32} {gn gt gf gl gb gc gs : Int32} {zcv zls zle zrg zre zsc zvs zlc zso zfi zq zr ztk zpt zpi zpv zty : Nat → Int32}
theorem ov_yapps {post : Int32 → Prop} (W : ov_W c N) (HY : ov_YC c N zcv zls zle zrg zre zsc zvs zlc zso zfi zq zr) (K : post (nI (ov_na c N))) : wpY_applications post (nI N, gt, gf, gl, gb, gc, gs, zcv, zls, zle, zrg, zre, zsc, zvs, zlc, zso, zfi, zq, zr, ztk, zpt, zpi, zpv, zty) := by
  have hn := ov_Wn W
  have key : ∀ (d i : Nat), i + d = N → wY_applications_4 post (nI N) gt gf gl gb gc gs zcv zls zle zrg zre zsc zvs zlc zso zfi zq zr ztk zpt zpi zpv zty (d + 1) (nI (ov_na c i)) (nI i) := by
    intro d
    induction d with
    | zero =>
      intro i h
      rw [show i = N by omega]
      exact pk_le N N (fun _ => K) (fun h => absurd h (by omega))
    | succ d ih =>
      intro i h
      have h3 := ov_Wk W (k := i) (by omega)
      have ih2 := ih (i + 1) (by omega)
      refine pk_le N i (fun h => absurd h (by omega)) (fun _ => pk_le 12 i (fun h => absurd h (by omega)) (fun _ => And.intro (pk_in i 12 (by omega)) ?_))
      rw [nI_clamp (show i < 2 ^ 31 by omega), ov_yso HY i]
      unfold ov_na at ih2 ⊢
      rw [ov_s1] at ih2
      refine pk_eq (c 0 i) 3 (fun e => nm_r (nI_1 _) (nm_r (nI_1 i) ?_)) (fun e => nm_r (nI_1 i) ?_)
      · rw [if_pos e] at ih2; exact ih2
      · rw [if_neg e, Nat.add_zero] at ih2; exact ih2
  exact ⟨_, key N 0 (by omega)⟩
theorem ov_app {k l r op : Nat} (W : ov_W c N) (HX : ov_XC c cv sg sc ls vs lc so fi lo ri) (HY : ov_YC c N zcv zls zle zrg zre zsc zvs zlc zso zfi zq zr) (HO : ov_OW c N ow ztk) (hN : N < 12) (hop : op < 3) (hl : l < N) (hr : r < N) (hlr : l ≠ r) (hol : ow l = 0) (hor : ow r = 0) (hna : ov_na c N ≤ 2) : i_Rel k (nI (N + 1), nI (ov_na c N + 1), fu, cv, sg, sc, ls, vs, lc, upd so N (nI 3), upd fi N (nI op), upd lo N (nI l), upd ri N (nI r), upd (upd ow l 1) r 1, ip, vt, tb, tt, ll, rl, nd, ta, ch) (nI (N + 1), gt, gf, gl, gb, gc, gs, zcv, zls, zle, zrg, zre, zsc, zvs, zlc, upd zso N (nI 3), upd zfi N (nI op), upd zq N (nI l), upd zr N (nI r), upd (upd (upd ztk l 1) r 1) N 0, zpt, zpi, zpv, zty) := by
  have e0 : ∀ k, ov_pt (ov_pt (ov_pt (ov_pt c 0 (ov_set (c 0) N 3)) 1 (ov_set (c 1) N op)) 2 (ov_set (c 2) N l)) 3 (ov_set (c 3) N r) 0 k = ov_set (c 0) N 3 k := fun k => rfl
  have e1 : ∀ k, ov_pt (ov_pt (ov_pt (ov_pt c 0 (ov_set (c 0) N 3)) 1 (ov_set (c 1) N op)) 2 (ov_set (c 2) N l)) 3 (ov_set (c 3) N r) 1 k = ov_set (c 1) N op k := fun k => rfl
  have e2 : ∀ k, ov_pt (ov_pt (ov_pt (ov_pt c 0 (ov_set (c 0) N 3)) 1 (ov_set (c 1) N op)) 2 (ov_set (c 2) N l)) 3 (ov_set (c 3) N r) 2 k = ov_set (c 2) N l k := fun k => rfl
  have e3 : ∀ k, ov_pt (ov_pt (ov_pt (ov_pt c 0 (ov_set (c 0) N 3)) 1 (ov_set (c 1) N op)) 2 (ov_set (c 2) N l)) 3 (ov_set (c 3) N r) 3 k = ov_set (c 3) N r k := fun k => rfl
  have x4 : ov_pt (ov_pt (ov_pt (ov_pt c 0 (ov_set (c 0) N 3)) 1 (ov_set (c 1) N op)) 2 (ov_set (c 2) N l)) 3 (ov_set (c 3) N r) 4 = c 4 := rfl
  have x5 : ov_pt (ov_pt (ov_pt (ov_pt c 0 (ov_set (c 0) N 3)) 1 (ov_set (c 1) N op)) 2 (ov_set (c 2) N l)) 3 (ov_set (c 3) N r) 5 = c 5 := rfl
  have x6 : ov_pt (ov_pt (ov_pt (ov_pt c 0 (ov_set (c 0) N 3)) 1 (ov_set (c 1) N op)) 2 (ov_set (c 2) N l)) 3 (ov_set (c 3) N r) 6 = c 6 := rfl
  have x7 : ov_pt (ov_pt (ov_pt (ov_pt c 0 (ov_set (c 0) N 3)) 1 (ov_set (c 1) N op)) 2 (ov_set (c 2) N l)) 3 (ov_set (c 3) N r) 7 = c 7 := rfl
  have x8 : ov_pt (ov_pt (ov_pt (ov_pt c 0 (ov_set (c 0) N 3)) 1 (ov_set (c 1) N op)) 2 (ov_set (c 2) N l)) 3 (ov_set (c 3) N r) 8 = c 8 := rfl
  have x9 : ov_pt (ov_pt (ov_pt (ov_pt c 0 (ov_set (c 0) N 3)) 1 (ov_set (c 1) N op)) 2 (ov_set (c 2) N l)) 3 (ov_set (c 3) N r) 9 = c 9 := rfl
  have XX : ∀ c', c' = ov_pt (ov_pt (ov_pt (ov_pt c 0 (ov_set (c 0) N 3)) 1 (ov_set (c 1) N op)) 2 (ov_set (c 2) N l)) 3 (ov_set (c 3) N r) → ov_XC c' cv sg sc ls vs lc (upd so N (nI 3)) (upd fi N (nI op)) (upd lo N (nI l)) (upd ri N (nI r)) := by
    intro c' h
    subst h
    exact ⟨HX.1, HX.2.1, HX.2.2.1, HX.2.2.2.1, HX.2.2.2.2.1, HX.2.2.2.2.2.1, ov_updn HX.2.2.2.2.2.2.1 _ _, ov_updn HX.2.2.2.2.2.2.2.1 _ _, ov_updn HX.2.2.2.2.2.2.2.2.1 _ _, ov_updn HX.2.2.2.2.2.2.2.2.2 _ _⟩
  generalize hc : ov_pt (ov_pt (ov_pt (ov_pt c 0 (ov_set (c 0) N 3)) 1 (ov_set (c 1) N op)) 2 (ov_set (c 2) N l)) 3 (ov_set (c 3) N r) = c' at *
  have XX' := XX c' rfl
  have n0 : c' 0 N = 3 := by rw [e0, ov_set_s]
  have n1 : c' 1 N = op := by rw [e1, ov_set_s]
  have n2 : c' 2 N = l := by rw [e2, ov_set_s]
  have n3 : c' 3 N = r := by rw [e3, ov_set_s]
  have o0 : ∀ k, k < N → c' 0 k = c 0 k := fun k hk => by rw [e0, ov_set_n (by omega)]
  have o1 : ∀ k, k < N → c' 1 k = c 1 k := fun k hk => by rw [e1, ov_set_n (by omega)]
  have o2 : ∀ k, k < N → c' 2 k = c 2 k := fun k hk => by rw [e2, ov_set_n (by omega)]
  have o3 : ∀ k, k < N → c' 3 k = c 3 k := fun k hk => by rw [e3, ov_set_n (by omega)]
  have hna' : ov_na c' (N + 1) = ov_na c N + 1 := by rw [ov_na_s o0, if_pos n0]
  rw [← hna']
  have own : ∀ j, ow j = 1 → ow j ≠ 0 := fun j h z => by rw [h] at z; exact absurd z (by decide)
  refine ov_mk (c := c') ?_ XX' ?_ ?_
  · refine ov_Wext W hN (fun k hk => ⟨o0 k hk, o1 k hk, o2 k hk, o3 k hk⟩) x4 x5 x6 x7 x8 x9 (by omega) (fun _ => by rw [n1, n2, n3]; exact ⟨hop, hl, hr, hlr⟩) (fun e => by omega) (fun e => by omega) (fun e => by omega) (fun _ i hi e j f f' => ?_) (by rw [if_pos n0]; omega)
    have ho := HO.2.2 i hi e
    rw [n2, n3] at f'
    rcases f with f | f <;> rcases f' with f' | f'
    · exact own _ ho.1 (by rw [f, ← f']; exact hol)
    · exact own _ ho.1 (by rw [f, ← f']; exact hor)
    · exact own _ ho.2 (by rw [f, ← f']; exact hol)
    · exact own _ ho.2 (by rw [f, ← f']; exact hor)
  · refine ⟨by rw [x7]; exact HY.1, by rw [x4]; exact HY.2.1, by rw [x5]; exact HY.2.2.1, by rw [x5]; exact HY.2.2.2.1, by rw [x5]; exact HY.2.2.2.2.1, by rw [x6]; exact HY.2.2.2.2.2.1, by rw [x9]; exact HY.2.2.2.2.2.2.1, by rw [x8]; exact HY.2.2.2.2.2.2.2.1, fun i => by rw [e0]; exact ov_updn HY.2.2.2.2.2.2.2.2.1 _ _ i, fun i => by rw [e1]; exact ov_updn HY.2.2.2.2.2.2.2.2.2.1 _ _ i, fun k hk e => ?_, fun k hk e => ?_⟩
    · by_cases ek : k = N
      · rw [ek, pk_us, n2]
      · rw [o0 k (by omega)] at e
        rw [pk_un ek, o2 k (by omega)]; exact ov_yq HY (by omega) e
    · by_cases ek : k = N
      · rw [ek, pk_us, n3]
      · rw [o0 k (by omega)] at e
        rw [pk_un ek, o3 k (by omega)]; exact ov_yr HY (by omega) e
  · refine ⟨fun j hj => ?_, fun j hj hj2 => ?_, fun j hj e => ?_⟩
    · by_cases ej : j = N
      · rw [ej, pk_us, pk_un (by omega), pk_un (by omega)]; exact HO.2.1 N (Nat.le_refl _) hN
      · rw [pk_un ej]
        by_cases er : j = r
        · rw [er, pk_us, pk_us]
        · rw [pk_un er, pk_un er]
          by_cases el : j = l
          · rw [el, pk_us, pk_us]
          · rw [pk_un el, pk_un el]; exact HO.1 j (by omega)
    · rw [pk_un (by omega), pk_un (by omega)]; exact HO.2.1 j (by omega) hj2
    · have one : ∀ j, ow j = 1 → upd (upd ow l 1) r 1 j = 1 := by
        intro j h
        by_cases er : j = r
        · rw [er, pk_us]
        · rw [pk_un er]
          by_cases el : j = l
          · rw [el, pk_us]
          · rw [pk_un el]; exact h
      by_cases ej : j = N
      · rw [ej, n2, n3]
        exact ⟨by rw [pk_un hlr, pk_us], by rw [pk_us]⟩
      · have hjN : j < N := by omega
        rw [o0 j hjN] at e
        rw [o2 j hjN, o3 j hjN]
        exact ⟨one _ (HO.2.2 j hjN e).1, one _ (HO.2.2 j hjN e).2⟩
end
theorem ov_nd (N : Nat) (hN : N ≤ 12) (x : Int32) : (x < 0 ∨ (¬ x < 0 ∧ nI N ≤ x)) ∨ ∃ j, j < N ∧ x = nI j := by
  rcases pk_ix x (n := N) (by omega) with h | h | h
  · exact Or.inl (Or.inl h)
  · by_cases h0 : x < 0
    · exact Or.inl (Or.inl h0)
    · exact Or.inl (Or.inr ⟨h0, h⟩)
  · exact Or.inr h
theorem i_vc_apply {k : Nat} {u : SX} {v : SY} (I : i_Rel k u v) (hk : k + 4 ≤ 2048) (v1 : Int32) (v2 : Int32) (v3 : Int32) : wpX_apply (fun r u' => wpY_apply (fun r' v' => r' = r ∧ i_Rel (k + 4) u' v') v v1 v2 v3) u v1 v2 v3 := by
  refine ov_el (P := fun u v => wpX_apply (fun r u' => wpY_apply (fun r' v' => r' = r ∧ i_Rel (k + 4) u' v') v v1 v2 v3) u v1 v2 v3) I ?_
  intro c N fu gt gf gl gb gc gs cv sg sc ls vs lc so fi lo ri ow ip vt tb tt ll rl nd ta ch zcv zls zle zrg zre zsc zvs zlc zso zfi zq zr ztk zpt zpi zpv zty W HX HY HO
  have hn := ov_Wn W
  unfold wpX_apply wpY_apply
  dsimp only
  rcases ov_c3 v1 (M := 2) (n := 2) (by decide) with b | ⟨f, hf, rfl⟩
  · exact ov_xtypN b (br_t rfl (ov_yopN b (br_f (by decide) ⟨rfl, ov_mk W HX HY HO⟩)))
  · refine ov_xtyp hf (br_f (by decide) ?_)
    rcases ov_nd N hn v2 with b | ⟨l, hl, rfl⟩
    · exact ov_xnodeN b (br_t rfl (ov_yop hf (br_t rfl (ov_ynodeN b (br_f (by decide) ⟨rfl, ov_mk W HX HY HO⟩)))))
    · refine ov_xnode hn hl (br_f (by decide) ?_)
      rcases ov_nd N hn v3 with b | ⟨r, hr, rfl⟩
      · exact ov_xnodeN b (br_t rfl (ov_yop hf (br_t rfl (ov_ynode hn hl (br_t rfl (ov_ynodeN b (br_f (by decide) ⟨rfl, ov_mk W HX HY HO⟩)))))))
      · refine ov_xnode hn hr (br_f (by decide) ?_)
        refine pk_eq l r (fun e => ?_) (fun e => ?_)
        · exact ov_yop hf (br_t rfl (ov_ynode hn hl (br_t rfl (ov_ynode hn hr (br_t rfl (br_t (by rw [e]) ⟨rfl, ov_mk W HX HY HO⟩))))))
        · have ne : ¬ nI l = nI r := fun z => e ((nI_eq (by omega) (by omega)).mp z)
          have ol := HO.1 l hl
          have or := HO.1 r hr
          rw [nI_clamp (show l < 2 ^ 31 by omega), nI_clamp (show r < 2 ^ 31 by omega)]
          refine And.intro (pk_in l 12 (by omega)) ?_
          by_cases h1 : ow l = 0
          · refine br_t h1 (And.intro (pk_in r 12 (by omega)) ?_)
            by_cases h2 : ow r = 0
            · refine br_t h2 ?_
              have h3 : ztk l = 0 := by rw [← ol]; exact h1
              have h4 : ztk r = 0 := by rw [← or]; exact h2
              refine pk_eq N 12 (fun e12 => ?_) (fun e12 => ?_)
              · exact ov_yop hf (br_t rfl (ov_ynode hn hl (br_t rfl (ov_ynode hn hr (br_t rfl (br_f ne (And.intro (pk_in l 12 (by omega)) (br_t h3 (And.intro (pk_in r 12 (by omega)) (br_t h4 (br_t (by rw [e12]; rfl) ⟨rfl, ov_mk W HX HY HO⟩)))))))))))
              · have n12 : ¬ nI N = 12 := fun z => e12 ((nI_eq (b := 12) (by omega) (by omega)).mp z)
                have hc := ov_Wc W
                have hc' : ov_na c N ≤ 3 := hc
                refine pk_eq (ov_na c N) 3 (fun e3 => ?_) (fun e3 => ?_)
                · refine ov_yop hf (br_t rfl (ov_ynode hn hl (br_t rfl (ov_ynode hn hr (br_t rfl (br_f ne (And.intro (pk_in l 12 (by omega)) (br_t h3 (And.intro (pk_in r 12 (by omega)) (br_t h4 (br_f n12 ?_)))))))))))
                  exact ov_yapps W HY (br_t (by rw [e3]; rfl) ⟨rfl, ov_mk W HX HY HO⟩)
                · have na3 : ¬ nI (ov_na c N) = 3 := fun z => e3 ((nI_eq (b := 3) (by omega) (by omega)).mp z)
                  rw [nI_clamp (show N < 2 ^ 31 by omega), ov_nb1]
                  refine ⟨pk_in l 12 (by omega), nm_e ⟨pk_in r 12 (by omega), nm_e ⟨pk_in N 12 (by omega), nm_e ⟨pk_in N 12 (by omega), nm_e (nm_r (nI_1 _) ?_)⟩⟩⟩⟩
                  refine ov_xnew (by omega) ?_
                  refine ov_yop hf (br_t rfl (ov_ynode hn hl (br_t rfl (ov_ynode hn hr (br_t rfl (br_f ne (And.intro (pk_in l 12 (by omega)) (br_t h3 (And.intro (pk_in r 12 (by omega)) (br_t h4 (br_f n12 ?_)))))))))))
                  refine ov_yapps W HY (br_f na3 ⟨pk_in l 12 (by omega), nm_e ⟨pk_in r 12 (by omega), nm_e ?_⟩⟩)
                  refine ov_ynew (by omega) ⟨rfl, ?_⟩
                  exact ov_app W HX HY HO (by omega) (by omega) hl hr e h1 h2 (by omega)
            · have h3 : ztk l = 0 := by rw [← ol]; exact h1
              have h4 : ¬ ztk r = 0 := by rw [← or]; exact h2
              exact br_f h2 (ov_yop hf (br_t rfl (ov_ynode hn hl (br_t rfl (ov_ynode hn hr (br_t rfl (br_f ne (And.intro (pk_in l 12 (by omega)) (br_t h3 (And.intro (pk_in r 12 (by omega)) (br_f h4 ⟨rfl, ov_mk W HX HY HO⟩)))))))))))
          · have h3 : ¬ ztk l = 0 := by rw [← ol]; exact h1
            exact br_f h1 (ov_yop hf (br_t rfl (ov_ynode hn hl (br_t rfl (ov_ynode hn hr (br_t rfl (br_f ne (And.intro (pk_in l 12 (by omega)) (br_f h3 ⟨rfl, ov_mk W HX HY HO⟩)))))))))
section
variable {c : Nat → Nat → Nat} {N : Nat} {fn fa fu : Int32} {cv sg sc ls vs lc so fi lo ri ow ip vt tb tt ll rl nd ta ch : Nat → Int32}
theorem ov_xclear {post : Int32 → SX → Prop} {x : Int32} (K : ∀ ow', (∀ j, j < 12 → ow' j = 0) → post x (0, 0, fu, cv, sg, sc, ls, vs, lc, so, fi, lo, ri, ow', ip, vt, tb, tt, ll, rl, nd, ta, ch)) : ∀ (d i : Nat) (ow : Nat → Int32), i + d = 12 → (∀ j, j < i → ow j = 0) → wX_clear_7 post x fn fa fu (d + 1) (nI i) cv sg sc ls vs lc so fi lo ri ow ip vt tb tt ll rl nd ta ch := by
  intro d
  induction d with
  | zero =>
    intro i ow h hI
    exact pk_le 12 i (fun _ => K ow (fun j hj => hI j (by omega))) (fun h => absurd h (by omega))
  | succ d ih =>
    intro i ow h hI
    refine pk_le 12 i (fun h => absurd h (by omega)) (fun _ => And.intro (pk_in i 12 (by omega)) ?_)
    rw [nI_clamp (show i < 2 ^ 31 by omega), ov_nb0]
    refine nm_e (nm_r (nI_1 i) (ih (i + 1) _ (by omega) (fun j hj => ?_)))
    by_cases e : j = i
    · rw [e, pk_us]
    · rw [pk_un e]; exact hI j (by omega)
end
theorem i_vc_clear {k : Nat} {u : SX} {v : SY} (I : i_Rel k u v) (hk : k + 4 ≤ 2048) : wpX_clear (fun r u' => wpY_clear (fun r' v' => r' = r ∧ i_Rel (k + 4) u' v') v) u := by
  refine ov_el (P := fun u v => wpX_clear (fun r u' => wpY_clear (fun r' v' => r' = r ∧ i_Rel (k + 4) u' v') v) u) I ?_
  intro c N fu gt gf gl gb gc gs cv sg sc ls vs lc so fi lo ri ow ip vt tb tt ll rl nd ta ch zcv zls zle zrg zre zsc zvs zlc zso zfi zq zr ztk zpt zpi zpv zty W HX HY HO
  refine ⟨13, ov_xclear (fun ow' h => ?_) 12 0 ow (by omega) (fun j hj => absurd hj (Nat.not_lt_zero j))⟩
  refine ⟨rfl, ?_⟩
  refine ov_mk (c := c) (N := 0) ?_ HX ?_ ?_
  · exact ⟨by omega, fun k hk => absurd hk (Nat.not_lt_zero k), fun k hk => absurd hk (Nat.not_lt_zero k), fun k hk => absurd hk (Nat.not_lt_zero k), fun k hk => absurd hk (Nat.not_lt_zero k), fun k hk => absurd hk (Nat.not_lt_zero k), fun i _ _ hi => absurd hi (Nat.not_lt_zero i), ov_W4 W, ov_W5 W, ov_W6 W, ov_W7 W, ov_W8 W, ov_W9 W, Nat.zero_le _⟩
  · exact ⟨HY.1, HY.2.1, HY.2.2.1, HY.2.2.2.1, HY.2.2.2.2.1, HY.2.2.2.2.2.1, HY.2.2.2.2.2.2.1, HY.2.2.2.2.2.2.2.1, HY.2.2.2.2.2.2.2.2.1, HY.2.2.2.2.2.2.2.2.2.1, fun k hk => absurd hk (Nat.not_lt_zero k), fun k hk => absurd hk (Nat.not_lt_zero k)⟩
  · exact ⟨fun j hj => absurd hj (Nat.not_lt_zero j), fun j _ hj => h j hj, fun j hj => absurd hj (Nat.not_lt_zero j)⟩
end
section
/-! solutions, leastCost, bestCount, withCost -/
theorem i_vc_solutions {k : Nat} {u : SX} {v : SY} (I : i_Rel k u v) (hk : k + 4 ≤ 2048) (v1 : Int32) (v2 : Int32) : wpX_solutions (fun r u' => wpY_solutions (fun r' v' => r' = r ∧ i_Rel (k + 4) u' v') v v1 v2) u v1 v2 := by
  refine ov_el (P := fun u v => wpX_solutions (fun r u' => wpY_solutions (fun r' v' => r' = r ∧ i_Rel (k + 4) u' v') v v1 v2) u v1 v2) I ?_
  intro c N fu gt gf gl gb gc gs cv sg sc ls vs lc so fi lo ri ow ip vt tb tt ll rl nd ta ch zcv zls zle zrg zre zsc zvs zlc zso zfi zq zr ztk zpt zpi zpv zty W HX HY HO
  have hn := ov_Wn W
  unfold wpX_solutions wpY_solutions
  dsimp only
  rcases ov_args hn v1 v2 with b | ⟨n, h1, rfl, b⟩ | ⟨n, w, h1, hw, rfl, rfl⟩
  · exact ov_xrefA b (br_f (by decide) (ov_ynodeN b (br_f (by decide) ⟨rfl, ov_mk W HX HY HO⟩)))
  · refine ov_xrefB hn h1 b (br_f (by decide) (ov_ynode hn h1 (br_t rfl ?_)))
    rcases b with b | ⟨b, b2⟩
    · exact br_t b ⟨rfl, ov_mk W HX HY HO⟩
    · exact br_f b (br_f b2 ⟨rfl, ov_mk W HX HY HO⟩)
  · refine ov_xrefC hn h1 hw (br_t (by decide) ?_)
    refine ov_xsum W HX h1 hw (fun ip' vt' tb' tt' ll' rl' hip htt => ⟨129, ?_⟩)
    refine ov_sol25 (f := ov_to c n w) htt ?_ 128 0 (by omega)
    refine ov_ynode hn h1 (br_t rfl (br_f (nI_pos (by omega)) (pk_le w 3 (fun _ => ?_) (fun h => absurd h (by omega)))))
    refine ov_ytry W HY h1 hw (fun gl' gb' gc' zpt' zpi' zpv' zty' hpt hT => ⟨?_, ov_mk W HX HY HO⟩)
    rw [ov_c1_len W h1, ← ov_to_sum W h1]
theorem i_vc_leastCost {k : Nat} {u : SX} {v : SY} (I : i_Rel k u v) (hk : k + 4 ≤ 2048) (v1 : Int32) (v2 : Int32) : wpX_leastCost (fun r u' => wpY_leastCost (fun r' v' => r' = r ∧ i_Rel (k + 4) u' v') v v1 v2) u v1 v2 := by
  refine ov_el (P := fun u v => wpX_leastCost (fun r u' => wpY_leastCost (fun r' v' => r' = r ∧ i_Rel (k + 4) u' v') v v1 v2) u v1 v2) I ?_
  intro c N fu gt gf gl gb gc gs cv sg sc ls vs lc so fi lo ri ow ip vt tb tt ll rl nd ta ch zcv zls zle zrg zre zsc zvs zlc zso zfi zq zr ztk zpt zpi zpv zty W HX HY HO
  have hn := ov_Wn W
  unfold wpX_leastCost wpY_leastCost
  dsimp only
  rcases ov_args hn v1 v2 with b | ⟨n, h1, rfl, b⟩ | ⟨n, w, h1, hw, rfl, rfl⟩
  · exact ov_xrefA b (br_f (by decide) (ov_ynodeN b (br_f (by decide) ⟨rfl, ov_mk W HX HY HO⟩)))
  · refine ov_xrefB hn h1 b (br_f (by decide) (ov_ynode hn h1 (br_t rfl ?_)))
    rcases b with b | ⟨b, b2⟩
    · exact br_t b ⟨rfl, ov_mk W HX HY HO⟩
    · exact br_f b (br_f b2 ⟨rfl, ov_mk W HX HY HO⟩)
  · refine ov_xrefC hn h1 hw (br_t (by decide) ?_)
    refine ov_xsum W HX h1 hw (fun ip' vt' tb' tt' ll' rl' hip htt => ?_)
    dsimp only
    refine ov_xleast W h1 htt (fun m g1 g2 g3 => ?_)
    refine pk_le 128 m (fun hm => ?_) (fun hm => ?_)
    · refine ov_ynode hn h1 (br_t rfl (br_f (nI_pos (by omega)) (pk_le w 3 (fun _ => ?_) (fun h => absurd h (by omega)))))
      refine ov_ytry W HY h1 hw (fun gl' gb' gc' zpt' zpi' zpv' zty' hpt hT => ⟨?_, ov_mk W HX HY HO⟩)
      rcases ov_least W h1 hT g1 g2 g3 with ⟨_, e, _⟩ | ⟨e, _⟩
      · exact e
      · omega
    · refine ov_ynode hn h1 (br_t rfl (br_f (nI_pos (by omega)) (pk_le w 3 (fun _ => ?_) (fun h => absurd h (by omega)))))
      refine ov_ytry W HY h1 hw (fun gl' gb' gc' zpt' zpi' zpv' zty' hpt hT => ⟨?_, ov_mk W HX HY HO⟩)
      rcases ov_least W h1 hT g1 g2 g3 with ⟨e, _⟩ | ⟨_, y, _, _, _, e, _⟩
      · omega
      · exact e
theorem i_vc_bestCount {k : Nat} {u : SX} {v : SY} (I : i_Rel k u v) (hk : k + 4 ≤ 2048) (v1 : Int32) (v2 : Int32) : wpX_bestCount (fun r u' => wpY_bestCount (fun r' v' => r' = r ∧ i_Rel (k + 4) u' v') v v1 v2) u v1 v2 := by
  refine ov_el (P := fun u v => wpX_bestCount (fun r u' => wpY_bestCount (fun r' v' => r' = r ∧ i_Rel (k + 4) u' v') v v1 v2) u v1 v2) I ?_
  intro c N fu gt gf gl gb gc gs cv sg sc ls vs lc so fi lo ri ow ip vt tb tt ll rl nd ta ch zcv zls zle zrg zre zsc zvs zlc zso zfi zq zr ztk zpt zpi zpv zty W HX HY HO
  have hn := ov_Wn W
  unfold wpX_bestCount wpY_bestCount
  dsimp only
  rcases ov_args hn v1 v2 with b | ⟨n, h1, rfl, b⟩ | ⟨n, w, h1, hw, rfl, rfl⟩
  · exact ov_xrefA b (br_f (by decide) (ov_ynodeN b (br_f (by decide) ⟨rfl, ov_mk W HX HY HO⟩)))
  · refine ov_xrefB hn h1 b (br_f (by decide) (ov_ynode hn h1 (br_t rfl ?_)))
    rcases b with b | ⟨b, b2⟩
    · exact br_t b ⟨rfl, ov_mk W HX HY HO⟩
    · exact br_f b (br_f b2 ⟨rfl, ov_mk W HX HY HO⟩)
  · refine ov_xrefC hn h1 hw (br_t (by decide) ?_)
    refine ov_xsum W HX h1 hw (fun ip' vt' tb' tt' ll' rl' hip htt => ?_)
    dsimp only
    refine ov_xleast W h1 htt (fun m g1 g2 g3 => ?_)
    refine pk_le 128 m (fun hm => ?_) (fun hm => And.intro (pk_in m 128 (by omega)) ?_)
    · refine ov_ynode hn h1 (br_t rfl (br_f (nI_pos (by omega)) (pk_le w 3 (fun _ => ?_) (fun h => absurd h (by omega)))))
      refine ov_ytry W HY h1 hw (fun gl' gb' gc' zpt' zpi' zpv' zty' hpt hT => ⟨?_, ov_mk W HX HY HO⟩)
      rcases ov_least W h1 hT g1 g2 g3 with ⟨_, _, e⟩ | ⟨e, _⟩
      · exact e
      · omega
    · refine ov_ynode hn h1 (br_t rfl (br_f (nI_pos (by omega)) (pk_le w 3 (fun _ => ?_) (fun h => absurd h (by omega)))))
      refine ov_ytry W HY h1 hw (fun gl' gb' gc' zpt' zpi' zpv' zty' hpt hT => ⟨?_, ov_mk W HX HY HO⟩)
      rcases ov_least W h1 hT g1 g2 g3 with ⟨e, _⟩ | ⟨_, y, _, _, _, _, _, e⟩
      · omega
      · rw [nI_clamp (show m < 2 ^ 31 by omega), htt m hm]; exact e
theorem i_vc_withCost {k : Nat} {u : SX} {v : SY} (I : i_Rel k u v) (hk : k + 4 ≤ 2048) (v1 : Int32) (v2 : Int32) (v3 : Int32) : wpX_withCost (fun r u' => wpY_withCost (fun r' v' => r' = r ∧ i_Rel (k + 4) u' v') v v1 v2 v3) u v1 v2 v3 := by
  refine ov_el (P := fun u v => wpX_withCost (fun r u' => wpY_withCost (fun r' v' => r' = r ∧ i_Rel (k + 4) u' v') v v1 v2 v3) u v1 v2 v3) I ?_
  intro c N fu gt gf gl gb gc gs cv sg sc ls vs lc so fi lo ri ow ip vt tb tt ll rl nd ta ch zcv zls zle zrg zre zsc zvs zlc zso zfi zq zr ztk zpt zpi zpv zty W HX HY HO
  have hn := ov_Wn W
  unfold wpX_withCost wpY_withCost
  dsimp only
  rcases ov_args hn v1 v2 with b | ⟨n, h1, rfl, b⟩ | ⟨n, w, h1, hw, rfl, rfl⟩
  · exact ov_xrefA b (br_f (by decide) (ov_ynodeN b (br_f (by decide) ⟨rfl, ov_mk W HX HY HO⟩)))
  · refine ov_xrefB hn h1 b (br_f (by decide) (ov_ynode hn h1 (br_t rfl ?_)))
    rcases b with b | ⟨b, b2⟩
    · exact br_t b ⟨rfl, ov_mk W HX HY HO⟩
    · exact br_f b (br_f b2 ⟨rfl, ov_mk W HX HY HO⟩)
  · refine ov_xrefC hn h1 hw (br_t (by decide) ?_)
    rcases pk_ix v3 (n := 128) (by omega) with b | b | ⟨a, ha, rfl⟩
    · refine br_t b ?_
      refine ov_ynode hn h1 (br_t rfl (br_f (nI_pos (by omega)) (pk_le w 3 (fun _ => ?_) (fun h => absurd h (by omega)))))
      refine ov_ytry W HY h1 hw (fun gl' gb' gc' zpt' zpi' zpv' zty' hpt hT => ⟨?_, ov_mk W HX HY HO⟩)
      rw [ov_c2_0 W h1 (fun a ha e => by rw [← e] at b; exact nI_pos (by omega) b)]
      rfl
    · have b0 : ¬ v3 < 0 := fun z => by
        rw [Int32.lt_iff_toInt_lt, show (0 : Int32).toInt = 0 by decide] at z
        rw [Int32.le_iff_toInt_le, nI_toInt (by omega)] at b
        omega
      have b1 : ¬ v3 < 128 := Int32.not_lt.mpr b
      refine br_f b0 (br_f b1 ?_)
      refine ov_ynode hn h1 (br_t rfl (br_f (nI_pos (by omega)) (pk_le w 3 (fun _ => ?_) (fun h => absurd h (by omega)))))
      refine ov_ytry W HY h1 hw (fun gl' gb' gc' zpt' zpi' zpv' zty' hpt hT => ⟨?_, ov_mk W HX HY HO⟩)
      rw [ov_c2_0 W h1 (fun a ha e => by rw [← e] at b; exact nI_ge ha (by omega) b)]
      rfl
    · refine br_f (nI_pos (by omega)) (pk_lt a 128 (fun _ => ?_) (fun h => absurd h (by omega)))
      refine ov_xsum W HX h1 hw (fun ip' vt' tb' tt' ll' rl' hip htt => ?_)
      dsimp only
      refine And.intro (pk_in a 128 ha) ?_
      refine ov_ynode hn h1 (br_t rfl (br_f (nI_pos (by omega)) (pk_le w 3 (fun _ => ?_) (fun h => absurd h (by omega)))))
      refine ov_ytry W HY h1 hw (fun gl' gb' gc' zpt' zpi' zpv' zty' hpt hT => ⟨?_, ov_mk W HX HY HO⟩)
      rw [nI_clamp (show a < 2 ^ 31 by omega), htt a ha, ov_c2_to W h1 ha]
end
section
/-! chosen, typeOf -/
theorem ov_sPos {f : Nat → Nat} : ∀ n : Nat, 1 ≤ ov_s n f → ∃ i, i < n ∧ 1 ≤ f i := by
  intro n
  induction n with
  | zero => intro h; rw [ov_s0] at h; omega
  | succ n ih =>
    intro h
    rw [ov_s1] at h
    by_cases e : 1 ≤ f n
    · exact ⟨n, by omega, e⟩
    · obtain ⟨i, hi, h2⟩ := ih (by omega)
      exact ⟨i, by omega, h2⟩
section
variable {c : Nat → Nat → Nat} {N n w : Nat} {gn gt gf gl gb gc gs : Int32} {zcv zls zle zrg zre zsc zvs zlc zso zfi zq zr ztk zpt zpi zpv zty : Nat → Int32}
theorem ov_one (W : ov_W c N) (hk : n < N) {m : Nat} (h : ov_to c n w m = 1) : ∃ y, y < ov_ps (ov_r c n) 14 ∧ ov_fx c n w y = true ∧ ov_px c n w y = m ∧ ∀ y', y' < ov_ps (ov_r c n) 14 → ov_fx c n w y' = true → ov_px c n w y' = m → y' = y := by
  rw [← ov_to_codes W hk] at h
  obtain ⟨y, hy, h2⟩ := ov_sPos _ (Nat.le_of_eq h.symm)
  have h3 : ov_fx c n w y = true ∧ ov_px c n w y = m := by
    refine Classical.byContradiction fun z => ?_
    have h4 : (if ov_fit c n w (ov_dg (ov_r c n) y) = true ∧ ov_pr c n w (ov_dg (ov_r c n) y) = m then 1 else 0) = 0 := if_neg z
    omega
  refine ⟨y, hy, h3.1, h3.2, fun y' hy' f' p' => ?_⟩
  refine ov_sU (f := fun x => if ov_fit c n w (ov_dg (ov_r c n) x) = true ∧ ov_pr c n w (ov_dg (ov_r c n) x) = m then 1 else 0) _ (Nat.le_of_eq h) hy' hy ?_ h2
  have h5 : (if ov_fit c n w (ov_dg (ov_r c n) y') = true ∧ ov_pr c n w (ov_dg (ov_r c n) y') = m then 1 else 0) = 1 := if_pos ⟨f', p'⟩
  exact Nat.le_of_eq h5.symm
/-- the reference's best code, read and priced again -/
theorem ov_yagain {post : Int32 → Int32 → SY → Prop} (W : ov_W c N) (H : ov_YC c N zcv zls zle zrg zre zsc zvs zlc zso zfi zq zr) (hk : n < N) (hw : w ≤ 3) (hpt : ∀ j, j < 12 → zpt j = ov_b (ov_Q c n j)) {y : Nat} (hy : y < ov_ps (ov_r c n) 14) (hf : ov_fx c n w y = true) (K : ∀ zpi' zpv' zty', (∀ j, j < N → zpi' j = nI (ov_dg (ov_r c n) y j)) → (∀ j, j ≤ n → ov_Q c n j = true → zty' j = nI (ov_ty c (ov_vr (ov_dg (ov_r c n) y)) (ov_dg (ov_r c n) y) j)) → post 1 (nI (ov_px c n w y)) (nI N, gt, gf, gl, gb, gc, gs, zcv, zls, zle, zrg, zre, zsc, zvs, zlc, zso, zfi, zq, zr, ztk, zpt, zpi', zpv', zty')) : wpY_read (fun r u => wpY_price (fun r2 u2 => post r r2 u2) u (nI n) (nI w)) (nI N, gt, gf, gl, gb, gc, gs, zcv, zls, zle, zrg, zre, zsc, zvs, zlc, zso, zfi, zq, zr, ztk, zpt, zpi, zpv, zty) (nI y) := by
  have hfr := ov_fit_rp c n w (ov_dg (ov_r c n) y)
  unfold ov_fx at hf
  rw [hf] at hfr
  have hr := ((Bool.and_eq_true _ _).mp hfr.symm)
  have hb := ov_tot31 c n
  refine ov_yread W H hk hpt (x := y) (by omega) (fun zpi' zpv' h1 h2 => ?_)
  rw [hr.1]
  refine ov_yprice W H hk hw hpt (fun j => ov_dg_lt (ov_r_p c n) y j) h1 h2 hr.1 (fun hg zty' h3 => ?_) (fun hg zty' => ?_)
  · exact K zpi' zpv' zty' h1 h3
  · rw [hr.2] at hg; exact absurd hg (by decide)
end
theorem i_vc_typeOf {k : Nat} {u : SX} {v : SY} (I : i_Rel k u v) (hk : k + 4 ≤ 2048) (v1 : Int32) (v2 : Int32) : wpX_typeOf (fun r u' => wpY_typeOf (fun r' v' => r' = r ∧ i_Rel (k + 4) u' v') v v1 v2) u v1 v2 := by
  refine ov_el (P := fun u v => wpX_typeOf (fun r u' => wpY_typeOf (fun r' v' => r' = r ∧ i_Rel (k + 4) u' v') v v1 v2) u v1 v2) I ?_
  intro c N fu gt gf gl gb gc gs cv sg sc ls vs lc so fi lo ri ow ip vt tb tt ll rl nd ta ch zcv zls zle zrg zre zsc zvs zlc zso zfi zq zr ztk zpt zpi zpv zty W HX HY HO
  have hn := ov_Wn W
  unfold wpX_typeOf wpY_typeOf
  dsimp only
  rcases ov_args hn v1 v2 with b | ⟨n, h1, rfl, b⟩ | ⟨n, w, h1, hw, rfl, rfl⟩
  · exact ov_xrefA b (br_f (by decide) (ov_ynodeN b (br_f (by decide) ⟨rfl, ov_mk W HX HY HO⟩)))
  · refine ov_xrefB hn h1 b (br_f (by decide) (ov_ynode hn h1 (br_t rfl ?_)))
    rcases b with b | ⟨b, b2⟩
    · exact br_t b ⟨rfl, ov_mk W HX HY HO⟩
    · exact br_f b (br_f b2 ⟨rfl, ov_mk W HX HY HO⟩)
  · refine ov_xrefC hn h1 hw (br_t (by decide) ?_)
    obtain ⟨m, g1, g2, g3⟩ := ov_min c n w
    have hb := ov_to_b (w := w) W h1 m
    have hb2 : ov_to c n w m < 2 ^ 31 := Nat.lt_of_le_of_lt hb (by decide)
    by_cases h128 : m = 128 ∨ ov_to c n w m ≠ 1
    · refine ov_xsettle0 W HX h1 hw g1 g2 g3 h128 (fun fu' ip' vt' tb' tt' ll' rl' => ?_)
      dsimp only
      refine br_t rfl ?_
      refine ov_ynode hn h1 (br_t rfl (br_f (nI_pos (by omega)) (pk_le w 3 (fun _ => ?_) (fun h => absurd h (by omega)))))
      refine ov_ytry W HY h1 hw (fun gl' gb' gc' zpt' zpi' zpv' zty' hpt hT => ?_)
      dsimp only
      have hne : ¬ gb' = 1 := by
        rcases ov_least W h1 hT g1 g2 g3 with ⟨_, _, e⟩ | ⟨e, y, _, _, _, _, _, e2⟩
        · rw [e]; decide
        · rw [e2]
          rcases h128 with z | z
          · omega
          · exact fun q => z ((nI_eq (b := 1) hb2 (by decide)).mp q)
      exact br_f hne ⟨rfl, ov_mk W HX HY HO⟩
    · have h2 : m ≠ 128 ∧ ov_to c n w m = 1 := ⟨fun z => h128 (Or.inl z), Classical.byContradiction fun z => h128 (Or.inr z)⟩
      obtain ⟨y, y1, y2, y3, y4⟩ := ov_one W h1 h2.2
      have y3' : ov_pr c n w (ov_dg (ov_r c n) y) = m := y3
      refine ov_xsettle1 W HX h1 hw (fun j => ov_dg_lt (ov_r_p c n) y j) y2 (by rw [y3']; exact g2) (by rw [y3']; exact h2.2) (fun fu' ip' vt' tb' tt' ll' rl' nd' ta' ch' a1 a2 => ?_)
      dsimp only
      refine br_f (by decide) (And.intro (pk_in n 12 (by omega)) ?_)
      refine ov_ynode hn h1 (br_t rfl (br_f (nI_pos (by omega)) (pk_le w 3 (fun _ => ?_) (fun h => absurd h (by omega)))))
      refine ov_ytry W HY h1 hw (fun gl' gb' gc' zpt' zpi' zpv' zty' hpt hT => ?_)
      dsimp only
      rcases ov_least W h1 hT g1 g2 g3 with ⟨e, _⟩ | ⟨_, y', b1, b2, b3, _, b4, b5⟩
      · exact absurd e h2.1
      · have ey := y4 y' b1 b2 b3
        subst ey
        rw [b4, b5, h2.2]
        refine br_t rfl ?_
        refine ov_yagain (post := fun r r2 u2 => match u2 with | (gn, gt, gf, gl, gb, gc, gs, zcv, zls, zle, zrg, zre, zsc, zvs, zlc, zso, zfi, zq, zr, ztk, zpt, zpi, zpv, zty) => ((r = 0 → ((-4 : Int32) = ta' (nI n).toNatClampNeg ∧ i_Rel (k + 4) (nI N, nI (ov_na c N), fu', cv, sg, sc, ls, vs, lc, so, fi, lo, ri, ow, ip', vt', tb', tt', ll', rl', nd', ta', ch') (gn, gt, gf, gl, gb, gc, gs, zcv, zls, zle, zrg, zre, zsc, zvs, zlc, zso, zfi, zq, zr, ztk, zpt, zpi, zpv, zty))) ∧ (¬ r = 0 → ((0 ≤ r2 → (vp_in (nI n) 12 ∧ (zty (nI n).toNatClampNeg = ta' (nI n).toNatClampNeg ∧ i_Rel (k + 4) (nI N, nI (ov_na c N), fu', cv, sg, sc, ls, vs, lc, so, fi, lo, ri, ow, ip', vt', tb', tt', ll', rl', nd', ta', ch') (gn, gt, gf, gl, gb, gc, gs, zcv, zls, zle, zrg, zre, zsc, zvs, zlc, zso, zfi, zq, zr, ztk, zpt, zpi, zpv, zty)))) ∧ (¬ 0 ≤ r2 → ((-4 : Int32) = ta' (nI n).toNatClampNeg ∧ i_Rel (k + 4) (nI N, nI (ov_na c N), fu', cv, sg, sc, ls, vs, lc, so, fi, lo, ri, ow, ip', vt', tb', tt', ll', rl', nd', ta', ch') (gn, gt, gf, gl, gb, gc, gs, zcv, zls, zle, zrg, zre, zsc, zvs, zlc, zso, zfi, zq, zr, ztk, zpt, zpi, zpv, zty))))))) W HY h1 hw hpt y1 y2 (fun zpi'' zpv'' zty'' c1 c2 => ?_)
        dsimp only
        have p128 := ov_px128 W h1 y1 y2
        refine br_f (by decide) (br_t (nI_pos' (by omega)) (And.intro (pk_in n 12 (by omega)) ⟨?_, ov_mk W HX HY HO⟩))
        rw [nI_clamp (show n < 2 ^ 31 by omega), a1 n ov_Q_self, c2 n (Nat.le_refl _) ov_Q_self]
end
section
/-! chosen -/
section
variable {c : Nat → Nat → Nat} {N n w j : Nat} {post : Int32 → SY → Prop} {gn gt gf gl gb gc gs : Int32} {zcv zls zle zrg zre zsc zvs zlc zso zfi zq zr ztk zpt zpi zpv zty : Nat → Int32}
theorem ov_ych1 (W : ov_W c N) (H : ov_YC c N zcv zls zle zrg zre zsc zvs zlc zso zfi zq zr) (h1 : n < N) (hw : w ≤ 3) (hj : j < N) (hq : ov_Q c n j = true) {m y : Nat} (g1 : m ≤ 128) (g2 : ∀ e, e < m → ov_to c n w e = 0) (g3 : m < 128 → 1 ≤ ov_to c n w m) (h128 : m ≠ 128) (h2 : ov_to c n w m = 1) (y4 : ∀ y', y' < ov_ps (ov_r c n) 14 → ov_fx c n w y' = true → ov_px c n w y' = m → y' = y) (K : ∀ gt gf gl gb gc gs zpt zpi zpv zty, post (if c 0 j = 3 then nI (ov_dg (ov_r c n) y j) else nI (ov_ty c (ov_vr (ov_dg (ov_r c n) y)) (ov_dg (ov_r c n) y) j)) (nI N, gt, gf, gl, gb, gc, gs, zcv, zls, zle, zrg, zre, zsc, zvs, zlc, zso, zfi, zq, zr, ztk, zpt, zpi, zpv, zty)) : wpY_chosen post (nI N, gt, gf, gl, gb, gc, gs, zcv, zls, zle, zrg, zre, zsc, zvs, zlc, zso, zfi, zq, zr, ztk, zpt, zpi, zpv, zty) (nI n) (nI w) (nI j) := by
  have hn := ov_Wn W
  unfold wpY_chosen
  dsimp only
  refine ov_ynode hn h1 (br_t rfl (br_f (nI_pos (by omega)) (pk_le w 3 (fun _ => ?_) (fun h => absurd h (by omega)))))
  refine ov_ymark W H h1 (fun zpt' hpt => ?_)
  dsimp only
  refine ov_ynode hn hj (br_t rfl (And.intro (pk_in j 12 (by omega)) ?_))
  rw [nI_clamp (show j < 2 ^ 31 by omega), hpt j (by omega), hq]
  refine br_f ov_bt ?_
  refine ov_ytry W H h1 hw (fun gl' gb' gc' zpt'' zpi' zpv' zty' hpt2 hT => ?_)
  dsimp only
  rcases ov_least W h1 hT g1 g2 g3 with ⟨e, _⟩ | ⟨_, y', b1, b2, b3, _, b4, b5⟩
  · exact absurd e h128
  · have ey := y4 y' b1 b2 b3
    subst ey
    rw [b4, b5, h2]
    refine br_t rfl ?_
    refine ov_yagain (post := fun r r2 u2 => match u2 with | (gn, gt, gf, gl, gb, gc, gs, zcv, zls, zle, zrg, zre, zsc, zvs, zlc, zso, zfi, zq, zr, ztk, zpt, zpi, zpv, zty) => ((r = 0 → post (-4) (gn, gt, gf, gl, gb, gc, gs, zcv, zls, zle, zrg, zre, zsc, zvs, zlc, zso, zfi, zq, zr, ztk, zpt, zpi, zpv, zty)) ∧ (¬ r = 0 → ((0 ≤ r2 → (vp_in (nI j) 12 ∧ ((zso j = 3 → (vp_in (nI j) 12 ∧ post (zpi j) (gn, gt, gf, gl, gb, gc, gs, zcv, zls, zle, zrg, zre, zsc, zvs, zlc, zso, zfi, zq, zr, ztk, zpt, zpi, zpv, zty))) ∧ (¬ zso j = 3 → (vp_in (nI j) 12 ∧ post (zty j) (gn, gt, gf, gl, gb, gc, gs, zcv, zls, zle, zrg, zre, zsc, zvs, zlc, zso, zfi, zq, zr, ztk, zpt, zpi, zpv, zty)))))) ∧ (¬ 0 ≤ r2 → post (-4) (gn, gt, gf, gl, gb, gc, gs, zcv, zls, zle, zrg, zre, zsc, zvs, zlc, zso, zfi, zq, zr, ztk, zpt, zpi, zpv, zty)))))) W H h1 hw hpt2 b1 b2 (fun zpi'' zpv'' zty'' c1 c2 => ?_)
    dsimp only
    have p128 := ov_px128 W h1 b1 b2
    have hk3 := ov_Wk W hj
    refine br_f (by decide) (br_t (nI_pos' (by omega)) (And.intro (pk_in j 12 (by omega)) ?_))
    rw [ov_yso H j, c1 j hj, c2 j (ov_Q_le W h1 hq) hq]
    refine pk_eq (c 0 j) 3 (fun e => And.intro (pk_in j 12 (by omega)) ?_) (fun e => And.intro (pk_in j 12 (by omega)) ?_)
    · rw [if_pos e] at K; exact K _ _ _ _ _ _ _ _ _ _
    · rw [if_neg e] at K; exact K _ _ _ _ _ _ _ _ _ _
theorem ov_ych4 (W : ov_W c N) (H : ov_YC c N zcv zls zle zrg zre zsc zvs zlc zso zfi zq zr) (h1 : n < N) (hw : w ≤ 3) (hj : j < N) (hq : ov_Q c n j = true) {m : Nat} (g1 : m ≤ 128) (g2 : ∀ e, e < m → ov_to c n w e = 0) (g3 : m < 128 → 1 ≤ ov_to c n w m) (h128 : m = 128 ∨ ov_to c n w m ≠ 1) (K : ∀ gt gf gl gb gc gs zpt zpi zpv zty, post (-4) (nI N, gt, gf, gl, gb, gc, gs, zcv, zls, zle, zrg, zre, zsc, zvs, zlc, zso, zfi, zq, zr, ztk, zpt, zpi, zpv, zty)) : wpY_chosen post (nI N, gt, gf, gl, gb, gc, gs, zcv, zls, zle, zrg, zre, zsc, zvs, zlc, zso, zfi, zq, zr, ztk, zpt, zpi, zpv, zty) (nI n) (nI w) (nI j) := by
  have hn := ov_Wn W
  have hb := ov_to_b (w := w) W h1 m
  have hb2 : ov_to c n w m < 2 ^ 31 := Nat.lt_of_le_of_lt hb (by decide)
  unfold wpY_chosen
  dsimp only
  refine ov_ynode hn h1 (br_t rfl (br_f (nI_pos (by omega)) (pk_le w 3 (fun _ => ?_) (fun h => absurd h (by omega)))))
  refine ov_ymark W H h1 (fun zpt' hpt => ?_)
  dsimp only
  refine ov_ynode hn hj (br_t rfl (And.intro (pk_in j 12 (by omega)) ?_))
  rw [nI_clamp (show j < 2 ^ 31 by omega), hpt j (by omega), hq]
  refine br_f ov_bt ?_
  refine ov_ytry W H h1 hw (fun gl' gb' gc' zpt'' zpi' zpv' zty' hpt2 hT => ?_)
  dsimp only
  have hne : ¬ gb' = 1 := by
    rcases ov_least W h1 hT g1 g2 g3 with ⟨_, _, e⟩ | ⟨e, y, _, _, _, _, _, e2⟩
    · rw [e]; decide
    · rw [e2]
      rcases h128 with z | z
      · omega
      · exact fun q => z ((nI_eq (b := 1) hb2 (by decide)).mp q)
  exact br_f hne (K _ _ _ _ _ _ _ _ _ _)
theorem ov_ych3 (W : ov_W c N) (H : ov_YC c N zcv zls zle zrg zre zsc zvs zlc zso zfi zq zr) (h1 : n < N) (hw : w ≤ 3) {x : Int32} (hx : (x < 0 ∨ (¬ x < 0 ∧ nI N ≤ x)) ∨ ∃ j, j < N ∧ ov_Q c n j = false ∧ x = nI j) (K : ∀ gt gf gl gb gc gs zpt zpi zpv zty, post (-3) (nI N, gt, gf, gl, gb, gc, gs, zcv, zls, zle, zrg, zre, zsc, zvs, zlc, zso, zfi, zq, zr, ztk, zpt, zpi, zpv, zty)) : wpY_chosen post (nI N, gt, gf, gl, gb, gc, gs, zcv, zls, zle, zrg, zre, zsc, zvs, zlc, zso, zfi, zq, zr, ztk, zpt, zpi, zpv, zty) (nI n) (nI w) x := by
  have hn := ov_Wn W
  unfold wpY_chosen
  dsimp only
  refine ov_ynode hn h1 (br_t rfl (br_f (nI_pos (by omega)) (pk_le w 3 (fun _ => ?_) (fun h => absurd h (by omega)))))
  refine ov_ymark W H h1 (fun zpt' hpt => ?_)
  dsimp only
  rcases hx with b | ⟨j, hj, hq, rfl⟩
  · exact ov_ynodeN b (br_f (by decide) (K _ _ _ _ _ _ _ _ _ _))
  · refine ov_ynode hn hj (br_t rfl (And.intro (pk_in j 12 (by omega)) ?_))
    rw [nI_clamp (show j < 2 ^ 31 by omega), hpt j (by omega), hq]
    exact br_t rfl (K _ _ _ _ _ _ _ _ _ _)
end
theorem i_vc_chosen {k : Nat} {u : SX} {v : SY} (I : i_Rel k u v) (hk : k + 4 ≤ 2048) (v1 : Int32) (v2 : Int32) (v3 : Int32) : wpX_chosen (fun r u' => wpY_chosen (fun r' v' => r' = r ∧ i_Rel (k + 4) u' v') v v1 v2 v3) u v1 v2 v3 := by
  refine ov_el (P := fun u v => wpX_chosen (fun r u' => wpY_chosen (fun r' v' => r' = r ∧ i_Rel (k + 4) u' v') v v1 v2 v3) u v1 v2 v3) I ?_
  intro c N fu gt gf gl gb gc gs cv sg sc ls vs lc so fi lo ri ow ip vt tb tt ll rl nd ta ch zcv zls zle zrg zre zsc zvs zlc zso zfi zq zr ztk zpt zpi zpv zty W HX HY HO
  have hn := ov_Wn W
  unfold wpX_chosen
  dsimp only
  rcases ov_args hn v1 v2 with b | ⟨n, h1, rfl, b⟩ | ⟨n, w, h1, hw, rfl, rfl⟩
  · unfold wpY_chosen
    dsimp only
    exact ov_xrefA b (br_f (by decide) (ov_ynodeN b (br_f (by decide) ⟨rfl, ov_mk W HX HY HO⟩)))
  · unfold wpY_chosen
    dsimp only
    refine ov_xrefB hn h1 b (br_f (by decide) (ov_ynode hn h1 (br_t rfl ?_)))
    rcases b with b | ⟨b, b2⟩
    · exact br_t b ⟨rfl, ov_mk W HX HY HO⟩
    · exact br_f b (br_f b2 ⟨rfl, ov_mk W HX HY HO⟩)
  · refine ov_xrefC hn h1 hw (br_t (by decide) ?_)
    refine ov_xmark W HX h1 (fun ip' hip => ?_)
    dsimp only
    rcases ov_nd N hn v3 with b | ⟨j, hj, rfl⟩
    · exact ov_xnodeN b (br_t rfl (ov_ych3 W HY h1 hw (Or.inl b) (fun _ _ _ _ _ _ _ _ _ _ => ⟨rfl, ov_mk W HX HY HO⟩)))
    · refine ov_xnode hn hj (br_f (by decide) (And.intro (pk_in j 12 (by omega)) ?_))
      rw [nI_clamp (show j < 2 ^ 31 by omega), hip j (by omega)]
      cases hq : ov_Q c n j with
      | false => exact br_t rfl (ov_ych3 W HY h1 hw (Or.inr ⟨j, hj, hq, rfl⟩) (fun _ _ _ _ _ _ _ _ _ _ => ⟨rfl, ov_mk W HX HY HO⟩))
      | true =>
        refine br_f ov_bt ?_
        obtain ⟨m, g1, g2, g3⟩ := ov_min c n w
        by_cases h128 : m = 128 ∨ ov_to c n w m ≠ 1
        · refine ov_xsettle0 W HX h1 hw g1 g2 g3 h128 (fun fu' ip' vt' tb' tt' ll' rl' => ?_)
          dsimp only
          exact br_t rfl (ov_ych4 W HY h1 hw hj hq g1 g2 g3 h128 (fun _ _ _ _ _ _ _ _ _ _ => ⟨rfl, ov_mk W HX HY HO⟩))
        · have h2 : m ≠ 128 ∧ ov_to c n w m = 1 := ⟨fun z => h128 (Or.inl z), Classical.byContradiction fun z => h128 (Or.inr z)⟩
          obtain ⟨y, y1, y2, y3, y4⟩ := ov_one W h1 h2.2
          have y3' : ov_pr c n w (ov_dg (ov_r c n) y) = m := y3
          refine ov_xsettle1 W HX h1 hw (fun j => ov_dg_lt (ov_r_p c n) y j) y2 (by rw [y3']; exact g2) (by rw [y3']; exact h2.2) (fun fu' ip' vt' tb' tt' ll' rl' nd' ta' ch' a1 a2 => ?_)
          dsimp only
          have hk3 := ov_Wk W hj
          refine br_f (by decide) (And.intro (pk_in j 12 (by omega)) ?_)
          rw [HX.2.2.2.2.2.2.1 j, a1 j hq]
          refine pk_eq (c 0 j) 3 (fun e => And.intro (pk_in j 12 (by omega)) ?_) (fun e => And.intro (pk_in j 12 (by omega)) ?_)
          · rw [a2 j hq e]
            exact ov_ych1 W HY h1 hw hj hq g1 g2 g3 h2.1 h2.2 y4 (fun _ _ _ _ _ _ _ _ _ _ => ⟨by rw [if_pos e], ov_mk W HX HY HO⟩)
          · exact ov_ych1 W HY h1 hw hj hq g1 g2 g3 h2.1 h2.2 y4 (fun _ _ _ _ _ _ _ _ _ _ => ⟨by rw [if_neg e], ov_mk W HX HY HO⟩)
end
