section
/-! rows of kit/rows (PURE-ROWS), pasted: a starting text -/
theorem pk_us {f : Nat → Int32} {k : Nat} {x : Int32} : upd f k x k = x := if_pos rfl
theorem pk_un {f : Nat → Int32} {k j : Nat} {x : Int32} (h : j ≠ k) : upd f k x j = f j := if_neg h
theorem pk_sub {a b : Nat} (h : b ≤ a) : nI a - nI b = nI (a - b) := by
  obtain ⟨c, rfl⟩ : ∃ c, a = c + b := ⟨a - b, by omega⟩
  rw [← nI_add, Int32.add_sub_cancel, Nat.add_sub_cancel]
theorem pk_mul (a b : Nat) : nI a * nI b = nI (a * b) := (Int32.ofNat_mul a b).symm
theorem pk_div {a d : Nat} (ha : a < 2 ^ 31) (h0 : 0 < d) (hd : d < 2 ^ 31) : nI a / nI d = nI (a / d) := by
  apply Int32.toInt_inj.mp
  rw [lg_idiv_nonneg (by rw [nI_toInt ha]; omega) (by rw [nI_toInt hd]; omega), nI_toInt ha, nI_toInt hd, nI_toInt (Nat.lt_of_le_of_lt (Nat.div_le_self a d) ha)]
  first | rfl | exact (Int.natCast_ediv _ _).symm
theorem pk_rem {a d : Nat} (ha : a < 2 ^ 31) (h0 : 0 < d) (hd : d < 2 ^ 31) : nI a - nI a / nI d * nI d = nI (a % d) := by
  rw [pk_div ha h0 hd, pk_mul, pk_sub (Nat.div_mul_le_self a d)]
  exact congrArg nI (by have := Nat.div_add_mod' a d; omega)
theorem pk_ix (x : Int32) {n : Nat} (hn : n < 2 ^ 31) : x < 0 ∨ nI n ≤ x ∨ ∃ j : Nat, j < n ∧ x = nI j := by
  by_cases h : x < 0
  · exact Or.inl h
  · obtain ⟨j, hj, rfl⟩ := nI_of h
    by_cases h2 : j < n
    · exact Or.inr (Or.inr ⟨j, h2, rfl⟩)
    · exact Or.inr (Or.inl (nI_le (by omega) hj))
theorem pk_le {x y : Int32} {A B : Prop} (a b : Nat) (f : a ≤ b → A) (g : b < a → B) (hx : x = nI a := by rfl) (hy : y = nI b := by rfl) (ha : a < 2 ^ 31 := by omega) (hb : b < 2 ^ 31 := by omega) : (x ≤ y → A) ∧ (¬ x ≤ y → B) := by
  subst hx hy
  rw [nI_leI ha hb]
  exact ⟨f, fun z => g (by omega)⟩
theorem pk_lt {x y : Int32} {A B : Prop} (a b : Nat) (f : a < b → A) (g : b ≤ a → B) (hx : x = nI a := by rfl) (hy : y = nI b := by rfl) (ha : a < 2 ^ 31 := by omega) (hb : b < 2 ^ 31 := by omega) : (x < y → A) ∧ (¬ x < y → B) := by
  subst hx hy
  rw [nI_ltI ha hb]
  exact ⟨f, fun z => g (by omega)⟩
theorem pk_eq {x y : Int32} {A B : Prop} (a b : Nat) (f : a = b → A) (g : a ≠ b → B) (hx : x = nI a := by rfl) (hy : y = nI b := by rfl) (ha : a < 2 ^ 31 := by omega) (hb : b < 2 ^ 31 := by omega) : (x = y → A) ∧ (¬ x = y → B) := by
  subst hx hy
  rw [nI_eq ha hb]
  exact ⟨f, g⟩
theorem pk_in {x : Int32} (n N : Nat) (h : n < N) (hx : x = nI n := by rfl) (hN : N < 2 ^ 31 := by omega) : vp_in x N := by
  subst hx
  exact vp_in_nI h hN
theorem pk_cl {x : Int32} (n : Nat) (hx : x = nI n := by rfl) (h : n < 2 ^ 31 := by omega) : x.toNatClampNeg = n := by
  subst hx
  exact nI_clamp h
theorem pk_tn {n : Nat} (h : n < 2 ^ 32) : (nI n).toBitVec.toNat = n := Nat.mod_eq_of_lt h
theorem pk_and (x : Int32) {m : Int32} (k : Nat) (hm : m.toBitVec.toNat = 2 ^ k - 1) : x &&& m = nI (x.toBitVec.toNat % 2 ^ k) := by
  apply Int32.toBitVec_inj.mp
  apply BitVec.eq_of_toNat_eq
  rw [Int32.toBitVec_and, BitVec.toNat_and, hm, Nat.and_two_pow_sub_one_eq_mod]
  show _ = (BitVec.ofNat 32 _).toNat
  rw [BitVec.toNat_ofNat]
  exact (Nat.mod_eq_of_lt (Nat.lt_of_le_of_lt (Nat.mod_le _ _) x.toBitVec.isLt)).symm
theorem pk_andN {n : Nat} (h : n < 2 ^ 32) {m : Int32} (k : Nat) (hm : m.toBitVec.toNat = 2 ^ k - 1) : nI n &&& m = nI (n % 2 ^ k) := by
  rw [pk_and _ k hm, pk_tn h]
theorem pk_shr (a s : Int32) (k : Nat) (hs : (s.toBitVec.smod 32).toNat = k) : (a >>> s).toInt = a.toInt >>> k := by
  show (a.toBitVec.sshiftRight (s.toBitVec.smod 32).toNat).toInt = _
  rw [hs, BitVec.toInt_sshiftRight]
  rfl
theorem pk_shrN {n : Nat} (h : n < 2 ^ 31) (s : Int32) (k : Nat) (hs : (s.toBitVec.smod 32).toNat = k) : nI n >>> s = nI (n / 2 ^ k) := by
  apply Int32.toInt_inj.mp
  have h2 : n / 2 ^ k ≤ n := Nat.div_le_self _ _
  rw [pk_shr _ _ k hs, nI_toInt h, nI_toInt (by omega), Int.shiftRight_eq_div_pow]
  rfl
end
section
/-! ===== pure: coordinates, counts, sums ===== -/
/-- cell q has row q % 16 and column q / 16; its chunk's place, its index within the chunk, and back -/
def ca_pl (q : Nat) : Nat := q % 16 / 4 * 4 + q / 16 / 4
def ca_wi (q : Nat) : Nat := q % 16 % 4 * 4 + q / 16 % 4
def ca_ce (k i : Nat) : Nat := (k / 4 * 4 + i / 4) + 16 * (k % 4 * 4 + i % 4)
theorem ca_pl_lt {q : Nat} (h : q < 256) : ca_pl q < 16 := by unfold ca_pl; omega
theorem ca_wi_lt (q : Nat) : ca_wi q < 16 := by unfold ca_wi; omega
theorem ca_ce_lt {k i : Nat} (hk : k < 16) (hi : i < 16) : ca_ce k i < 256 := by unfold ca_ce; omega
theorem ca_tab1 : ∀ q, q < 256 → ca_ce (ca_pl q) (ca_wi q) = q := by decide +kernel
theorem ca_tab2 : ∀ k, k < 16 → ∀ i, i < 16 → ca_pl (ca_ce k i) = k ∧ ca_wi (ca_ce k i) = i := by decide +kernel
theorem ca_ce_pw {q : Nat} (h : q < 256) : ca_ce (ca_pl q) (ca_wi q) = q := ca_tab1 q h
theorem ca_pl_ce {k i : Nat} (hk : k < 16) (hi : i < 16) : ca_pl (ca_ce k i) = k := (ca_tab2 k hk i hi).1
theorem ca_wi_ce {k i : Nat} (hk : k < 16) (hi : i < 16) : ca_wi (ca_ce k i) = i := (ca_tab2 k hk i hi).2
/-- a function changed at one place -/
def ca_st {α : Type} (f : Nat → α) (m : Nat) (x : α) : Nat → α := fun j => if j = m then x else f j
theorem ca_st_s {α : Type} {f : Nat → α} {m : Nat} {x : α} : ca_st f m x m = x := if_pos rfl
theorem ca_st_n {α : Type} {f : Nat → α} {m j : Nat} {x : α} (h : j ≠ m) : ca_st f m x j = f j := if_neg h
/-- how many numbers below n -/
def ca_cn (p : Nat → Bool) : Nat → Nat
  | 0 => 0
  | n + 1 => ca_cn p n + (if p n = true then 1 else 0)
theorem ca_cn_congr {p p' : Nat → Bool} (n : Nat) (h : ∀ j, j < n → p' j = p j) : ca_cn p' n = ca_cn p n := by
  induction n with
  | zero => rfl
  | succ n ih => simp only [ca_cn]; rw [ih (fun j hj => h j (by omega)), h n (by omega)]
theorem ca_cn_one {p p' : Nat → Bool} {m : Nat} (n : Nat) (hm : m < n) (h : ∀ j, j < n → j ≠ m → p' j = p j) : ca_cn p' n + (if p m = true then 1 else 0) = ca_cn p n + (if p' m = true then 1 else 0) := by
  induction n with
  | zero => omega
  | succ n ih =>
    simp only [ca_cn]
    by_cases e : m = n
    · subst e
      rw [ca_cn_congr m (fun j hj => h j (by omega) (by omega))]
      omega
    · have := ih (by omega) (fun j hj => h j (by omega))
      rw [h n (by omega) (by omega)]
      omega
theorem ca_cn_dn {p p' : Nat → Bool} {m n : Nat} (hm : m < n) (h : ∀ j, j < n → j ≠ m → p' j = p j) (h1 : p m = true) (h0 : p' m = false) : ca_cn p n = ca_cn p' n + 1 := by
  have a := ca_cn_one n hm h
  rw [h1, h0, if_pos rfl, if_neg (by decide)] at a
  omega
theorem ca_cn_le (p : Nat → Bool) (n : Nat) : ca_cn p n ≤ n := by
  induction n with
  | zero => exact Nat.le_refl 0
  | succ n ih => simp only [ca_cn]; split <;> omega
theorem ca_cn_pos {p : Nat → Bool} {m n : Nat} (hm : m < n) (h : p m = true) : 1 ≤ ca_cn p n := by
  induction n with
  | zero => omega
  | succ n ih =>
    simp only [ca_cn]
    by_cases e : m = n
    · subst e
      rw [if_pos h]
      omega
    · have := ih (by omega)
      omega
theorem ca_cn_two {p : Nat → Bool} {m m' n : Nat} (hm : m < n) (hm' : m' < n) (ne : m' ≠ m) (h : p m = true) (h' : p m' = true) : 2 ≤ ca_cn p n := by
  have a := ca_cn_dn (p' := ca_st p m false) hm (fun j _ hj => ca_st_n hj) h ca_st_s
  have b := ca_cn_pos (p := ca_st p m false) hm' (by rw [ca_st_n ne]; exact h')
  omega
/-- a sum of naturals -/
def ca_ns (f : Nat → Nat) : Nat → Nat
  | 0 => 0
  | n + 1 => ca_ns f n + f n
theorem ca_ns_ge {f : Nat → Nat} (N : Nat) (h : ∀ c, c < N → 1 ≤ f c) : N ≤ ca_ns f N := by
  induction N with
  | zero => exact Nat.le_refl 0
  | succ n ih =>
    have a := ih (fun c hc => h c (by omega))
    have b := h n (by omega)
    simp only [ca_ns]
    omega
theorem ca_ns_gt {f : Nat → Nat} {c : Nat} (N : Nat) (hc : c < N) (h : ∀ c, c < N → 1 ≤ f c) (h2 : 2 ≤ f c) : N + 1 ≤ ca_ns f N := by
  induction N with
  | zero => omega
  | succ n ih =>
    simp only [ca_ns]
    by_cases e : c = n
    · subst e
      have a := ca_ns_ge c (fun d hd => h d (by omega))
      omega
    · have a := ih (by omega) (fun d hd => h d (by omega))
      have b := h n (by omega)
      omega
theorem ca_ns_0 (N : Nat) : ca_ns (fun _ => 0) N = 0 := by
  induction N with
  | zero => rfl
  | succ n ih => simp only [ca_ns]; rw [ih]
theorem ca_ns_add (f g : Nat → Nat) (N : Nat) : ca_ns (fun c => f c + g c) N = ca_ns f N + ca_ns g N := by
  induction N with
  | zero => rfl
  | succ n ih => simp only [ca_ns]; rw [ih]; omega
theorem ca_ns_d (x N : Nat) : ca_ns (fun c => if x = c then 1 else 0) N = if x < N then 1 else 0 := by
  induction N with
  | zero => rfl
  | succ n ih =>
    simp only [ca_ns]
    rw [ih]
    (repeat' split) <;> omega
theorem ca_ns_ind (b : Bool) (x N : Nat) (hx : x < N) : ca_ns (fun c => if (b && decide (x = c)) = true then 1 else 0) N = if b = true then 1 else 0 := by
  cases b with
  | false =>
    simp only [Bool.false_and, if_neg Bool.false_ne_true]
    exact ca_ns_0 N
  | true =>
    have a := ca_ns_d x N
    rw [if_pos hx] at a
    simp only [Bool.true_and, decide_eq_true_eq, if_true]
    exact a
theorem ca_ns_tot (lv : Nat → Bool) (C : Nat → Nat) (N n : Nat) (h : ∀ j, j < n → C j < N) : ca_ns (fun c => ca_cn (fun j => lv j && decide (C j = c)) n) N = ca_cn lv n := by
  induction n with
  | zero => exact ca_ns_0 N
  | succ n ih =>
    have e := ca_ns_add (fun c => ca_cn (fun j => lv j && decide (C j = c)) n) (fun c => if (lv n && decide (C n = c)) = true then 1 else 0) N
    have e2 := ih (fun j hj => h j (by omega))
    have e3 := ca_ns_ind (lv n) (C n) N (h n (by omega))
    show ca_ns (fun c => ca_cn (fun j => lv j && decide (C j = c)) n + (if (lv n && decide (C n = c)) = true then 1 else 0)) N = ca_cn lv n + (if lv n = true then 1 else 0)
    rw [e, e2, e3]
/-- the holders of chunk c among the slots (array, place), j = array * 16 + place -/
def ca_H (lv : Nat → Bool) (C : Nat → Nat) (c : Nat) : Nat := ca_cn (fun j => lv j && decide (C j = c)) 80
theorem ca_H_le (lv : Nat → Bool) (C : Nat → Nat) (c : Nat) : ca_H lv C c ≤ 80 := ca_cn_le _ 80
theorem ca_H_pos {lv : Nat → Bool} {C : Nat → Nat} {j : Nat} (hj : j < 80) (l : lv j = true) : 1 ≤ ca_H lv C (C j) := ca_cn_pos (p := fun i => lv i && decide (C i = C j)) hj (by simp [l])
theorem ca_H0 {lv : Nat → Bool} {C : Nat → Nat} {d : Nat} (hz : ca_H lv C d = 0) {j : Nat} (hj : j < 80) (l : lv j = true) : C j ≠ d := fun e => by
  have a := ca_H_pos (C := C) hj l
  rw [e] at a
  omega
theorem ca_free {lv : Nat → Bool} {C : Nat → Nat} {c : Nat} (hC : ∀ j, j < 80 → C j < 80) (hc : c < 80) (h2 : 2 ≤ ca_H lv C c) : ∃ d, d < 80 ∧ ca_H lv C d = 0 := by
  by_cases h : ∃ d, d < 80 ∧ ca_H lv C d = 0
  · exact h
  · have a := ca_ns_gt (f := ca_H lv C) 80 hc (fun d hd => by
      have : ¬ ca_H lv C d = 0 := fun z => h ⟨d, hd, z⟩
      omega) h2
    have t : ca_ns (ca_H lv C) 80 = ca_cn lv 80 := ca_ns_tot lv C 80 80 hC
    have b := ca_cn_le lv 80
    omega
/-! ===== the slots and their chunks: C j is slot j's chunk, W c i cell i of chunk c, D j i what slot j must show ===== -/
def ca_MP (lv : Nat → Bool) (ck ho : Nat → Int32) (W D : Nat → Nat → Int32) (C : Nat → Nat) : Prop :=
  (∀ j, j < 80 → C j < 80 ∧ ck j = nI (C j)) ∧ (∀ c, c < 80 → ho c = nI (ca_H lv C c)) ∧ (∀ j, j < 80 → lv j = true → ∀ i, i < 16 → W (C j) i = D j i)
section
variable {lv lv' : Nat → Bool} {ck ho : Nat → Int32} {W W' D D' : Nat → Nat → Int32} {C : Nat → Nat} {m c d : Nat} {E : Nat → Int32}
theorem ca_MPW (h : ca_MP lv ck ho W D C) (h' : ∀ j, j < 80 → lv j = true → ∀ i, i < 16 → W' (C j) i = D' j i) : ca_MP lv ck ho W' D' C := ⟨h.1, h.2.1, h'⟩
theorem ca_MPc (h : ca_MP lv ck ho W D C) (hl : ∀ j, j < 80 → lv' j = lv j) (hd : ∀ j, j < 80 → lv' j = true → ∀ i, i < 16 → D j i = D' j i) : ca_MP lv' ck ho W D' C := by
  refine ⟨h.1, fun c hc => ?_, fun j hj lj i hi => ?_⟩
  · rw [h.2.1 c hc]
    refine congrArg nI (ca_cn_congr 80 fun j hj => ?_).symm
    rw [hl j hj]
  · rw [← hd j hj lj i hi]
    exact h.2.2 j hj (by rw [← hl j hj]; exact lj) i hi
theorem ca_unl (h : ca_MP lv ck ho W D C) (hm : m < 80) (l : lv m = true) : ca_MP (ca_st lv m false) ck (upd ho (C m) (ho (C m) - 1)) W D C := by
  obtain ⟨h1, h2, h3⟩ := h
  refine ⟨h1, fun c hc => ?_, fun j hj lj i hi => h3 j hj ?_ i hi⟩
  · by_cases e : c = C m
    · subst e
      have z : ca_H lv C (C m) = ca_H (ca_st lv m false) C (C m) + 1 := ca_cn_dn (p := fun j => lv j && decide (C j = C m)) (p' := fun j => ca_st lv m false j && decide (C j = C m)) hm (fun j _ hj => by simp only [ca_st_n hj]) (by simp [l]) (by simp [ca_st_s])
      rw [pk_us, h2 _ hc, z, nI_pred]
    · have z : ca_H (ca_st lv m false) C c = ca_H lv C c := ca_cn_congr 80 (fun j _ => by
        by_cases q : j = m
        · subst q
          have : ¬ C j = c := fun z => e z.symm
          simp [this]
        · simp only [ca_st_n q])
      rw [pk_un e, h2 c hc, z]
  · by_cases q : j = m
    · subst q
      exact l
    · rw [ca_st_n q] at lj
      exact lj
theorem ca_lnk (h : ca_MP lv ck ho W D C) (hm : m < 80) (l : lv m = false) (hc : c < 80) (hE : ∀ i, i < 16 → W c i = E i) : ca_MP (ca_st lv m true) (upd ck m (nI c)) (upd ho c (ho c + 1)) W (ca_st D m E) (ca_st C m c) := by
  obtain ⟨h1, h2, h3⟩ := h
  refine ⟨fun j hj => ?_, fun c' hc' => ?_, fun j hj lj i hi => ?_⟩
  · by_cases e : j = m
    · subst e
      rw [ca_st_s, pk_us]
      exact ⟨hc, rfl⟩
    · rw [ca_st_n e, pk_un e]
      exact h1 j hj
  · by_cases e : c' = c
    · subst e
      have z : ca_H (ca_st lv m true) (ca_st C m c') c' = ca_H lv C c' + 1 := ca_cn_dn (p := fun j => ca_st lv m true j && decide (ca_st C m c' j = c')) (p' := fun j => lv j && decide (C j = c')) hm (fun j _ hj => by simp only [ca_st_n hj]) (by simp [ca_st_s]) (by simp [l])
      rw [pk_us, h2 _ hc, z, nI_1]
    · have z : ca_H (ca_st lv m true) (ca_st C m c) c' = ca_H lv C c' := ca_cn_congr 80 (fun j _ => by
        by_cases q : j = m
        · subst q
          have : ¬ c = c' := fun z => e z.symm
          simp [ca_st_s, this, l]
        · simp only [ca_st_n q])
      rw [pk_un e, h2 c' hc', z]
  · by_cases e : j = m
    · subst e
      rw [ca_st_s, ca_st_s]
      exact hE i hi
    · rw [ca_st_n e] at lj
      rw [ca_st_n e, ca_st_n e]
      exact h3 j hj lj i hi
theorem ca_priv (h : ca_MP lv ck ho W D C) (hm : m < 80) (l : lv m = true) (e : ho (C m) = 1) : ∀ j, j < 80 → lv j = true → C j = C m → j = m := by
  intro j hj lj ej
  have a : nI (ca_H lv C (C m)) = nI 1 := (h.2.1 _ (h.1 m hm).1).symm.trans e
  have b : ca_H lv C (C m) = 1 := (nI_eq (by have := ca_H_le lv C (C m); omega) (by decide)).mp a
  by_cases q : j = m
  · exact q
  · have z : 2 ≤ ca_H lv C (C m) := ca_cn_two (p := fun i => lv i && decide (C i = C m)) hm hj q (by simp [l]) (by simp [lj, ej])
    omega
theorem ca_MPf (h : ca_MP lv ck ho W D C) (hm : m < 80) (l : lv m = true) (ne : ¬ ho (C m) = 1) : ∃ d, d < 80 ∧ ca_H lv C d = 0 := by
  have a := ca_H_pos (C := C) hm l
  have b : ca_H lv C (C m) ≠ 1 := fun z => ne (by rw [h.2.1 _ (h.1 m hm).1, z]; rfl)
  exact ca_free (fun j hj => (h.1 j hj).1) (h.1 m hm).1 (by omega)
theorem ca_ownMP (h : ca_MP lv ck ho W D C) (hm : m < 80) (l : lv m = true) (hd : d < 80) (hz : ca_H lv C d = 0) (hW : ∀ i, i < 16 → W' d i = W (C m) i) (hW2 : ∀ c, c < 80 → c ≠ d → ∀ i, i < 16 → W' c i = W c i) : ca_MP lv (upd ck m (nI d)) (upd (upd ho (C m) (ho (C m) - 1)) d 1) W' D (ca_st C m d) ∧ ∀ j, j < 80 → lv j = true → ca_st C m d j = ca_st C m d m → j = m := by
  have nd : d ≠ C m := fun e => ca_H0 hz hm l e.symm
  have a := ca_unl h hm l
  have b : ca_MP (ca_st lv m false) ck (upd ho (C m) (ho (C m) - 1)) W' D C := ca_MPW a (fun j hj lj i hi => by
    have q : j ≠ m := fun e => by rw [e, ca_st_s] at lj; exact Bool.false_ne_true lj
    rw [ca_st_n q] at lj
    rw [hW2 _ (h.1 j hj).1 (ca_H0 hz hj lj) i hi]
    exact h.2.2 j hj lj i hi)
  have c := ca_lnk (c := d) (E := D m) b hm ca_st_s hd (fun i hi => by rw [hW i hi]; exact h.2.2 m hm l i hi)
  have e1 : upd ho (C m) (ho (C m) - 1) d + 1 = 1 := by rw [pk_un nd, h.2.1 d hd, hz]; rfl
  rw [e1] at c
  refine ⟨ca_MPc c (fun j _ => ?_) (fun j _ _ i _ => ?_), fun j hj lj e => ?_⟩
  · by_cases q : j = m
    · subst q
      rw [ca_st_s]
      exact l
    · rw [ca_st_n q, ca_st_n q]
  · by_cases q : j = m
    · subst q
      rw [ca_st_s]
    · rw [ca_st_n q]
  · by_cases q : j = m
    · exact q
    · rw [ca_st_n q, ca_st_s] at e
      exact absurd e (ca_H0 hz hj lj)
end
end
section
/-! ===== sums of ints, in any order; greatest values; the state's invariant ===== -/
def ca_sm (f : Nat → Int32) : Nat → Int32
  | 0 => 0
  | n + 1 => ca_sm f n + f n
theorem ca_sm_congr {f g : Nat → Int32} (n : Nat) (h : ∀ i, i < n → f i = g i) : ca_sm f n = ca_sm g n := by
  induction n with
  | zero => rfl
  | succ n ih => simp only [ca_sm]; rw [ih (fun j hj => h j (by omega)), h n (by omega)]
theorem ca_sm_z {f : Nat → Int32} (n : Nat) (h : ∀ i, i < n → f i = 0) : ca_sm f n = 0 := by
  induction n with
  | zero => rfl
  | succ n ih => simp only [ca_sm]; rw [ih (fun j hj => h j (by omega)), h n (by omega)]; rfl
theorem ca_sm_app (f : Nat → Int32) (n k : Nat) : ca_sm f (n + k) = ca_sm f n + ca_sm (fun r => f (n + r)) k := by
  induction k with
  | zero => exact (Int32.add_zero _).symm
  | succ k ih =>
    show ca_sm f (n + k) + f (n + k) = ca_sm f n + (ca_sm (fun r => f (n + r)) k + f (n + k))
    rw [ih, Int32.add_assoc]
theorem ca_sm_ext {f : Nat → Int32} {m n : Nat} (hmn : m ≤ n) (h : ∀ i, m ≤ i → i < n → f i = 0) : ca_sm f n = ca_sm f m := by
  obtain ⟨k, rfl⟩ : ∃ k, n = m + k := ⟨n - m, by omega⟩
  rw [ca_sm_app, ca_sm_z k (fun i hi => h (m + i) (by omega) (by omega)), Int32.add_zero]
theorem ca_sm_lin (s : Nat → Int32) (f u : Int32) (n : Nat) : ca_sm (fun i => s i * f + u) n = ca_sm s n * f + nI n * u := by
  induction n with
  | zero =>
    show (0 : Int32) = 0 * f + nI 0 * u
    rw [nI_0, Int32.zero_mul, Int32.zero_mul]
    rfl
  | succ n ih =>
    simp only [ca_sm]
    rw [ih, nI_succ]
    generalize nI n = z
    grind
theorem ca_sm_blk (f : Nat → Int32) (m : Nat) : ca_sm f (16 * m) = ca_sm (fun c => ca_sm (fun r => f (16 * c + r)) 16) m := by
  induction m with
  | zero => rfl
  | succ m ih =>
    rw [Nat.mul_succ, ca_sm_app, ih]
    rfl
def ca_ls (f : Nat → Int32) : List Nat → Int32
  | [] => 0
  | a :: l => f a + ca_ls f l
theorem ca_ls_app (f : Nat → Int32) (l l' : List Nat) : ca_ls f (l ++ l') = ca_ls f l + ca_ls f l' := by
  induction l with
  | nil => exact (Int32.zero_add _).symm
  | cons a l ih =>
    show f a + ca_ls f (l ++ l') = f a + ca_ls f l + ca_ls f l'
    rw [ih, Int32.add_assoc]
theorem ca_ls_perm (f : Nat → Int32) {l l' : List Nat} (h : l.Perm l') : ca_ls f l = ca_ls f l' := by
  induction h with
  | nil => rfl
  | cons x _ ih =>
    simp only [ca_ls]
    rw [ih]
  | swap x y l =>
    simp only [ca_ls]
    rw [← Int32.add_assoc, ← Int32.add_assoc, Int32.add_comm (f y) (f x)]
  | trans _ _ a b => exact a.trans b
theorem ca_ls_range (f : Nat → Int32) (p : Nat → Nat) (n : Nat) : ca_ls f ((List.range n).map p) = ca_sm (fun t => f (p t)) n := by
  induction n with
  | zero => rfl
  | succ n ih =>
    rw [List.range_succ, List.map_append, ca_ls_app, ih]
    show ca_sm (fun t => f (p t)) n + (f (p n) + 0) = ca_sm (fun t => f (p t)) n + f (p n)
    rw [Int32.add_zero]
theorem ca_reidx (p : Nat → Nat) (h : ((List.range 256).map p).Perm (List.range 256)) (f : Nat → Int32) : ca_sm f 256 = ca_sm (fun k => ca_sm (fun i => f (p (16 * k + i))) 16) 16 := by
  have a := ca_ls_perm f h
  have b := ca_ls_range f (fun t => t) 256
  rw [List.map_id'] at b
  rw [ca_ls_range, b] at a
  rw [← a]
  exact ca_sm_blk (fun t => f (p t)) 16
theorem ca_perm1 : ((List.range 256).map (fun t => ca_ce (t / 16) (t % 16))).Perm (List.range 256) := by decide +kernel
theorem ca_perm2 : ((List.range 256).map (fun t => t / 16 + 16 * (t % 16))).Perm (List.range 256) := by decide +kernel
theorem ca_sm_chunk (f : Nat → Int32) : ca_sm f 256 = ca_sm (fun k => ca_sm (fun i => f (ca_ce k i)) 16) 16 := by
  rw [ca_reidx _ ca_perm1]
  refine ca_sm_congr 16 fun k hk => ca_sm_congr 16 fun i hi => ?_
  show f (ca_ce ((16 * k + i) / 16) ((16 * k + i) % 16)) = f (ca_ce k i)
  rw [show (16 * k + i) / 16 = k by omega, show (16 * k + i) % 16 = i by omega]
theorem ca_sm_rows (f : Nat → Int32) : ca_sm f 256 = ca_sm (fun r => ca_sm (fun c => f (r + 16 * c)) 16) 16 := by
  rw [ca_reidx _ ca_perm2]
  refine ca_sm_congr 16 fun k hk => ca_sm_congr 16 fun i hi => ?_
  show f ((16 * k + i) / 16 + 16 * ((16 * k + i) % 16)) = f (k + 16 * i)
  rw [show (16 * k + i) / 16 = k by omega, show (16 * k + i) % 16 = i by omega]
theorem ca_sm_in (a b : Nat) (x : Int32) (n : Nat) : ca_sm (fun i => if a ≤ i ∧ i ≤ b then x else 0) n = nI (min n (b + 1) - a) * x := by
  induction n with
  | zero =>
    rw [show min 0 (b + 1) - a = 0 by omega, nI_0, Int32.zero_mul]
    rfl
  | succ n ih =>
    simp only [ca_sm]
    rw [ih]
    by_cases h : a ≤ n ∧ n ≤ b
    · rw [if_pos h, show min (n + 1) (b + 1) - a = (min n (b + 1) - a) + 1 by omega, nI_succ]
      generalize nI (min n (b + 1) - a) = z
      grind
    · rw [if_neg h, Int32.add_zero, show min (n + 1) (b + 1) - a = min n (b + 1) - a by omega]
/-! the greatest of sixteen -/
def ca_MX (f : Nat → Int32) (o : Int32) : Prop := (∃ i, i < 16 ∧ f i = o) ∧ ∀ i, i < 16 → f i ≤ o
theorem ca_MX_congr {f g : Nat → Int32} {o : Int32} (h : ∀ i, i < 16 → f i = g i) (m : ca_MX f o) : ca_MX g o := by
  obtain ⟨⟨i, hi, e⟩, b⟩ := m
  refine ⟨⟨i, hi, ?_⟩, fun j hj => ?_⟩
  · rw [← h i hi]; exact e
  · rw [← h j hj]; exact b j hj
/-! one chunk: stored cells s, factor f, summand u, kept sum (k, t), kept greatest (g, o) -/
def ca_CC (s : Nat → Int32) (f u k t g o : Int32) : Prop := (k = 0 ∨ k = 1 ∧ t = ca_sm s 16) ∧ (g = 0 ∨ g = 1 ∧ ca_MX (fun i => s i * f + u) o)
theorem ca_CC_congr {s s' : Nat → Int32} {f u k t g o : Int32} (h : ∀ i, i < 16 → s i = s' i) (m : ca_CC s f u k t g o) : ca_CC s' f u k t g o := by
  refine ⟨?_, ?_⟩
  · rcases m.1 with z | ⟨z, w⟩
    · exact Or.inl z
    · exact Or.inr ⟨z, w.trans (ca_sm_congr 16 h)⟩
  · rcases m.2 with z | ⟨z, w⟩
    · exact Or.inl z
    · exact Or.inr ⟨z, ca_MX_congr (fun i hi => by rw [h i hi]) w⟩
def ca_SC (ce fa su sk ss gk go : Nat → Int32) : Prop := ∀ c, c < 80 → ca_CC (fun i => ce (c * 16 + i)) (fa c) (su c) (sk c) (ss c) (gk c) (go c)
/-- what a chunk shows -/
def ca_W (ce fa su : Nat → Int32) : Nat → Nat → Int32 := fun c i => ce (c * 16 + i) * fa c + su c
/-- which slots are held: those of the present array and of the versions that exist -/
def ca_lv (ex : Nat → Int32) : Nat → Bool := fun j => decide (64 ≤ j ∨ ex (j / 16) ≠ 0)
/-- what the slots must show, by the reference's arrays -/
def ca_D (P K : Nat → Int32) : Nat → Nat → Int32 := fun j i => if 64 ≤ j then P (ca_ce (j - 64) i) else K (j / 16 * 256 + ca_ce (j % 16) i)
def ca_XC (ex ck ho ce fa su sk ss gk go P K : Nat → Int32) (C : Nat → Nat) : Prop := ca_SC ce fa su sk ss gk go ∧ ca_MP (ca_lv ex) ck ho (ca_W ce fa su) (ca_D P K) C
def ca_XI (ex ck ho ce fa su sk ss gk go P K : Nat → Int32) : Prop := ∃ C : Nat → Nat, ca_XC ex ck ho ce fa su sk ss gk go P K C
theorem ca_lv4 (ex : Nat → Int32) {k : Nat} : ca_lv ex (64 + k) = true := decide_eq_true (Or.inl (by omega))
theorem ca_lvV {ex : Nat → Int32} {a k : Nat} (hk : k < 16) (h : ex a ≠ 0) : ca_lv ex (a * 16 + k) = true := decide_eq_true (Or.inr (by rw [show (a * 16 + k) / 16 = a by omega]; exact h))
theorem ca_D4 {P K : Nat → Int32} {k i : Nat} : ca_D P K (64 + k) i = P (ca_ce k i) := by
  unfold ca_D
  rw [if_pos (by omega), show 64 + k - 64 = k by omega]
theorem ca_DV {P K : Nat → Int32} {a k i : Nat} (ha : a < 4) (hk : k < 16) : ca_D P K (a * 16 + k) i = K (a * 256 + ca_ce k i) := by
  unfold ca_D
  rw [if_neg (by omega), show (a * 16 + k) / 16 = a by omega, show (a * 16 + k) % 16 = k by omega]
theorem ca_XIc {ex ck ho ce fa su sk ss gk go P P' K K' : Nat → Int32} (h : ca_XI ex ck ho ce fa su sk ss gk go P K) (hP : ∀ q, q < 256 → P q = P' q) (hK : ∀ a q, a < 4 → ex a ≠ 0 → q < 256 → K (a * 256 + q) = K' (a * 256 + q)) : ca_XI ex ck ho ce fa su sk ss gk go P' K' := by
  obtain ⟨C, s, m⟩ := h
  refine ⟨C, s, ca_MPc m (fun _ _ => rfl) (fun j hj lj i hi => ?_)⟩
  unfold ca_D
  by_cases q : 64 ≤ j
  · rw [if_pos q, if_pos q]
    exact hP _ (ca_ce_lt (by omega) hi)
  · rw [if_neg q, if_neg q]
    refine hK (j / 16) _ (by omega) ?_ (ca_ce_lt (by omega) hi)
    rcases of_decide_eq_true lj with z | z
    · exact absurd z q
    · exact z
/-- a chunk that the present array alone holds may change: what its place then shows -/
theorem ca_XIw {ex ck ho ce fa su sk ss gk go P K ce' fa' su' sk' ss' gk' go' N P' : Nat → Int32} {C : Nat → Nat} {k : Nat} (h : ca_XC ex ck ho ce fa su sk ss gk go P K C) (hk : k < 16) (hp : ∀ j, j < 80 → ca_lv ex j = true → C j = C (64 + k) → j = 64 + k)
    (ho2 : ∀ c, c < 80 → c ≠ C (64 + k) → (∀ i, i < 16 → ce' (c * 16 + i) = ce (c * 16 + i)) ∧ fa' c = fa c ∧ su' c = su c ∧ sk' c = sk c ∧ ss' c = ss c ∧ gk' c = gk c ∧ go' c = go c)
    (hc : ca_CC (fun i => ce' (C (64 + k) * 16 + i)) (fa' (C (64 + k))) (su' (C (64 + k))) (sk' (C (64 + k))) (ss' (C (64 + k))) (gk' (C (64 + k))) (go' (C (64 + k))))
    (hN : ∀ i, i < 16 → ce' (C (64 + k) * 16 + i) * fa' (C (64 + k)) + su' (C (64 + k)) = N i)
    (hP : ∀ q, q < 256 → P' q = if ca_pl q = k then N (ca_wi q) else P q) : ca_XC ex ck ho ce' fa' su' sk' ss' gk' go' P' K C := by
  obtain ⟨s, m⟩ := h
  refine ⟨fun c hc80 => ?_, ca_MPW m (fun j hj lj i hi => ?_)⟩
  · by_cases e : c = C (64 + k)
    · subst e
      exact hc
    · obtain ⟨a1, a2, a3, a4, a5, a6, a7⟩ := ho2 c hc80 e
      rw [a2, a3, a4, a5, a6, a7]
      exact ca_CC_congr (fun i hi => (a1 i hi).symm) (s c hc80)
  · by_cases e : j = 64 + k
    · subst e
      rw [ca_D4, hP _ (ca_ce_lt hk hi), ca_pl_ce hk hi, if_pos rfl, ca_wi_ce hk hi]
      exact hN i hi
    · have ne : C j ≠ C (64 + k) := fun z => e (hp j hj lj z)
      obtain ⟨a1, a2, a3, -⟩ := ho2 (C j) (m.1 j hj).1 ne
      have g := m.2.2 j hj lj i hi
      have w : ca_W ce' fa' su' (C j) i = ca_W ce fa su (C j) i := by
        unfold ca_W
        rw [a1 i hi, a2, a3]
      rw [w, g]
      unfold ca_D
      by_cases q : 64 ≤ j
      · have hj' : j - 64 < 16 := by omega
        rw [if_pos q, if_pos q, hP _ (ca_ce_lt hj' hi), ca_pl_ce hj' hi, if_neg (by omega)]
      · rw [if_neg q, if_neg q]
end
section
/-! ===== the component's walks: cells and chunks ===== -/
theorem ca_b0 : vp_nar .boolean 0 = 0 := rfl
theorem ca_b1 : vp_nar .boolean 1 = 1 := rfl
theorem ca_bool {x : Int32} (h : x = 0 ∨ x = 1) : vp_nar .boolean x = x := by rcases h with rfl | rfl <;> rfl
theorem ca_plI {r c : Nat} (hr : r < 16) (hc : c < 16) : ((nI r >>> ((2 : Int32) &&& 31)) * 4) + (nI c >>> ((2 : Int32) &&& 31)) = nI (ca_pl (r + 16 * c)) := by
  rw [pk_shrN (by omega) _ 2 (by decide), pk_shrN (by omega) _ 2 (by decide)]
  have e : nI (r / 2 ^ 2) * 4 = nI (r / 2 ^ 2 * 4) := pk_mul _ 4
  rw [e, nI_add]
  exact congrArg nI (by unfold ca_pl; omega)
theorem ca_wiI {r c : Nat} (hr : r < 16) (hc : c < 16) : ((nI r &&& 3) * 4) + (nI c &&& 3) = nI (ca_wi (r + 16 * c)) := by
  rw [pk_andN (by omega) 2 (by decide), pk_andN (by omega) 2 (by decide)]
  have e : nI (r % 2 ^ 2) * 4 = nI (r % 2 ^ 2 * 4) := pk_mul _ 4
  rw [e, nI_add]
  exact congrArg nI (by unfold ca_wi; omega)
theorem ca_x16 (a b : Nat) : nI a * 16 + nI b = nI (a * 16 + b) := by
  rw [show nI a * 16 = nI (a * 16) from pk_mul a 16, nI_add]
section
variable {r0 r1 c0 c1 : Int32} {ex ck ho ce fa su sk ss gk go mv P K : Nat → Int32}
theorem cx_rd {post : Int32 → Prop} {a r c : Nat} (h : ca_XI ex ck ho ce fa su sk ss gk go P K) (ha : a < 5) (hr : r < 16) (hc : c < 16) (l : ca_lv ex (a * 16 + ca_pl (r + 16 * c)) = true) (hp : post (ca_D P K (a * 16 + ca_pl (r + 16 * c)) (ca_wi (r + 16 * c)))) : wpX_read post (r0, r1, c0, c1, ex, ck, ho, ce, fa, su, sk, ss, gk, go, mv) (nI a) (nI r) (nI c) := by
  obtain ⟨C, s, m⟩ := h
  have hpl := ca_pl_lt (q := r + 16 * c) (by omega)
  have hwi := ca_wi_lt (r + 16 * c)
  have hj : a * 16 + ca_pl (r + 16 * c) < 80 := by omega
  obtain ⟨hC, ec⟩ := m.1 _ hj
  have g := m.2.2 _ hj l _ hwi
  unfold ca_W at g
  unfold wpX_read wpX_placeOf wpX_within
  dsimp only
  rw [ca_plI hr hc, ca_wiI hr hc, ca_x16, nI_clamp (n := a * 16 + ca_pl (r + 16 * c)) (by omega), ec]
  refine ⟨vp_in_nI hj (by decide), ?_⟩
  rintro _ rfl
  rw [ca_x16, nI_clamp (n := C (a * 16 + ca_pl (r + 16 * c)) * 16 + ca_wi (r + 16 * c)) (by omega), nI_clamp (n := C (a * 16 + ca_pl (r + 16 * c))) (by omega), g]
  exact ⟨vp_in_nI (by omega) (by decide), vp_in_nI hC (by decide), vp_in_nI hC (by decide), hp⟩
theorem cx_rd4 {post : Int32 → Prop} {r c : Nat} (h : ca_XI ex ck ho ce fa su sk ss gk go P K) (hr : r < 16) (hc : c < 16) (hp : post (P (r + 16 * c))) : wpX_read post (r0, r1, c0, c1, ex, ck, ho, ce, fa, su, sk, ss, gk, go, mv) 4 (nI r) (nI c) := by
  refine cx_rd (a := 4) h (by omega) hr hc (ca_lv4 ex) ?_
  have e : ca_D P K (4 * 16 + ca_pl (r + 16 * c)) (ca_wi (r + 16 * c)) = P (r + 16 * c) := by
    rw [show 4 * 16 = 64 from rfl, ca_D4, ca_ce_pw (by omega)]
  rw [e]
  exact hp
theorem cx_rdV {post : Int32 → Prop} {a r c : Nat} (h : ca_XI ex ck ho ce fa su sk ss gk go P K) (ha : a < 4) (hx : ex a ≠ 0) (hr : r < 16) (hc : c < 16) (hp : post (K (a * 256 + (r + 16 * c)))) : wpX_read post (r0, r1, c0, c1, ex, ck, ho, ce, fa, su, sk, ss, gk, go, mv) (nI a) (nI r) (nI c) := by
  have hpl := ca_pl_lt (q := r + 16 * c) (by omega)
  refine cx_rd h (by omega) hr hc (ca_lvV hpl hx) ?_
  rw [ca_DV ha hpl, ca_ce_pw (by omega)]
  exact hp
theorem cx_fs2 {post : Int32 → Prop} {H : Nat → Nat} (hH : ∀ c, c < 80 → ho c = nI (H c)) (hL : ∀ c, H c ≤ 80) (hp : ∀ d, d < 80 → H d = 0 → post (nI d)) : ∀ n c, (∃ d, c ≤ d ∧ d < 80 ∧ H d = 0) → 80 - c < n → wX_freeSlot_2 post r0 r1 c0 c1 ex ck ho ce fa su sk ss gk go mv n (nI c) := by
  intro n
  induction n with
  | zero => intro c _ h; omega
  | succ n ih =>
    intro c hd hn
    obtain ⟨d, hcd, hd80, hz⟩ := hd
    by_cases h79 : 79 ≤ c
    · have e : c = d := by omega
      exact br_t (nI_le (a := 79) h79 (by omega)) (hp c (by omega) (by rw [e]; exact hz))
    · refine br_f (nI_ge (b := 79) (by omega) (by decide)) ⟨vp_in_nI (by omega) (by decide), ?_⟩
      have e : ho (nI c).toNatClampNeg = nI (H c) := by rw [nI_clamp (by omega), hH c (by omega)]
      by_cases z : H c = 0
      · refine br_t ?_ (hp c (by omega) z)
        rw [e, z]
        exact Int32.le_refl _
      · refine br_f ?_ (fun y ey => ?_)
        · rw [e]
          exact nI_nle (by omega) (by have := hL c; omega)
        · rw [ey, nI_1]
          refine ih (c + 1) ⟨d, ?_, hd80, hz⟩ (by omega)
          have : c ≠ d := fun q => z (by rw [q]; exact hz)
          omega
theorem cx_fs {post : Int32 → Prop} {H : Nat → Nat} (hH : ∀ c, c < 80 → ho c = nI (H c)) (hL : ∀ c, H c ≤ 80) (hd : ∃ d, d < 80 ∧ H d = 0) (hp : ∀ d, d < 80 → H d = 0 → post (nI d)) : wpX_freeSlot post (r0, r1, c0, c1, ex, ck, ho, ce, fa, su, sk, ss, gk, go, mv) := by
  obtain ⟨d, h1, h2⟩ := hd
  exact ⟨81, cx_fs2 hH hL hp 81 0 ⟨d, Nat.zero_le _, h1, h2⟩ (by omega)⟩
theorem cx_own30 {post : Int32 → SX → Prop} {k c d : Nat} (hk : k < 16) (hc : c < 80) (hd : d < 80) (ne : c ≠ d) (hp : ∀ ce' : Nat → Int32, (∀ i, i < 16 → ce' (d * 16 + i) = ce (c * 16 + i)) → (∀ c', c' ≠ d → ∀ i, i < 16 → ce' (c' * 16 + i) = ce (c' * 16 + i)) → post (nI d) (r0, r1, c0, c1, ex, upd ck (64 + k) (nI d), upd (upd ho c (ho c - 1)) d 1, ce', upd fa d (fa c), upd su d (su c), upd sk d (vp_nar .boolean (sk c)), upd ss d (ss c), upd gk d (vp_nar .boolean (gk c)), upd go d (go c), mv)) :
    ∀ n i (ce1 : Nat → Int32), i ≤ 16 → 16 - i < n → (∀ j, j < i → ce1 (d * 16 + j) = ce (c * 16 + j)) → (∀ c', c' ≠ d → ∀ j, j < 16 → ce1 (c' * 16 + j) = ce (c' * 16 + j)) → wX_own_30 post (nI k) (nI c) (nI d) r0 r1 c0 c1 n (nI i) ex ck ho ce1 fa su sk ss gk go mv := by
  intro n
  induction n with
  | zero => intro i _ _ h; omega
  | succ n ih =>
    intro i ce1 hi hn h1 h2
    have vc : vp_in (nI c) 80 := vp_in_nI hc (by decide)
    have vd : vp_in (nI d) 80 := vp_in_nI hd (by decide)
    have ec : (nI c).toNatClampNeg = c := nI_clamp (by omega)
    have ed : (nI d).toNatClampNeg = d := nI_clamp (by omega)
    by_cases e : i = 16
    · subst e
      have e64 : (64 : Int32) + nI k = nI (64 + k) := nI_add 64 k
      refine br_t (nI_le (a := 16) (b := 16) (Nat.le_refl _) (by decide)) ?_
      rw [ec, ed, e64, nI_clamp (n := 64 + k) (by omega)]
      exact ⟨vc, vd, nm_e ⟨vc, vd, nm_e ⟨vc, vd, nm_e ⟨vc, vd, nm_e ⟨vc, vd, nm_e ⟨vc, vd, nm_e ⟨vc, vc, nm_e ⟨vd, nm_e ⟨vp_in_nI (by omega) (by decide), nm_e (hp ce1 h1 h2)⟩⟩⟩⟩⟩⟩⟩⟩⟩
    · refine br_f (nI_ge (a := i) (b := 16) (by omega) (by decide)) ?_
      rw [ca_x16, ca_x16, nI_clamp (n := c * 16 + i) (by omega), nI_clamp (n := d * 16 + i) (by omega)]
      refine ⟨vp_in_nI (by omega) (by decide), vp_in_nI (by omega) (by decide), nm_e (nm_r (nI_1 i) ?_)⟩
      refine ih (i + 1) _ (by omega) (by omega) (fun j hj => ?_) (fun c' hc' j hj => ?_)
      · by_cases q : j = i
        · subst q
          rw [pk_us]
          exact h2 c ne j (by omega)
        · rw [pk_un (by omega)]
          exact h1 j (by omega)
      · rw [pk_un (by omega)]
        exact h2 c' hc' j hj
theorem cx_own {post : Int32 → SX → Prop} {k : Nat} (h : ca_XI ex ck ho ce fa su sk ss gk go P K) (hk : k < 16) (hp : ∀ (ck ho ce fa su sk ss gk go : Nat → Int32) (C : Nat → Nat), ca_XC ex ck ho ce fa su sk ss gk go P K C → (∀ j, j < 80 → ca_lv ex j = true → C j = C (64 + k) → j = 64 + k) → post (nI (C (64 + k))) (r0, r1, c0, c1, ex, ck, ho, ce, fa, su, sk, ss, gk, go, mv)) : wpX_own post (r0, r1, c0, c1, ex, ck, ho, ce, fa, su, sk, ss, gk, go, mv) (nI k) := by
  obtain ⟨C, s, m⟩ := h
  have e64 : (64 : Int32) + nI k = nI (64 + k) := nI_add 64 k
  obtain ⟨hC, ec⟩ := m.1 (64 + k) (by omega)
  unfold wpX_own
  dsimp only
  rw [e64, nI_clamp (n := 64 + k) (by omega), ec]
  refine ⟨vp_in_nI (by omega) (by decide), ?_⟩
  rintro _ rfl
  rw [nI_clamp (n := C (64 + k)) (by omega)]
  refine ⟨vp_in_nI hC (by decide), ?_⟩
  by_cases e : ho (C (64 + k)) = 1
  · exact br_t e (hp ck ho ce fa su sk ss gk go C ⟨s, m⟩ (ca_priv m (by omega) (ca_lv4 ex) e))
  · refine br_f e (cx_fs (H := ca_H (ca_lv ex) C) m.2.1 (ca_H_le _ _) (ca_MPf m (by omega) (ca_lv4 ex) e) (fun d hd hz => ?_))
    have ne : C (64 + k) ≠ d := ca_H0 hz (by omega) (ca_lv4 ex)
    refine ⟨17, cx_own30 hk hC hd ne (fun ce' h1 h2 => ?_) 17 0 ce (by omega) (by omega) (fun j hj => absurd hj (by omega)) (fun _ _ _ _ => rfl)⟩
    have mm := ca_ownMP (m := 64 + k) (W' := ca_W ce' (upd fa d (fa (C (64 + k)))) (upd su d (su (C (64 + k))))) m (by omega) (ca_lv4 ex) hd hz (fun i hi => by unfold ca_W; rw [pk_us, pk_us, h1 i hi]) (fun c _ q i hi => by unfold ca_W; rw [pk_un q, pk_un q, h2 c q i hi])
    have sc : ca_SC ce' (upd fa d (fa (C (64 + k)))) (upd su d (su (C (64 + k)))) (upd sk d (vp_nar .boolean (sk (C (64 + k))))) (upd ss d (ss (C (64 + k)))) (upd gk d (vp_nar .boolean (gk (C (64 + k))))) (upd go d (go (C (64 + k)))) := by
      intro c hc
      by_cases q : c = d
      · subst q
        have cc := s _ hC
        rw [pk_us, pk_us, pk_us, pk_us, pk_us, pk_us, ca_bool (cc.1.imp id And.left), ca_bool (cc.2.imp id And.left)]
        exact ca_CC_congr (fun i hi => (h1 i hi).symm) cc
      · rw [pk_un q, pk_un q, pk_un q, pk_un q, pk_un q, pk_un q]
        exact ca_CC_congr (fun i hi => (h2 c q i hi).symm) (s c hc)
    have z := hp _ _ _ _ _ _ _ _ _ (ca_st C (64 + k) d) ⟨sc, mm.1⟩ mm.2
    rw [ca_st_s] at z
    exact z
theorem cx_settle2 {post : SX → Prop} {c : Nat} (hc : c < 80) (hp : ∀ ce' : Nat → Int32, (∀ i, i < 16 → ce' (c * 16 + i) = ce (c * 16 + i) * fa c + su c) → (∀ c', c' ≠ c → ∀ i, i < 16 → ce' (c' * 16 + i) = ce (c' * 16 + i)) → post (r0, r1, c0, c1, ex, ck, ho, ce', upd fa c 1, upd su c 0, upd sk c 0, ss, gk, go, mv)) :
    ∀ n i (ce1 : Nat → Int32), i ≤ 16 → 16 - i < n → (∀ j, j < i → ce1 (c * 16 + j) = ce (c * 16 + j) * fa c + su c) → (∀ j, i ≤ j → j < 16 → ce1 (c * 16 + j) = ce (c * 16 + j)) → (∀ c', c' ≠ c → ∀ j, j < 16 → ce1 (c' * 16 + j) = ce (c' * 16 + j)) → wX_settle_2 post (nI c) r0 r1 c0 c1 n (nI i) ex ck ho ce1 fa su sk ss gk go mv := by
  intro n
  induction n with
  | zero => intro i _ _ h; omega
  | succ n ih =>
    intro i ce1 hi hn h1 h2 h3
    have vc : vp_in (nI c) 80 := vp_in_nI hc (by decide)
    have ec : (nI c).toNatClampNeg = c := nI_clamp (by omega)
    by_cases e : i = 16
    · subst e
      refine br_t (nI_le (a := 16) (b := 16) (Nat.le_refl _) (by decide)) ?_
      rw [ec]
      exact ⟨vc, nm_e ⟨vc, nm_e ⟨vc, nm_e (hp ce1 h1 h3)⟩⟩⟩
    · refine br_f (nI_ge (a := i) (b := 16) (by omega) (by decide)) ?_
      rw [ca_x16, nI_clamp (n := c * 16 + i) (by omega), ec]
      refine ⟨vp_in_nI (by omega) (by decide), vc, vc, vp_in_nI (by omega) (by decide), nm_e (nm_r (nI_1 i) ?_)⟩
      refine ih (i + 1) _ (by omega) (by omega) (fun j hj => ?_) (fun j hj hj' => ?_) (fun c' hc' j hj => ?_)
      · by_cases q : j = i
        · subst q
          rw [pk_us, h2 j (Nat.le_refl _) (by omega)]
        · rw [pk_un (by omega)]
          exact h1 j (by omega)
      · rw [pk_un (by omega)]
        exact h2 j (by omega) hj'
      · rw [pk_un (by omega)]
        exact h3 c' hc' j hj
theorem cx_settle {post : SX → Prop} {c : Nat} (hc : c < 80) (hp : ∀ ce' : Nat → Int32, (∀ i, i < 16 → ce' (c * 16 + i) = ce (c * 16 + i) * fa c + su c) → (∀ c', c' ≠ c → ∀ i, i < 16 → ce' (c' * 16 + i) = ce (c' * 16 + i)) → post (r0, r1, c0, c1, ex, ck, ho, ce', upd fa c 1, upd su c 0, upd sk c 0, ss, gk, go, mv)) : wpX_settle post (r0, r1, c0, c1, ex, ck, ho, ce, fa, su, sk, ss, gk, go, mv) (nI c) :=
  ⟨17, cx_settle2 hc hp 17 0 ce (by omega) (by omega) (fun j hj => absurd hj (by omega)) (fun _ _ _ => rfl) (fun _ _ _ _ => rfl)⟩
/-- settled, a chunk shows what it showed -/
theorem ca_setl {ce' : Nat → Int32} {C : Nat → Nat} {c : Nat} (x : ca_XC ex ck ho ce fa su sk ss gk go P K C) (h1 : ∀ i, i < 16 → ce' (c * 16 + i) = ce (c * 16 + i) * fa c + su c) (h2 : ∀ c', c' ≠ c → ∀ i, i < 16 → ce' (c' * 16 + i) = ce (c' * 16 + i)) : ca_XC ex ck ho ce' (upd fa c 1) (upd su c 0) (upd sk c 0) ss gk go P K C := by
  obtain ⟨s, m⟩ := x
  have w : ∀ d, d < 80 → ∀ i, i < 16 → ca_W ce' (upd fa c 1) (upd su c 0) d i = ca_W ce fa su d i := by
    intro d _ i hi
    unfold ca_W
    by_cases q : d = c
    · subst q
      rw [pk_us, pk_us, h1 i hi, Int32.mul_one, Int32.add_zero]
    · rw [pk_un q, pk_un q, h2 d q i hi]
  refine ⟨fun d hd => ?_, ca_MPW m (fun j hj lj i hi => by rw [w _ (m.1 j hj).1 i hi]; exact m.2.2 j hj lj i hi)⟩
  have z := s d hd
  by_cases q : d = c
  · subst q
    refine ⟨Or.inl pk_us, ?_⟩
    rcases z.2 with z | ⟨z, y⟩
    · exact Or.inl z
    · exact Or.inr ⟨z, ca_MX_congr (fun i hi => (w d hd i hi).symm) y⟩
  · rw [pk_un q, pk_un q, pk_un q]
    exact ca_CC_congr (fun i hi => (h2 d q i hi).symm) z
theorem cx_w42 {post : SX → Prop} {r c d : Nat} {v : Int32} (hr : r < 16) (hc : c < 16) (hd : d < 80) (hp : post (r0, r1, c0, c1, ex, ck, ho, upd ce (d * 16 + ca_wi (r + 16 * c)) v, fa, su, upd sk d 0, ss, upd gk d 0, go, mv)) : wX_writeCell_42 post (nI r) (nI c) v (nI d) r0 r1 c0 c1 ex ck ho ce fa su sk ss gk go mv := by
  have hwi := ca_wi_lt (r + 16 * c)
  have vd : vp_in (nI d) 80 := vp_in_nI hd (by decide)
  unfold wX_writeCell_42 wpX_within
  dsimp only
  rw [ca_wiI hr hc, ca_x16, nI_clamp (n := d * 16 + ca_wi (r + 16 * c)) (by omega), nI_clamp (n := d) (by omega)]
  exact ⟨vp_in_nI (by omega) (by decide), nm_e ⟨vd, nm_e ⟨vd, nm_e hp⟩⟩⟩
/-- one cell of a settled chunk of the present array's own -/
theorem ca_wr {C : Nat → Nat} {q : Nat} {v : Int32} (x : ca_XC ex ck ho ce fa su sk ss gk go P K C) (hq : q < 256) (hp : ∀ j, j < 80 → ca_lv ex j = true → C j = C (64 + ca_pl q) → j = 64 + ca_pl q) (hf : fa (C (64 + ca_pl q)) = 1) (hs : su (C (64 + ca_pl q)) = 0) : ca_XC ex ck ho (upd ce (C (64 + ca_pl q) * 16 + ca_wi q) v) fa su (upd sk (C (64 + ca_pl q)) 0) ss (upd gk (C (64 + ca_pl q)) 0) go (upd P q v) K C := by
  have hk := ca_pl_lt hq
  have hw := ca_wi_lt q
  refine ca_XIw (N := fun i => if i = ca_wi q then v else P (ca_ce (ca_pl q) i)) x hk hp (fun c _ hc => ⟨fun i hi => pk_un (by omega), rfl, rfl, pk_un hc, rfl, pk_un hc, rfl⟩) ⟨Or.inl pk_us, Or.inl pk_us⟩ (fun i hi => ?_) (fun p hp' => ?_)
  · have g := x.2.2.2 (64 + ca_pl q) (by omega) (ca_lv4 ex) i hi
    unfold ca_W at g
    rw [ca_D4, hf, hs, Int32.mul_one, Int32.add_zero] at g
    rw [hf, hs, Int32.mul_one, Int32.add_zero]
    by_cases e : i = ca_wi q
    · subst e
      rw [pk_us, if_pos rfl]
    · rw [pk_un (by omega), if_neg e, g]
  · by_cases e : p = q
    · subst e
      rw [pk_us, if_pos rfl, if_pos rfl]
    · rw [pk_un e]
      by_cases f : ca_pl p = ca_pl q
      · have g : ca_wi p ≠ ca_wi q := fun z => e (by rw [← ca_ce_pw hp', ← ca_ce_pw hq, f, z])
        rw [if_pos f, if_neg g, ← f, ca_ce_pw hp']
      · rw [if_neg f]
theorem cx_write {post : SX → Prop} {r c : Nat} {v : Int32} (h : ca_XI ex ck ho ce fa su sk ss gk go P K) (hr : r < 16) (hc : c < 16) (hp : ∀ (ck ho ce fa su sk ss gk go : Nat → Int32), ca_XI ex ck ho ce fa su sk ss gk go (upd P (r + 16 * c) v) K → post (r0, r1, c0, c1, ex, ck, ho, ce, fa, su, sk, ss, gk, go, mv)) : wpX_writeCell post (r0, r1, c0, c1, ex, ck, ho, ce, fa, su, sk, ss, gk, go, mv) (nI r) (nI c) v := by
  have hq : r + 16 * c < 256 := by omega
  have hk := ca_pl_lt hq
  unfold wpX_writeCell wpX_placeOf
  dsimp only
  rw [ca_plI hr hc]
  refine cx_own h hk (fun ck ho ce fa su sk ss gk go C x pv => ?_)
  dsimp only
  have hC := (x.2.1 (64 + ca_pl (r + 16 * c)) (by omega)).1
  have vC : vp_in (nI (C (64 + ca_pl (r + 16 * c)))) 80 := vp_in_nI hC (by decide)
  have eC : (nI (C (64 + ca_pl (r + 16 * c)))).toNatClampNeg = C (64 + ca_pl (r + 16 * c)) := nI_clamp (by omega)
  have sett : wX_writeCell_36 post (nI r) (nI c) v (nI (C (64 + ca_pl (r + 16 * c)))) r0 r1 c0 c1 ex ck ho ce fa su sk ss gk go mv := by
    unfold wX_writeCell_36
    refine cx_settle hC (fun ce' h1 h2 => ?_)
    dsimp only
    exact cx_w42 hr hc hC (hp _ _ _ _ _ _ _ _ _ ⟨C, ca_wr (ca_setl x h1 h2) hq pv pk_us pk_us⟩)
  rw [eC]
  refine ⟨vC, ?_⟩
  by_cases hf : fa (C (64 + ca_pl (r + 16 * c))) = 1
  · refine br_t hf ⟨vC, ?_⟩
    by_cases hs : su (C (64 + ca_pl (r + 16 * c))) = 0
    · exact br_t hs (cx_w42 hr hc hC (hp _ _ _ _ _ _ _ _ _ ⟨C, ca_wr x hq pv hf hs⟩))
    · exact br_f hs sett
  · exact br_f hf sett
end
end
section
/-! ===== the component's walks: regions and changes ===== -/
theorem ca_if {α : Type} {c d : Prop} [Decidable c] [Decidable d] {x y : α} (h : c ↔ d) : (if c then x else y) = (if d then x else y) := by
  by_cases e : d
  · rw [if_pos e, if_pos (h.mpr e)]
  · rw [if_neg e, if_neg (fun z => e (h.mp z))]
/-- not a cell -/
def ca_bd (v : Int32) : Prop := v < 0 ∨ nI 256 ≤ v
theorem ca_cell (v : Int32) : ca_bd v ∨ ∃ j : Nat, j < 256 ∧ v = nI j := by
  rcases pk_ix v (n := 256) (by decide) with h | h | h
  · exact Or.inl (Or.inl h)
  · exact Or.inl (Or.inr h)
  · exact Or.inr h
theorem cx_bad0 {post : Int32 → Prop} {j : Nat} (h : j < 256) (hp : post 0) : wpX_bad post (nI j) := br_f (nI_pos (by omega)) (br_t (nI_le (b := 255) (by omega) (by decide)) hp)
theorem cx_bad1 {post : Int32 → Prop} {v : Int32} (h : ca_bd v) (hp : post 1) : wpX_bad post v := by
  by_cases a : v < 0
  · exact br_t a hp
  · have b : nI 256 ≤ v := h.resolve_left a
    exact br_f a (br_f (fun z => absurd (Int32.le_trans b z) (by decide)) hp)
def ca_op (w o x : Int32) : Int32 := if w = 0 then x else if w = 1 then o + x else o * x
theorem cx_result {post : Int32 → Prop} {w o x : Int32} (hp : post (ca_op w o x)) : wpX_result post w o x := by
  unfold ca_op at hp
  by_cases a : w = 0
  · rw [if_pos a] at hp
    exact br_t a hp
  · rw [if_neg a] at hp
    by_cases b : w = 1
    · rw [if_pos b] at hp
      exact br_f a (br_t b hp)
    · rw [if_neg b] at hp
      exact br_f a (br_f b hp)
/-- cell q lies in the region -/
def ca_in (R0 R1 C0 C1 q : Nat) : Bool := decide (R0 ≤ q % 16 ∧ q % 16 ≤ R1 ∧ C0 ≤ q / 16 ∧ q / 16 ≤ C1)
theorem ca_in_t {R0 R1 C0 C1 q : Nat} (h : R0 ≤ q % 16 ∧ q % 16 ≤ R1 ∧ C0 ≤ q / 16 ∧ q / 16 ≤ C1) : ca_in R0 R1 C0 C1 q = true := decide_eq_true h
theorem ca_in_f {R0 R1 C0 C1 q : Nat} (h : ¬ (R0 ≤ q % 16 ∧ q % 16 ≤ R1 ∧ C0 ≤ q / 16 ∧ q / 16 ≤ C1)) : ca_in R0 R1 C0 C1 q = false := decide_eq_false h
theorem ca_in_e {R0 R1 C0 C1 q : Nat} (h : ca_in R0 R1 C0 C1 q = true) : R0 ≤ q % 16 ∧ q % 16 ≤ R1 ∧ C0 ≤ q / 16 ∧ q / 16 ≤ C1 := of_decide_eq_true h
theorem ca_rI {k i : Nat} (hk : k < 16) (hi : i < 16) : ((nI k / 4) * 4) + (nI i / 4) = nI (k / 4 * 4 + i / 4) := by
  have a : nI k / 4 = nI (k / 4) := pk_div (d := 4) (by omega) (by decide) (by decide)
  have b : nI i / 4 = nI (i / 4) := pk_div (d := 4) (by omega) (by decide) (by decide)
  have c : nI (k / 4) * 4 = nI (k / 4 * 4) := pk_mul _ 4
  rw [a, b, c, nI_add]
theorem ca_cI {k i : Nat} (hk : k < 16) (hi : i < 16) : ((nI k - nI k / 4 * 4) * 4) + (nI i - nI i / 4 * 4) = nI (k % 4 * 4 + i % 4) := by
  have a : nI k - nI k / 4 * 4 = nI (k % 4) := pk_rem (d := 4) (by omega) (by decide) (by decide)
  have b : nI i - nI i / 4 * 4 = nI (i % 4) := pk_rem (d := 4) (by omega) (by decide) (by decide)
  have c : nI (k % 4) * 4 = nI (k % 4 * 4) := pk_mul _ 4
  rw [a, b, c, nI_add]
theorem ca_tab3 : ∀ k, k < 16 → ∀ i, i < 16 → ca_ce k i % 16 = k / 4 * 4 + i / 4 ∧ ca_ce k i / 16 = k % 4 * 4 + i % 4 := by decide +kernel
theorem ca_4 : ¬ (4 : Int32) = 0 := by decide
theorem ca_10 : ¬ (1 : Int32) = 0 := by decide
section
variable {r0 r1 c0 c1 : Int32} {ex ck ho ce fa su sk ss gk go mv P K : Nat → Int32} {R0 R1 C0 C1 : Nat}
theorem cx_setRegion {post : SX → Prop} {f t : Nat} (hf : f < 256) (ht : t < 256) (hp : post (nI (min (f % 16) (t % 16)), nI (max (f % 16) (t % 16)), nI (min (f / 16) (t / 16)), nI (max (f / 16) (t / 16)), ex, ck, ho, ce, fa, su, sk, ss, gk, go, mv)) : wpX_setRegion post (r0, r1, c0, c1, ex, ck, ho, ce, fa, su, sk, ss, gk, go, mv) (nI f) (nI t) := by
  have e1 : nI f &&& 15 = nI (f % 16) := pk_andN (by omega) 4 (by decide)
  have e2 : nI t &&& 15 = nI (t % 16) := pk_andN (by omega) 4 (by decide)
  have e3 : nI f >>> ((4 : Int32) &&& 31) = nI (f / 16) := pk_shrN (by omega) _ 4 (by decide)
  have e4 : nI t >>> ((4 : Int32) &&& 31) = nI (t / 16) := pk_shrN (by omega) _ 4 (by decide)
  refine nm_r e1 (nm_r e2 (nm_r e3 (nm_r e4 ?_)))
  by_cases a : t % 16 ≤ f % 16
  · have ha : nI (t % 16) ≤ nI (f % 16) := nI_le a (by omega)
    rw [show min (f % 16) (t % 16) = t % 16 by omega, show max (f % 16) (t % 16) = f % 16 by omega] at hp
    refine br_t ha (br_t ha ?_)
    by_cases b : t / 16 ≤ f / 16
    · have hb : nI (t / 16) ≤ nI (f / 16) := nI_le b (by omega)
      rw [show min (f / 16) (t / 16) = t / 16 by omega, show max (f / 16) (t / 16) = f / 16 by omega] at hp
      exact br_t hb (br_t hb hp)
    · have hb : ¬ nI (t / 16) ≤ nI (f / 16) := nI_ge (by omega) (by omega)
      rw [show min (f / 16) (t / 16) = f / 16 by omega, show max (f / 16) (t / 16) = t / 16 by omega] at hp
      exact br_f hb (br_f hb hp)
  · have ha : ¬ nI (t % 16) ≤ nI (f % 16) := nI_ge (by omega) (by omega)
    rw [show min (f % 16) (t % 16) = f % 16 by omega, show max (f % 16) (t % 16) = t % 16 by omega] at hp
    refine br_f ha (br_f ha ?_)
    by_cases b : t / 16 ≤ f / 16
    · have hb : nI (t / 16) ≤ nI (f / 16) := nI_le b (by omega)
      rw [show min (f / 16) (t / 16) = t / 16 by omega, show max (f / 16) (t / 16) = f / 16 by omega] at hp
      exact br_t hb (br_t hb hp)
    · have hb : ¬ nI (t / 16) ≤ nI (f / 16) := nI_ge (by omega) (by omega)
      rw [show min (f / 16) (t / 16) = f / 16 by omega, show max (f / 16) (t / 16) = t / 16 by omega] at hp
      exact br_f hb (br_f hb hp)
theorem cx_inRegion {post : Int32 → Prop} {r c : Nat} (b0 : R0 < 16) (b1 : R1 < 16) (b2 : C0 < 16) (b3 : C1 < 16) (hr : r < 16) (hc : c < 16) (h1 : ca_in R0 R1 C0 C1 (r + 16 * c) = true → post 1) (h0 : ca_in R0 R1 C0 C1 (r + 16 * c) = false → post 0) : wpX_inRegion post (nI R0, nI R1, nI C0, nI C1, ex, ck, ho, ce, fa, su, sk, ss, gk, go, mv) (nI r) (nI c) := by
  have e1 : (r + 16 * c) % 16 = r := by omega
  have e2 : (r + 16 * c) / 16 = c := by omega
  refine pk_lt r R0 (fun h => h0 (ca_in_f (by omega))) (fun g1 => pk_lt R1 r (fun h => h0 (ca_in_f (by omega))) (fun g2 => pk_lt c C0 (fun h => h0 (ca_in_f (by omega))) (fun g3 => pk_lt C1 c (fun h => h0 (ca_in_f (by omega))) (fun g4 => h1 (ca_in_t (by omega))))))
theorem cx_covers {post : Int32 → Prop} {k : Nat} (b0 : R0 < 16) (b1 : R1 < 16) (b2 : C0 < 16) (b3 : C1 < 16) (hk : k < 16) (h1 : (∀ i, i < 16 → ca_in R0 R1 C0 C1 (ca_ce k i) = true) → post 1) (h0 : post 0) : wpX_covers post (nI R0, nI R1, nI C0, nI C1, ex, ck, ho, ce, fa, su, sk, ss, gk, go, mv) (nI k) := by
  have a : nI k / 4 = nI (k / 4) := pk_div (d := 4) (by omega) (by decide) (by decide)
  have b : nI k - nI k / 4 * 4 = nI (k % 4) := pk_rem (d := 4) (by omega) (by decide) (by decide)
  have e1 : (nI k / 4) * 4 = nI (k / 4 * 4) := by rw [a]; exact pk_mul _ 4
  have e2 : (nI k - nI k / 4 * 4) * 4 = nI (k % 4 * 4) := by rw [b]; exact pk_mul _ 4
  refine ⟨ca_4, nm_r e1 ⟨ca_4, nm_r e2 ?_⟩⟩
  refine pk_lt (k / 4 * 4) R0 (fun _ => h0) (fun g1 => pk_lt R1 (k / 4 * 4 + 3) (fun _ => h0) (fun g2 => pk_lt (k % 4 * 4) C0 (fun _ => h0) (fun g3 => pk_lt C1 (k % 4 * 4 + 3) (fun _ => h0) (fun g4 => h1 (fun i hi => ca_in_t ?_)) rfl (nI_add _ 3))) rfl (nI_add _ 3))
  have z := ca_tab3 k hk i hi
  omega
theorem cx_touches {post : Int32 → Prop} {k : Nat} (b0 : R0 < 16) (b1 : R1 < 16) (b2 : C0 < 16) (b3 : C1 < 16) (hk : k < 16) (h1 : post 1) (h0 : (∀ i, i < 16 → ca_in R0 R1 C0 C1 (ca_ce k i) = false) → post 0) : wpX_touches post (nI R0, nI R1, nI C0, nI C1, ex, ck, ho, ce, fa, su, sk, ss, gk, go, mv) (nI k) := by
  have a : nI k / 4 = nI (k / 4) := pk_div (d := 4) (by omega) (by decide) (by decide)
  have b : nI k - nI k / 4 * 4 = nI (k % 4) := pk_rem (d := 4) (by omega) (by decide) (by decide)
  have e1 : (nI k / 4) * 4 = nI (k / 4 * 4) := by rw [a]; exact pk_mul _ 4
  have e2 : (nI k - nI k / 4 * 4) * 4 = nI (k % 4 * 4) := by rw [b]; exact pk_mul _ 4
  refine ⟨ca_4, nm_r e1 ⟨ca_4, nm_r e2 ?_⟩⟩
  refine pk_lt (k / 4 * 4 + 3) R0 (fun g => h0 fun i hi => ca_in_f ?_) (fun _ => pk_lt R1 (k / 4 * 4) (fun g => h0 fun i hi => ca_in_f ?_) (fun _ => pk_lt (k % 4 * 4 + 3) C0 (fun g => h0 fun i hi => ca_in_f ?_) (fun _ => pk_lt C1 (k % 4 * 4) (fun g => h0 fun i hi => ca_in_f ?_) (fun _ => h1)) (nI_add _ 3))) (nI_add _ 3)
  all_goals (have z := ca_tab3 k hk i hi; omega)
/-- a whole chunk -/
theorem cx_whole {post : SX → Prop} {k : Nat} {w x : Int32} (h : ca_XI ex ck ho ce fa su sk ss gk go P K) (hk : k < 16) (hp : ∀ (ck ho ce fa su sk ss gk go : Nat → Int32), ca_XI ex ck ho ce fa su sk ss gk go (fun q => if ca_pl q = k then ca_op w (P q) x else P q) K → post (r0, r1, c0, c1, ex, ck, ho, ce, fa, su, sk, ss, gk, go, mv)) : wpX_changeWhole post (r0, r1, c0, c1, ex, ck, ho, ce, fa, su, sk, ss, gk, go, mv) (nI k) w x := by
  unfold wpX_changeWhole
  dsimp only
  refine cx_own h hk (fun ck ho ce fa su sk ss gk go C X pv => ?_)
  dsimp only
  have hC := (X.2.1 (64 + k) (by omega)).1
  have vC : vp_in (nI (C (64 + k))) 80 := vp_in_nI hC (by decide)
  have eC : (nI (C (64 + k))).toNatClampNeg = C (64 + k) := nI_clamp (by omega)
  have sC := X.1 _ hC
  have g : ∀ i, i < 16 → ce (C (64 + k) * 16 + i) * fa (C (64 + k)) + su (C (64 + k)) = P (ca_ce k i) := fun i hi => by
    have g := X.2.2.2 (64 + k) (by omega) (ca_lv4 ex) i hi
    unfold ca_W at g
    rw [ca_D4] at g
    exact g
  have key : ∀ fa' su' : Nat → Int32, (∀ c, c ≠ C (64 + k) → fa' c = fa c ∧ su' c = su c) → (∀ i, i < 16 → ce (C (64 + k) * 16 + i) * fa' (C (64 + k)) + su' (C (64 + k)) = ca_op w (P (ca_ce k i)) x) → post (r0, r1, c0, c1, ex, ck, ho, ce, fa', su', sk, ss, upd gk (C (64 + k)) 0, go, mv) := by
    intro fa' su' q1 q2
    refine hp _ _ _ _ _ _ _ _ _ ⟨C, ca_XIw (N := fun i => ca_op w (P (ca_ce k i)) x) X hk pv (fun c _ hc => ⟨fun _ _ => rfl, (q1 c hc).1, (q1 c hc).2, rfl, rfl, pk_un hc, rfl⟩) ⟨sC.1, Or.inl pk_us⟩ q2 (fun q hq => ?_)⟩
    by_cases e : ca_pl q = k
    · rw [if_pos e, if_pos e, ← e, ca_ce_pw hq]
    · rw [if_neg e, if_neg e]
  rw [eC]
  by_cases a : w = 0
  · refine br_t a ⟨vC, nm_e ⟨vC, nm_e ⟨vC, nm_e (key _ _ (fun c hc => ⟨pk_un hc, pk_un hc⟩) (fun i hi => ?_))⟩⟩⟩
    unfold ca_op
    rw [pk_us, pk_us, if_pos a, Int32.mul_zero, Int32.zero_add]
  · refine br_f a ?_
    by_cases b : w = 1
    · refine br_t b ⟨vC, vC, nm_e ⟨vC, nm_e (key _ _ (fun c hc => ⟨rfl, pk_un hc⟩) (fun i hi => ?_))⟩⟩
      unfold ca_op
      rw [pk_us, if_neg a, if_pos b, ← g i hi, Int32.add_assoc]
    · refine br_f b ⟨vC, vC, nm_e ⟨vC, vC, nm_e ⟨vC, nm_e (key _ _ (fun c hc => ⟨pk_un hc, pk_un hc⟩) (fun i hi => ?_))⟩⟩⟩
      unfold ca_op
      rw [pk_us, pk_us, if_neg a, if_neg b, ← g i hi, Int32.add_mul, Int32.mul_assoc]
/-- part of a chunk -/
theorem cx_part3 {post : SX → Prop} {k : Nat} {w x : Int32} {P0 : Nat → Int32} (b0 : R0 < 16) (b1 : R1 < 16) (b2 : C0 < 16) (b3 : C1 < 16) (hk : k < 16) (hp : ∀ (ck ho ce fa su sk ss gk go : Nat → Int32), ca_XI ex ck ho ce fa su sk ss gk go (fun q => if ca_pl q = k ∧ ca_in R0 R1 C0 C1 q = true then ca_op w (P0 q) x else P0 q) K → post (nI R0, nI R1, nI C0, nI C1, ex, ck, ho, ce, fa, su, sk, ss, gk, go, mv)) :
    ∀ n i (ck ho ce fa su sk ss gk go : Nat → Int32), i ≤ 16 → 16 - i < n → ca_XI ex ck ho ce fa su sk ss gk go (fun q => if ca_pl q = k ∧ ca_wi q < i ∧ ca_in R0 R1 C0 C1 q = true then ca_op w (P0 q) x else P0 q) K → wX_changePart_3 post (nI k) w x n (nI i) (nI R0) (nI R1) (nI C0) (nI C1) ex ck ho ce fa su sk ss gk go mv := by
  intro n
  induction n with
  | zero => intro i ck ho ce fa su sk ss gk go _ h; omega
  | succ n ih =>
    intro i ck ho ce fa su sk ss gk go hi hn h
    by_cases e : i = 16
    · subst e
      refine br_t (nI_le (a := 16) (b := 16) (Nat.le_refl _) (by decide)) (hp ck ho ce fa su sk ss gk go (ca_XIc h (fun q hq => ca_if ?_) (fun _ _ _ _ _ => rfl)))
      have := ca_wi_lt q
      exact ⟨fun z => ⟨z.1, z.2.2⟩, fun z => ⟨z.1, this, z.2⟩⟩
    · have hi' : i < 16 := by omega
      have hr : k / 4 * 4 + i / 4 < 16 := by omega
      have hc : k % 4 * 4 + i % 4 < 16 := by omega
      have eq : k / 4 * 4 + i / 4 + 16 * (k % 4 * 4 + i % 4) = ca_ce k i := rfl
      have hne : ∀ q, q < 256 → q ≠ ca_ce k i → ca_pl q = k → ca_wi q ≠ i := fun q hq hn' hpl z => hn' (by rw [← ca_ce_pw hq, hpl, z])
      refine br_f (nI_ge (a := i) (b := 16) (by omega) (by decide)) ⟨ca_4, ca_4, nm_r (ca_rI hk hi') ⟨ca_4, ca_4, nm_r (ca_cI hk hi') (cx_inRegion b0 b1 b2 b3 hr hc (fun hin => ?_) (fun hin => ?_))⟩⟩
      · rw [eq] at hin
        refine br_f ca_10 (cx_rd4 h hr hc (cx_result (cx_write h hr hc (fun ck ho ce fa su sk ss gk go h' => nm_r (nI_1 i) (ih (i + 1) ck ho ce fa su sk ss gk go (by omega) (by omega) (ca_XIc h' (fun q hq => ?_) (fun _ _ _ _ _ => rfl)))))))
        rw [eq]
        by_cases z : q = ca_ce k i
        · subst z
          rw [pk_us, if_neg (by rw [ca_wi_ce hk hi']; omega), if_pos ⟨ca_pl_ce hk hi', by rw [ca_wi_ce hk hi']; omega, hin⟩]
        · rw [pk_un z]
          refine ca_if ⟨fun y => ⟨y.1, by omega, y.2.2⟩, fun y => ⟨y.1, ?_, y.2.2⟩⟩
          have := hne q hq z y.1
          omega
      · rw [eq] at hin
        refine br_t rfl (nm_r (nI_1 i) (ih (i + 1) ck ho ce fa su sk ss gk go (by omega) (by omega) (ca_XIc h (fun q hq => ca_if ⟨fun y => ⟨y.1, by omega, y.2.2⟩, fun y => ⟨y.1, ?_, y.2.2⟩⟩) (fun _ _ _ _ _ => rfl))))
        have : q ≠ ca_ce k i := fun z => by rw [z, hin] at y; exact Bool.false_ne_true y.2.2
        have := hne q hq this y.1
        omega
theorem cx_part {post : SX → Prop} {k : Nat} {w x : Int32} (b0 : R0 < 16) (b1 : R1 < 16) (b2 : C0 < 16) (b3 : C1 < 16) (hk : k < 16) (h : ca_XI ex ck ho ce fa su sk ss gk go P K) (hp : ∀ (ck ho ce fa su sk ss gk go : Nat → Int32), ca_XI ex ck ho ce fa su sk ss gk go (fun q => if ca_pl q = k ∧ ca_in R0 R1 C0 C1 q = true then ca_op w (P q) x else P q) K → post (nI R0, nI R1, nI C0, nI C1, ex, ck, ho, ce, fa, su, sk, ss, gk, go, mv)) : wpX_changePart post (nI R0, nI R1, nI C0, nI C1, ex, ck, ho, ce, fa, su, sk, ss, gk, go, mv) (nI k) w x :=
  ⟨17, cx_part3 b0 b1 b2 b3 hk hp 17 0 ck ho ce fa su sk ss gk go (by omega) (by omega) (ca_XIc h (fun q _ => (if_neg (fun z => by omega)).symm) (fun _ _ _ _ _ => rfl))⟩
theorem cx_change25 {post : Int32 → SX → Prop} {w x : Int32} {P0 : Nat → Int32} (b0 : R0 ≤ R1) (b1 : R1 < 16) (b2 : C0 ≤ C1) (b3 : C1 < 16) (hp : ∀ (ck ho ce fa su sk ss gk go : Nat → Int32), ca_XI ex ck ho ce fa su sk ss gk go (fun q => if ca_in R0 R1 C0 C1 q = true then ca_op w (P0 q) x else P0 q) K → post (nI ((R1 - R0 + 1) * (C1 - C0 + 1))) (nI R0, nI R1, nI C0, nI C1, ex, ck, ho, ce, fa, su, sk, ss, gk, go, mv)) :
    ∀ n k (ck ho ce fa su sk ss gk go : Nat → Int32), k ≤ 16 → 16 - k < n → ca_XI ex ck ho ce fa su sk ss gk go (fun q => if ca_pl q < k ∧ ca_in R0 R1 C0 C1 q = true then ca_op w (P0 q) x else P0 q) K → wX_change_25 post w x n (nI k) (nI R0) (nI R1) (nI C0) (nI C1) ex ck ho ce fa su sk ss gk go mv := by
  intro n
  induction n with
  | zero => intro k ck ho ce fa su sk ss gk go _ h; omega
  | succ n ih =>
    intro k ck ho ce fa su sk ss gk go hk hn h
    by_cases e : k = 16
    · subst e
      refine br_t (nI_le (a := 16) (b := 16) (Nat.le_refl _) (by decide)) ?_
      unfold wpX_regionSize
      dsimp only
      have e1 : nI R1 - nI R0 + 1 = nI (R1 - R0 + 1) := by rw [pk_sub b0, nI_1]
      have e2 : nI C1 - nI C0 + 1 = nI (C1 - C0 + 1) := by rw [pk_sub b2, nI_1]
      rw [e1, e2, pk_mul]
      exact hp ck ho ce fa su sk ss gk go (ca_XIc h (fun q hq => ca_if ⟨fun z => z.2, fun z => ⟨ca_pl_lt hq, z⟩⟩) (fun _ _ _ _ _ => rfl))
    · have hk' : k < 16 := by omega
      have b0' : R0 < 16 := by omega
      have b2' : C0 < 16 := by omega
      have wh : (∀ i, i < 16 → ca_in R0 R1 C0 C1 (ca_ce k i) = true) → wpX_changeWhole (fun u => match u with | (r0, r1, c0, c1, ex, ck, ho, ce, fa, su, sk, ss, gk, go, mv) => ∀ y : Int32, y = nI k + 1 → wX_change_25 post w x n y r0 r1 c0 c1 ex ck ho ce fa su sk ss gk go mv) (nI R0, nI R1, nI C0, nI C1, ex, ck, ho, ce, fa, su, sk, ss, gk, go, mv) (nI k) w x := by
        intro all
        refine cx_whole h hk' (fun ck ho ce fa su sk ss gk go h' => nm_r (nI_1 k) (ih (k + 1) ck ho ce fa su sk ss gk go (by omega) (by omega) (ca_XIc h' (fun q hq => ?_) (fun _ _ _ _ _ => rfl))))
        by_cases z : ca_pl q = k
        · have t : ca_in R0 R1 C0 C1 q = true := by have t := all (ca_wi q) (ca_wi_lt q); rw [← z, ca_ce_pw hq] at t; exact t
          rw [if_pos z, if_neg (by omega), if_pos ⟨by omega, t⟩]
        · rw [if_neg z]
          exact ca_if ⟨fun y => ⟨by omega, y.2⟩, fun y => ⟨by omega, y.2⟩⟩
      refine br_f (nI_ge (a := k) (b := 16) (by omega) (by decide)) (cx_covers b0' b1 b2' b3 hk' (fun all => cx_touches b0' b1 b2' b3 hk' (br_f ca_10 (wh all)) (fun _ => br_f ca_10 (wh all))) (cx_touches b0' b1 b2' b3 hk' (br_t rfl (br_f ca_10 ?_)) (fun no => br_t rfl (br_t rfl ?_))))
      · refine cx_part b0' b1 b2' b3 hk' h (fun ck ho ce fa su sk ss gk go h' => nm_r (nI_1 k) (ih (k + 1) ck ho ce fa su sk ss gk go (by omega) (by omega) (ca_XIc h' (fun q hq => ?_) (fun _ _ _ _ _ => rfl))))
        by_cases z : ca_pl q = k
        · by_cases t : ca_in R0 R1 C0 C1 q = true
          · rw [if_pos ⟨z, t⟩, if_neg (by omega), if_pos ⟨by omega, t⟩]
          · rw [if_neg (fun y => t y.2), if_neg (fun y => t y.2), if_neg (fun y => t y.2)]
        · rw [if_neg (fun y => z y.1)]
          exact ca_if ⟨fun y => ⟨by omega, y.2⟩, fun y => ⟨by omega, y.2⟩⟩
      · refine nm_r (nI_1 k) (ih (k + 1) ck ho ce fa su sk ss gk go (by omega) (by omega) (ca_XIc h (fun q hq => ca_if ⟨fun y => ⟨by omega, y.2⟩, fun y => ⟨?_, y.2⟩⟩) (fun _ _ _ _ _ => rfl)))
        have : ca_pl q ≠ k := fun z => by
          have t := no (ca_wi q) (ca_wi_lt q)
          rw [← z, ca_ce_pw hq, y.2] at t
          exact Bool.noConfusion t
        omega
/-- the region's bounds of two cells -/
def ca_R0 (f t : Nat) : Nat := min (f % 16) (t % 16)
def ca_R1 (f t : Nat) : Nat := max (f % 16) (t % 16)
def ca_C0 (f t : Nat) : Nat := min (f / 16) (t / 16)
def ca_C1 (f t : Nat) : Nat := max (f / 16) (t / 16)
theorem ca_RB {f t : Nat} (hf : f < 256) (ht : t < 256) : ca_R0 f t ≤ ca_R1 f t ∧ ca_R1 f t < 16 ∧ ca_C0 f t ≤ ca_C1 f t ∧ ca_C1 f t < 16 := by
  unfold ca_R0 ca_R1 ca_C0 ca_C1
  omega
def ca_i (f t q : Nat) : Bool := ca_in (ca_R0 f t) (ca_R1 f t) (ca_C0 f t) (ca_C1 f t) q
theorem cx_change {post : Int32 → SX → Prop} {f t : Nat} {w x : Int32} (h : ca_XI ex ck ho ce fa su sk ss gk go P K) (hf : f < 256) (ht : t < 256) (hp : ∀ (r0 r1 c0 c1 : Int32) (ck ho ce fa su sk ss gk go : Nat → Int32), ca_XI ex ck ho ce fa su sk ss gk go (fun q => if ca_i f t q = true then ca_op w (P q) x else P q) K → post (nI ((ca_R1 f t - ca_R0 f t + 1) * (ca_C1 f t - ca_C0 f t + 1))) (r0, r1, c0, c1, ex, ck, ho, ce, fa, su, sk, ss, gk, go, mv)) : wpX_change post (r0, r1, c0, c1, ex, ck, ho, ce, fa, su, sk, ss, gk, go, mv) (nI f) (nI t) w x := by
  obtain ⟨b0, b1, b2, b3⟩ := ca_RB hf ht
  unfold wpX_change
  dsimp only
  refine cx_bad0 hf (br_t rfl (cx_bad0 ht (br_t rfl (cx_setRegion hf ht ?_))))
  exact ⟨17, cx_change25 b0 b1 b2 b3 (fun ck ho ce fa su sk ss gk go h' => hp _ _ _ _ ck ho ce fa su sk ss gk go h') 17 0 ck ho ce fa su sk ss gk go (by omega) (by omega) (ca_XIc h (fun q _ => (if_neg (fun z => by omega)).symm) (fun _ _ _ _ _ => rfl))⟩
theorem cx_changeB {post : Int32 → SX → Prop} {v1 v2 w x : Int32} (h : ca_bd v1 ∨ ca_bd v2) (hp : post (-1) (r0, r1, c0, c1, ex, ck, ho, ce, fa, su, sk, ss, gk, go, mv)) : wpX_change post (r0, r1, c0, c1, ex, ck, ho, ce, fa, su, sk, ss, gk, go, mv) v1 v2 w x := by
  unfold wpX_change
  dsimp only
  rcases ca_cell v1 with h1 | ⟨f, hf, rfl⟩
  · exact cx_bad1 h1 (br_f ca_10 hp)
  · rcases h with h1 | h2
    · exact cx_bad1 h1 (br_f ca_10 hp)
    · exact cx_bad0 hf (br_t rfl (cx_bad1 h2 (br_f ca_10 hp)))
end
end
section
/-! ===== the component's walks: questions ===== -/
section
variable {r0 r1 c0 c1 : Int32} {ex ck ho ce fa su sk ss gk go mv P K : Nat → Int32} {R0 R1 C0 C1 : Nat}
/-! sums -/
theorem cx_ws53 {post : Int32 → SX → Prop} {c : Nat} (hc : c < 80) (hp : post (ss c * fa c + 16 * su c) (r0, r1, c0, c1, ex, ck, ho, ce, fa, su, sk, ss, gk, go, mv)) : wX_wholeSum_53 post (nI c) r0 r1 c0 c1 ex ck ho ce fa su sk ss gk go mv := by
  have vc : vp_in (nI c) 80 := vp_in_nI hc (by decide)
  unfold wX_wholeSum_53
  rw [nI_clamp (n := c) (by omega)]
  exact ⟨vc, vc, vc, hp⟩
theorem cx_ws13 {post : Int32 → SX → Prop} {c : Nat} (hc : c < 80) (hp : wX_wholeSum_53 post (nI c) r0 r1 c0 c1 ex ck ho ce fa su (upd sk c 1) (upd ss c (ca_sm (fun i => ce (c * 16 + i)) 16)) gk go mv) : ∀ n i, i ≤ 16 → 16 - i < n → wX_wholeSum_13 post (nI c) r0 r1 c0 c1 ex ck ho ce fa su sk ss gk go mv n (ca_sm (fun i => ce (c * 16 + i)) i) (nI i) := by
  intro n
  induction n with
  | zero => intro i _ h; omega
  | succ n ih =>
    intro i hi hn
    have vc : vp_in (nI c) 80 := vp_in_nI hc (by decide)
    by_cases e : i = 16
    · subst e
      refine br_t (nI_le (a := 16) (b := 16) (Nat.le_refl _) (by decide)) ?_
      rw [nI_clamp (n := c) (by omega)]
      exact ⟨vc, nm_e ⟨vc, nm_e hp⟩⟩
    · refine br_f (nI_ge (a := i) (b := 16) (by omega) (by decide)) ?_
      rw [ca_x16, nI_clamp (n := c * 16 + i) (by omega)]
      exact ⟨vp_in_nI (by omega) (by decide), nm_e (nm_r (nI_1 i) (ih (i + 1) (by omega) (by omega)))⟩
theorem cx_wsum {post : Int32 → SX → Prop} {k : Nat} (h : ca_XI ex ck ho ce fa su sk ss gk go P K) (hk : k < 16) (hp : ∀ (ck ho ce fa su sk ss gk go : Nat → Int32), ca_XI ex ck ho ce fa su sk ss gk go P K → post (ca_sm (fun i => P (ca_ce k i)) 16) (r0, r1, c0, c1, ex, ck, ho, ce, fa, su, sk, ss, gk, go, mv)) : wpX_wholeSum post (r0, r1, c0, c1, ex, ck, ho, ce, fa, su, sk, ss, gk, go, mv) (ck (64 + k)) := by
  obtain ⟨C, s, m⟩ := h
  obtain ⟨hC, ec⟩ := m.1 (64 + k) (by omega)
  have eC : (nI (C (64 + k))).toNatClampNeg = C (64 + k) := nI_clamp (by omega)
  have val : ca_sm (fun i => ce (C (64 + k) * 16 + i)) 16 * fa (C (64 + k)) + 16 * su (C (64 + k)) = ca_sm (fun i => P (ca_ce k i)) 16 := by
    refine (ca_sm_lin (fun i => ce (C (64 + k) * 16 + i)) (fa (C (64 + k))) (su (C (64 + k))) 16).symm.trans (ca_sm_congr 16 fun i hi => ?_)
    have g := m.2.2 (64 + k) (by omega) (ca_lv4 ex) i hi
    rw [ca_D4] at g
    exact g
  rw [ec]
  unfold wpX_wholeSum
  dsimp only
  rw [eC]
  refine ⟨vp_in_nI hC (by decide), ?_⟩
  by_cases e : sk (C (64 + k)) = 0
  · refine br_t e ⟨17, cx_ws13 hC (cx_ws53 hC ?_) 17 0 (by omega) (by omega)⟩
    rw [pk_us, val]
    refine hp _ _ _ _ _ _ _ _ _ ⟨C, fun c hc => ?_, m⟩
    have z := s c hc
    by_cases q : c = C (64 + k)
    · subst q
      exact ⟨Or.inr ⟨pk_us, pk_us⟩, z.2⟩
    · rw [pk_un q, pk_un q]
      exact z
  · refine br_f e (cx_ws53 hC ?_)
    rcases (s _ hC).1 with z | ⟨_, z⟩
    · exact absurd z e
    · rw [z, val]
      exact hp _ _ _ _ _ _ _ _ _ ⟨C, s, m⟩
theorem cx_ps4 {post : Int32 → Prop} {k : Nat} (h : ca_XI ex ck ho ce fa su sk ss gk go P K) (b0 : R0 < 16) (b1 : R1 < 16) (b2 : C0 < 16) (b3 : C1 < 16) (hk : k < 16) (hp : post (ca_sm (fun i => if ca_in R0 R1 C0 C1 (ca_ce k i) = true then P (ca_ce k i) else 0) 16)) : ∀ n i, i ≤ 16 → 16 - i < n → wX_partSum_4 post (nI k) (nI R0) (nI R1) (nI C0) (nI C1) ex ck ho ce fa su sk ss gk go mv n (ca_sm (fun i => if ca_in R0 R1 C0 C1 (ca_ce k i) = true then P (ca_ce k i) else 0) i) (nI i) := by
  intro n
  induction n with
  | zero => intro i _ h; omega
  | succ n ih =>
    intro i hi hn
    by_cases e : i = 16
    · subst e
      exact br_t (nI_le (a := 16) (b := 16) (Nat.le_refl _) (by decide)) hp
    · have hi' : i < 16 := by omega
      have hr : k / 4 * 4 + i / 4 < 16 := by omega
      have hc : k % 4 * 4 + i % 4 < 16 := by omega
      have eq : k / 4 * 4 + i / 4 + 16 * (k % 4 * 4 + i % 4) = ca_ce k i := rfl
      have nx := ih (i + 1) (by omega) (by omega)
      have st : ca_sm (fun i => if ca_in R0 R1 C0 C1 (ca_ce k i) = true then P (ca_ce k i) else 0) (i + 1) = ca_sm (fun i => if ca_in R0 R1 C0 C1 (ca_ce k i) = true then P (ca_ce k i) else 0) i + (if ca_in R0 R1 C0 C1 (ca_ce k i) = true then P (ca_ce k i) else 0) := rfl
      refine br_f (nI_ge (a := i) (b := 16) (by omega) (by decide)) ⟨ca_4, ca_4, nm_r (ca_rI hk hi') ⟨ca_4, ca_4, nm_r (ca_cI hk hi') (cx_inRegion b0 b1 b2 b3 hr hc (fun hin => ?_) (fun hin => ?_))⟩⟩
      · rw [eq] at hin
        rw [st, if_pos hin] at nx
        refine br_f ca_10 (cx_rd4 h hr hc ?_)
        exact nm_e (nm_r (nI_1 i) nx)
      · rw [eq] at hin
        rw [st, if_neg (by rw [hin]; exact Bool.false_ne_true), Int32.add_zero] at nx
        exact br_t rfl (nm_r (nI_1 i) nx)
theorem cx_psum {post : Int32 → Prop} {k : Nat} (h : ca_XI ex ck ho ce fa su sk ss gk go P K) (b0 : R0 < 16) (b1 : R1 < 16) (b2 : C0 < 16) (b3 : C1 < 16) (hk : k < 16) (hp : post (ca_sm (fun i => if ca_in R0 R1 C0 C1 (ca_ce k i) = true then P (ca_ce k i) else 0) 16)) : wpX_partSum post (nI R0, nI R1, nI C0, nI C1, ex, ck, ho, ce, fa, su, sk, ss, gk, go, mv) (nI k) :=
  ⟨17, cx_ps4 h b0 b1 b2 b3 hk hp 17 0 (by omega) (by omega)⟩
theorem cx_sum27 {post : Int32 → SX → Prop} (b0 : R0 < 16) (b1 : R1 < 16) (b2 : C0 < 16) (b3 : C1 < 16) (hp : ∀ (ck ho ce fa su sk ss gk go : Nat → Int32), ca_XI ex ck ho ce fa su sk ss gk go P K → post (ca_sm (fun q => if ca_in R0 R1 C0 C1 q = true then P q else 0) 256) (nI R0, nI R1, nI C0, nI C1, ex, ck, ho, ce, fa, su, sk, ss, gk, go, mv)) :
    ∀ n k (ck ho ce fa su sk ss gk go : Nat → Int32), k ≤ 16 → 16 - k < n → ca_XI ex ck ho ce fa su sk ss gk go P K → wX_sum_27 post n (ca_sm (fun k => ca_sm (fun i => if ca_in R0 R1 C0 C1 (ca_ce k i) = true then P (ca_ce k i) else 0) 16) k) (nI k) (nI R0) (nI R1) (nI C0) (nI C1) ex ck ho ce fa su sk ss gk go mv := by
  intro n
  induction n with
  | zero => intro k ck ho ce fa su sk ss gk go _ h; omega
  | succ n ih =>
    intro k ck ho ce fa su sk ss gk go hk hn h
    by_cases e : k = 16
    · subst e
      refine br_t (nI_le (a := 16) (b := 16) (Nat.le_refl _) (by decide)) ?_
      have z := hp ck ho ce fa su sk ss gk go h
      rw [ca_sm_chunk] at z
      exact z
    · have hk' : k < 16 := by omega
      have e64 : (64 : Int32) + nI k = nI (64 + k) := nI_add 64 k
      have nx := fun (ck ho ce fa su sk ss gk go : Nat → Int32) h => ih (k + 1) ck ho ce fa su sk ss gk go (by omega) (by omega) h
      have st : ca_sm (fun k => ca_sm (fun i => if ca_in R0 R1 C0 C1 (ca_ce k i) = true then P (ca_ce k i) else 0) 16) (k + 1) = ca_sm (fun k => ca_sm (fun i => if ca_in R0 R1 C0 C1 (ca_ce k i) = true then P (ca_ce k i) else 0) 16) k + ca_sm (fun i => if ca_in R0 R1 C0 C1 (ca_ce k i) = true then P (ca_ce k i) else 0) 16 := rfl
      rw [st] at nx
      have wh : (∀ i, i < 16 → ca_in R0 R1 C0 C1 (ca_ce k i) = true) → (vp_in (64 + nI k) 80 ∧ wpX_wholeSum (fun r u => match u with | (r0, r1, c0, c1, ex, ck, ho, ce, fa, su, sk, ss, gk, go, mv) => ∀ z : Int32, z = ca_sm (fun k => ca_sm (fun i => if ca_in R0 R1 C0 C1 (ca_ce k i) = true then P (ca_ce k i) else 0) 16) k + r → ∀ y : Int32, y = nI k + 1 → wX_sum_27 post n z y r0 r1 c0 c1 ex ck ho ce fa su sk ss gk go mv) (nI R0, nI R1, nI C0, nI C1, ex, ck, ho, ce, fa, su, sk, ss, gk, go, mv) (ck (64 + nI k).toNatClampNeg)) := by
        intro all
        rw [e64, nI_clamp (n := 64 + k) (by omega)]
        refine ⟨vp_in_nI (by omega) (by decide), cx_wsum h hk' (fun ck ho ce fa su sk ss gk go h' => ?_)⟩
        have z := nx ck ho ce fa su sk ss gk go h'
        rw [ca_sm_congr (g := fun i => P (ca_ce k i)) 16 (fun i hi => if_pos (all i hi))] at z
        exact nm_e (nm_r (nI_1 k) z)
      refine br_f (nI_ge (a := k) (b := 16) (by omega) (by decide)) (cx_covers b0 b1 b2 b3 hk' (fun all => cx_touches b0 b1 b2 b3 hk' (br_f ca_10 (wh all)) (fun _ => br_f ca_10 (wh all))) (cx_touches b0 b1 b2 b3 hk' (br_t rfl (br_f ca_10 ?_)) (fun no => br_t rfl (br_t rfl ?_))))
      · exact cx_psum h b0 b1 b2 b3 hk' (nm_e (nm_r (nI_1 k) (nx ck ho ce fa su sk ss gk go h)))
      · have z := nx ck ho ce fa su sk ss gk go h
        rw [ca_sm_z 16 (fun i hi => if_neg (by rw [no i hi]; exact Bool.false_ne_true)), Int32.add_zero] at z
        exact nm_r (nI_1 k) z
theorem cx_sum {post : Int32 → SX → Prop} {f t : Nat} (h : ca_XI ex ck ho ce fa su sk ss gk go P K) (hf : f < 256) (ht : t < 256) (hp : ∀ (r0 r1 c0 c1 : Int32) (ck ho ce fa su sk ss gk go : Nat → Int32), ca_XI ex ck ho ce fa su sk ss gk go P K → post (ca_sm (fun q => if ca_i f t q = true then P q else 0) 256) (r0, r1, c0, c1, ex, ck, ho, ce, fa, su, sk, ss, gk, go, mv)) : wpX_sum post (r0, r1, c0, c1, ex, ck, ho, ce, fa, su, sk, ss, gk, go, mv) (nI f) (nI t) := by
  obtain ⟨b0, b1, b2, b3⟩ := ca_RB hf ht
  unfold wpX_sum
  dsimp only
  refine cx_bad0 hf (br_t rfl (cx_bad0 ht (br_t rfl (cx_setRegion hf ht ?_))))
  exact ⟨17, cx_sum27 (by omega) b1 (by omega) b3 (fun ck ho ce fa su sk ss gk go h' => hp _ _ _ _ ck ho ce fa su sk ss gk go h') 17 0 ck ho ce fa su sk ss gk go (by omega) (by omega) h⟩
theorem cx_sumB {post : Int32 → SX → Prop} {v1 v2 : Int32} (h : ca_bd v1 ∨ ca_bd v2) (hp : post (-1) (r0, r1, c0, c1, ex, ck, ho, ce, fa, su, sk, ss, gk, go, mv)) : wpX_sum post (r0, r1, c0, c1, ex, ck, ho, ce, fa, su, sk, ss, gk, go, mv) v1 v2 := by
  unfold wpX_sum
  dsimp only
  rcases ca_cell v1 with h1 | ⟨f, hf, rfl⟩
  · exact cx_bad1 h1 (br_f ca_10 hp)
  · rcases h with h1 | h2
    · exact cx_bad1 h1 (br_f ca_10 hp)
    · exact cx_bad0 hf (br_t rfl (cx_bad1 h2 (br_f ca_10 hp)))
/-! greatest values -/
theorem cx_wg35 {post : Int32 → SX → Prop} {c : Nat} (hc : c < 80) (hp : ∀ o, ca_MX (fun i => ce (c * 16 + i) * fa c + su c) o → post o (r0, r1, c0, c1, ex, ck, ho, ce, fa, su, sk, ss, upd gk c 1, upd go c o, mv)) : ∀ n i o, 1 ≤ i → i ≤ 16 → 16 - i < n → (∃ j, j < i ∧ ce (c * 16 + j) * fa c + su c = o) → (∀ j, j < i → ce (c * 16 + j) * fa c + su c ≤ o) → wX_wholeGreatest_35 post (nI c) r0 r1 c0 c1 ex ck ho ce fa su sk ss gk go mv n o (nI i) := by
  intro n
  induction n with
  | zero => intro i o _ _ h; omega
  | succ n ih =>
    intro i o hi0 hi hn h1 h2
    have vc : vp_in (nI c) 80 := vp_in_nI hc (by decide)
    have ec : (nI c).toNatClampNeg = c := nI_clamp (by omega)
    by_cases e : i = 16
    · subst e
      refine br_t (nI_le (a := 16) (b := 16) (Nat.le_refl _) (by decide)) ?_
      rw [ec]
      refine ⟨vc, nm_e ⟨vc, nm_e ⟨vc, ?_⟩⟩⟩
      rw [pk_us]
      exact hp o ⟨h1, h2⟩
    · refine br_f (nI_ge (a := i) (b := 16) (by omega) (by decide)) ?_
      rw [ca_x16, nI_clamp (n := c * 16 + i) (by omega), ec]
      refine ⟨vp_in_nI (by omega) (by decide), vc, vc, nm_e ?_⟩
      by_cases g : ce (c * 16 + i) * fa c + su c ≤ o
      · refine br_t g (nm_r (nI_1 i) (ih (i + 1) o (by omega) (by omega) (by omega) ?_ (fun j hj => ?_)))
        · obtain ⟨j, hj, ej⟩ := h1
          exact ⟨j, by omega, ej⟩
        · by_cases q : j = i
          · rw [q]; exact g
          · exact h2 j (by omega)
      · refine br_f g (nm_r (nI_1 i) (ih (i + 1) _ (by omega) (by omega) (by omega) ⟨i, by omega, rfl⟩ (fun j hj => ?_)))
        by_cases q : j = i
        · rw [q]; exact Int32.le_refl _
        · have a := h2 j (by omega)
          rw [Int32.le_iff_toInt_le] at a g ⊢
          omega
theorem cx_wgr {post : Int32 → SX → Prop} {k : Nat} (h : ca_XI ex ck ho ce fa su sk ss gk go P K) (hk : k < 16) (hp : ∀ (ck ho ce fa su sk ss gk go : Nat → Int32) (o : Int32), ca_XI ex ck ho ce fa su sk ss gk go P K → ca_MX (fun i => P (ca_ce k i)) o → post o (r0, r1, c0, c1, ex, ck, ho, ce, fa, su, sk, ss, gk, go, mv)) : wpX_wholeGreatest post (r0, r1, c0, c1, ex, ck, ho, ce, fa, su, sk, ss, gk, go, mv) (ck (64 + k)) := by
  obtain ⟨C, s, m⟩ := h
  obtain ⟨hC, ec⟩ := m.1 (64 + k) (by omega)
  have eC : (nI (C (64 + k))).toNatClampNeg = C (64 + k) := nI_clamp (by omega)
  have vC : vp_in (nI (C (64 + k))) 80 := vp_in_nI hC (by decide)
  have val : ∀ i, i < 16 → ce (C (64 + k) * 16 + i) * fa (C (64 + k)) + su (C (64 + k)) = P (ca_ce k i) := fun i hi => by
    have g := m.2.2 (64 + k) (by omega) (ca_lv4 ex) i hi
    rw [ca_D4] at g
    exact g
  have e16 : nI (C (64 + k)) * 16 = nI (C (64 + k) * 16) := pk_mul _ 16
  rw [ec]
  unfold wpX_wholeGreatest
  dsimp only
  rw [e16, eC, nI_clamp (n := C (64 + k) * 16) (by omega)]
  refine ⟨vC, ?_⟩
  by_cases e : gk (C (64 + k)) = 0
  · refine br_t e ⟨vp_in_nI (by omega) (by decide), vC, vC, nm_e ⟨17, cx_wg35 hC (fun o ho' => ?_) 17 1 _ (by omega) (by omega) (by omega) ⟨0, by omega, rfl⟩ (fun j hj => ?_)⟩⟩
    · refine hp _ _ _ _ _ _ _ _ _ o ⟨C, fun c hc => ?_, m⟩ (ca_MX_congr val ho')
      have z := s c hc
      by_cases q : c = C (64 + k)
      · subst q
        refine ⟨z.1, Or.inr ⟨pk_us, ?_⟩⟩
        rw [pk_us]
        exact ho'
      · rw [pk_un q, pk_un q]
        exact z
    · have q : j = 0 := by omega
      subst q
      exact Int32.le_refl _
  · refine br_f e ⟨vC, ?_⟩
    rcases (s _ hC).2 with z | ⟨_, z⟩
    · exact absurd z e
    · exact hp _ _ _ _ _ _ _ _ _ _ ⟨C, s, m⟩ (ca_MX_congr val z)
theorem cx_pg5 {post : Int32 → Prop} {k : Nat} {b : Int32} (h : ca_XI ex ck ho ce fa su sk ss gk go P K) (b0 : R0 < 16) (b1 : R1 < 16) (b2 : C0 < 16) (b3 : C1 < 16) (hk : k < 16) (hp : ∀ o : Int32, (o = b ∨ ∃ i, i < 16 ∧ ca_in R0 R1 C0 C1 (ca_ce k i) = true ∧ P (ca_ce k i) = o) → b ≤ o → (∀ i, i < 16 → ca_in R0 R1 C0 C1 (ca_ce k i) = true → P (ca_ce k i) ≤ o) → post o) :
    ∀ n i o, i ≤ 16 → 16 - i < n → (o = b ∨ ∃ i, i < 16 ∧ ca_in R0 R1 C0 C1 (ca_ce k i) = true ∧ P (ca_ce k i) = o) → b ≤ o → (∀ j, j < i → ca_in R0 R1 C0 C1 (ca_ce k j) = true → P (ca_ce k j) ≤ o) → wX_partGreatest_5 post (nI k) (nI R0) (nI R1) (nI C0) (nI C1) ex ck ho ce fa su sk ss gk go mv n o (nI i) := by
  intro n
  induction n with
  | zero => intro i o _ h; omega
  | succ n ih =>
    intro i o hi hn h1 h2 h3
    by_cases e : i = 16
    · subst e
      exact br_t (nI_le (a := 16) (b := 16) (Nat.le_refl _) (by decide)) (hp o h1 h2 h3)
    · have hi' : i < 16 := by omega
      have hr : k / 4 * 4 + i / 4 < 16 := by omega
      have hc : k % 4 * 4 + i % 4 < 16 := by omega
      have eq : k / 4 * 4 + i / 4 + 16 * (k % 4 * 4 + i % 4) = ca_ce k i := rfl
      refine br_f (nI_ge (a := i) (b := 16) (by omega) (by decide)) ⟨ca_4, ca_4, nm_r (ca_rI hk hi') ⟨ca_4, ca_4, nm_r (ca_cI hk hi') (cx_inRegion b0 b1 b2 b3 hr hc (fun hin => cx_rd4 h hr hc ?_) (fun hin => cx_rd4 h hr hc ?_))⟩⟩
      · rw [eq] at hin ⊢
        refine br_f ca_10 ?_
        by_cases g : P (ca_ce k i) ≤ o
        · refine br_t g (nm_r (nI_1 i) (ih (i + 1) o (by omega) (by omega) h1 h2 (fun j hj hj' => ?_)))
          by_cases q : j = i
          · rw [q]; exact g
          · exact h3 j (by omega) hj'
        · have ob : o ≤ P (ca_ce k i) := by rw [Int32.le_iff_toInt_le] at g ⊢; omega
          refine br_f g (nm_r (nI_1 i) (ih (i + 1) _ (by omega) (by omega) (Or.inr ⟨i, hi', hin, rfl⟩) (Int32.le_trans h2 ob) (fun j hj hj' => ?_)))
          by_cases q : j = i
          · rw [q]; exact Int32.le_refl _
          · exact Int32.le_trans (h3 j (by omega) hj') ob
      · rw [eq] at hin
        refine br_t rfl (nm_r (nI_1 i) (ih (i + 1) o (by omega) (by omega) h1 h2 (fun j hj hj' => ?_)))
        by_cases q : j = i
        · rw [q, hin] at hj'
          exact Bool.noConfusion hj'
        · exact h3 j (by omega) hj'
theorem cx_gr39 {post : Int32 → SX → Prop} (b0 : R0 < 16) (b1 : R1 < 16) (b2 : C0 < 16) (b3 : C1 < 16) (hp : ∀ (ck ho ce fa su sk ss gk go : Nat → Int32) (o : Int32), ca_XI ex ck ho ce fa su sk ss gk go P K → (∃ q, q < 256 ∧ ca_in R0 R1 C0 C1 q = true ∧ P q = o) → (∀ q, q < 256 → ca_in R0 R1 C0 C1 q = true → P q ≤ o) → post o (nI R0, nI R1, nI C0, nI C1, ex, ck, ho, ce, fa, su, sk, ss, gk, go, mv)) :
    ∀ n k o (ck ho ce fa su sk ss gk go : Nat → Int32), k ≤ 16 → 16 - k < n → ca_XI ex ck ho ce fa su sk ss gk go P K → (∃ q, q < 256 ∧ ca_in R0 R1 C0 C1 q = true ∧ P q = o) → (∀ q, q < 256 → ca_in R0 R1 C0 C1 q = true → ca_pl q < k → P q ≤ o) → wX_greatest_39 post n o (nI k) (nI R0) (nI R1) (nI C0) (nI C1) ex ck ho ce fa su sk ss gk go mv := by
  intro n
  induction n with
  | zero => intro k o ck ho ce fa su sk ss gk go _ h; omega
  | succ n ih =>
    intro k o ck ho ce fa su sk ss gk go hk hn h h1 h2
    by_cases e : k = 16
    · subst e
      exact br_t (nI_le (a := 16) (b := 16) (Nat.le_refl _) (by decide)) (hp ck ho ce fa su sk ss gk go o h h1 (fun q hq hin => h2 q hq hin (ca_pl_lt hq)))
    · have hk' : k < 16 := by omega
      have e64 : (64 : Int32) + nI k = nI (64 + k) := nI_add 64 k
      have wh : (∀ i, i < 16 → ca_in R0 R1 C0 C1 (ca_ce k i) = true) → (vp_in (64 + nI k) 80 ∧ wpX_wholeGreatest (fun r u => match u with | (r0, r1, c0, c1, ex, ck, ho, ce, fa, su, sk, ss, gk, go, mv) => (r ≤ o → ∀ y : Int32, y = nI k + 1 → wX_greatest_39 post n o y r0 r1 c0 c1 ex ck ho ce fa su sk ss gk go mv) ∧ (¬ r ≤ o → ∀ y : Int32, y = nI k + 1 → wX_greatest_39 post n r y r0 r1 c0 c1 ex ck ho ce fa su sk ss gk go mv)) (nI R0, nI R1, nI C0, nI C1, ex, ck, ho, ce, fa, su, sk, ss, gk, go, mv) (ck (64 + nI k).toNatClampNeg)) := by
        intro all
        rw [e64, nI_clamp (n := 64 + k) (by omega)]
        refine ⟨vp_in_nI (by omega) (by decide), cx_wgr h hk' (fun ck ho ce fa su sk ss gk go p h' mx => ?_)⟩
        have mq : ∀ q, q < 256 → ca_pl q = k → P q ≤ p := fun q hq hk => by
          have z := mx.2 (ca_wi q) (ca_wi_lt q)
          dsimp only at z
          rw [← hk, ca_ce_pw hq] at z
          exact z
        by_cases g : p ≤ o
        · refine br_t g (nm_r (nI_1 k) (ih (k + 1) o ck ho ce fa su sk ss gk go (by omega) (by omega) h' h1 (fun q hq hin hpl => ?_)))
          by_cases z : ca_pl q = k
          · exact Int32.le_trans (mq q hq z) g
          · exact h2 q hq hin (by omega)
        · have ob : o ≤ p := by rw [Int32.le_iff_toInt_le] at g ⊢; omega
          refine br_f g (nm_r (nI_1 k) (ih (k + 1) p ck ho ce fa su sk ss gk go (by omega) (by omega) h' ?_ (fun q hq hin hpl => ?_)))
          · obtain ⟨⟨i, hi, ei⟩, _⟩ := mx
            exact ⟨ca_ce k i, ca_ce_lt hk' hi, all i hi, ei⟩
          · by_cases z : ca_pl q = k
            · exact mq q hq z
            · exact Int32.le_trans (h2 q hq hin (by omega)) ob
      refine br_f (nI_ge (a := k) (b := 16) (by omega) (by decide)) (cx_covers b0 b1 b2 b3 hk' (fun all => cx_touches b0 b1 b2 b3 hk' (br_f ca_10 (wh all)) (fun _ => br_f ca_10 (wh all))) (cx_touches b0 b1 b2 b3 hk' (br_t rfl (br_f ca_10 ?_)) (fun no => br_t rfl (br_t rfl ?_))))
      · refine ⟨17, cx_pg5 (b := o) h b0 b1 b2 b3 hk' (fun p g1 g2 g3 => nm_r (nI_1 k) (ih (k + 1) p ck ho ce fa su sk ss gk go (by omega) (by omega) h ?_ (fun q hq hin hpl => ?_))) 17 0 o (by omega) (by omega) (Or.inl rfl) (Int32.le_refl _) (fun j hj => absurd hj (by omega))⟩
        · rcases g1 with g1 | ⟨i, hi, hin, ei⟩
          · rw [g1]; exact h1
          · exact ⟨ca_ce k i, ca_ce_lt hk' hi, hin, ei⟩
        · by_cases z : ca_pl q = k
          · have y := g3 (ca_wi q) (ca_wi_lt q)
            rw [← z, ca_ce_pw hq] at y
            exact y hin
          · exact Int32.le_trans (h2 q hq hin (by omega)) g2
      · refine nm_r (nI_1 k) (ih (k + 1) o ck ho ce fa su sk ss gk go (by omega) (by omega) h h1 (fun q hq hin hpl => h2 q hq hin ?_))
        have : ca_pl q ≠ k := fun z => by
          have t := no (ca_wi q) (ca_wi_lt q)
          rw [← z, ca_ce_pw hq, hin] at t
          exact Bool.noConfusion t
        omega
theorem cx_greatest {post : Int32 → SX → Prop} {f t : Nat} (h : ca_XI ex ck ho ce fa su sk ss gk go P K) (hf : f < 256) (ht : t < 256) (hp : ∀ (r0 r1 c0 c1 : Int32) (ck ho ce fa su sk ss gk go : Nat → Int32) (o : Int32), ca_XI ex ck ho ce fa su sk ss gk go P K → (∃ q, q < 256 ∧ ca_i f t q = true ∧ P q = o) → (∀ q, q < 256 → ca_i f t q = true → P q ≤ o) → post o (r0, r1, c0, c1, ex, ck, ho, ce, fa, su, sk, ss, gk, go, mv)) : wpX_greatest post (r0, r1, c0, c1, ex, ck, ho, ce, fa, su, sk, ss, gk, go, mv) (nI f) (nI t) := by
  obtain ⟨b0, b1, b2, b3⟩ := ca_RB hf ht
  have b0' : ca_R0 f t < 16 := by omega
  have b2' : ca_C0 f t < 16 := by omega
  unfold wpX_greatest
  dsimp only
  refine cx_bad0 hf (br_t rfl (cx_bad0 ht (br_t rfl (cx_setRegion hf ht (cx_rd4 (r := ca_R0 f t) (c := ca_C0 f t) h b0' b2' ⟨17, cx_gr39 b0' b1 b2' b3 (fun ck ho ce fa su sk ss gk go o h' => hp _ _ _ _ ck ho ce fa su sk ss gk go o h') 17 0 _ ck ho ce fa su sk ss gk go (by omega) (by omega) h ⟨ca_R0 f t + 16 * ca_C0 f t, by omega, ca_in_t (by omega), rfl⟩ (fun q _ _ z => absurd z (by omega))⟩)))))
theorem cx_greatestB {post : Int32 → SX → Prop} {v1 v2 : Int32} (h : ca_bd v1 ∨ ca_bd v2) (hp : post (-1) (r0, r1, c0, c1, ex, ck, ho, ce, fa, su, sk, ss, gk, go, mv)) : wpX_greatest post (r0, r1, c0, c1, ex, ck, ho, ce, fa, su, sk, ss, gk, go, mv) v1 v2 := by
  unfold wpX_greatest
  dsimp only
  rcases ca_cell v1 with h1 | ⟨f, hf, rfl⟩
  · exact cx_bad1 h1 (br_f ca_10 hp)
  · rcases h with h1 | h2
    · exact cx_bad1 h1 (br_f ca_10 hp)
    · exact cx_bad0 hf (br_t rfl (cx_bad1 h2 (br_f ca_10 hp)))
end
end
section
/-! ===== the component's walks: single cells, counts, differences ===== -/
theorem ca_and15 {f : Nat} (hf : f < 256) : nI f &&& 15 = nI (f % 16) := pk_andN (by omega) 4 (by decide)
theorem ca_shr4 {f : Nat} (hf : f < 256) : nI f >>> ((4 : Int32) &&& 31) = nI (f / 16) := pk_shrN (by omega) _ 4 (by decide)
/-- not a version's number -/
def ca_nv (v : Int32) : Prop := v < 0 ∨ nI 4 ≤ v
theorem ca_ver (v : Int32) : ca_nv v ∨ ∃ a : Nat, a < 4 ∧ v = nI a := by
  rcases pk_ix v (n := 4) (by decide) with h | h | h
  · exact Or.inl (Or.inl h)
  · exact Or.inl (Or.inr h)
  · exact Or.inr h
theorem ca_nv3 {v : Int32} (h : nI 4 ≤ v) : ¬ v ≤ 3 := fun z => absurd (Int32.le_trans h z) (by decide)
section
variable {r0 r1 c0 c1 : Int32} {ex ck ho ce fa su sk ss gk go mv P K : Nat → Int32} {R0 R1 C0 C1 : Nat}
theorem cx_nv1 {post : Int32 → Prop} {v : Int32} (h : ca_nv v) (hp : post 1) : wpX_noVersion post (r0, r1, c0, c1, ex, ck, ho, ce, fa, su, sk, ss, gk, go, mv) v := by
  by_cases a : v < 0
  · exact br_t a hp
  · have b : nI 4 ≤ v := h.resolve_left a
    exact br_f a (br_t (Int32.not_le.mp (ca_nv3 b)) hp)
theorem cx_nv {post : Int32 → Prop} {a : Nat} (ha : a < 4) (h1 : ex a = 0 → post 1) (h0 : ex a ≠ 0 → post 0) : wpX_noVersion post (r0, r1, c0, c1, ex, ck, ho, ce, fa, su, sk, ss, gk, go, mv) (nI a) := by
  have e : (nI a).toNatClampNeg = a := nI_clamp (by omega)
  refine br_f (nI_pos (by omega)) (br_f (nI_nlt (a := 3) (by omega) (by decide)) ⟨vp_in_nI (by omega) (by decide), ?_⟩)
  rw [e]
  exact ⟨h1, h0⟩
theorem cx_get {post : Int32 → Prop} {f : Nat} (h : ca_XI ex ck ho ce fa su sk ss gk go P K) (hf : f < 256) (hp : post (P f)) : wpX_get post (r0, r1, c0, c1, ex, ck, ho, ce, fa, su, sk, ss, gk, go, mv) (nI f) := by
  unfold wpX_get
  dsimp only
  rw [ca_and15 hf, ca_shr4 hf]
  refine cx_bad0 hf (br_t rfl (cx_rd4 h (by omega) (by omega) ?_))
  rw [show f % 16 + 16 * (f / 16) = f by omega]
  exact hp
theorem cx_getB {post : Int32 → Prop} {v : Int32} (h : ca_bd v) (hp : post (-1)) : wpX_get post (r0, r1, c0, c1, ex, ck, ho, ce, fa, su, sk, ss, gk, go, mv) v := by
  unfold wpX_get
  dsimp only
  exact cx_bad1 h (br_f ca_10 hp)
theorem cx_getOf {post : Int32 → Prop} {a f : Nat} (h : ca_XI ex ck ho ce fa su sk ss gk go P K) (ha : a < 4) (hf : f < 256) (h1 : ex a = 0 → post (-2)) (h0 : ex a ≠ 0 → post (K (a * 256 + f))) : wpX_getOf post (r0, r1, c0, c1, ex, ck, ho, ce, fa, su, sk, ss, gk, go, mv) (nI a) (nI f) := by
  unfold wpX_getOf
  dsimp only
  rw [ca_and15 hf, ca_shr4 hf]
  refine cx_bad0 hf (br_t rfl (cx_nv ha (fun z => br_f ca_10 (h1 z)) (fun z => br_t rfl (cx_rdV h ha z (by omega) (by omega) ?_))))
  rw [show f % 16 + 16 * (f / 16) = f by omega]
  exact h0 z
theorem cx_getOfB {post : Int32 → Prop} {v1 v2 : Int32} (h : ca_bd v2) (hp : post (-1)) : wpX_getOf post (r0, r1, c0, c1, ex, ck, ho, ce, fa, su, sk, ss, gk, go, mv) v1 v2 := by
  unfold wpX_getOf
  dsimp only
  exact cx_bad1 h (br_f ca_10 hp)
theorem cx_getOfV {post : Int32 → Prop} {v1 : Int32} {f : Nat} (hf : f < 256) (h : ca_nv v1) (hp : post (-2)) : wpX_getOf post (r0, r1, c0, c1, ex, ck, ho, ce, fa, su, sk, ss, gk, go, mv) v1 (nI f) := by
  unfold wpX_getOf
  dsimp only
  exact cx_bad0 hf (br_t rfl (cx_nv1 h (br_f ca_10 hp)))
/-! counts, by rows -/
/-- one where cell q lies in the region and holds v -/
def ca_g (R0 R1 C0 C1 : Nat) (P : Nat → Int32) (v : Int32) (q : Nat) : Int32 := if ca_in R0 R1 C0 C1 q = true ∧ P q = v then 1 else 0
theorem cx_ct46 {post : Int32 → SX → Prop} {J : Int32 → Int32 → Prop} {v s0 : Int32} {r : Nat} (h : ca_XI ex ck ho ce fa su sk ss gk go P K) (b1 : R1 < 16) (b3 : C1 < 16) (hr0 : R0 ≤ r) (hr1 : r ≤ R1) (hJ : J (s0 + ca_sm (fun c => ca_g R0 R1 C0 C1 P v (r + 16 * c)) 16) (nI (r + 1))) :
    ∀ n c, C0 ≤ c → c ≤ C1 + 1 → C1 + 1 - c < n → wX_count_46 post J v (nI r) (nI R0) (nI R1) (nI C0) (nI C1) ex ck ho ce fa su sk ss gk go mv n (s0 + ca_sm (fun c => ca_g R0 R1 C0 C1 P v (r + 16 * c)) c) (nI c) := by
  intro n
  induction n with
  | zero => intro c _ _ h; omega
  | succ n ih =>
    intro c hc0 hc1 hn
    by_cases e : c = C1 + 1
    · subst e
      refine br_t (nI_lt (by omega) (by omega)) (nm_r (nI_1 r) ?_)
      have z : ca_sm (fun c => ca_g R0 R1 C0 C1 P v (r + 16 * c)) 16 = ca_sm (fun c => ca_g R0 R1 C0 C1 P v (r + 16 * c)) (C1 + 1) := ca_sm_ext (by omega) (fun i h1 h2 => if_neg (fun y => by have := ca_in_e y.1; omega))
      rw [← z]
      exact hJ
    · have hin : ca_in R0 R1 C0 C1 (r + 16 * c) = true := ca_in_t (by omega)
      have nx := ih (c + 1) (by omega) (by omega) (by omega)
      have st : s0 + ca_sm (fun c => ca_g R0 R1 C0 C1 P v (r + 16 * c)) (c + 1) = s0 + ca_sm (fun c => ca_g R0 R1 C0 C1 P v (r + 16 * c)) c + ca_g R0 R1 C0 C1 P v (r + 16 * c) := by
        rw [Int32.add_assoc]
        rfl
      rw [st] at nx
      unfold ca_g at nx ⊢
      refine br_f (nI_nlt (by omega) (by omega)) (cx_rd4 h (by omega) (by omega) ?_)
      by_cases g : P (r + 16 * c) = v
      · rw [if_pos ⟨hin, g⟩] at nx
        exact br_t g (nm_e (nm_r (nI_1 c) nx))
      · rw [if_neg (fun y => g y.2), Int32.add_zero] at nx
        exact br_f g (nm_r (nI_1 c) nx)
theorem cx_ct31 {post : Int32 → SX → Prop} {v : Int32} (h : ca_XI ex ck ho ce fa su sk ss gk go P K) (b1 : R1 < 16) (b2 : C0 ≤ C1) (b3 : C1 < 16) (hp : post (ca_sm (ca_g R0 R1 C0 C1 P v) 256) (nI R0, nI R1, nI C0, nI C1, ex, ck, ho, ce, fa, su, sk, ss, gk, go, mv)) :
    ∀ n r, R0 ≤ r → r ≤ R1 + 1 → R1 + 1 - r < n → wX_count_31 post v (nI R0) (nI R1) (nI C0) (nI C1) ex ck ho ce fa su sk ss gk go mv n (ca_sm (fun r => ca_sm (fun c => ca_g R0 R1 C0 C1 P v (r + 16 * c)) 16) r) (nI r) := by
  intro n
  induction n with
  | zero => intro r _ _ h; omega
  | succ n ih =>
    intro r hr0 hr1 hn
    by_cases e : r = R1 + 1
    · subst e
      refine br_t (nI_lt (by omega) (by omega)) ?_
      have z : ca_sm (fun r => ca_sm (fun c => ca_g R0 R1 C0 C1 P v (r + 16 * c)) 16) 16 = ca_sm (fun r => ca_sm (fun c => ca_g R0 R1 C0 C1 P v (r + 16 * c)) 16) (R1 + 1) := ca_sm_ext (by omega) (fun i h1 h2 => ca_sm_z 16 (fun c hc => if_neg (fun y => by have := ca_in_e y.1; omega)))
      rw [← z, ← ca_sm_rows]
      exact hp
    · refine br_f (nI_nlt (by omega) (by omega)) ⟨C1 + 2 - C0, ?_⟩
      have k := cx_ct46 (mv := mv) (post := post) (J := wX_count_31 post v (nI R0) (nI R1) (nI C0) (nI C1) ex ck ho ce fa su sk ss gk go mv n) (s0 := ca_sm (fun r => ca_sm (fun c => ca_g R0 R1 C0 C1 P v (r + 16 * c)) 16) r) h b1 b3 hr0 (by omega) (ih (r + 1) (by omega) (by omega) (by omega)) (C1 + 2 - C0) C0 (Nat.le_refl _) (by omega) (by omega)
      have z : ca_sm (fun c => ca_g R0 R1 C0 C1 P v (r + 16 * c)) C0 = 0 := ca_sm_z C0 (fun i hi => if_neg (fun y => by have := ca_in_e y.1; omega))
      rw [z, Int32.add_zero] at k
      exact k
theorem cx_count {post : Int32 → SX → Prop} {f t : Nat} {v : Int32} (h : ca_XI ex ck ho ce fa su sk ss gk go P K) (hf : f < 256) (ht : t < 256) (hp : ∀ (r0 r1 c0 c1 : Int32), post (ca_sm (fun q => if ca_i f t q = true ∧ P q = v then 1 else 0) 256) (r0, r1, c0, c1, ex, ck, ho, ce, fa, su, sk, ss, gk, go, mv)) : wpX_count post (r0, r1, c0, c1, ex, ck, ho, ce, fa, su, sk, ss, gk, go, mv) (nI f) (nI t) v := by
  obtain ⟨b0, b1, b2, b3⟩ := ca_RB hf ht
  unfold wpX_count
  dsimp only
  refine cx_bad0 hf (br_t rfl (cx_bad0 ht (br_t rfl (cx_setRegion hf ht ?_))))
  have k := cx_ct31 (mv := mv) (post := post) (R0 := ca_R0 f t) (v := v) h b1 b2 b3 (hp _ _ _ _) (ca_R1 f t + 2 - ca_R0 f t) (ca_R0 f t) (Nat.le_refl _) (by omega) (by omega)
  have z : ca_sm (fun r => ca_sm (fun c => ca_g (ca_R0 f t) (ca_R1 f t) (ca_C0 f t) (ca_C1 f t) P v (r + 16 * c)) 16) (ca_R0 f t) = 0 := ca_sm_z (ca_R0 f t) (fun i hi => ca_sm_z 16 (fun c hc => if_neg (fun y => by have := ca_in_e y.1; omega)))
  rw [z] at k
  exact ⟨_, k⟩
theorem cx_countB {post : Int32 → SX → Prop} {v1 v2 v : Int32} (h : ca_bd v1 ∨ ca_bd v2) (hp : post (-1) (r0, r1, c0, c1, ex, ck, ho, ce, fa, su, sk, ss, gk, go, mv)) : wpX_count post (r0, r1, c0, c1, ex, ck, ho, ce, fa, su, sk, ss, gk, go, mv) v1 v2 v := by
  unfold wpX_count
  dsimp only
  rcases ca_cell v1 with h1 | ⟨f, hf, rfl⟩
  · exact cx_bad1 h1 (br_f ca_10 hp)
  · rcases h with h1 | h2
    · exact cx_bad1 h1 (br_f ca_10 hp)
    · exact cx_bad0 hf (br_t rfl (cx_bad1 h2 (br_f ca_10 hp)))
/-! differences, by chunks -/
def ca_df (P K : Nat → Int32) (a q : Nat) : Int32 := if P q = K (a * 256 + q) then 0 else 1
theorem cx_da30 {post : Int32 → Prop} {a k : Nat} (h : ca_XI ex ck ho ce fa su sk ss gk go P K) (ha : a < 4) (hx : ex a ≠ 0) (hk : k < 16) (hp : post (ca_sm (fun i => ca_df P K a (ca_ce k i)) 16)) : ∀ n i, i ≤ 16 → 16 - i < n → wX_differAt_30 post (nI a) (nI k) r0 r1 c0 c1 ex ck ho ce fa su sk ss gk go mv n (ca_sm (fun i => ca_df P K a (ca_ce k i)) i) (nI i) := by
  intro n
  induction n with
  | zero => intro i _ h; omega
  | succ n ih =>
    intro i hi hn
    by_cases e : i = 16
    · subst e
      exact br_t (nI_le (a := 16) (b := 16) (Nat.le_refl _) (by decide)) hp
    · have hi' : i < 16 := by omega
      have hr : k / 4 * 4 + i / 4 < 16 := by omega
      have hc : k % 4 * 4 + i % 4 < 16 := by omega
      have eq : k / 4 * 4 + i / 4 + 16 * (k % 4 * 4 + i % 4) = ca_ce k i := rfl
      have nx := ih (i + 1) (by omega) (by omega)
      have st : ca_sm (fun i => ca_df P K a (ca_ce k i)) (i + 1) = ca_sm (fun i => ca_df P K a (ca_ce k i)) i + ca_df P K a (ca_ce k i) := rfl
      rw [st] at nx
      unfold ca_df at nx ⊢
      refine br_f (nI_ge (a := i) (b := 16) (by omega) (by decide)) ⟨ca_4, ca_4, nm_r (ca_rI hk hi') ⟨ca_4, ca_4, nm_r (ca_cI hk hi') (cx_rdV h ha hx hr hc (cx_rd4 h hr hc ?_))⟩⟩
      rw [eq]
      by_cases g : K (a * 256 + ca_ce k i) = P (ca_ce k i)
      · rw [if_pos g.symm, Int32.add_zero] at nx
        exact br_t g (nm_r (nI_1 i) nx)
      · rw [if_neg (fun y => g y.symm)] at nx
        exact br_f g (nm_e (nm_r (nI_1 i) nx))
theorem cx_da {post : Int32 → Prop} {a k : Nat} (h : ca_XI ex ck ho ce fa su sk ss gk go P K) (ha : a < 4) (hx : ex a ≠ 0) (hk : k < 16) (hp : post (ca_sm (fun i => ca_df P K a (ca_ce k i)) 16)) : wpX_differAt post (r0, r1, c0, c1, ex, ck, ho, ce, fa, su, sk, ss, gk, go, mv) (nI a) (nI k) := by
  have e64 : (64 : Int32) + nI k = nI (64 + k) := nI_add 64 k
  unfold wpX_differAt
  dsimp only
  rw [ca_x16, e64, nI_clamp (n := a * 16 + k) (by omega), nI_clamp (n := 64 + k) (by omega)]
  refine ⟨vp_in_nI (by omega) (by decide), vp_in_nI (by omega) (by decide), ?_⟩
  by_cases g : ck (a * 16 + k) = ck (64 + k)
  · refine br_t g ?_
    obtain ⟨C, s, m⟩ := h
    obtain ⟨c1', c2'⟩ := m.1 (a * 16 + k) (by omega)
    obtain ⟨d1, d2⟩ := m.1 (64 + k) (by omega)
    rw [c2', d2, nI_eq (by omega) (by omega)] at g
    have z : ca_sm (fun i => ca_df P K a (ca_ce k i)) 16 = 0 := ca_sm_z 16 (fun i hi => if_pos (by
      have u := m.2.2 (a * 16 + k) (by omega) (ca_lvV hk hx) i hi
      have w := m.2.2 (64 + k) (by omega) (ca_lv4 ex) i hi
      rw [ca_DV ha hk, g] at u
      rw [ca_D4] at w
      rw [← u, ← w]))
    rw [z] at hp
    exact hp
  · exact br_f g ⟨17, cx_da30 h ha hx hk hp 17 0 (by omega) (by omega)⟩
theorem cx_ds4 {post : Int32 → Prop} {a : Nat} (h : ca_XI ex ck ho ce fa su sk ss gk go P K) (ha : a < 4) (hx : ex a ≠ 0) (hp : post (ca_sm (ca_df P K a) 256)) : ∀ n k, k ≤ 16 → 16 - k < n → wX_differences_4 post (nI a) r0 r1 c0 c1 ex ck ho ce fa su sk ss gk go mv n (ca_sm (fun k => ca_sm (fun i => ca_df P K a (ca_ce k i)) 16) k) (nI k) := by
  intro n
  induction n with
  | zero => intro k _ h; omega
  | succ n ih =>
    intro k hk hn
    by_cases e : k = 16
    · subst e
      refine br_t (nI_le (a := 16) (b := 16) (Nat.le_refl _) (by decide)) ?_
      rw [← ca_sm_chunk]
      exact hp
    · exact br_f (nI_ge (a := k) (b := 16) (by omega) (by decide)) (cx_da h ha hx (by omega) (nm_e (nm_r (nI_1 k) (ih (k + 1) (by omega) (by omega)))))
theorem cx_ds {post : Int32 → Prop} {a : Nat} (h : ca_XI ex ck ho ce fa su sk ss gk go P K) (ha : a < 4) (hx : ex a ≠ 0) (hp : post (ca_sm (ca_df P K a) 256)) : wpX_differences post (r0, r1, c0, c1, ex, ck, ho, ce, fa, su, sk, ss, gk, go, mv) (nI a) :=
  ⟨17, cx_ds4 h ha hx hp 17 0 (by omega) (by omega)⟩
theorem cx_differ {post : Int32 → Prop} {a : Nat} (h : ca_XI ex ck ho ce fa su sk ss gk go P K) (ha : a < 4) (h1 : ex a = 0 → post (-2)) (h0 : ex a ≠ 0 → post (ca_sm (ca_df P K a) 256)) : wpX_differ post (r0, r1, c0, c1, ex, ck, ho, ce, fa, su, sk, ss, gk, go, mv) (nI a) := by
  unfold wpX_differ
  dsimp only
  exact cx_nv ha (fun z => br_f ca_10 (h1 z)) (fun z => br_t rfl (cx_ds h ha z (h0 z)))
theorem cx_differV {post : Int32 → Prop} {v : Int32} (h : ca_nv v) (hp : post (-2)) : wpX_differ post (r0, r1, c0, c1, ex, ck, ho, ce, fa, su, sk, ss, gk, go, mv) v := by
  unfold wpX_differ
  dsimp only
  exact cx_nv1 h (br_f ca_10 hp)
end
end
section
/-! ===== copies: what lands where; the component's walk ===== -/
/-- t is a target; its source; the targets whose sources lie ahead of (r, c) by rows -/
def ca_tg (R0 R1 C0 C1 ar ac t : Nat) : Bool := decide (ar ≤ t % 16 ∧ t % 16 + R0 ≤ R1 + ar ∧ ac ≤ t / 16 ∧ t / 16 + C0 ≤ C1 + ac)
def ca_src (R0 C0 ar ac t : Nat) : Nat := (t % 16 + R0 - ar) + 16 * (t / 16 + C0 - ac)
def ca_td (R0 R1 C0 C1 ar ac r c t : Nat) : Bool := decide ((ar ≤ t % 16 ∧ t % 16 + R0 ≤ R1 + ar ∧ ac ≤ t / 16 ∧ t / 16 + C0 ≤ C1 + ac) ∧ (t % 16 + R0 < r + ar ∨ t % 16 + R0 = r + ar ∧ t / 16 + C0 < c + ac))
/-- one where cell q lies in the region and lands on the array -/
def ca_cg (R0 R1 C0 C1 ar ac q : Nat) : Int32 := if ca_in R0 R1 C0 C1 q = true ∧ q % 16 + ar < 16 + R0 ∧ q / 16 + ac < 16 + C0 then 1 else 0
/-- what a copy leaves -/
def ca_cp (P : Nat → Int32) (R0 R1 C0 C1 ar ac : Nat) : Nat → Int32 := fun t => if ca_tg R0 R1 C0 C1 ar ac t = true then P (ca_src R0 C0 ar ac t) else P t
def ca_cq (P : Nat → Int32) (R0 R1 C0 C1 ar ac r c : Nat) : Nat → Int32 := fun t => if ca_td R0 R1 C0 C1 ar ac r c t = true then P (ca_src R0 C0 ar ac t) else P t
theorem ca_off {a b r : Nat} (h : b ≤ r) : nI r + (nI a - nI b) = nI (r + a - b) := by
  rw [← pk_sub (show b ≤ r + a by omega), ← nI_add, Int32.sub_eq_add_neg, Int32.sub_eq_add_neg, Int32.add_assoc]
theorem ca_td_0 {R0 R1 C0 C1 ar ac t : Nat} : ca_td R0 R1 C0 C1 ar ac R0 C0 t = false := decide_eq_false (by omega)
theorem ca_td_w {R0 R1 C0 C1 ar ac r c t : Nat} (hr : R0 ≤ r) (hc : C0 ≤ c) (z : t ≠ (r + ar - R0) + 16 * (c + ac - C0)) : ca_td R0 R1 C0 C1 ar ac r c t = true ↔ ca_td R0 R1 C0 C1 ar ac r (c + 1) t = true := by
  unfold ca_td
  rw [decide_eq_true_iff, decide_eq_true_iff]
  constructor <;> (intro y; omega)
theorem ca_td_t {R0 R1 C0 C1 ar ac r c : Nat} (hr : R0 ≤ r) (hc : C0 ≤ c) (hr1 : r ≤ R1) (hc1 : c ≤ C1) (hr2 : r + ar < 16 + R0) : ca_td R0 R1 C0 C1 ar ac r (c + 1) ((r + ar - R0) + 16 * (c + ac - C0)) = true := decide_eq_true (by omega)
theorem ca_td_s {R0 C0 ar ac r c : Nat} (hr : R0 ≤ r) (hc : C0 ≤ c) (hr2 : r + ar < 16 + R0) : ca_src R0 C0 ar ac ((r + ar - R0) + 16 * (c + ac - C0)) = r + 16 * c := by
  unfold ca_src
  omega
/-- the row is done -/
theorem ca_td_r {R0 R1 C0 C1 ar ac r c t : Nat} (ht : t < 256) (h : C1 < c ∨ 16 + C0 ≤ c + ac) : ca_td R0 R1 C0 C1 ar ac r c t = true ↔ ca_td R0 R1 C0 C1 ar ac (r + 1) C0 t = true := by
  unfold ca_td
  rw [decide_eq_true_iff, decide_eq_true_iff]
  constructor <;> (intro y; omega)
/-- all rows are done -/
theorem ca_td_e {R0 R1 C0 C1 ar ac r t : Nat} (ht : t < 256) (h : R1 < r ∨ 16 + R0 ≤ r + ar) : ca_td R0 R1 C0 C1 ar ac r C0 t = true ↔ ca_tg R0 R1 C0 C1 ar ac t = true := by
  unfold ca_td ca_tg
  rw [decide_eq_true_iff, decide_eq_true_iff]
  constructor <;> (intro y; omega)
/-- the cells already taken along -/
def ca_MV (R0 R1 C0 C1 : Nat) (P mv : Nat → Int32) (r c : Nat) : Prop := ∀ r' c', R0 ≤ r' → r' ≤ R1 → C0 ≤ c' → c' ≤ C1 → (r' < r ∨ r' = r ∧ c' < c) → mv (r' * 16 + c') = P (r' + 16 * c')
section
variable {r0 r1 c0 c1 : Int32} {ex ck ho ce fa su sk ss gk go mv P K : Nat → Int32} {R0 R1 C0 C1 ar ac : Nat}
theorem cx_cp71 {post : Int32 → SX → Prop} {J : Int32 → (Nat → Int32) → (Nat → Int32) → (Nat → Int32) → (Nat → Int32) → (Nat → Int32) → (Nat → Int32) → (Nat → Int32) → (Nat → Int32) → (Nat → Int32) → (Nat → Int32) → (Nat → Int32) → Prop} {x4 x5 : Int32} {r : Nat} (h : ca_XI ex ck ho ce fa su sk ss gk go P K) (b1 : R1 < 16) (b3 : C1 < 16) (hr0 : R0 ≤ r) (hr1 : r ≤ R1) (hJ : ∀ mv, ca_MV R0 R1 C0 C1 P mv (r + 1) C0 → J (nI (r + 1)) ex ck ho ce fa su sk ss gk go mv) :
    ∀ n c mv, C0 ≤ c → c ≤ C1 + 1 → C1 + 1 - c < n → ca_MV R0 R1 C0 C1 P mv r c → wX_copy_71 post J x4 x5 (nI r) (nI R0) (nI R1) (nI C0) (nI C1) n (nI c) ex ck ho ce fa su sk ss gk go mv := by
  intro n
  induction n with
  | zero => intro c mv _ _ h; omega
  | succ n ih =>
    intro c mv hc0 hc1 hn hm
    by_cases e : c = C1 + 1
    · subst e
      refine br_t (nI_lt (by omega) (by omega)) (nm_r (nI_1 r) (hJ mv (fun r' c' a1 a2 a3 a4 a5 => hm r' c' a1 a2 a3 a4 (by omega))))
    · refine br_f (nI_nlt (by omega) (by omega)) (cx_rd4 h (by omega) (by omega) ?_)
      rw [ca_x16, nI_clamp (n := r * 16 + c) (by omega)]
      refine ⟨vp_in_nI (by omega) (by decide), nm_e (nm_r (nI_1 c) (ih (c + 1) _ (by omega) (by omega) (by omega) (fun r' c' a1 a2 a3 a4 a5 => ?_)))⟩
      by_cases q : r' = r ∧ c' = c
      · rw [q.1, q.2, pk_us]
      · rw [pk_un (by omega)]
        exact hm r' c' a1 a2 a3 a4 (by omega)
theorem cx_cp56 {post : Int32 → SX → Prop} {x4 x5 : Int32} (h : ca_XI ex ck ho ce fa su sk ss gk go P K) (b1 : R1 < 16) (b2 : C0 ≤ C1) (b3 : C1 < 16) (hp : ∀ mv, ca_MV R0 R1 C0 C1 P mv (R1 + 1) C0 → ∃ n, wX_copy_123 post x4 x5 n 0 (nI R0) (nI R0) (nI R1) (nI C0) (nI C1) ex ck ho ce fa su sk ss gk go mv) :
    ∀ n r mv, R0 ≤ r → r ≤ R1 + 1 → R1 + 1 - r < n → ca_MV R0 R1 C0 C1 P mv r C0 → wX_copy_56 post x4 x5 (nI R0) (nI R1) (nI C0) (nI C1) n (nI r) ex ck ho ce fa su sk ss gk go mv := by
  intro n
  induction n with
  | zero => intro r mv _ _ h; omega
  | succ n ih =>
    intro r mv hr0 hr1 hn hm
    by_cases e : r = R1 + 1
    · subst e
      exact br_t (nI_lt (by omega) (by omega)) (hp mv hm)
    · exact br_f (nI_nlt (by omega) (by omega)) ⟨C1 + 2 - C0, cx_cp71 h b1 b3 hr0 (by omega) (fun mv hm' => ih (r + 1) mv (by omega) (by omega) (by omega) hm') (C1 + 2 - C0) C0 mv (Nat.le_refl _) (by omega) (by omega) hm⟩
theorem cx_cp148 {post : Int32 → SX → Prop} {J : Int32 → Int32 → Int32 → Int32 → Int32 → Int32 → (Nat → Int32) → (Nat → Int32) → (Nat → Int32) → (Nat → Int32) → (Nat → Int32) → (Nat → Int32) → (Nat → Int32) → (Nat → Int32) → (Nat → Int32) → (Nat → Int32) → (Nat → Int32) → Prop} {s0 : Int32} {r : Nat} (b1 : R1 < 16) (b3 : C1 < 16) (ba : ar < 16) (bb : ac < 16) (hr0 : R0 ≤ r) (hr1 : r ≤ R1) (hr2 : r + ar < 16 + R0) (hm : ca_MV R0 R1 C0 C1 P mv (R1 + 1) C0)
    (hJ : ∀ (ck ho ce fa su sk ss gk go : Nat → Int32), ca_XI ex ck ho ce fa su sk ss gk go (ca_cq P R0 R1 C0 C1 ar ac (r + 1) C0) K → J (s0 + ca_sm (fun c => ca_cg R0 R1 C0 C1 ar ac (r + 16 * c)) 16) (nI (r + 1)) (nI R0) (nI R1) (nI C0) (nI C1) ex ck ho ce fa su sk ss gk go mv) :
    ∀ n c (ck ho ce fa su sk ss gk go : Nat → Int32), C0 ≤ c → c ≤ C1 + 1 → C1 + 1 - c < n → ca_XI ex ck ho ce fa su sk ss gk go (ca_cq P R0 R1 C0 C1 ar ac r c) K → wX_copy_148 post J (nI ar - nI R0) (nI ac - nI C0) (nI r) n (s0 + ca_sm (fun c => ca_cg R0 R1 C0 C1 ar ac (r + 16 * c)) c) (nI c) (nI R0) (nI R1) (nI C0) (nI C1) ex ck ho ce fa su sk ss gk go mv := by
  intro n
  induction n with
  | zero => intro c ck ho ce fa su sk ss gk go _ _ h; omega
  | succ n ih =>
    intro c ck ho ce fa su sk ss gk go hc0 hc1 hn h
    have done : (C1 < c ∨ 16 + C0 ≤ c + ac) → J (s0 + ca_sm (fun c => ca_cg R0 R1 C0 C1 ar ac (r + 16 * c)) c) (nI (r + 1)) (nI R0) (nI R1) (nI C0) (nI C1) ex ck ho ce fa su sk ss gk go mv := by
      intro hd
      have z : ca_sm (fun c => ca_cg R0 R1 C0 C1 ar ac (r + 16 * c)) 16 = ca_sm (fun c => ca_cg R0 R1 C0 C1 ar ac (r + 16 * c)) c := ca_sm_ext (by omega) (fun i h1 h2 => if_neg (fun y => by have := ca_in_e y.1; omega))
      rw [← z]
      exact hJ ck ho ce fa su sk ss gk go (ca_XIc h (fun q hq => ca_if (ca_td_r hq hd)) (fun _ _ _ _ _ => rfl))
    by_cases e : c = C1 + 1
    · subst e
      exact br_t (nI_lt (by omega) (by omega)) (nm_r (nI_1 r) (done (by omega)))
    · refine br_f (nI_nlt (by omega) (by omega)) ?_
      rw [ca_off hc0, ca_off hr0]
      by_cases g : 16 + C0 ≤ c + ac
      · exact br_t (nI_le (a := 16) (by omega) (by omega)) (nm_r (nI_1 r) (done (Or.inr g)))
      · refine br_f (nI_ge (b := 16) (by omega) (by decide)) ?_
        rw [ca_x16, nI_clamp (n := r * 16 + c) (by omega), hm r c hr0 hr1 hc0 (by omega) (by omega)]
        refine ⟨vp_in_nI (by omega) (by decide), cx_write h (by omega) (by omega) (fun ck ho ce fa su sk ss gk go h' => ?_)⟩
        have nx := ih (c + 1) ck ho ce fa su sk ss gk go (by omega) (by omega) (by omega) (ca_XIc h' (fun q hq => ?_) (fun _ _ _ _ _ => rfl))
        · have st : s0 + ca_sm (fun c => ca_cg R0 R1 C0 C1 ar ac (r + 16 * c)) (c + 1) = s0 + ca_sm (fun c => ca_cg R0 R1 C0 C1 ar ac (r + 16 * c)) c + 1 := by
            rw [Int32.add_assoc]
            have o : ca_cg R0 R1 C0 C1 ar ac (r + 16 * c) = 1 := if_pos ⟨ca_in_t (by omega), by omega, by omega⟩
            rw [← o]
            rfl
          rw [st] at nx
          exact nm_e (nm_r (nI_1 c) nx)
        · unfold ca_cq
          by_cases z : q = (r + ar - R0) + 16 * (c + ac - C0)
          · rw [z, pk_us, if_pos (ca_td_t hr0 hc0 hr1 (by omega) hr2), ca_td_s hr0 hc0 hr2]
          · rw [pk_un z]
            exact ca_if (ca_td_w hr0 hc0 z)
theorem cx_cp123 {post : Int32 → SX → Prop} (b1 : R1 < 16) (b2 : C0 ≤ C1) (b3 : C1 < 16) (ba : ar < 16) (bb : ac < 16) (hm : ca_MV R0 R1 C0 C1 P mv (R1 + 1) C0) (hp : ∀ (ck ho ce fa su sk ss gk go : Nat → Int32), ca_XI ex ck ho ce fa su sk ss gk go (ca_cp P R0 R1 C0 C1 ar ac) K → post (ca_sm (ca_cg R0 R1 C0 C1 ar ac) 256) (nI R0, nI R1, nI C0, nI C1, ex, ck, ho, ce, fa, su, sk, ss, gk, go, mv)) :
    ∀ n r (ck ho ce fa su sk ss gk go : Nat → Int32), R0 ≤ r → r ≤ R1 + 1 → R1 + 1 - r < n → ca_XI ex ck ho ce fa su sk ss gk go (ca_cq P R0 R1 C0 C1 ar ac r C0) K → wX_copy_123 post (nI ar - nI R0) (nI ac - nI C0) n (ca_sm (fun r => ca_sm (fun c => ca_cg R0 R1 C0 C1 ar ac (r + 16 * c)) 16) r) (nI r) (nI R0) (nI R1) (nI C0) (nI C1) ex ck ho ce fa su sk ss gk go mv := by
  intro n
  induction n with
  | zero => intro r ck ho ce fa su sk ss gk go _ _ h; omega
  | succ n ih =>
    intro r ck ho ce fa su sk ss gk go hr0 hr1 hn h
    have done : (R1 < r ∨ 16 + R0 ≤ r + ar) → post (ca_sm (fun r => ca_sm (fun c => ca_cg R0 R1 C0 C1 ar ac (r + 16 * c)) 16) r) (nI R0, nI R1, nI C0, nI C1, ex, ck, ho, ce, fa, su, sk, ss, gk, go, mv) := by
      intro hd
      have z : ca_sm (fun r => ca_sm (fun c => ca_cg R0 R1 C0 C1 ar ac (r + 16 * c)) 16) 16 = ca_sm (fun r => ca_sm (fun c => ca_cg R0 R1 C0 C1 ar ac (r + 16 * c)) 16) r := ca_sm_ext (by omega) (fun i h1 h2 => ca_sm_z 16 (fun c hc => if_neg (fun y => by have := ca_in_e y.1; omega)))
      rw [← z, ← ca_sm_rows]
      exact hp ck ho ce fa su sk ss gk go (ca_XIc h (fun q hq => ca_if (ca_td_e hq hd)) (fun _ _ _ _ _ => rfl))
    by_cases e : r = R1 + 1
    · subst e
      exact br_t (nI_lt (by omega) (by omega)) (done (by omega))
    · refine br_f (nI_nlt (by omega) (by omega)) ?_
      rw [ca_off hr0]
      by_cases g : 16 + R0 ≤ r + ar
      · exact br_t (nI_le (a := 16) (by omega) (by omega)) (done (Or.inr g))
      · refine br_f (nI_ge (b := 16) (by omega) (by decide)) ⟨C1 + 2 - C0, ?_⟩
        have k := cx_cp148 (post := post) (J := wX_copy_123 post (nI ar - nI R0) (nI ac - nI C0) n) (s0 := ca_sm (fun r => ca_sm (fun c => ca_cg R0 R1 C0 C1 ar ac (r + 16 * c)) 16) r) b1 b3 ba bb hr0 (by omega) (by omega) hm (fun ck ho ce fa su sk ss gk go h' => ih (r + 1) ck ho ce fa su sk ss gk go (by omega) (by omega) (by omega) h') (C1 + 2 - C0) C0 ck ho ce fa su sk ss gk go (Nat.le_refl _) (by omega) (by omega) h
        have z : ca_sm (fun c => ca_cg R0 R1 C0 C1 ar ac (r + 16 * c)) C0 = 0 := ca_sm_z C0 (fun i hi => if_neg (fun y => by have := ca_in_e y.1; omega))
        rw [z, Int32.add_zero] at k
        exact k
theorem cx_copy {post : Int32 → SX → Prop} {f t a : Nat} (h : ca_XI ex ck ho ce fa su sk ss gk go P K) (hf : f < 256) (ht : t < 256) (ha : a < 256) (hp : ∀ (r0 r1 c0 c1 : Int32) (ck ho ce fa su sk ss gk go mv : Nat → Int32), ca_XI ex ck ho ce fa su sk ss gk go (ca_cp P (ca_R0 f t) (ca_R1 f t) (ca_C0 f t) (ca_C1 f t) (a % 16) (a / 16)) K → post (ca_sm (ca_cg (ca_R0 f t) (ca_R1 f t) (ca_C0 f t) (ca_C1 f t) (a % 16) (a / 16)) 256) (r0, r1, c0, c1, ex, ck, ho, ce, fa, su, sk, ss, gk, go, mv)) : wpX_copy post (r0, r1, c0, c1, ex, ck, ho, ce, fa, su, sk, ss, gk, go, mv) (nI f) (nI t) (nI a) := by
  obtain ⟨b0, b1, b2, b3⟩ := ca_RB hf ht
  unfold wpX_copy
  dsimp only
  rw [ca_and15 ha, ca_shr4 ha]
  refine cx_bad0 hf (br_t rfl (cx_bad0 ht (br_t rfl (cx_bad0 ha (br_t rfl (cx_setRegion hf ht (nm_e (nm_e ?_))))))))
  refine ⟨ca_R1 f t + 2 - ca_R0 f t, cx_cp56 (R0 := ca_R0 f t) (R1 := ca_R1 f t) (C0 := ca_C0 f t) (C1 := ca_C1 f t) h b1 b2 b3 (fun mv hm => ?_) (ca_R1 f t + 2 - ca_R0 f t) (ca_R0 f t) mv (Nat.le_refl _) (by omega) (by omega) (fun r' c' a1 a2 a3 a4 a5 => by omega)⟩
  have k := cx_cp123 (post := post) (P := P) (R0 := ca_R0 f t) (ar := a % 16) (ac := a / 16) b1 b2 b3 (by omega) (by omega) hm (fun ck ho ce fa su sk ss gk go h' => hp _ _ _ _ ck ho ce fa su sk ss gk go mv h') (ca_R1 f t + 2 - ca_R0 f t) (ca_R0 f t) ck ho ce fa su sk ss gk go (Nat.le_refl _) (by omega) (by omega) (ca_XIc h (fun q _ => (if_neg (by rw [ca_td_0]; exact Bool.false_ne_true)).symm) (fun _ _ _ _ _ => rfl))
  have z : ca_sm (fun r => ca_sm (fun c => ca_cg (ca_R0 f t) (ca_R1 f t) (ca_C0 f t) (ca_C1 f t) (a % 16) (a / 16) (r + 16 * c)) 16) (ca_R0 f t) = 0 := ca_sm_z (ca_R0 f t) (fun i hi => ca_sm_z 16 (fun c hc => if_neg (fun y => by have := ca_in_e y.1; omega)))
  rw [z] at k
  exact ⟨_, k⟩
theorem cx_copyB {post : Int32 → SX → Prop} {v1 v2 v3 : Int32} (h : ca_bd v1 ∨ ca_bd v2 ∨ ca_bd v3) (hp : post (-1) (r0, r1, c0, c1, ex, ck, ho, ce, fa, su, sk, ss, gk, go, mv)) : wpX_copy post (r0, r1, c0, c1, ex, ck, ho, ce, fa, su, sk, ss, gk, go, mv) v1 v2 v3 := by
  unfold wpX_copy
  dsimp only
  rcases ca_cell v1 with h1 | ⟨f, hf, rfl⟩
  · exact cx_bad1 h1 (br_f ca_10 hp)
  · rcases h with h1 | h2
    · exact cx_bad1 h1 (br_f ca_10 hp)
    · refine cx_bad0 hf (br_t rfl ?_)
      rcases ca_cell v2 with g2 | ⟨t, ht, rfl⟩
      · exact cx_bad1 g2 (br_f ca_10 hp)
      · rcases h2 with h2 | h3
        · exact cx_bad1 h2 (br_f ca_10 hp)
        · exact cx_bad0 ht (br_t rfl (cx_bad1 h3 (br_f ca_10 hp)))
end
end
section
/-! ===== the component's walks: versions, and the constructor ===== -/
theorem ca_bt {x y : Bool} (h : x = true ↔ y = true) : x = y := by
  cases x <;> cases y <;> simp_all
section
variable {r0 r1 c0 c1 : Int32} {ex ck ho ce fa su sk ss gk go mv P K : Nat → Int32} {lv : Nat → Bool} {W D : Nat → Nat → Int32} {a : Nat}
theorem cx_kp33 {post : Int32 → SX → Prop} (ha : a < 4) (hD : ∀ k, k < 16 → ∀ i, i < 16 → D (64 + k) i = D (a * 16 + k) i) (hl4 : ∀ k, k < 16 → lv (64 + k) = true) (hla : ∀ k, k < 16 → lv (a * 16 + k) = false) (hp : ∀ (ck ho : Nat → Int32) (C : Nat → Nat), ca_MP (fun j => lv j || decide (a * 16 ≤ j ∧ j < a * 16 + 16)) ck ho W D C → post 0 (r0, r1, c0, c1, ex, ck, ho, ce, fa, su, sk, ss, gk, go, mv)) :
    ∀ n k (ck ho : Nat → Int32) (C : Nat → Nat), k ≤ 16 → 16 - k < n → ca_MP (fun j => lv j || decide (a * 16 ≤ j ∧ j < a * 16 + k)) ck ho W D C → wX_keep_33 post (nI a) r0 r1 c0 c1 n (nI k) ex ck ho ce fa su sk ss gk go mv := by
  intro n
  induction n with
  | zero => intro k ck ho C _ h; omega
  | succ n ih =>
    intro k ck ho C hk hn h
    by_cases e : k = 16
    · subst e
      exact br_t (nI_le (a := 16) (b := 16) (Nat.le_refl _) (by decide)) (hp ck ho C h)
    · have hk' : k < 16 := by omega
      have e64 : (64 : Int32) + nI k = nI (64 + k) := nI_add 64 k
      obtain ⟨hC, ec⟩ := h.1 (64 + k) (by omega)
      refine br_f (nI_ge (a := k) (b := 16) (by omega) (by decide)) ?_
      rw [e64, ca_x16, nI_clamp (n := 64 + k) (by omega), nI_clamp (n := a * 16 + k) (by omega), ec]
      refine ⟨vp_in_nI (by omega) (by decide), ?_⟩
      rintro _ rfl
      rw [nI_clamp (n := C (64 + k)) (by omega)]
      refine ⟨vp_in_nI (by omega) (by decide), nm_e ⟨vp_in_nI hC (by decide), vp_in_nI hC (by decide), nm_e (nm_r (nI_1 k) (ih (k + 1) _ _ (ca_st C (a * 16 + k) (C (64 + k))) (by omega) (by omega) ?_))⟩⟩
      have lk := ca_lnk (m := a * 16 + k) (c := C (64 + k)) (E := D (a * 16 + k)) h (by omega) (by simp [hla k hk']) hC (fun i hi => by rw [h.2.2 (64 + k) (by omega) (by simp [hl4 k hk']) i hi]; exact hD k hk' i hi)
      refine ca_MPc lk (fun j _ => ?_) (fun j _ _ i _ => ?_)
      · by_cases q : j = a * 16 + k
        · subst q
          rw [ca_st_s]
          simp
        · rw [ca_st_n q]
          refine congrArg (lv j || ·) (ca_bt ?_)
          rw [decide_eq_true_iff, decide_eq_true_iff]
          constructor <;> (intro y; omega)
      · by_cases q : j = a * 16 + k
        · subst q
          rw [ca_st_s]
        · rw [ca_st_n q]
theorem cx_keep {post : Int32 → SX → Prop} (h : ca_XI ex ck ho ce fa su sk ss gk go P K) (ha : a < 4) (h1 : ex a ≠ 0 → post (-3) (r0, r1, c0, c1, ex, ck, ho, ce, fa, su, sk, ss, gk, go, mv)) (h0 : ex a = 0 → ∀ (ck ho : Nat → Int32), ca_XI (upd ex a 1) ck ho ce fa su sk ss gk go P (fun p => if p / 256 = a then P (p % 256) else K p) → post 0 (r0, r1, c0, c1, upd ex a 1, ck, ho, ce, fa, su, sk, ss, gk, go, mv)) : wpX_keep post (r0, r1, c0, c1, ex, ck, ho, ce, fa, su, sk, ss, gk, go, mv) (nI a) := by
  have ea : (nI a).toNatClampNeg = a := nI_clamp (by omega)
  refine br_f (nI_pos (by omega)) (br_t (nI_le (b := 3) (by omega) (by decide)) ⟨vp_in_nI (by omega) (by decide), ?_⟩)
  rw [ea]
  by_cases g : ex a = 0
  · obtain ⟨C, s, m⟩ := h
    have hla : ∀ k, k < 16 → ca_lv ex (a * 16 + k) = false := fun k hk => decide_eq_false (fun z => by
      rw [show (a * 16 + k) / 16 = a by omega] at z
      rcases z with z | z
      · omega
      · exact z g)
    have m1 : ca_MP (ca_lv ex) ck ho (ca_W ce fa su) (ca_D P (fun p => if p / 256 = a then P (p % 256) else K p)) C := ca_MPc m (fun _ _ => rfl) (fun j hj lj i hi => by
      unfold ca_D
      by_cases q : 64 ≤ j
      · rw [if_pos q, if_pos q]
      · rw [if_neg q, if_neg q]
        have t := ca_ce_lt (k := j % 16) (i := i) (by omega) hi
        refine (if_neg (fun z => ?_)).symm
        have f := hla (j % 16) (by omega)
        rw [show a * 16 + j % 16 = j by omega, lj] at f
        exact Bool.noConfusion f)
    refine br_t g ⟨vp_in_nI (by omega) (by decide), nm_r (e' := upd ex a 1) rfl ⟨17, cx_kp33 (lv := ca_lv ex) (W := ca_W ce fa su) (D := ca_D P (fun p => if p / 256 = a then P (p % 256) else K p)) ha (fun k hk i hi => ?_) (fun k _ => ca_lv4 ex) hla (fun ck ho C m' => h0 g ck ho ⟨C, s, ca_MPc m' (fun j hj => ca_bt ?_) (fun _ _ _ _ _ => rfl)⟩) 17 0 ck ho C (by omega) (by omega) (ca_MPc m1 (fun j _ => ?_) (fun _ _ _ _ _ => rfl))⟩⟩
    · have t := ca_ce_lt hk hi
      rw [ca_D4, ca_DV ha hk, if_pos (by omega), show (a * 256 + ca_ce k i) % 256 = ca_ce k i by omega]
    · unfold ca_lv
      rw [Bool.or_eq_true, decide_eq_true_iff, decide_eq_true_iff, decide_eq_true_iff]
      by_cases q : j / 16 = a
      · rw [q, pk_us]
        constructor
        · intro _
          exact Or.inr (by omega)
        · intro _
          exact Or.inr (by decide)
      · rw [pk_un q]
        constructor
        · intro y
          exact Or.inl y
        · intro y
          rcases y with y | y
          · exact y
          · omega
    · have f : decide (a * 16 ≤ j ∧ j < a * 16 + 0) = false := decide_eq_false (by omega)
      rw [f, Bool.or_false]
  · exact br_f g (h1 g)
theorem cx_keepV {post : Int32 → SX → Prop} {v : Int32} (h : ca_nv v) (hp : post (-2) (r0, r1, c0, c1, ex, ck, ho, ce, fa, su, sk, ss, gk, go, mv)) : wpX_keep post (r0, r1, c0, c1, ex, ck, ho, ce, fa, su, sk, ss, gk, go, mv) v := by
  by_cases z : v < 0
  · exact br_t z hp
  · exact br_f z (br_f (ca_nv3 (h.resolve_left z)) hp)
theorem cx_rs19 {post : Int32 → SX → Prop} {x : Int32} (ha : a < 4) (hl4 : ∀ k, k < 16 → lv (64 + k) = true) (hla : ∀ k, k < 16 → lv (a * 16 + k) = true) (hp : ∀ (ck ho : Nat → Int32) (C : Nat → Nat), ca_MP lv ck ho W (fun j i => if 64 ≤ j ∧ j < 64 + 16 then D (a * 16 + (j - 64)) i else D j i) C → post x (r0, r1, c0, c1, ex, ck, ho, ce, fa, su, sk, ss, gk, go, mv)) :
    ∀ n k (ck ho : Nat → Int32) (C : Nat → Nat), k ≤ 16 → 16 - k < n → ca_MP lv ck ho W (fun j i => if 64 ≤ j ∧ j < 64 + k then D (a * 16 + (j - 64)) i else D j i) C → wX_restore_19 post (nI a) x r0 r1 c0 c1 n (nI k) ex ck ho ce fa su sk ss gk go mv := by
  intro n
  induction n with
  | zero => intro k ck ho C _ h; omega
  | succ n ih =>
    intro k ck ho C hk hn h
    by_cases e : k = 16
    · subst e
      exact br_t (nI_le (a := 16) (b := 16) (Nat.le_refl _) (by decide)) (hp ck ho C h)
    · have hk' : k < 16 := by omega
      have e64 : (64 : Int32) + nI k = nI (64 + k) := nI_add 64 k
      obtain ⟨hC, ec⟩ := h.1 (64 + k) (by omega)
      obtain ⟨hA, eA⟩ := h.1 (a * 16 + k) (by omega)
      have v64 : vp_in (nI (64 + k)) 80 := vp_in_nI (by omega) (by decide)
      have vC : vp_in (nI (C (64 + k))) 80 := vp_in_nI hC (by decide)
      have vA : vp_in (nI (C (a * 16 + k))) 80 := vp_in_nI hA (by decide)
      refine br_f (nI_ge (a := k) (b := 16) (by omega) (by decide)) ?_
      rw [e64, ca_x16, nI_clamp (n := 64 + k) (by omega), nI_clamp (n := a * 16 + k) (by omega), ec, eA]
      refine ⟨vp_in_nI (by omega) (by decide), ?_⟩
      rintro _ rfl
      rw [nI_clamp (n := C (64 + k)) (by omega), nI_clamp (n := C (a * 16 + k)) (by omega)]
      refine ⟨v64, vC, vC, nm_e ⟨vA, vA, nm_e ⟨v64, nm_e (nm_r (nI_1 k) (ih (k + 1) _ _ (ca_st C (64 + k) (C (a * 16 + k))) (by omega) (by omega) ?_))⟩⟩⟩
      have lk := ca_lnk (m := 64 + k) (c := C (a * 16 + k)) (E := D (a * 16 + k)) (ca_unl (m := 64 + k) h (by omega) (hl4 k hk')) (by omega) ca_st_s hA (fun i hi => by
        rw [h.2.2 (a * 16 + k) (by omega) (hla k hk') i hi]
        exact if_neg (by omega))
      refine ca_MPc lk (fun j _ => ?_) (fun j _ _ i _ => ?_)
      · by_cases q : j = 64 + k
        · subst q
          rw [ca_st_s]
          exact hl4 k hk'
        · rw [ca_st_n q, ca_st_n q]
      · by_cases q : j = 64 + k
        · subst q
          rw [ca_st_s, if_pos (by omega), show 64 + k - 64 = k by omega]
        · rw [ca_st_n q]
          exact ca_if ⟨fun y => by omega, fun y => by omega⟩
theorem cx_restore {post : Int32 → SX → Prop} (h : ca_XI ex ck ho ce fa su sk ss gk go P K) (ha : a < 4) (h1 : ex a = 0 → post (-2) (r0, r1, c0, c1, ex, ck, ho, ce, fa, su, sk, ss, gk, go, mv)) (h0 : ex a ≠ 0 → ∀ (ck ho : Nat → Int32), ca_XI ex ck ho ce fa su sk ss gk go (fun q => K (a * 256 + q)) K → post (ca_sm (ca_df P K a) 256) (r0, r1, c0, c1, ex, ck, ho, ce, fa, su, sk, ss, gk, go, mv)) : wpX_restore post (r0, r1, c0, c1, ex, ck, ho, ce, fa, su, sk, ss, gk, go, mv) (nI a) := by
  unfold wpX_restore
  dsimp only
  refine cx_nv ha (fun z => br_f ca_10 (h1 z)) (fun z => br_t rfl (cx_ds h ha z ?_))
  obtain ⟨C, s, m⟩ := h
  refine ⟨17, cx_rs19 (lv := ca_lv ex) (W := ca_W ce fa su) (D := ca_D P K) ha (fun k _ => ca_lv4 ex) (fun k hk => ca_lvV hk z) (fun ck ho C m' => h0 z ck ho ⟨C, s, ca_MPc m' (fun _ _ => rfl) (fun j hj lj i hi => ?_)⟩) 17 0 ck ho C (by omega) (by omega) (ca_MPc m (fun _ _ => rfl) (fun j _ _ i _ => (if_neg (by omega)).symm))⟩
  by_cases q : 64 ≤ j
  · rw [if_pos (by omega), ca_DV ha (by omega)]
    unfold ca_D
    rw [if_pos q]
  · rw [if_neg (by omega)]
    unfold ca_D
    rw [if_neg q, if_neg q]
theorem cx_restoreV {post : Int32 → SX → Prop} {v : Int32} (h : ca_nv v) (hp : post (-2) (r0, r1, c0, c1, ex, ck, ho, ce, fa, su, sk, ss, gk, go, mv)) : wpX_restore post (r0, r1, c0, c1, ex, ck, ho, ce, fa, su, sk, ss, gk, go, mv) v := by
  unfold wpX_restore
  dsimp only
  exact cx_nv1 h (br_f ca_10 hp)
theorem cx_dr20 {post : Int32 → SX → Prop} (ha : a < 4) (hla : ∀ k, k < 16 → lv (a * 16 + k) = true) (hp : ∀ (ho : Nat → Int32) (C : Nat → Nat), ca_MP (fun j => lv j && !decide (a * 16 ≤ j ∧ j < a * 16 + 16)) ck ho W D C → post 0 (r0, r1, c0, c1, ex, ck, ho, ce, fa, su, sk, ss, gk, go, mv)) :
    ∀ n k (ho : Nat → Int32) (C : Nat → Nat), k ≤ 16 → 16 - k < n → ca_MP (fun j => lv j && !decide (a * 16 ≤ j ∧ j < a * 16 + k)) ck ho W D C → wX_drop_20 post (nI a) r0 r1 c0 c1 n (nI k) ex ck ho ce fa su sk ss gk go mv := by
  intro n
  induction n with
  | zero => intro k ho C _ h; omega
  | succ n ih =>
    intro k ho C hk hn h
    by_cases e : k = 16
    · subst e
      exact br_t (nI_le (a := 16) (b := 16) (Nat.le_refl _) (by decide)) (hp ho C h)
    · have hk' : k < 16 := by omega
      obtain ⟨hA, eA⟩ := h.1 (a * 16 + k) (by omega)
      have vA : vp_in (nI (C (a * 16 + k))) 80 := vp_in_nI hA (by decide)
      refine br_f (nI_ge (a := k) (b := 16) (by omega) (by decide)) ?_
      rw [ca_x16, nI_clamp (n := a * 16 + k) (by omega), eA, nI_clamp (n := C (a * 16 + k)) (by omega)]
      refine ⟨vp_in_nI (by omega) (by decide), vA, vA, nm_e (nm_r (nI_1 k) (ih (k + 1) _ C (by omega) (by omega) ?_))⟩
      have ul := ca_unl (m := a * 16 + k) h (by omega) (by simp [hla k hk'])
      refine ca_MPc ul (fun j _ => ?_) (fun j _ _ i _ => rfl)
      by_cases q : j = a * 16 + k
      · subst q
        rw [ca_st_s]
        simp
      · rw [ca_st_n q]
        refine congrArg (fun z => lv j && !z) (ca_bt ?_)
        rw [decide_eq_true_iff, decide_eq_true_iff]
        constructor <;> (intro y; omega)
theorem cx_drop {post : Int32 → SX → Prop} (h : ca_XI ex ck ho ce fa su sk ss gk go P K) (ha : a < 4) (h1 : ex a = 0 → post (-2) (r0, r1, c0, c1, ex, ck, ho, ce, fa, su, sk, ss, gk, go, mv)) (h0 : ex a ≠ 0 → ∀ (ho : Nat → Int32), ca_XI (upd ex a 0) ck ho ce fa su sk ss gk go P K → post 0 (r0, r1, c0, c1, upd ex a 0, ck, ho, ce, fa, su, sk, ss, gk, go, mv)) : wpX_drop post (r0, r1, c0, c1, ex, ck, ho, ce, fa, su, sk, ss, gk, go, mv) (nI a) := by
  have ea : (nI a).toNatClampNeg = a := nI_clamp (by omega)
  unfold wpX_drop
  dsimp only
  rw [ea]
  obtain ⟨C, s, m⟩ := h
  refine cx_nv ha (fun z => br_f ca_10 (h1 z)) (fun z => br_t rfl ⟨vp_in_nI (by omega) (by decide), nm_r (e' := upd ex a 0) rfl ⟨17, cx_dr20 (lv := ca_lv ex) (W := ca_W ce fa su) (D := ca_D P K) ha (fun k hk => ca_lvV hk z) (fun ho C m' => h0 z ho ⟨C, s, ca_MPc m' (fun j hj => ca_bt ?_) (fun _ _ _ _ _ => rfl)⟩) 17 0 ho C (by omega) (by omega) (ca_MPc m (fun j _ => ?_) (fun _ _ _ _ _ => rfl))⟩⟩)
  · unfold ca_lv
    rw [Bool.and_eq_true, Bool.not_eq_true', decide_eq_true_iff, decide_eq_true_iff, decide_eq_false_iff_not]
    by_cases q : j / 16 = a
    · rw [q, pk_us]
      constructor
      · intro y
        rcases y with y | y
        · omega
        · exact absurd rfl y
      · intro y
        omega
    · rw [pk_un q]
      constructor
      · intro y
        exact ⟨y, by omega⟩
      · intro y
        exact y.1
  · have f : decide (a * 16 ≤ j ∧ j < a * 16 + 0) = false := decide_eq_false (by omega)
    rw [f, Bool.not_false, Bool.and_true]
theorem cx_dropV {post : Int32 → SX → Prop} {v : Int32} (h : ca_nv v) (hp : post (-2) (r0, r1, c0, c1, ex, ck, ho, ce, fa, su, sk, ss, gk, go, mv)) : wpX_drop post (r0, r1, c0, c1, ex, ck, ho, ce, fa, su, sk, ss, gk, go, mv) v := by
  unfold wpX_drop
  dsimp only
  exact cx_nv1 h (br_f ca_10 hp)
/-! the constructor -/
theorem ca_H_init : ∀ c, c < 80 → ca_H (fun j => decide (64 ≤ j)) (fun j => if 64 ≤ j then j - 64 else 0) c = if c < 16 then 1 else 0 := by decide +kernel
theorem cx_in102 {post : SX → Prop} (hp : ∀ (ck ho fa : Nat → Int32), (∀ j, j < 80 → ck j = nI (if 64 ≤ j then j - 64 else 0)) → (∀ c, c < 80 → ho c = nI (if c < 16 then 1 else 0)) → post (r0, r1, c0, c1, ex, ck, ho, ce, fa, su, sk, ss, gk, go, mv)) :
    ∀ n k (ck ho fa : Nat → Int32), k ≤ 16 → 16 - k < n → (∀ j, j < 80 → ck j = nI (if 64 ≤ j ∧ j < 64 + k then j - 64 else 0)) → (∀ c, c < 80 → ho c = nI (if c < k then 1 else 0)) → wX_init_102 post r0 r1 c0 c1 n (nI k) ex ck ho ce fa su sk ss gk go mv := by
  intro n
  induction n with
  | zero => intro k ck ho fa _ h; omega
  | succ n ih =>
    intro k ck ho fa hk hn h1 h2
    by_cases e : k = 16
    · subst e
      refine br_t (nI_le (a := 16) (b := 16) (Nat.le_refl _) (by decide)) (hp ck ho fa (fun j hj => ?_) h2)
      rw [h1 j hj]
      exact congrArg nI (ca_if (by omega))
    · have hk' : k < 16 := by omega
      have e64 : (64 : Int32) + nI k = nI (64 + k) := nI_add 64 k
      have vk : vp_in (nI k) 80 := vp_in_nI (by omega) (by decide)
      refine br_f (nI_ge (a := k) (b := 16) (by omega) (by decide)) ?_
      rw [e64, nI_clamp (n := 64 + k) (by omega), nI_clamp (n := k) (by omega)]
      refine ⟨vp_in_nI (by omega) (by decide), nm_e ⟨vk, nm_e ⟨vk, nm_e (nm_r (nI_1 k) (ih (k + 1) _ _ _ (by omega) (by omega) (fun j hj => ?_) (fun c hc => ?_)))⟩⟩⟩
      · by_cases q : j = 64 + k
        · subst q
          rw [pk_us, if_pos (by omega), show 64 + k - 64 = k by omega]
        · rw [pk_un q, h1 j hj]
          exact congrArg nI (ca_if (by omega))
      · by_cases q : c = k
        · subst q
          rw [pk_us, if_pos (by omega)]
          rfl
        · rw [pk_un q, h2 c hc]
          exact congrArg nI (ca_if (by omega))
theorem cx_init {post : SX → Prop} (hp : ∀ (ck ho fa : Nat → Int32), ca_XI (upd (fun _ => 0) 4 1) ck ho (fun _ => 0) fa (fun _ => 0) (fun _ => 0) (fun _ => 0) (fun _ => 0) (fun _ => 0) (fun _ => 0) (fun _ => 0) → post (0, 0, 0, 0, upd (fun _ => 0) 4 1, ck, ho, fun _ => 0, fa, fun _ => 0, fun _ => 0, fun _ => 0, fun _ => 0, fun _ => 0, fun _ => 0)) : wpX_init post := by
  refine nm_r (e' := upd (fun _ => 0) 4 1) rfl ⟨17, cx_in102 (fun ck ho fa h1 h2 => hp ck ho fa ⟨fun j => if 64 ≤ j then j - 64 else 0, fun c _ => ⟨Or.inl rfl, Or.inl rfl⟩, fun j hj => ⟨?_, h1 j hj⟩, fun c hc => ?_, fun j hj lj i hi => ?_⟩) 17 0 (fun _ => 0) (fun _ => 0) (fun _ => 0) (by omega) (by omega) (fun j _ => ?_) (fun c _ => ?_)⟩
  · show (if 64 ≤ j then j - 64 else 0) < 80
    split <;> omega
  · rw [h2 c hc, ← ca_H_init c hc]
    refine congrArg nI (ca_cn_congr 80 fun j hj => ?_)
    refine congrArg (· && decide ((if 64 ≤ j then j - 64 else 0) = c)) (ca_bt ?_)
    unfold ca_lv
    rw [decide_eq_true_iff, decide_eq_true_iff]
    constructor
    · intro y
      exact Or.inl y
    · intro y
      rcases y with y | y
      · exact y
      · by_cases q : 64 ≤ j
        · exact q
        · exact absurd (pk_un (by omega)) y
  · unfold ca_W ca_D
    rw [Int32.zero_mul]
    split <;> rfl
  · rw [if_neg (by omega)]
    rfl
  · rw [if_neg (by omega)]
    rfl
end
end
section
/-! ===== the reference's walks ===== -/
section
variable {yc yb yk ye : Nat → Int32}
theorem cy_cell1 {post : Int32 → Prop} {j : Nat} (h : j < 256) (hp : post 1) : wpY_isCell post (yc, yb, yk, ye) (nI j) := br_f (nI_pos (by omega)) (br_f (nI_ge (b := 256) (by omega) (by decide)) hp)
theorem cy_cell0 {post : Int32 → Prop} {v : Int32} (h : ca_bd v) (hp : post 0) : wpY_isCell post (yc, yb, yk, ye) v := by
  by_cases a : v < 0
  · exact br_t a hp
  · exact br_f a (br_t (h.resolve_left a) hp)
theorem cy_btw {post : Int32 → Prop} {n a b : Nat} (hn : n < 16) (ha : a < 16) (hb : b < 16) (h1 : min a b ≤ n ∧ n ≤ max a b → post 1) (h0 : ¬ (min a b ≤ n ∧ n ≤ max a b) → post 0) : wpY_between post (yc, yb, yk, ye) (nI n) (nI a) (nI b) := by
  have j : (n < a ∨ b < n) → wY_between_10 post (nI n) (nI a) (nI b) yc yb yk ye := fun z => by
    unfold wY_between_10
    exact pk_lt n b (fun g => h0 (by omega)) (fun g => pk_lt a n (fun k => h0 (by omega)) (fun k => h1 (by omega)))
  exact pk_lt n a (fun g => j (Or.inl g)) (fun g => pk_le n b (fun k => h1 (by omega)) (fun k => j (Or.inr k)))
theorem cy_inside {post : Int32 → Prop} {q f t : Nat} (hq : q < 256) (hf : f < 256) (ht : t < 256) (h1 : ca_i f t q = true → post 1) (h0 : ca_i f t q = false → post 0) : wpY_inside post (yc, yb, yk, ye) (nI q) (nI f) (nI t) := by
  unfold wpY_inside
  dsimp only
  rw [ca_and15 hq, ca_and15 hf, ca_and15 ht, ca_shr4 hq, ca_shr4 hf, ca_shr4 ht]
  refine cy_btw (by omega) (by omega) (by omega) (fun a => br_f ca_10 (cy_btw (by omega) (by omega) (by omega) (fun b => br_f ca_10 (h1 ?_)) (fun b => br_t rfl (h0 ?_)))) (fun a => br_t rfl (h0 ?_))
  · exact ca_in_t (by unfold ca_R0 ca_R1 ca_C0 ca_C1; omega)
  · exact ca_in_f (by unfold ca_R0 ca_R1 ca_C0 ca_C1; omega)
  · exact ca_in_f (by unfold ca_R0 ca_R1 ca_C0 ca_C1; omega)
/-! changes -/
theorem cy_ch24 {post : Int32 → SY → Prop} {w x : Int32} {f t : Nat} (hf : f < 256) (ht : t < 256) (hp : ∀ yc', (∀ p, p < 256 → yc' p = if ca_i f t p = true then ca_op w (yc p) x else yc p) → post (ca_sm (fun q => if ca_i f t q = true then 1 else 0) 256) (yc', yb, yk, ye)) :
    ∀ n q yc1, q ≤ 256 → 256 - q < n → (∀ p, p < 256 → yc1 p = if p < q ∧ ca_i f t p = true then ca_op w (yc p) x else yc p) → wY_change_24 post w (nI f) (nI t) x n (ca_sm (fun q => if ca_i f t q = true then 1 else 0) q) (nI q) yc1 yb yk ye := by
  intro n
  induction n with
  | zero => intro q yc1 _ h; omega
  | succ n ih =>
    intro q yc1 hq hn h
    by_cases e : q = 256
    · subst e
      refine br_t (nI_le (a := 256) (b := 256) (Nat.le_refl _) (by decide)) (hp yc1 (fun p hp' => ?_))
      rw [h p hp']
      exact ca_if ⟨fun z => z.2, fun z => ⟨hp', z⟩⟩
    · have hq' : q < 256 := by omega
      have eq : (nI q).toNatClampNeg = q := nI_clamp (by omega)
      have vq : vp_in (nI q) 256 := vp_in_nI hq' (by decide)
      have e0 : yc1 q = yc q := by rw [h q hq', if_neg (by omega)]
      have st : ca_sm (fun q => if ca_i f t q = true then 1 else 0) (q + 1) = ca_sm (fun q => if ca_i f t q = true then 1 else 0) q + (if ca_i f t q = true then 1 else 0) := rfl
      refine br_f (nI_ge (a := q) (b := 256) (by omega) (by decide)) (cy_inside hq' hf ht (fun hin => br_f ca_10 ?_) (fun hin => br_t rfl ?_))
      · rw [eq, e0]
        have nx : wY_change_24 post w (nI f) (nI t) x n (ca_sm (fun q => if ca_i f t q = true then 1 else 0) q + 1) (nI (q + 1)) (upd yc1 q (ca_op w (yc q) x)) yb yk ye := by
          have k := ih (q + 1) (upd yc1 q (ca_op w (yc q) x)) (by omega) (by omega) (fun p hp' => by
            by_cases z : p = q
            · subst z
              rw [pk_us, if_pos ⟨by omega, hin⟩]
            · rw [pk_un z, h p hp']
              exact ca_if ⟨fun y => ⟨by omega, y.2⟩, fun y => ⟨by omega, y.2⟩⟩)
          rw [st, if_pos hin] at k
          exact k
        unfold ca_op at nx
        by_cases a : w = 0
        · rw [if_pos a] at nx
          exact br_t a ⟨vq, nm_e (nm_e (nm_r (nI_1 q) nx))⟩
        · rw [if_neg a] at nx
          by_cases b : w = 1
          · rw [if_pos b] at nx
            exact br_f a (br_t b ⟨vq, vq, nm_e (nm_e (nm_r (nI_1 q) nx))⟩)
          · rw [if_neg b] at nx
            exact br_f a (br_f b ⟨vq, vq, nm_e (nm_e (nm_r (nI_1 q) nx))⟩)
      · have k := ih (q + 1) yc1 (by omega) (by omega) (fun p hp' => by
          rw [h p hp']
          refine ca_if ⟨fun y => ⟨by omega, y.2⟩, fun y => ⟨?_, y.2⟩⟩
          have : p ≠ q := fun z => by rw [z, hin] at y; exact Bool.false_ne_true y.2
          omega)
        rw [st, if_neg (by rw [hin]; exact Bool.false_ne_true), Int32.add_zero] at k
        exact nm_r (nI_1 q) k
theorem cy_change {post : Int32 → SY → Prop} {w x : Int32} {f t : Nat} (hf : f < 256) (ht : t < 256) (hp : ∀ yc', (∀ p, p < 256 → yc' p = if ca_i f t p = true then ca_op w (yc p) x else yc p) → post (ca_sm (fun q => if ca_i f t q = true then 1 else 0) 256) (yc', yb, yk, ye)) : wpY_change post (yc, yb, yk, ye) w (nI f) (nI t) x := by
  unfold wpY_change
  dsimp only
  exact cy_cell1 hf (br_f ca_10 (cy_cell1 ht (br_f ca_10 ⟨257, cy_ch24 hf ht hp 257 0 yc (by omega) (by omega) (fun p _ => (if_neg (by omega)).symm)⟩)))
theorem cy_changeB {post : Int32 → SY → Prop} {v1 v2 w x : Int32} (h : ca_bd v1 ∨ ca_bd v2) (hp : post (-1) (yc, yb, yk, ye)) : wpY_change post (yc, yb, yk, ye) w v1 v2 x := by
  unfold wpY_change
  dsimp only
  rcases ca_cell v1 with h1 | ⟨f, hf, rfl⟩
  · exact cy_cell0 h1 (br_t rfl hp)
  · rcases h with h1 | h2
    · exact cy_cell0 h1 (br_t rfl hp)
    · exact cy_cell1 hf (br_f ca_10 (cy_cell0 h2 (br_t rfl hp)))
/-! single cells and versions -/
theorem cy_get {post : Int32 → Prop} {f : Nat} (hf : f < 256) (hp : post (yc f)) : wpY_get post (yc, yb, yk, ye) (nI f) := by
  have ef : (nI f).toNatClampNeg = f := nI_clamp (by omega)
  unfold wpY_get
  dsimp only
  rw [ef]
  exact cy_cell1 hf (br_f ca_10 ⟨vp_in_nI hf (by decide), hp⟩)
theorem cy_getB {post : Int32 → Prop} {v : Int32} (h : ca_bd v) (hp : post (-1)) : wpY_get post (yc, yb, yk, ye) v := by
  unfold wpY_get
  dsimp only
  exact cy_cell0 h (br_t rfl hp)
theorem cy_nv1 {post : Int32 → Prop} {v : Int32} (h : ca_nv v) (hp : post 0) : wpY_isVersion post (yc, yb, yk, ye) v := by
  by_cases a : v < 0
  · exact br_t a hp
  · exact br_f a (br_t (h.resolve_left a) hp)
theorem cy_nv {post : Int32 → Prop} {a : Nat} (ha : a < 4) (h1 : ye a = 0 → post 0) (h0 : ye a ≠ 0 → post 1) : wpY_isVersion post (yc, yb, yk, ye) (nI a) := by
  have e : (nI a).toNatClampNeg = a := nI_clamp (by omega)
  refine br_f (nI_pos (by omega)) (br_f (nI_ge (b := 4) (by omega) (by decide)) ⟨vp_in_nI (by omega) (by decide), ?_⟩)
  rw [e]
  exact ⟨h1, h0⟩
theorem ca_x256 (a b : Nat) : nI a * 256 + nI b = nI (a * 256 + b) := by
  rw [show nI a * 256 = nI (a * 256) from pk_mul a 256, nI_add]
theorem cy_getOf {post : Int32 → Prop} {a f : Nat} (ha : a < 4) (hf : f < 256) (h1 : ye a = 0 → post (-2)) (h0 : ye a ≠ 0 → post (yk (a * 256 + f))) : wpY_getOf post (yc, yb, yk, ye) (nI a) (nI f) := by
  unfold wpY_getOf
  dsimp only
  rw [ca_x256, nI_clamp (n := a * 256 + f) (by omega)]
  exact cy_cell1 hf (br_f ca_10 (cy_nv ha (fun z => br_t rfl (h1 z)) (fun z => br_f ca_10 ⟨vp_in_nI (by omega) (by decide), h0 z⟩)))
theorem cy_getOfB {post : Int32 → Prop} {v1 v2 : Int32} (h : ca_bd v2) (hp : post (-1)) : wpY_getOf post (yc, yb, yk, ye) v1 v2 := by
  unfold wpY_getOf
  dsimp only
  exact cy_cell0 h (br_t rfl hp)
theorem cy_getOfV {post : Int32 → Prop} {v1 : Int32} {f : Nat} (hf : f < 256) (h : ca_nv v1) (hp : post (-2)) : wpY_getOf post (yc, yb, yk, ye) v1 (nI f) := by
  unfold wpY_getOf
  dsimp only
  exact cy_cell1 hf (br_f ca_10 (cy_nv1 h (br_t rfl hp)))
theorem cy_kp33 {post : Int32 → SY → Prop} {a : Nat} (ha : a < 4) (hp : ∀ yk', (∀ p, yk' p = if p / 256 = a then yc (p % 256) else yk p) → post 0 (yc, yb, yk', ye)) :
    ∀ n q yk1, q ≤ 256 → 256 - q < n → (∀ p, yk1 p = if p / 256 = a ∧ p % 256 < q then yc (p % 256) else yk p) → wY_keep_33 post (nI a) n (nI q) yc yb yk1 ye := by
  intro n
  induction n with
  | zero => intro q yk1 _ h; omega
  | succ n ih =>
    intro q yk1 hq hn h
    by_cases e : q = 256
    · subst e
      refine br_t (nI_le (a := 256) (b := 256) (Nat.le_refl _) (by decide)) (hp yk1 (fun p => ?_))
      rw [h p]
      exact ca_if ⟨fun z => z.1, fun z => ⟨z, by omega⟩⟩
    · have hq' : q < 256 := by omega
      refine br_f (nI_ge (a := q) (b := 256) (by omega) (by decide)) ?_
      rw [ca_x256, nI_clamp (n := a * 256 + q) (by omega), nI_clamp (n := q) (by omega)]
      refine ⟨vp_in_nI hq' (by decide), vp_in_nI (by omega) (by decide), nm_e (nm_r (nI_1 q) (ih (q + 1) _ (by omega) (by omega) (fun p => ?_)))⟩
      by_cases z : p = a * 256 + q
      · subst z
        rw [pk_us, if_pos (by omega), show (a * 256 + q) % 256 = q by omega]
      · rw [pk_un z, h p]
        exact ca_if ⟨fun y => by omega, fun y => by omega⟩
theorem cy_keep {post : Int32 → SY → Prop} {a : Nat} (ha : a < 4) (h1 : ye a ≠ 0 → post (-3) (yc, yb, yk, ye)) (h0 : ye a = 0 → ∀ yk', (∀ p, yk' p = if p / 256 = a then yc (p % 256) else yk p) → post 0 (yc, yb, yk', upd ye a 1)) : wpY_keep post (yc, yb, yk, ye) (nI a) := by
  have ea : (nI a).toNatClampNeg = a := nI_clamp (by omega)
  refine br_f (nI_pos (by omega)) (br_t (nI_le (b := 3) (by omega) (by decide)) ⟨vp_in_nI (by omega) (by decide), ?_⟩)
  rw [ea]
  by_cases g : ye a = 0
  · exact br_t g ⟨vp_in_nI (by omega) (by decide), nm_r (e' := upd ye a 1) rfl ⟨257, cy_kp33 ha (h0 g) 257 0 yk (by omega) (by omega) (fun p => (if_neg (by omega)).symm)⟩⟩
  · exact br_f g (h1 g)
theorem cy_keepV {post : Int32 → SY → Prop} {v : Int32} (h : ca_nv v) (hp : post (-2) (yc, yb, yk, ye)) : wpY_keep post (yc, yb, yk, ye) v := by
  by_cases z : v < 0
  · exact br_t z hp
  · exact br_f z (br_f (ca_nv3 (h.resolve_left z)) hp)
theorem cy_df15 {post : Int32 → Prop} {a : Nat} (ha : a < 4) (hp : post (ca_sm (ca_df yc yk a) 256)) : ∀ n q, q ≤ 256 → 256 - q < n → wY_differ_15 post (nI a) yc yb yk ye n (ca_sm (ca_df yc yk a) q) (nI q) := by
  intro n
  induction n with
  | zero => intro q _ h; omega
  | succ n ih =>
    intro q hq hn
    by_cases e : q = 256
    · subst e
      exact br_t (nI_le (a := 256) (b := 256) (Nat.le_refl _) (by decide)) hp
    · have hq' : q < 256 := by omega
      have nx := ih (q + 1) (by omega) (by omega)
      have st : ca_sm (ca_df yc yk a) (q + 1) = ca_sm (ca_df yc yk a) q + (if yc q = yk (a * 256 + q) then 0 else 1) := rfl
      rw [st] at nx
      refine br_f (nI_ge (a := q) (b := 256) (by omega) (by decide)) ?_
      rw [ca_x256, nI_clamp (n := a * 256 + q) (by omega), nI_clamp (n := q) (by omega)]
      refine ⟨vp_in_nI hq' (by decide), vp_in_nI (by omega) (by decide), ?_⟩
      by_cases g : yc q = yk (a * 256 + q)
      · rw [if_pos g, Int32.add_zero] at nx
        exact br_t g (nm_r (nI_1 q) nx)
      · rw [if_neg g] at nx
        exact br_f g (nm_e (nm_r (nI_1 q) nx))
theorem cy_differ {post : Int32 → Prop} {a : Nat} (ha : a < 4) (h1 : ye a = 0 → post (-2)) (h0 : ye a ≠ 0 → post (ca_sm (ca_df yc yk a) 256)) : wpY_differ post (yc, yb, yk, ye) (nI a) := by
  unfold wpY_differ
  dsimp only
  exact cy_nv ha (fun z => br_t rfl (h1 z)) (fun z => br_f ca_10 ⟨257, cy_df15 ha (h0 z) 257 0 (by omega) (by omega)⟩)
theorem cy_differV {post : Int32 → Prop} {v : Int32} (h : ca_nv v) (hp : post (-2)) : wpY_differ post (yc, yb, yk, ye) v := by
  unfold wpY_differ
  dsimp only
  exact cy_nv1 h (br_t rfl hp)
theorem ca_df_pos (P K : Nat → Int32) (a : Nat) (n : Nat) : ∃ m, m ≤ n ∧ ca_sm (ca_df P K a) n = nI m := by
  induction n with
  | zero => exact ⟨0, Nat.le_refl _, rfl⟩
  | succ n ih =>
    obtain ⟨m, hm, e⟩ := ih
    simp only [ca_sm]
    rw [e]
    unfold ca_df
    by_cases g : P n = K (a * 256 + n)
    · rw [if_pos g, Int32.add_zero]
      exact ⟨m, by omega, rfl⟩
    · rw [if_neg g, nI_1]
      exact ⟨m + 1, by omega, rfl⟩
theorem cy_rs8 {post : Int32 → SY → Prop} {a : Nat} {x : Int32} (ha : a < 4) (hx : ¬ x < 0) (hp : ∀ yc', (∀ q, q < 256 → yc' q = yk (a * 256 + q)) → post x (yc', yb, yk, ye)) : ∀ n q yc1, q ≤ 256 → 256 - q < n → (∀ p, p < q → yc1 p = yk (a * 256 + p)) → wY_restore_8 post (nI a) x n (nI q) yc1 yb yk ye := by
  intro n
  induction n with
  | zero => intro q yc1 _ h; omega
  | succ n ih =>
    intro q yc1 hq hn h
    by_cases e : q = 256
    · subst e
      exact br_t (nI_le (a := 256) (b := 256) (Nat.le_refl _) (by decide)) (hp yc1 h)
    · have hq' : q < 256 := by omega
      refine br_f (nI_ge (a := q) (b := 256) (by omega) (by decide)) (br_f hx ?_)
      rw [ca_x256, nI_clamp (n := a * 256 + q) (by omega), nI_clamp (n := q) (by omega)]
      refine ⟨vp_in_nI (by omega) (by decide), vp_in_nI hq' (by decide), nm_e (nm_r (nI_1 q) (ih (q + 1) _ (by omega) (by omega) (fun p hp' => ?_)))⟩
      by_cases z : p = q
      · subst z
        rw [pk_us]
      · rw [pk_un z]
        exact h p (by omega)
theorem cy_rsN {post : Int32 → SY → Prop} {v : Int32} (hp : post (-2) (yc, yb, yk, ye)) : ∃ n, wY_restore_8 post v (-2) n 0 yc yb yk ye :=
  ⟨1, br_f (nI_ge (a := 0) (b := 256) (by decide) (by decide)) (br_t (by decide) hp)⟩
theorem cy_restore {post : Int32 → SY → Prop} {a : Nat} (ha : a < 4) (h1 : ye a = 0 → post (-2) (yc, yb, yk, ye)) (h0 : ye a ≠ 0 → ∀ yc', (∀ q, q < 256 → yc' q = yk (a * 256 + q)) → post (ca_sm (ca_df yc yk a) 256) (yc', yb, yk, ye)) : wpY_restore post (yc, yb, yk, ye) (nI a) := by
  unfold wpY_restore
  dsimp only
  refine cy_differ ha (fun z => cy_rsN (h1 z)) (fun z => ⟨257, cy_rs8 ha ?_ (h0 z) 257 0 yc (by omega) (by omega) (fun p hp' => absurd hp' (by omega))⟩)
  obtain ⟨m, hm, e⟩ := ca_df_pos yc yk a 256
  rw [e]
  exact nI_pos (by omega)
theorem cy_restoreV {post : Int32 → SY → Prop} {v : Int32} (h : ca_nv v) (hp : post (-2) (yc, yb, yk, ye)) : wpY_restore post (yc, yb, yk, ye) v := by
  unfold wpY_restore
  dsimp only
  exact cy_differV h (cy_rsN hp)
theorem cy_drop {post : Int32 → SY → Prop} {a : Nat} (ha : a < 4) (h1 : ye a = 0 → post (-2) (yc, yb, yk, ye)) (h0 : ye a ≠ 0 → post 0 (yc, yb, yk, upd ye a 0)) : wpY_drop post (yc, yb, yk, ye) (nI a) := by
  have ea : (nI a).toNatClampNeg = a := nI_clamp (by omega)
  unfold wpY_drop
  dsimp only
  rw [ea]
  exact cy_nv ha (fun z => br_t rfl (h1 z)) (fun z => br_f ca_10 ⟨vp_in_nI (by omega) (by decide), nm_e (h0 z)⟩)
theorem cy_dropV {post : Int32 → SY → Prop} {v : Int32} (h : ca_nv v) (hp : post (-2) (yc, yb, yk, ye)) : wpY_drop post (yc, yb, yk, ye) v := by
  unfold wpY_drop
  dsimp only
  exact cy_nv1 h (br_t rfl hp)
end
end
section
/-! ===== the reference's walks: questions about regions, and the copy ===== -/
section
variable {yc yb yk ye : Nat → Int32}
theorem cy_sm23 {post : Int32 → Prop} {f t : Nat} (hf : f < 256) (ht : t < 256) (hp : post (ca_sm (fun q => if ca_i f t q = true then yc q else 0) 256)) : ∀ n q, q ≤ 256 → 256 - q < n → wY_sum_23 post (nI f) (nI t) yc yb yk ye n (ca_sm (fun q => if ca_i f t q = true then yc q else 0) q) (nI q) := by
  intro n
  induction n with
  | zero => intro q _ h; omega
  | succ n ih =>
    intro q hq hn
    by_cases e : q = 256
    · subst e
      exact br_t (nI_le (a := 256) (b := 256) (Nat.le_refl _) (by decide)) hp
    · have hq' : q < 256 := by omega
      have nx := ih (q + 1) (by omega) (by omega)
      have st : ca_sm (fun q => if ca_i f t q = true then yc q else 0) (q + 1) = ca_sm (fun q => if ca_i f t q = true then yc q else 0) q + (if ca_i f t q = true then yc q else 0) := rfl
      rw [st] at nx
      refine br_f (nI_ge (a := q) (b := 256) (by omega) (by decide)) (cy_inside hq' hf ht (fun hin => br_f ca_10 ?_) (fun hin => br_t rfl ?_))
      · rw [if_pos hin] at nx
        rw [nI_clamp (n := q) (by omega)]
        exact ⟨vp_in_nI hq' (by decide), nm_e (nm_r (nI_1 q) nx)⟩
      · rw [if_neg (by rw [hin]; exact Bool.false_ne_true), Int32.add_zero] at nx
        exact nm_r (nI_1 q) nx
theorem cy_sum {post : Int32 → Prop} {f t : Nat} (hf : f < 256) (ht : t < 256) (hp : post (ca_sm (fun q => if ca_i f t q = true then yc q else 0) 256)) : wpY_sum post (yc, yb, yk, ye) (nI f) (nI t) := by
  unfold wpY_sum
  dsimp only
  exact cy_cell1 hf (br_f ca_10 (cy_cell1 ht (br_f ca_10 ⟨257, cy_sm23 hf ht hp 257 0 (by omega) (by omega)⟩)))
theorem cy_sumB {post : Int32 → Prop} {v1 v2 : Int32} (h : ca_bd v1 ∨ ca_bd v2) (hp : post (-1)) : wpY_sum post (yc, yb, yk, ye) v1 v2 := by
  unfold wpY_sum
  dsimp only
  rcases ca_cell v1 with h1 | ⟨f, hf, rfl⟩
  · exact cy_cell0 h1 (br_t rfl hp)
  · rcases h with h1 | h2
    · exact cy_cell0 h1 (br_t rfl hp)
    · exact cy_cell1 hf (br_f ca_10 (cy_cell0 h2 (br_t rfl hp)))
theorem cy_ct24 {post : Int32 → Prop} {f t : Nat} {v : Int32} (hf : f < 256) (ht : t < 256) (hp : post (ca_sm (fun q => if ca_i f t q = true ∧ yc q = v then 1 else 0) 256)) : ∀ n q, q ≤ 256 → 256 - q < n → wY_count_24 post (nI f) (nI t) v yc yb yk ye n (ca_sm (fun q => if ca_i f t q = true ∧ yc q = v then 1 else 0) q) (nI q) := by
  intro n
  induction n with
  | zero => intro q _ h; omega
  | succ n ih =>
    intro q hq hn
    by_cases e : q = 256
    · subst e
      exact br_t (nI_le (a := 256) (b := 256) (Nat.le_refl _) (by decide)) hp
    · have hq' : q < 256 := by omega
      have nx := ih (q + 1) (by omega) (by omega)
      have st : ca_sm (fun q => if ca_i f t q = true ∧ yc q = v then 1 else 0) (q + 1) = ca_sm (fun q => if ca_i f t q = true ∧ yc q = v then 1 else 0) q + (if ca_i f t q = true ∧ yc q = v then 1 else 0) := rfl
      rw [st] at nx
      refine br_f (nI_ge (a := q) (b := 256) (by omega) (by decide)) (cy_inside hq' hf ht (fun hin => br_f ca_10 ?_) (fun hin => br_t rfl ?_))
      · rw [nI_clamp (n := q) (by omega)]
        refine ⟨vp_in_nI hq' (by decide), ?_⟩
        by_cases g : yc q = v
        · rw [if_pos ⟨hin, g⟩] at nx
          exact br_t g (nm_e (nm_r (nI_1 q) nx))
        · rw [if_neg (fun z => g z.2), Int32.add_zero] at nx
          exact br_f g (nm_r (nI_1 q) nx)
      · rw [if_neg (fun z => by rw [hin] at z; exact Bool.false_ne_true z.1), Int32.add_zero] at nx
        exact nm_r (nI_1 q) nx
theorem cy_count {post : Int32 → Prop} {f t : Nat} {v : Int32} (hf : f < 256) (ht : t < 256) (hp : post (ca_sm (fun q => if ca_i f t q = true ∧ yc q = v then 1 else 0) 256)) : wpY_count post (yc, yb, yk, ye) (nI f) (nI t) v := by
  unfold wpY_count
  dsimp only
  exact cy_cell1 hf (br_f ca_10 (cy_cell1 ht (br_f ca_10 ⟨257, cy_ct24 hf ht hp 257 0 (by omega) (by omega)⟩)))
theorem cy_countB {post : Int32 → Prop} {v1 v2 v : Int32} (h : ca_bd v1 ∨ ca_bd v2) (hp : post (-1)) : wpY_count post (yc, yb, yk, ye) v1 v2 v := by
  unfold wpY_count
  dsimp only
  rcases ca_cell v1 with h1 | ⟨f, hf, rfl⟩
  · exact cy_cell0 h1 (br_t rfl hp)
  · rcases h with h1 | h2
    · exact cy_cell0 h1 (br_t rfl hp)
    · exact cy_cell1 hf (br_f ca_10 (cy_cell0 h2 (br_t rfl hp)))
theorem cy_gr28 {post : Int32 → Prop} {f t : Nat} (hf : f < 256) (ht : t < 256) (hp : ∀ o, (∃ q, q < 256 ∧ ca_i f t q = true ∧ yc q = o) → (∀ q, q < 256 → ca_i f t q = true → yc q ≤ o) → post o) :
    ∀ n q o, q ≤ 256 → 256 - q < n → (∃ q, q < 256 ∧ ca_i f t q = true ∧ yc q = o) → (∀ p, p < q → ca_i f t p = true → yc p ≤ o) → wY_greatest_28 post (nI f) (nI t) yc yb yk ye n o (nI q) := by
  intro n
  induction n with
  | zero => intro q o _ h; omega
  | succ n ih =>
    intro q o hq hn h1 h2
    by_cases e : q = 256
    · subst e
      exact br_t (nI_le (a := 256) (b := 256) (Nat.le_refl _) (by decide)) (hp o h1 h2)
    · have hq' : q < 256 := by omega
      have vq : vp_in (nI q) 256 := vp_in_nI hq' (by decide)
      refine br_f (nI_ge (a := q) (b := 256) (by omega) (by decide)) (cy_inside hq' hf ht (fun hin => br_f ca_10 ?_) (fun hin => br_t rfl (nm_r (nI_1 q) (ih (q + 1) o (by omega) (by omega) h1 (fun p hp' hpi => ?_)))))
      · rw [nI_clamp (n := q) (by omega)]
        refine ⟨vq, ?_⟩
        by_cases g : yc q ≤ o
        · refine br_t g (nm_r (nI_1 q) (ih (q + 1) o (by omega) (by omega) h1 (fun p hp' hpi => ?_)))
          by_cases z : p = q
          · rw [z]; exact g
          · exact h2 p (by omega) hpi
        · have ob : o ≤ yc q := by rw [Int32.le_iff_toInt_le] at g ⊢; omega
          refine br_f g ⟨vq, nm_e (nm_r (nI_1 q) (ih (q + 1) (yc q) (by omega) (by omega) ⟨q, hq', hin, rfl⟩ (fun p hp' hpi => ?_)))⟩
          by_cases z : p = q
          · rw [z]; exact Int32.le_refl _
          · exact Int32.le_trans (h2 p (by omega) hpi) ob
      · by_cases z : p = q
        · rw [z, hin] at hpi
          exact Bool.noConfusion hpi
        · exact h2 p (by omega) hpi
theorem cy_greatest {post : Int32 → Prop} {f t : Nat} (hf : f < 256) (ht : t < 256) (hp : ∀ o, (∃ q, q < 256 ∧ ca_i f t q = true ∧ yc q = o) → (∀ q, q < 256 → ca_i f t q = true → yc q ≤ o) → post o) : wpY_greatest post (yc, yb, yk, ye) (nI f) (nI t) := by
  have ef : (nI f).toNatClampNeg = f := nI_clamp (by omega)
  unfold wpY_greatest
  dsimp only
  rw [ef]
  refine cy_cell1 hf (br_f ca_10 (cy_cell1 ht (br_f ca_10 ⟨vp_in_nI hf (by decide), nm_e ⟨257, cy_gr28 hf ht hp 257 0 (yc f) (by omega) (by omega) ⟨f, hf, ?_, rfl⟩ (fun p hp' => absurd hp' (by omega))⟩⟩)))
  exact ca_in_t (by unfold ca_R0 ca_R1 ca_C0 ca_C1; omega)
theorem cy_greatestB {post : Int32 → Prop} {v1 v2 : Int32} (h : ca_bd v1 ∨ ca_bd v2) (hp : post (-1)) : wpY_greatest post (yc, yb, yk, ye) v1 v2 := by
  unfold wpY_greatest
  dsimp only
  rcases ca_cell v1 with h1 | ⟨f, hf, rfl⟩
  · exact cy_cell0 h1 (br_t rfl hp)
  · rcases h with h1 | h2
    · exact cy_cell0 h1 (br_t rfl hp)
    · exact cy_cell1 hf (br_f ca_10 (cy_cell0 h2 (br_t rfl hp)))
/-! the copy -/
theorem ca_tg_n {R0 R1 C0 C1 ar ac q t : Nat} (ht : t < 256) (b1 : R1 < 16) (h : ¬ (ca_in R0 R1 C0 C1 q = true ∧ q % 16 + ar < 16 + R0 ∧ q / 16 + ac < 16 + C0)) : (ca_tg R0 R1 C0 C1 ar ac t = true ∧ ca_src R0 C0 ar ac t < q) ↔ (ca_tg R0 R1 C0 C1 ar ac t = true ∧ ca_src R0 C0 ar ac t < q + 1) := by
  constructor
  · intro y
    exact ⟨y.1, by omega⟩
  · intro y
    refine ⟨y.1, ?_⟩
    have g := of_decide_eq_true y.1
    by_cases z : ca_src R0 C0 ar ac t = q
    · exfalso
      unfold ca_src at z
      have r : q % 16 = t % 16 + R0 - ar := by omega
      have c : q / 16 = t / 16 + C0 - ac := by omega
      exact h ⟨ca_in_t (by omega), by omega, by omega⟩
    · omega
theorem ca_tg_y {R0 R1 C0 C1 ar ac q t : Nat} (b1 : R1 < 16) (h : ca_in R0 R1 C0 C1 q = true) (hr : q % 16 + ar < 16 + R0) (z : t ≠ (q % 16 + ar - R0) + 16 * (q / 16 + ac - C0)) : (ca_tg R0 R1 C0 C1 ar ac t = true ∧ ca_src R0 C0 ar ac t < q) ↔ (ca_tg R0 R1 C0 C1 ar ac t = true ∧ ca_src R0 C0 ar ac t < q + 1) := by
  constructor
  · intro y
    exact ⟨y.1, by omega⟩
  · intro y
    refine ⟨y.1, ?_⟩
    have g := of_decide_eq_true y.1
    have i := ca_in_e h
    by_cases w : ca_src R0 C0 ar ac t = q
    · exfalso
      unfold ca_src at w
      have r : q % 16 = t % 16 + R0 - ar := by omega
      have c : q / 16 = t / 16 + C0 - ac := by omega
      omega
    · omega
theorem cy_cp107 {post : Int32 → SY → Prop} {f t a : Nat} (hf : f < 256) (ht : t < 256) (ha : a < 256) (hb : ∀ p, p < 256 → yb p = yc p) (hp : ∀ yc', (∀ p, p < 256 → yc' p = ca_cp yc (ca_R0 f t) (ca_R1 f t) (ca_C0 f t) (ca_C1 f t) (a % 16) (a / 16) p) → post (ca_sm (ca_cg (ca_R0 f t) (ca_R1 f t) (ca_C0 f t) (ca_C1 f t) (a % 16) (a / 16)) 256) (yc', yb, yk, ye)) :
    ∀ n q yc1, q ≤ 256 → 256 - q < n → (∀ p, p < 256 → yc1 p = if ca_tg (ca_R0 f t) (ca_R1 f t) (ca_C0 f t) (ca_C1 f t) (a % 16) (a / 16) p = true ∧ ca_src (ca_R0 f t) (ca_C0 f t) (a % 16) (a / 16) p < q then yc (ca_src (ca_R0 f t) (ca_C0 f t) (a % 16) (a / 16) p) else yc p) → wY_copy_107 post (nI f) (nI t) (nI a) (nI (ca_R0 f t)) (nI (ca_C0 f t)) n (ca_sm (ca_cg (ca_R0 f t) (ca_R1 f t) (ca_C0 f t) (ca_C1 f t) (a % 16) (a / 16)) q) (nI q) yc1 yb yk ye := by
  obtain ⟨b0, b1, b2, b3⟩ := ca_RB hf ht
  intro n
  induction n with
  | zero => intro q yc1 _ h; omega
  | succ n ih =>
    intro q yc1 hq hn h
    by_cases e : q = 256
    · subst e
      refine br_t (nI_le (a := 256) (b := 256) (Nat.le_refl _) (by decide)) (hp yc1 (fun p hp' => ?_))
      rw [h p hp']
      refine ca_if ⟨fun z => z.1, fun z => ⟨z, ?_⟩⟩
      have g := of_decide_eq_true z
      unfold ca_src
      omega
    · have hq' : q < 256 := by omega
      have st : ca_sm (ca_cg (ca_R0 f t) (ca_R1 f t) (ca_C0 f t) (ca_C1 f t) (a % 16) (a / 16)) (q + 1) = ca_sm (ca_cg (ca_R0 f t) (ca_R1 f t) (ca_C0 f t) (ca_C1 f t) (a % 16) (a / 16)) q + ca_cg (ca_R0 f t) (ca_R1 f t) (ca_C0 f t) (ca_C1 f t) (a % 16) (a / 16) q := rfl
      have skip : ¬ (ca_in (ca_R0 f t) (ca_R1 f t) (ca_C0 f t) (ca_C1 f t) q = true ∧ q % 16 + a % 16 < 16 + ca_R0 f t ∧ q / 16 + a / 16 < 16 + ca_C0 f t) → ∀ y : Int32, y = nI q + 1 → wY_copy_107 post (nI f) (nI t) (nI a) (nI (ca_R0 f t)) (nI (ca_C0 f t)) n (ca_sm (ca_cg (ca_R0 f t) (ca_R1 f t) (ca_C0 f t) (ca_C1 f t) (a % 16) (a / 16)) q) y yc1 yb yk ye := by
        intro no
        have nx := ih (q + 1) yc1 (by omega) (by omega) (fun p hp' => by rw [h p hp']; exact ca_if (ca_tg_n hp' b1 no))
        have z : ca_cg (ca_R0 f t) (ca_R1 f t) (ca_C0 f t) (ca_C1 f t) (a % 16) (a / 16) q = 0 := if_neg no
        rw [st, z, Int32.add_zero] at nx
        exact nm_r (nI_1 q) nx
      refine br_f (nI_ge (a := q) (b := 256) (by omega) (by decide)) ?_
      intro x8 e8 x9 e9
      rw [ca_and15 hq', ca_and15 ha] at e8
      rw [ca_shr4 hq', ca_shr4 ha] at e9
      refine cy_inside hq' hf ht (fun hin => br_f ca_10 ?_) (fun hin => br_t rfl (skip (fun z => by rw [show ca_in (ca_R0 f t) (ca_R1 f t) (ca_C0 f t) (ca_C1 f t) q = false from hin] at z; exact Bool.false_ne_true z.1)))
      have i := ca_in_e hin
      rw [pk_sub i.1, nI_add, show q % 16 - ca_R0 f t + a % 16 = q % 16 + a % 16 - ca_R0 f t by omega] at e8
      rw [pk_sub i.2.2.1, nI_add, show q / 16 - ca_C0 f t + a / 16 = q / 16 + a / 16 - ca_C0 f t by omega] at e9
      subst e8 e9
      by_cases g8 : q % 16 + a % 16 < 16 + ca_R0 f t
      · refine br_f (nI_ge (b := 16) (by omega) (by decide)) ?_
        by_cases g9 : q / 16 + a / 16 < 16 + ca_C0 f t
        · refine br_f (nI_ge (b := 16) (by omega) (by decide)) ?_
          have ex : nI (q % 16 + a % 16 - ca_R0 f t) + 16 * nI (q / 16 + a / 16 - ca_C0 f t) = nI ((q % 16 + a % 16 - ca_R0 f t) + 16 * (q / 16 + a / 16 - ca_C0 f t)) := by
            rw [show 16 * nI (q / 16 + a / 16 - ca_C0 f t) = nI (16 * (q / 16 + a / 16 - ca_C0 f t)) from pk_mul 16 _, nI_add]
          rw [ex, nI_clamp (n := q) (by omega), nI_clamp (n := (q % 16 + a % 16 - ca_R0 f t) + 16 * (q / 16 + a / 16 - ca_C0 f t)) (by omega), hb q hq']
          have sq : ca_src (ca_R0 f t) (ca_C0 f t) (a % 16) (a / 16) ((q % 16 + a % 16 - ca_R0 f t) + 16 * (q / 16 + a / 16 - ca_C0 f t)) = q := by
            have k := ca_td_s (ar := a % 16) (ac := a / 16) i.1 i.2.2.1 g8
            rw [k]
            omega
          have tq : ca_tg (ca_R0 f t) (ca_R1 f t) (ca_C0 f t) (ca_C1 f t) (a % 16) (a / 16) ((q % 16 + a % 16 - ca_R0 f t) + 16 * (q / 16 + a / 16 - ca_C0 f t)) = true := decide_eq_true (by omega)
          have nx := ih (q + 1) (upd yc1 ((q % 16 + a % 16 - ca_R0 f t) + 16 * (q / 16 + a / 16 - ca_C0 f t)) (yc q)) (by omega) (by omega) (fun p hp' => by
            by_cases z : p = (q % 16 + a % 16 - ca_R0 f t) + 16 * (q / 16 + a / 16 - ca_C0 f t)
            · rw [z, pk_us, sq, if_pos ⟨tq, by omega⟩]
            · rw [pk_un z, h p hp']
              exact ca_if (ca_tg_y b1 hin g8 z))
          have z : ca_cg (ca_R0 f t) (ca_R1 f t) (ca_C0 f t) (ca_C1 f t) (a % 16) (a / 16) q = 1 := if_pos ⟨hin, g8, g9⟩
          rw [st, z] at nx
          exact ⟨vp_in_nI hq' (by decide), vp_in_nI (by omega) (by decide), nm_e (nm_e (nm_r (nI_1 q) nx))⟩
        · exact br_t (nI_le (a := 16) (by omega) (by omega)) (skip (fun z => g9 z.2.2))
      · exact br_t (nI_le (a := 16) (by omega) (by omega)) (skip (fun z => g8 z.2.1))
theorem cy_cp76 {post : Int32 → SY → Prop} {x1 x2 x3 x4 x5 x6 : Int32} (hp : ∀ yb', (∀ p, p < 256 → yb' p = yc p) → ∃ n, wY_copy_107 post x1 x2 x3 x4 x5 n x6 0 yc yb' yk ye) : ∀ n q yb1, q ≤ 256 → 256 - q < n → (∀ p, p < q → yb1 p = yc p) → wY_copy_76 post x1 x2 x3 x4 x5 x6 n (nI q) yc yb1 yk ye := by
  intro n
  induction n with
  | zero => intro q yb1 _ h; omega
  | succ n ih =>
    intro q yb1 hq hn h
    by_cases e : q = 256
    · subst e
      exact br_t (nI_le (a := 256) (b := 256) (Nat.le_refl _) (by decide)) (hp yb1 h)
    · have hq' : q < 256 := by omega
      have vq : vp_in (nI q) 256 := vp_in_nI hq' (by decide)
      refine br_f (nI_ge (a := q) (b := 256) (by omega) (by decide)) ?_
      rw [nI_clamp (n := q) (by omega)]
      refine ⟨vq, vq, nm_e (nm_r (nI_1 q) (ih (q + 1) _ (by omega) (by omega) (fun p hp' => ?_)))⟩
      by_cases z : p = q
      · subst z
        rw [pk_us]
      · rw [pk_un z]
        exact h p (by omega)
theorem cy_copy {post : Int32 → SY → Prop} {f t a : Nat} (hf : f < 256) (ht : t < 256) (ha : a < 256) (hp : ∀ yc' yb', (∀ p, p < 256 → yc' p = ca_cp yc (ca_R0 f t) (ca_R1 f t) (ca_C0 f t) (ca_C1 f t) (a % 16) (a / 16) p) → post (ca_sm (ca_cg (ca_R0 f t) (ca_R1 f t) (ca_C0 f t) (ca_C1 f t) (a % 16) (a / 16)) 256) (yc', yb', yk, ye)) : wpY_copy post (yc, yb, yk, ye) (nI f) (nI t) (nI a) := by
  have k : ∃ n, wY_copy_76 post (nI f) (nI t) (nI a) (nI (ca_R0 f t)) (nI (ca_C0 f t)) 0 n 0 yc yb yk ye := ⟨257, cy_cp76 (fun yb' hb => ⟨257, cy_cp107 hf ht ha hb (fun yc' h => hp yc' yb' h) 257 0 yc (by omega) (by omega) (fun p _ => (if_neg (by omega)).symm)⟩) 257 0 yb (by omega) (by omega) (fun p hp' => absurd hp' (by omega))⟩
  have k48 : wY_copy_48 post (nI f) (nI t) (nI a) (nI (ca_R0 f t)) yc yb yk ye := by
    unfold wY_copy_48
    rw [ca_shr4 hf, ca_shr4 ht]
    unfold ca_C0 at k
    by_cases b : t / 16 ≤ f / 16
    · rw [show min (f / 16) (t / 16) = t / 16 by omega] at k
      exact br_t (nI_le b (by omega)) (nm_e k)
    · rw [show min (f / 16) (t / 16) = f / 16 by omega] at k
      exact br_f (nI_ge (by omega) (by omega)) (nm_e k)
  unfold wpY_copy
  dsimp only
  refine cy_cell1 hf (br_f ca_10 (cy_cell1 ht (br_f ca_10 (cy_cell1 ha (br_f ca_10 ?_)))))
  rw [ca_and15 hf, ca_and15 ht]
  unfold ca_R0 at k48
  by_cases b : t % 16 ≤ f % 16
  · rw [show min (f % 16) (t % 16) = t % 16 by omega] at k48
    exact br_t (nI_le b (by omega)) k48
  · rw [show min (f % 16) (t % 16) = f % 16 by omega] at k48
    exact br_f (nI_ge (by omega) (by omega)) k48
theorem cy_copyB {post : Int32 → SY → Prop} {v1 v2 v3 : Int32} (h : ca_bd v1 ∨ ca_bd v2 ∨ ca_bd v3) (hp : post (-1) (yc, yb, yk, ye)) : wpY_copy post (yc, yb, yk, ye) v1 v2 v3 := by
  unfold wpY_copy
  dsimp only
  rcases ca_cell v1 with h1 | ⟨f, hf, rfl⟩
  · exact cy_cell0 h1 (br_t rfl hp)
  · rcases h with h1 | h2
    · exact cy_cell0 h1 (br_t rfl hp)
    · refine cy_cell1 hf (br_f ca_10 ?_)
      rcases ca_cell v2 with g2 | ⟨t, ht, rfl⟩
      · exact cy_cell0 g2 (br_t rfl hp)
      · rcases h2 with h2 | h3
        · exact cy_cell0 h2 (br_t rfl hp)
        · exact cy_cell1 ht (br_f ca_10 (cy_cell0 h3 (br_t rfl hp)))
end
end
section
/-! ===== the relation, and what is owed ===== -/
/-- the component's chunks show the reference's arrays, and the same versions exist -/
def i_Rel (_ : Nat) (u : SX) (v : SY) : Prop := match u, v with
  | (r0, r1, c0, c1, ex, ck, ho, ce, fa, su, sk, ss, gk, go, mv), (yc, _, yk, ye) => ca_XI ex ck ho ce fa su sk ss gk go yc yk ∧ ∀ a, a < 4 → ye a = ex a
theorem ca_size {f t : Nat} (hf : f < 256) (ht : t < 256) : ca_sm (fun q => if ca_i f t q = true then 1 else 0) 256 = nI ((ca_R1 f t - ca_R0 f t + 1) * (ca_C1 f t - ca_C0 f t + 1)) := by
  obtain ⟨b0, b1, b2, b3⟩ := ca_RB hf ht
  rw [ca_sm_rows]
  have inner : ∀ r, r < 16 → ca_sm (fun c => if ca_i f t (r + 16 * c) = true then 1 else 0) 16 = if ca_R0 f t ≤ r ∧ r ≤ ca_R1 f t then nI (ca_C1 f t - ca_C0 f t + 1) else 0 := by
    intro r hr
    by_cases g : ca_R0 f t ≤ r ∧ r ≤ ca_R1 f t
    · rw [if_pos g]
      have a := ca_sm_in (ca_C0 f t) (ca_C1 f t) 1 16
      rw [Int32.mul_one, show min 16 (ca_C1 f t + 1) - ca_C0 f t = ca_C1 f t - ca_C0 f t + 1 by omega] at a
      rw [← a]
      refine ca_sm_congr 16 fun c hc => ca_if ⟨fun y => ?_, fun y => ca_in_t (by omega)⟩
      have := ca_in_e y
      omega
    · rw [if_neg g]
      exact ca_sm_z 16 (fun c hc => if_neg (fun y => by have := ca_in_e y; omega))
  rw [ca_sm_congr (g := fun r => if ca_R0 f t ≤ r ∧ r ≤ ca_R1 f t then nI (ca_C1 f t - ca_C0 f t + 1) else 0) 16 inner, ca_sm_in, show min 16 (ca_R1 f t + 1) - ca_R0 f t = ca_R1 f t - ca_R0 f t + 1 by omega, pk_mul]
/-- one greatest value alone -/
theorem ca_max_u {p : Nat → Bool} {P : Nat → Int32} {o o' : Int32} (h1 : ∃ q, q < 256 ∧ p q = true ∧ P q = o) (h2 : ∀ q, q < 256 → p q = true → P q ≤ o) (g1 : ∃ q, q < 256 ∧ p q = true ∧ P q = o') (g2 : ∀ q, q < 256 → p q = true → P q ≤ o') : o' = o := by
  obtain ⟨q, hq, hp, e⟩ := h1
  obtain ⟨q', hq', hp', e'⟩ := g1
  have a := g2 q hq hp
  have b := h2 q' hq' hp'
  rw [e] at a
  rw [e'] at b
  exact Int32.le_antisymm b a

theorem i_up {k : Nat} {u : SX} {v : SY} (h : i_Rel k u v) : i_Rel (k + 4) u v := h
theorem i_vc0 : wpX_init (fun u => wpY_init (fun v => i_Rel 0 u v)) := by
  refine cx_init (fun ck ho fa h => ?_)
  exact ⟨h, fun a ha => (pk_un (f := fun _ => 0) (k := 4) (x := 1) (show a ≠ 4 by omega)).symm⟩
theorem i_vc_fill {k : Nat} {u : SX} {v : SY} (I : i_Rel k u v) (hk : k + 4 ≤ 2048) (v1 : Int32) (v2 : Int32) (v3 : Int32) : wpX_fill (fun r u' => wpY_fill (fun r' v' => r' = r ∧ i_Rel (k + 4) u' v') v v1 v2 v3) u v1 v2 v3 := by
  obtain ⟨r0, r1, c0, c1, ex, ck, ho, ce, fa, su, sk, ss, gk, go, mv⟩ := u
  obtain ⟨yc, yb, yk, ye⟩ := v
  obtain ⟨x, y⟩ := I
  unfold wpX_fill wpY_fill
  dsimp only
  rcases ca_cell v1 with h1 | ⟨f, hf, rfl⟩
  · exact cx_changeB (Or.inl h1) (cy_changeB (Or.inl h1) ⟨rfl, x, y⟩)
  · rcases ca_cell v2 with h2 | ⟨t, ht, rfl⟩
    · exact cx_changeB (Or.inr h2) (cy_changeB (Or.inr h2) ⟨rfl, x, y⟩)
    · refine cx_change x hf ht (fun r0 r1 c0 c1 ck ho ce fa su sk ss gk go x' => cy_change hf ht (fun yc' e => ⟨ca_size hf ht, ?_, y⟩))
      exact ca_XIc x' (fun q hq => (e q hq).symm) (fun _ _ _ _ _ => rfl)
theorem i_vc_add {k : Nat} {u : SX} {v : SY} (I : i_Rel k u v) (hk : k + 4 ≤ 2048) (v1 : Int32) (v2 : Int32) (v3 : Int32) : wpX_add (fun r u' => wpY_add (fun r' v' => r' = r ∧ i_Rel (k + 4) u' v') v v1 v2 v3) u v1 v2 v3 := by
  obtain ⟨r0, r1, c0, c1, ex, ck, ho, ce, fa, su, sk, ss, gk, go, mv⟩ := u
  obtain ⟨yc, yb, yk, ye⟩ := v
  obtain ⟨x, y⟩ := I
  unfold wpX_add wpY_add
  dsimp only
  rcases ca_cell v1 with h1 | ⟨f, hf, rfl⟩
  · exact cx_changeB (Or.inl h1) (cy_changeB (Or.inl h1) ⟨rfl, x, y⟩)
  · rcases ca_cell v2 with h2 | ⟨t, ht, rfl⟩
    · exact cx_changeB (Or.inr h2) (cy_changeB (Or.inr h2) ⟨rfl, x, y⟩)
    · refine cx_change x hf ht (fun r0 r1 c0 c1 ck ho ce fa su sk ss gk go x' => cy_change hf ht (fun yc' e => ⟨ca_size hf ht, ?_, y⟩))
      exact ca_XIc x' (fun q hq => (e q hq).symm) (fun _ _ _ _ _ => rfl)
theorem i_vc_scale {k : Nat} {u : SX} {v : SY} (I : i_Rel k u v) (hk : k + 4 ≤ 2048) (v1 : Int32) (v2 : Int32) (v3 : Int32) : wpX_scale (fun r u' => wpY_scale (fun r' v' => r' = r ∧ i_Rel (k + 4) u' v') v v1 v2 v3) u v1 v2 v3 := by
  obtain ⟨r0, r1, c0, c1, ex, ck, ho, ce, fa, su, sk, ss, gk, go, mv⟩ := u
  obtain ⟨yc, yb, yk, ye⟩ := v
  obtain ⟨x, y⟩ := I
  unfold wpX_scale wpY_scale
  dsimp only
  rcases ca_cell v1 with h1 | ⟨f, hf, rfl⟩
  · exact cx_changeB (Or.inl h1) (cy_changeB (Or.inl h1) ⟨rfl, x, y⟩)
  · rcases ca_cell v2 with h2 | ⟨t, ht, rfl⟩
    · exact cx_changeB (Or.inr h2) (cy_changeB (Or.inr h2) ⟨rfl, x, y⟩)
    · refine cx_change x hf ht (fun r0 r1 c0 c1 ck ho ce fa su sk ss gk go x' => cy_change hf ht (fun yc' e => ⟨ca_size hf ht, ?_, y⟩))
      exact ca_XIc x' (fun q hq => (e q hq).symm) (fun _ _ _ _ _ => rfl)
theorem i_vc_copy {k : Nat} {u : SX} {v : SY} (I : i_Rel k u v) (hk : k + 4 ≤ 2048) (v1 : Int32) (v2 : Int32) (v3 : Int32) : wpX_copy (fun r u' => wpY_copy (fun r' v' => r' = r ∧ i_Rel (k + 4) u' v') v v1 v2 v3) u v1 v2 v3 := by
  obtain ⟨r0, r1, c0, c1, ex, ck, ho, ce, fa, su, sk, ss, gk, go, mv⟩ := u
  obtain ⟨yc, yb, yk, ye⟩ := v
  obtain ⟨x, y⟩ := I
  rcases ca_cell v1 with h1 | ⟨f, hf, rfl⟩
  · exact cx_copyB (Or.inl h1) (cy_copyB (Or.inl h1) ⟨rfl, x, y⟩)
  · rcases ca_cell v2 with h2 | ⟨t, ht, rfl⟩
    · exact cx_copyB (Or.inr (Or.inl h2)) (cy_copyB (Or.inr (Or.inl h2)) ⟨rfl, x, y⟩)
    · rcases ca_cell v3 with h3 | ⟨a, ha, rfl⟩
      · exact cx_copyB (Or.inr (Or.inr h3)) (cy_copyB (Or.inr (Or.inr h3)) ⟨rfl, x, y⟩)
      · refine cx_copy x hf ht ha (fun r0 r1 c0 c1 ck ho ce fa su sk ss gk go mv x' => cy_copy hf ht ha (fun yc' yb' e => ⟨rfl, ?_, y⟩))
        exact ca_XIc x' (fun q hq => (e q hq).symm) (fun _ _ _ _ _ => rfl)
theorem i_vc_keep {k : Nat} {u : SX} {v : SY} (I : i_Rel k u v) (hk : k + 4 ≤ 2048) (v1 : Int32) : wpX_keep (fun r u' => wpY_keep (fun r' v' => r' = r ∧ i_Rel (k + 4) u' v') v v1) u v1 := by
  obtain ⟨r0, r1, c0, c1, ex, ck, ho, ce, fa, su, sk, ss, gk, go, mv⟩ := u
  obtain ⟨yc, yb, yk, ye⟩ := v
  obtain ⟨x, y⟩ := I
  rcases ca_ver v1 with h1 | ⟨a, ha, rfl⟩
  · exact cx_keepV h1 (cy_keepV h1 ⟨rfl, x, y⟩)
  · refine cx_keep x ha (fun z => cy_keep ha (fun _ => ⟨rfl, x, y⟩) (fun z' => absurd ((y a ha).symm.trans z') z)) (fun z ck ho x' => cy_keep ha (fun z' => absurd ((y a ha).trans z) z') (fun _ yk' e => ⟨rfl, ?_, fun b hb => ?_⟩))
    · exact ca_XIc x' (fun _ _ => rfl) (fun b q _ _ _ => (e _).symm)
    · by_cases q : b = a
      · rw [q, pk_us, pk_us]
      · rw [pk_un q, pk_un q]
        exact y b hb
theorem i_vc_restore {k : Nat} {u : SX} {v : SY} (I : i_Rel k u v) (hk : k + 4 ≤ 2048) (v1 : Int32) : wpX_restore (fun r u' => wpY_restore (fun r' v' => r' = r ∧ i_Rel (k + 4) u' v') v v1) u v1 := by
  obtain ⟨r0, r1, c0, c1, ex, ck, ho, ce, fa, su, sk, ss, gk, go, mv⟩ := u
  obtain ⟨yc, yb, yk, ye⟩ := v
  obtain ⟨x, y⟩ := I
  rcases ca_ver v1 with h1 | ⟨a, ha, rfl⟩
  · exact cx_restoreV h1 (cy_restoreV h1 ⟨rfl, x, y⟩)
  · refine cx_restore x ha (fun z => cy_restore ha (fun _ => ⟨rfl, x, y⟩) (fun z' => absurd ((y a ha).trans z) z')) (fun z ck ho x' => cy_restore ha (fun z' => absurd ((y a ha).symm.trans z') z) (fun _ yc' e => ⟨rfl, ?_, y⟩))
    exact ca_XIc x' (fun q hq => (e q hq).symm) (fun _ _ _ _ _ => rfl)
theorem i_vc_drop {k : Nat} {u : SX} {v : SY} (I : i_Rel k u v) (hk : k + 4 ≤ 2048) (v1 : Int32) : wpX_drop (fun r u' => wpY_drop (fun r' v' => r' = r ∧ i_Rel (k + 4) u' v') v v1) u v1 := by
  obtain ⟨r0, r1, c0, c1, ex, ck, ho, ce, fa, su, sk, ss, gk, go, mv⟩ := u
  obtain ⟨yc, yb, yk, ye⟩ := v
  obtain ⟨x, y⟩ := I
  rcases ca_ver v1 with h1 | ⟨a, ha, rfl⟩
  · exact cx_dropV h1 (cy_dropV h1 ⟨rfl, x, y⟩)
  · refine cx_drop x ha (fun z => cy_drop ha (fun _ => ⟨rfl, x, y⟩) (fun z' => absurd ((y a ha).trans z) z')) (fun z ho x' => cy_drop ha (fun z' => absurd ((y a ha).symm.trans z') z) (fun _ => ⟨rfl, x', fun b hb => ?_⟩))
    by_cases q : b = a
    · rw [q, pk_us, pk_us]
    · rw [pk_un q, pk_un q]
      exact y b hb
theorem i_vc_get {k : Nat} {u : SX} {v : SY} (I : i_Rel k u v) (hk : k + 4 ≤ 2048) (v1 : Int32) : wpX_get (fun r => wpY_get (fun r' => r' = r ∧ i_Rel (k + 4) u v) v v1) u v1 := by
  obtain ⟨r0, r1, c0, c1, ex, ck, ho, ce, fa, su, sk, ss, gk, go, mv⟩ := u
  obtain ⟨yc, yb, yk, ye⟩ := v
  obtain ⟨x, y⟩ := I
  rcases ca_cell v1 with h1 | ⟨f, hf, rfl⟩
  · exact cx_getB h1 (cy_getB h1 ⟨rfl, x, y⟩)
  · exact cx_get x hf (cy_get hf ⟨rfl, x, y⟩)
theorem i_vc_getOf {k : Nat} {u : SX} {v : SY} (I : i_Rel k u v) (hk : k + 4 ≤ 2048) (v1 : Int32) (v2 : Int32) : wpX_getOf (fun r => wpY_getOf (fun r' => r' = r ∧ i_Rel (k + 4) u v) v v1 v2) u v1 v2 := by
  obtain ⟨r0, r1, c0, c1, ex, ck, ho, ce, fa, su, sk, ss, gk, go, mv⟩ := u
  obtain ⟨yc, yb, yk, ye⟩ := v
  obtain ⟨x, y⟩ := I
  rcases ca_cell v2 with h2 | ⟨f, hf, rfl⟩
  · exact cx_getOfB h2 (cy_getOfB h2 ⟨rfl, x, y⟩)
  · rcases ca_ver v1 with h1 | ⟨a, ha, rfl⟩
    · exact cx_getOfV hf h1 (cy_getOfV hf h1 ⟨rfl, x, y⟩)
    · exact cx_getOf x ha hf (fun z => cy_getOf ha hf (fun _ => ⟨rfl, x, y⟩) (fun z' => absurd ((y a ha).trans z) z')) (fun z => cy_getOf ha hf (fun z' => absurd ((y a ha).symm.trans z') z) (fun _ => ⟨rfl, x, y⟩))
theorem i_vc_sum {k : Nat} {u : SX} {v : SY} (I : i_Rel k u v) (hk : k + 4 ≤ 2048) (v1 : Int32) (v2 : Int32) : wpX_sum (fun r u' => wpY_sum (fun r' => r' = r ∧ i_Rel (k + 4) u' v) v v1 v2) u v1 v2 := by
  obtain ⟨r0, r1, c0, c1, ex, ck, ho, ce, fa, su, sk, ss, gk, go, mv⟩ := u
  obtain ⟨yc, yb, yk, ye⟩ := v
  obtain ⟨x, y⟩ := I
  rcases ca_cell v1 with h1 | ⟨f, hf, rfl⟩
  · exact cx_sumB (Or.inl h1) (cy_sumB (Or.inl h1) ⟨rfl, x, y⟩)
  · rcases ca_cell v2 with h2 | ⟨t, ht, rfl⟩
    · exact cx_sumB (Or.inr h2) (cy_sumB (Or.inr h2) ⟨rfl, x, y⟩)
    · exact cx_sum x hf ht (fun r0 r1 c0 c1 ck ho ce fa su sk ss gk go x' => cy_sum hf ht ⟨rfl, x', y⟩)
theorem i_vc_greatest {k : Nat} {u : SX} {v : SY} (I : i_Rel k u v) (hk : k + 4 ≤ 2048) (v1 : Int32) (v2 : Int32) : wpX_greatest (fun r u' => wpY_greatest (fun r' => r' = r ∧ i_Rel (k + 4) u' v) v v1 v2) u v1 v2 := by
  obtain ⟨r0, r1, c0, c1, ex, ck, ho, ce, fa, su, sk, ss, gk, go, mv⟩ := u
  obtain ⟨yc, yb, yk, ye⟩ := v
  obtain ⟨x, y⟩ := I
  rcases ca_cell v1 with h1 | ⟨f, hf, rfl⟩
  · exact cx_greatestB (Or.inl h1) (cy_greatestB (Or.inl h1) ⟨rfl, x, y⟩)
  · rcases ca_cell v2 with h2 | ⟨t, ht, rfl⟩
    · exact cx_greatestB (Or.inr h2) (cy_greatestB (Or.inr h2) ⟨rfl, x, y⟩)
    · exact cx_greatest x hf ht (fun r0 r1 c0 c1 ck ho ce fa su sk ss gk go o x' a1 a2 => cy_greatest hf ht (fun o' d1 d2 => ⟨ca_max_u a1 a2 d1 d2, x', y⟩))
theorem i_vc_differ {k : Nat} {u : SX} {v : SY} (I : i_Rel k u v) (hk : k + 4 ≤ 2048) (v1 : Int32) : wpX_differ (fun r => wpY_differ (fun r' => r' = r ∧ i_Rel (k + 4) u v) v v1) u v1 := by
  obtain ⟨r0, r1, c0, c1, ex, ck, ho, ce, fa, su, sk, ss, gk, go, mv⟩ := u
  obtain ⟨yc, yb, yk, ye⟩ := v
  obtain ⟨x, y⟩ := I
  rcases ca_ver v1 with h1 | ⟨a, ha, rfl⟩
  · exact cx_differV h1 (cy_differV h1 ⟨rfl, x, y⟩)
  · exact cx_differ x ha (fun z => cy_differ ha (fun _ => ⟨rfl, x, y⟩) (fun z' => absurd ((y a ha).trans z) z')) (fun z => cy_differ ha (fun z' => absurd ((y a ha).symm.trans z') z) (fun _ => ⟨rfl, x, y⟩))
theorem i_vc_count {k : Nat} {u : SX} {v : SY} (I : i_Rel k u v) (hk : k + 4 ≤ 2048) (v1 : Int32) (v2 : Int32) (v3 : Int32) : wpX_count (fun r u' => wpY_count (fun r' => r' = r ∧ i_Rel (k + 4) u' v) v v1 v2 v3) u v1 v2 v3 := by
  obtain ⟨r0, r1, c0, c1, ex, ck, ho, ce, fa, su, sk, ss, gk, go, mv⟩ := u
  obtain ⟨yc, yb, yk, ye⟩ := v
  obtain ⟨x, y⟩ := I
  rcases ca_cell v1 with h1 | ⟨f, hf, rfl⟩
  · exact cx_countB (Or.inl h1) (cy_countB (Or.inl h1) ⟨rfl, x, y⟩)
  · rcases ca_cell v2 with h2 | ⟨t, ht, rfl⟩
    · exact cx_countB (Or.inr h2) (cy_countB (Or.inr h2) ⟨rfl, x, y⟩)
    · exact cx_count x hf ht (fun r0 r1 c0 c1 => cy_count hf ht ⟨rfl, x, y⟩)
end
