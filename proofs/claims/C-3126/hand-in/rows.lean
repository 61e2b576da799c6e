section
theorem pk_us {f : Nat → Int32} {k : Nat} {x : Int32} : upd f k x k = x := if_pos rfl
theorem pk_un {f : Nat → Int32} {k j : Nat} {x : Int32} (h : j ≠ k) : upd f k x j = f j := if_neg h
theorem pk_uLs {f : Nat → Int64} {k : Nat} {x : Int64} : vp_updL f k x k = x := if_pos rfl
theorem pk_uLn {f : Nat → Int64} {k j : Nat} {x : Int64} (h : j ≠ k) : vp_updL f k x j = f j := if_neg h
theorem pk_sub {a b : Nat} (h : b ≤ a) : nI a - nI b = nI (a - b) := by
  obtain ⟨c, rfl⟩ : ∃ c, a = c + b := ⟨a - b, by omega⟩
  rw [← nI_add, Int32.add_sub_cancel, Nat.add_sub_cancel]
theorem pk_m1 (n : Nat) : nI (n + 1) + (-1) = nI n := by
  rw [← nI_1, Int32.add_assoc, show (1 : Int32) + (-1) = 0 from rfl, Int32.add_zero]
theorem pk_mul (a b : Nat) : nI a * nI b = nI (a * b) := (Int32.ofNat_mul a b).symm
theorem pk_div {a d : Nat} (ha : a < 2 ^ 31) (h0 : 0 < d) (hd : d < 2 ^ 31) : nI a / nI d = nI (a / d) := by
  apply Int32.toInt_inj.mp
  rw [lg_idiv_nonneg (by rw [nI_toInt ha]; omega) (by rw [nI_toInt hd]; omega), nI_toInt ha, nI_toInt hd, nI_toInt (Nat.lt_of_le_of_lt (Nat.div_le_self a d) ha)]
  first | rfl | exact (Int.natCast_ediv _ _).symm
theorem pk_rem {a d : Nat} (ha : a < 2 ^ 31) (h0 : 0 < d) (hd : d < 2 ^ 31) : nI a - nI a / nI d * nI d = nI (a % d) := by
  rw [pk_div ha h0 hd, pk_mul, pk_sub (Nat.div_mul_le_self a d)]
  exact congrArg nI (by have := Nat.div_add_mod' a d; omega)
theorem pk_sub_toInt {a b : Nat} (ha : a < 2 ^ 30) (hb : b < 2 ^ 30) : (nI a - nI b).toInt = (a : Int) - b := by
  rw [Int32.toInt_sub, nI_toInt (by omega), nI_toInt (by omega)]
  exact Int.bmod_eq_of_le (by omega) (by omega)
theorem pk_sneg {a b : Nat} (hb : b < 2 ^ 30) (h : a < b) : nI a - nI b < 0 := by
  rw [Int32.lt_iff_toInt_lt, pk_sub_toInt (by omega) hb, show (0 : Int32).toInt = 0 from by decide]
  omega
theorem pk_ix (x : Int32) {n : Nat} (hn : n < 2 ^ 31) : x < 0 ∨ nI n ≤ x ∨ ∃ j : Nat, j < n ∧ x = nI j := by
  by_cases h : x < 0
  · exact Or.inl h
  · obtain ⟨j, hj, rfl⟩ := nI_of h
    by_cases h2 : j < n
    · exact Or.inr (Or.inr ⟨j, h2, rfl⟩)
    · exact Or.inr (Or.inl (nI_le (by omega) hj))
theorem pk_le {x y : Int32} {A B : Prop} (a b : Nat) (f : a ≤ b → A) (g : b < a → B) (hx : x = nI a := by rfl) (hy : y = nI b := by rfl) (ha : a < 2 ^ 31 := by omega) (hb : b < 2 ^ 31 := by omega) : (x ≤ y → A) ∧ (¬ x ≤ y → B) := by
  subst hx hy
  rw [nI_leI ha hb]
  exact ⟨f, fun z => g (by omega)⟩
theorem pk_lt {x y : Int32} {A B : Prop} (a b : Nat) (f : a < b → A) (g : b ≤ a → B) (hx : x = nI a := by rfl) (hy : y = nI b := by rfl) (ha : a < 2 ^ 31 := by omega) (hb : b < 2 ^ 31 := by omega) : (x < y → A) ∧ (¬ x < y → B) := by
  subst hx hy
  rw [nI_ltI ha hb]
  exact ⟨f, fun z => g (by omega)⟩
theorem pk_eq {x y : Int32} {A B : Prop} (a b : Nat) (f : a = b → A) (g : a ≠ b → B) (hx : x = nI a := by rfl) (hy : y = nI b := by rfl) (ha : a < 2 ^ 31 := by omega) (hb : b < 2 ^ 31 := by omega) : (x = y → A) ∧ (¬ x = y → B) := by
  subst hx hy
  rw [nI_eq ha hb]
  exact ⟨f, g⟩
theorem pk_in {x : Int32} (n N : Nat) (h : n < N) (hx : x = nI n := by rfl) (hN : N < 2 ^ 31 := by omega) : vp_in x N := by
  subst hx
  exact vp_in_nI h hN
theorem pk_cl {x : Int32} (n : Nat) (hx : x = nI n := by rfl) (h : n < 2 ^ 31 := by omega) : x.toNatClampNeg = n := by
  subst hx
  exact nI_clamp h
theorem pk_tn {n : Nat} (h : n < 2 ^ 32) : (nI n).toBitVec.toNat = n := Nat.mod_eq_of_lt h
theorem pk_and (x : Int32) {m : Int32} (k : Nat) (hm : m.toBitVec.toNat = 2 ^ k - 1) : x &&& m = nI (x.toBitVec.toNat % 2 ^ k) := by
  apply Int32.toBitVec_inj.mp
  apply BitVec.eq_of_toNat_eq
  rw [Int32.toBitVec_and, BitVec.toNat_and, hm, Nat.and_two_pow_sub_one_eq_mod]
  show _ = (BitVec.ofNat 32 _).toNat
  rw [BitVec.toNat_ofNat]
  exact (Nat.mod_eq_of_lt (Nat.lt_of_le_of_lt (Nat.mod_le _ _) x.toBitVec.isLt)).symm
theorem pk_andN {n : Nat} (h : n < 2 ^ 32) {m : Int32} (k : Nat) (hm : m.toBitVec.toNat = 2 ^ k - 1) : nI n &&& m = nI (n % 2 ^ k) := by
  rw [pk_and _ k hm, pk_tn h]
theorem pk_andE (x : Int32) {m : Int32} (k : Nat) (hm : m.toBitVec.toNat = 2 ^ k - 1) : ∃ j : Nat, j < 2 ^ k ∧ x &&& m = nI j := ⟨_, Nat.mod_lt _ (Nat.two_pow_pos k), pk_and x k hm⟩
theorem pk_andIn (x : Int32) {m : Int32} (k : Nat) (hm : m.toBitVec.toNat = 2 ^ k - 1) (hk : k ≤ 30) : vp_in (x &&& m) (2 ^ k) := by
  obtain ⟨j, hj, e⟩ := pk_andE x k hm
  rw [e]
  exact vp_in_nI hj (Nat.lt_of_le_of_lt (Nat.pow_le_pow_right (by decide) hk) (by decide))
theorem pk_shl (a s : Int32) (k : Nat) (hs : (s.toBitVec.smod 32).toNat = k) : (a <<< s).toBitVec.toNat = a.toBitVec.toNat * 2 ^ k % 2 ^ 32 := by
  show (a.toBitVec <<< (s.toBitVec.smod 32).toNat).toNat = _
  rw [hs, BitVec.toNat_shiftLeft, Nat.shiftLeft_eq]
theorem pk_shlN {n : Nat} (s : Int32) (k : Nat) (hs : (s.toBitVec.smod 32).toNat = k) (h : n * 2 ^ k < 2 ^ 32) : nI n <<< s = nI (n * 2 ^ k) := by
  apply Int32.toBitVec_inj.mp
  apply BitVec.eq_of_toNat_eq
  have hn : n < 2 ^ 32 := Nat.lt_of_le_of_lt (Nat.le_mul_of_pos_right n (Nat.two_pow_pos k)) h
  rw [pk_shl _ _ k hs, pk_tn hn, pk_tn h, Nat.mod_eq_of_lt h]
theorem pk_shr (a s : Int32) (k : Nat) (hs : (s.toBitVec.smod 32).toNat = k) : (a >>> s).toInt = a.toInt >>> k := by
  show (a.toBitVec.sshiftRight (s.toBitVec.smod 32).toNat).toInt = _
  rw [hs, BitVec.toInt_sshiftRight]
  rfl
theorem pk_shrN {n : Nat} (h : n < 2 ^ 31) (s : Int32) (k : Nat) (hs : (s.toBitVec.smod 32).toNat = k) : nI n >>> s = nI (n / 2 ^ k) := by
  apply Int32.toInt_inj.mp
  have h2 : n / 2 ^ k ≤ n := Nat.div_le_self _ _
  rw [pk_shr _ _ k hs, nI_toInt h, nI_toInt (by omega), Int.shiftRight_eq_div_pow]
  rfl
end
section
/-! numbers and stores by naturals; the two states -/
def cm_A (f : Nat → Nat) : Nat → Int32 := fun i => nI (f i)
def cm_s {α : Type} (f : Nat → α) (i : Nat) (v : α) : Nat → α := fun j => if j = i then v else f j
theorem cm_ss {α : Type} {f : Nat → α} {i : Nat} {v : α} : cm_s f i v i = v := if_pos rfl
theorem cm_sn {α : Type} {f : Nat → α} {i j : Nat} {v : α} (h : j ≠ i) : cm_s f i v j = f j := if_neg h
theorem cm_sv {α : Type} {f : Nat → α} {i : Nat} : cm_s f i (f i) = f := by
  funext j
  unfold cm_s
  split
  · rename_i h; rw [h]
  · rfl
theorem cm_up (f : Nat → Nat) (i v : Nat) : upd (cm_A f) i (nI v) = cm_A (cm_s f i v) := by
  funext j
  unfold upd cm_A cm_s
  split <;> rfl
theorem cm_rd {f : Nat → Nat} {c : Nat} (h : c < 2 ^ 31) : cm_A f (nI c).toNatClampNeg = nI (f c) := by
  rw [nI_clamp h]; rfl
theorem cm_wr {f : Nat → Nat} {c v : Nat} (h : c < 2 ^ 31) : upd (cm_A f) (nI c).toNatClampNeg (nI v) = cm_A (cm_s f c v) := by
  rw [nI_clamp h, cm_up]
theorem cm_A0 : (fun _ => 0 : Nat → Int32) = cm_A (fun _ => 0) := rfl
theorem cm_sub1 {n : Nat} (h : 0 < n) : nI n - 1 = nI (n - 1) := by
  obtain ⟨m, rfl⟩ : ∃ m, n = m + 1 := ⟨n - 1, by omega⟩
  exact nI_pred m
theorem cm_dec {n : Nat} (h : 0 < n) : nI n + (-1) = nI (n - 1) := by
  obtain ⟨m, rfl⟩ : ∃ m, n = m + 1 := ⟨n - 1, by omega⟩
  exact pk_m1 m
/-- where a store of one component of a record is written -/
theorem cm_wp {α : Type} {f : Nat → α} {c v : Nat} {r : α} (p : α → Nat) (h : c < 2 ^ 31) (e : p r = v) : upd (cm_A (fun i => p (f i))) (nI c).toNatClampNeg (nI v) = cm_A (fun i => p (cm_s f c r i)) := by
  rw [nI_clamp h, cm_up]
  refine congrArg cm_A (funext fun j => ?_)
  unfold cm_s
  split
  · exact e.symm
  · rfl
abbrev cm_RT : Type := Nat × (Nat → Nat) × (Nat → Nat) × (Nat → Nat) × (Nat → Nat)
abbrev cm_FT : Type := Nat → Nat × Nat × Nat × Nat
abbrev cm_CT : Type := Nat → Nat × Nat × Nat × Nat × Nat × Nat × Nat × Nat × Nat
abbrev cm_MT : Type := Nat × Nat × Nat × Nat × Nat × Nat × Nat × Nat
abbrev cm_DT : Type := Nat × (Nat → Nat)
abbrev cm_HT : Type := Nat × Nat × (Nat → Nat) × (Nat → Nat) × (Nat → Nat) × (Nat → Nat)
abbrev cm_QT : Type := Nat × (Nat → Nat) × (Nat → Nat)
abbrev cm_LT : Type := Nat → Nat × Nat × Nat × Nat × Nat
abbrev cm_NT : Type := Nat × Nat × Nat
abbrev cm_ST : Type := Nat × (Nat → Nat) × (Nat → Nat) × (Nat → Nat) × (Nat → Nat) × (Nat → Nat)
def cm_X (R : cm_RT) (nf : Nat) (fr : cm_FT) (nc : Nat) (ch : cm_CT) (M : cm_MT) (D : cm_DT) (H : cm_HT) : SX :=
  ((nI R.1), (nI H.1), (nI H.2.1), (nI nf), (nI nc), (nI M.1), (nI M.2.1), (nI M.2.2.1), (nI M.2.2.2.1), (nI M.2.2.2.2.1), (nI M.2.2.2.2.2.1), (nI M.2.2.2.2.2.2.1), (nI D.1), (nI M.2.2.2.2.2.2.2), (cm_A R.2.1), (cm_A R.2.2.1), (cm_A R.2.2.2.1), (cm_A R.2.2.2.2), (cm_A H.2.2.1), (cm_A H.2.2.2.1), (cm_A H.2.2.2.2.1), (cm_A H.2.2.2.2.2), (cm_A (fun i => (fr i).1)), (cm_A (fun i => (fr i).2.1)), (cm_A (fun i => (fr i).2.2.1)), (cm_A (fun i => (fr i).2.2.2)), (cm_A (fun i => (ch i).1)), (cm_A (fun i => (ch i).2.1)), (cm_A (fun i => (ch i).2.2.1)), (cm_A (fun i => (ch i).2.2.2.1)), (cm_A (fun i => (ch i).2.2.2.2.1)), (cm_A (fun i => (ch i).2.2.2.2.2.1)), (cm_A (fun i => (ch i).2.2.2.2.2.2.1)), (cm_A (fun i => (ch i).2.2.2.2.2.2.2.1)), (cm_A (fun i => (ch i).2.2.2.2.2.2.2.2)), (cm_A D.2))
def cm_Y (Q : cm_QT) (tp : Nat) (cl : cm_LT) (N : cm_NT) (S : cm_ST) (rt rp ro : Nat → Nat) : SY :=
  ((nI Q.1), (nI tp), (nI S.1), (nI N.1), (nI N.2.1), (nI N.2.2), (cm_A Q.2.1), (cm_A Q.2.2), (cm_A (fun i => (cl i).1)), (cm_A (fun i => (cl i).2.1)), (cm_A (fun i => (cl i).2.2.1)), (cm_A (fun i => (cl i).2.2.2.1)), (cm_A (fun i => (cl i).2.2.2.2)), (cm_A S.2.1), (cm_A S.2.2.1), (cm_A S.2.2.2.1), (cm_A S.2.2.2.2.1), (cm_A S.2.2.2.2.2), (cm_A rt), (cm_A rp), (cm_A ro))
/-- counting -/
def cm_cnt (P : Nat → Bool) : Nat → Nat
  | 0 => 0
  | n + 1 => cm_cnt P n + (if P n = true then 1 else 0)
theorem cm_cnt_le (P : Nat → Bool) : ∀ n, cm_cnt P n ≤ n
  | 0 => Nat.le_refl 0
  | n + 1 => by
    have := cm_cnt_le P n
    unfold cm_cnt
    split <;> omega
theorem cm_cnt_mono {P Q : Nat → Bool} : ∀ n, (∀ i, i < n → P i = true → Q i = true) → cm_cnt P n ≤ cm_cnt Q n
  | 0, _ => Nat.le_refl 0
  | n + 1, h => by
    have h1 := cm_cnt_mono n (fun i hi => h i (by omega))
    have h2 := h n (by omega)
    unfold cm_cnt
    by_cases p : P n = true
    · rw [if_pos p, if_pos (h2 p)]; omega
    · rw [if_neg p]; omega
theorem cm_cnt_lt {P Q : Nat → Bool} {j : Nat} (hq : Q j = true) (hp : ¬ P j = true) : ∀ n, j < n → (∀ i, i < n → P i = true → Q i = true) → cm_cnt P n < cm_cnt Q n
  | 0, hj, _ => absurd hj (by omega)
  | n + 1, hj, h => by
    by_cases e : j = n
    · subst e
      have h1 := cm_cnt_mono j (fun i hi => h i (by omega))
      unfold cm_cnt
      rw [if_pos hq, if_neg hp]; omega
    · have h1 := cm_cnt_lt hq hp n (by omega) (fun i hi => h i (by omega))
      have h2 := h n (by omega)
      unfold cm_cnt
      by_cases p : P n = true
      · rw [if_pos p, if_pos (h2 p)]; omega
      · rw [if_neg p]; omega
theorem cm_cnt_congr {P Q : Nat → Bool} (n : Nat) (h : ∀ i, i < n → P i = Q i) : cm_cnt P n = cm_cnt Q n :=
  Nat.le_antisymm (cm_cnt_mono n fun i hi p => (h i hi) ▸ p) (cm_cnt_mono n fun i hi p => (h i hi).symm ▸ p)
end
section
/-! words: the letters and the code of the end (below 3 a constant, 3 + i the free thing i) -/
abbrev cm_W : Type := List Nat × Nat
def cm_ren (f : Nat → Nat) (a : cm_W) : cm_W := (a.1, f a.2)
def cm_sub (V : Nat) (q : cm_W) (a : cm_W) : cm_W := if a.2 = V then (a.1 ++ q.1, q.2) else a
def cm_U : List Nat → Nat → List Nat → Nat → Option (Option (Nat × cm_W))
  | [], e1, [], e2 => if e1 = e2 then some none else if 3 ≤ e1 then some (some (e1, ([], e2))) else if 3 ≤ e2 then some (some (e2, ([], e1))) else none
  | [], e1, b :: bs, e2 => if 3 ≤ e1 then (if e1 = e2 then none else some (some (e1, (b :: bs, e2)))) else none
  | a :: as, e1, [], e2 => if 3 ≤ e2 then (if e1 = e2 then none else some (some (e2, (a :: as, e1)))) else none
  | a :: as, e1, b :: bs, e2 => if a = b then cm_U as e1 bs e2 else none
theorem cm_U_nn (e1 e2 : Nat) : cm_U [] e1 [] e2 = if e1 = e2 then some none else if 3 ≤ e1 then some (some (e1, ([], e2))) else if 3 ≤ e2 then some (some (e2, ([], e1))) else none := by rw [cm_U]
theorem cm_U_nc (e1 b : Nat) (bs : List Nat) (e2 : Nat) : cm_U [] e1 (b :: bs) e2 = if 3 ≤ e1 then (if e1 = e2 then none else some (some (e1, (b :: bs, e2)))) else none := by rw [cm_U]
theorem cm_U_cn (a : Nat) (as : List Nat) (e1 e2 : Nat) : cm_U (a :: as) e1 [] e2 = if 3 ≤ e2 then (if e1 = e2 then none else some (some (e2, (a :: as, e1)))) else none := by rw [cm_U]
theorem cm_U_cc (a : Nat) (as : List Nat) (e1 b : Nat) (bs : List Nat) (e2 : Nat) : cm_U (a :: as) e1 (b :: bs) e2 = if a = b then cm_U as e1 bs e2 else none := by rw [cm_U]
def cm_u (a b : cm_W) : Option (Option (Nat × cm_W)) := cm_U a.1 a.2 b.1 b.2
/-- what is put is for an end, and its own end is the other one -/
theorem cm_U_ok {V : Nat} {q : cm_W} {e1 e2 : Nat} : ∀ (l1 l2 : List Nat), cm_U l1 e1 l2 e2 = some (some (V, q)) → 3 ≤ V ∧ q.2 ≠ V ∧ ((V = e1 ∧ q.2 = e2) ∨ (V = e2 ∧ q.2 = e1))
  | [], [], h => by
    rw [cm_U_nn] at h
    split at h
    · cases h
    · split at h
      · cases h; exact ⟨by assumption, by intro e; exact absurd e.symm (by assumption), Or.inl ⟨rfl, rfl⟩⟩
      · split at h
        · cases h; exact ⟨by assumption, by intro e; exact absurd e (by assumption), Or.inr ⟨rfl, rfl⟩⟩
        · cases h
  | [], b :: bs, h => by
    rw [cm_U_nc] at h
    split at h
    · split at h
      · cases h
      · cases h; exact ⟨by assumption, by intro e; exact absurd e.symm (by assumption), Or.inl ⟨rfl, rfl⟩⟩
    · cases h
  | a :: as, [], h => by
    rw [cm_U_cn] at h
    split at h
    · split at h
      · cases h
      · cases h; exact ⟨by assumption, by intro e; exact absurd e (by assumption), Or.inr ⟨rfl, rfl⟩⟩
    · cases h
  | a :: as, b :: bs, h => by
    rw [cm_U_cc] at h
    split at h
    · exact cm_U_ok as bs h
    · cases h
def cm_FG (f g : Nat → Nat) : Prop := ∀ e, (e < 3 → f e = e ∧ g e = e) ∧ (3 ≤ e → 3 ≤ f e ∧ 3 ≤ g e)
def cm_Cor (f g : Nat → Nat) (a b : cm_W) : Prop := b = cm_ren f a ∧ a = cm_ren g b
def cm_mo (f : Nat → Nat) (x : Option (Option (Nat × cm_W))) : Option (Option (Nat × cm_W)) := x.map (Option.map fun y => (f y.1, cm_ren f y.2))
theorem cm_FG_ge {f g : Nat → Nat} (h : cm_FG f g) (e : Nat) : 3 ≤ f e ↔ 3 ≤ e := by
  constructor
  · intro h1
    by_cases h2 : e < 3
    · rw [((h e).1 h2).1] at h1; omega
    · omega
  · intro h1; exact ((h e).2 h1).1
theorem cm_U_ren {f g : Nat → Nat} (h : cm_FG f g) {e1 e2 : Nat} (hi : f e1 = f e2 ↔ e1 = e2) : ∀ (l1 l2 : List Nat), cm_U l1 (f e1) l2 (f e2) = cm_mo f (cm_U l1 e1 l2 e2)
  | [], [] => by
    rw [cm_U_nn, cm_U_nn]
    simp only [cm_FG_ge h, hi]
    split
    · rfl
    · split
      · rfl
      · split <;> rfl
  | [], b :: bs => by
    rw [cm_U_nc, cm_U_nc]
    simp only [cm_FG_ge h, hi]
    split
    · split <;> rfl
    · rfl
  | a :: as, [] => by
    rw [cm_U_cn, cm_U_cn]
    simp only [cm_FG_ge h, hi]
    split
    · split <;> rfl
    · rfl
  | a :: as, b :: bs => by
    rw [cm_U_cc, cm_U_cc]
    split
    · exact cm_U_ren h hi as bs
    · rfl
theorem cm_Cor_1 {f g : Nat → Nat} {a b : cm_W} (h : cm_Cor f g a b) : b.1 = a.1 ∧ b.2 = f a.2 ∧ g (f a.2) = a.2 := by
  obtain ⟨h1, h2⟩ := h
  subst h1
  exact ⟨rfl, rfl, (congrArg Prod.snd h2).symm⟩
theorem cm_Cor_mk {f g : Nat → Nat} {a b : cm_W} (h1 : b.1 = a.1) (h2 : b.2 = f a.2) (h3 : g (f a.2) = a.2) : cm_Cor f g a b := by
  constructor
  · exact Prod.ext h1 h2
  · refine Prod.ext h1.symm ?_
    show a.2 = g b.2
    rw [h2, h3]
theorem cm_u_cor {f g : Nat → Nat} {a a' b b' : cm_W} (h : cm_FG f g) (ha : cm_Cor f g a a') (hb : cm_Cor f g b b') : cm_u a' b' = cm_mo f (cm_u a b) := by
  obtain ⟨a1, a2, a3⟩ := cm_Cor_1 ha
  obtain ⟨b1, b2, b3⟩ := cm_Cor_1 hb
  unfold cm_u
  rw [a1, a2, b1, b2]
  refine cm_U_ren h ⟨fun e => ?_, fun e => by rw [e]⟩ _ _
  rw [← a3, ← b3, e]
/-- words that correspond stay so when corresponding things are put -/
theorem cm_Cor_sub {f g : Nat → Nat} {V : Nat} {q a a' : cm_W} (hV : g (f V) = V) (hq : g (f q.2) = q.2) (ha : cm_Cor f g a a') : cm_Cor f g (cm_sub V q a) (cm_sub (f V) (cm_ren f q) a') := by
  obtain ⟨a1, a2, a3⟩ := cm_Cor_1 ha
  unfold cm_sub
  by_cases e : a.2 = V
  · rw [if_pos e, if_pos (by rw [a2, e])]
    exact cm_Cor_mk (by rw [a1]; rfl) rfl hq
  · rw [if_neg e, if_neg (by intro e2; rw [a2] at e2; exact e (by rw [← a3, ← hV, e2]))]
    exact ha
theorem cm_Cor_comp {f g t t' : Nat → Nat} {a a1 b : cm_W} (h1 : a1 = cm_ren t a) (h2 : a = cm_ren t' a1) (h : cm_Cor f g a b) : cm_Cor (fun e => f (t' e)) (fun e => t (g e)) a1 b := by
  obtain ⟨hb, ha⟩ := h
  constructor
  · rw [hb, h2]; rfl
  · rw [h1, ha]; rfl
theorem cm_FG_comp {f g t t' : Nat → Nat} (h : cm_FG f g) (ht : cm_FG t t') : cm_FG (fun e => f (t' e)) (fun e => t (g e)) := by
  intro e
  refine ⟨fun he => ⟨?_, ?_⟩, fun he => ⟨((h _).2 ((ht e).2 he).2).1, ((ht _).2 ((h e).2 he).2).1⟩⟩
  · show f (t' e) = e
    rw [((ht e).1 he).2, ((h e).1 he).1]
  · show t (g e) = e
    rw [((h e).1 he).2, ((ht e).1 he).1]
theorem cm_FG_id : cm_FG (fun e => e) (fun e => e) := fun e => ⟨fun _ => ⟨rfl, rfl⟩, fun h => ⟨h, h⟩⟩
/-- a swap of two codes -/
def cm_sw (x y : Nat) (e : Nat) : Nat := if e = x then y else if e = y then x else e
theorem cm_sw_sw (x y e : Nat) : cm_sw x y (cm_sw x y e) = e := by
  unfold cm_sw
  split
  · split <;> simp_all
  · split <;> simp_all
theorem cm_FG_sw {x y : Nat} (hx : 3 ≤ x) (hy : 3 ≤ y) : cm_FG (cm_sw x y) (cm_sw x y) := by
  intro e
  unfold cm_sw
  constructor
  · intro he
    rw [if_neg (by omega), if_neg (by omega)]
    exact ⟨rfl, rfl⟩
  · intro he
    split
    · exact ⟨hy, hy⟩
    · split
      · exact ⟨hx, hx⟩
      · exact ⟨he, he⟩
theorem cm_ren_sw (x y : Nat) (a : cm_W) : cm_ren (cm_sw x y) (cm_ren (cm_sw x y) a) = a := Prod.ext rfl (cm_sw_sw x y a.2)
/-- a head that is left out: its first symbol is another than the word's -/
def cm_Psd (hs : List Nat) (e : Nat) (c : cm_W) : Prop := ¬ (c.1 = [] ∧ 3 ≤ c.2) ∧ ((hs = [] ∧ e < 3 ∧ ¬ (c.1 = [] ∧ c.2 = e)) ∨ (∃ h t, hs = h :: t ∧ ∀ tl, c.1 ≠ h :: tl))
theorem cm_Psd_U {hs : List Nat} {e : Nat} {c z : cm_W} (h : cm_Psd hs e c) (hz : e < 3 → z = ([], e)) : cm_U (hs ++ z.1) z.2 c.1 c.2 = none := by
  obtain ⟨h1, h2⟩ := h
  obtain ⟨cl, ce⟩ := c
  dsimp only at h1 h2 ⊢
  rcases h2 with ⟨rfl, he, h3⟩ | ⟨a, t, rfl, h3⟩
  · rw [hz he]
    cases cl with
    | nil =>
      have hc : ¬ 3 ≤ ce := fun x => h1 ⟨rfl, x⟩
      show cm_U [] e [] ce = none
      rw [cm_U_nn, if_neg (fun x => h3 ⟨rfl, x.symm⟩), if_neg (by omega), if_neg hc]
    | cons b bs =>
      show cm_U [] e (b :: bs) ce = none
      rw [cm_U_nc, if_neg (by omega)]
  · cases cl with
    | nil =>
      have hc : ¬ 3 ≤ ce := fun x => h1 ⟨rfl, x⟩
      show cm_U (a :: (t ++ z.1)) z.2 [] ce = none
      rw [cm_U_cn, if_neg hc]
    | cons b bs =>
      show cm_U (a :: (t ++ z.1)) z.2 (b :: bs) ce = none
      rw [cm_U_cc, if_neg (fun x => h3 bs (by rw [x]))]
theorem cm_Psd_cor {f g : Nat → Nat} {hs : List Nat} {e : Nat} {a b : cm_W} (hf : cm_FG f g) (hc : cm_Cor f g a b) (h : cm_Psd hs e a) : cm_Psd hs e b := by
  obtain ⟨c1, c2, c3⟩ := cm_Cor_1 hc
  obtain ⟨h1, h2⟩ := h
  unfold cm_Psd
  rw [c1, c2]
  refine ⟨fun x => h1 ⟨x.1, (cm_FG_ge hf _).mp x.2⟩, ?_⟩
  rcases h2 with ⟨rfl, he, h3⟩ | h2
  · refine Or.inl ⟨rfl, he, fun x => h3 ⟨x.1, ?_⟩⟩
    by_cases h4 : a.2 < 3
    · rw [← x.2, ((hf a.2).1 h4).1]
    · have := (cm_FG_ge hf a.2).mpr (by omega)
      omega
  · exact Or.inr h2
theorem cm_sub_ne {V : Nat} {q a : cm_W} (h : a.2 ≠ V) : cm_sub V q a = a := if_neg h
theorem cm_sub_eq {V : Nat} {q a : cm_W} (h : a.2 = V) : cm_sub V q a = (a.1 ++ q.1, q.2) := if_pos h
theorem cm_sub_end (V : Nat) (q a : cm_W) : (cm_sub V q a).2 = if a.2 = V then q.2 else a.2 := by
  unfold cm_sub; split <;> rfl
theorem cm_sub_app (V : Nat) (q : cm_W) (l : List Nat) (a : cm_W) : cm_sub V q (l ++ a.1, a.2) = (l ++ (cm_sub V q a).1, (cm_sub V q a).2) := by
  unfold cm_sub
  by_cases h : a.2 = V
  · rw [if_pos h, if_pos h, List.append_assoc]
  · rw [if_neg h, if_neg h]
theorem cm_sub_cons (V : Nat) (q : cm_W) (x : Nat) (a : cm_W) : cm_sub V q (x :: a.1, a.2) = (x :: (cm_sub V q a).1, (cm_sub V q a).2) := cm_sub_app V q [x] a
/-- two puts in a row: what is put first ends in what is put for next -/
theorem cm_sub_sub {V x : Nat} {L : List Nat} {q2 a : cm_W} (ha : a.2 ≠ x) : cm_sub x q2 (cm_sub V (L, x) a) = cm_sub V (L ++ q2.1, q2.2) a := by
  by_cases e : a.2 = V
  · rw [cm_sub_eq e, cm_sub_eq e, cm_sub_eq (a := (a.1 ++ L, x)) rfl]
    exact Prod.ext (List.append_assoc _ _ _) rfl
  · rw [cm_sub_ne e, cm_sub_ne e, cm_sub_ne ha]
end
section
/-! X's heap: each cell's word, cell by cell -/
def cm_HX (top : Nat) (k m l : Nat → Nat) (w : Nat → cm_W) (ρ : Nat → Nat) : Prop :=
  ∀ c, c < top → (k c = 0 ∧ l c = c ∧ w c = ([], 3 + c)) ∨ (k c = 0 ∧ l c ≠ c ∧ l c < top ∧ w c = w (l c) ∧ ρ (l c) < ρ c) ∨ (k c = 1 ∧ m c < 3 ∧ w c = ([], m c)) ∨ (k c = 2 ∧ m c < 3 ∧ l c < top ∧ w c = (m c :: (w (l c)).1, (w (l c)).2) ∧ ρ (l c) < ρ c)
theorem cm_HX_congr {top : Nat} {k m l k' m' l' : Nat → Nat} {w : Nat → cm_W} {ρ : Nat → Nat} (h : cm_HX top k m l w ρ) (e : ∀ c, c < top → k' c = k c ∧ m' c = m c ∧ l' c = l c) : cm_HX top k' m' l' w ρ := by
  intro c hc
  obtain ⟨e1, e2, e3⟩ := e c hc
  rw [e1, e2, e3]
  exact h c hc
/-- the rank can be brought below top -/
theorem cm_HX_rank {top : Nat} {k m l : Nat → Nat} {w : Nat → cm_W} {ρ : Nat → Nat} (h : cm_HX top k m l w ρ) : ∃ r : Nat → Nat, cm_HX top k m l w r ∧ ∀ c, c < top → r c < top := by
  have key : ∀ a c, a < top → ρ a < ρ c → cm_cnt (fun d => decide (ρ d < ρ a)) top < cm_cnt (fun d => decide (ρ d < ρ c)) top := by
    intro a c ha hac
    refine cm_cnt_lt (j := a) (decide_eq_true hac) (by simp) top ha ?_
    intro i _ hi
    have := of_decide_eq_true hi
    exact decide_eq_true (by omega)
  refine ⟨fun c => cm_cnt (fun d => decide (ρ d < ρ c)) top, ?_, ?_⟩
  · intro c hc
    rcases h c hc with h1 | ⟨a1, a2, a3, a4, a5⟩ | h1 | ⟨a1, a2, a3, a4, a5⟩
    · exact Or.inl h1
    · exact Or.inr (Or.inl ⟨a1, a2, a3, a4, key _ _ a3 a5⟩)
    · exact Or.inr (Or.inr (Or.inl h1))
    · exact Or.inr (Or.inr (Or.inr ⟨a1, a2, a3, a4, key _ _ a3 a5⟩))
  · intro c hc
    have h1 : cm_cnt (fun d => decide (ρ d < ρ c)) top < cm_cnt (fun _ => true) top :=
      cm_cnt_lt (j := c) rfl (by simp) top hc (fun _ _ _ => rfl)
    have h2 := cm_cnt_le (fun _ => true) top
    show cm_cnt (fun d => decide (ρ d < ρ c)) top < top
    omega
/-- the number of letter cells -/
def cm_nl (k : Nat → Nat) (top : Nat) : Nat := cm_cnt (fun d => decide (k d = 2)) top
theorem cm_HX_len {top : Nat} {k m l : Nat → Nat} {w : Nat → cm_W} {ρ : Nat → Nat} (h : cm_HX top k m l w ρ) {c : Nat} (hc : c < top) : (w c).1.length ≤ cm_nl k top := by
  have key : ∀ n c, c < top → ρ c < n → (w c).1.length ≤ cm_cnt (fun d => decide (k d = 2 ∧ ρ d ≤ ρ c)) top := by
    intro n
    induction n with
    | zero => intro c _ hn; omega
    | succ n ih =>
      intro c hc hn
      rcases h c hc with ⟨_, _, a3⟩ | ⟨a1, a2, a3, a4, a5⟩ | ⟨_, _, a3⟩ | ⟨a1, a2, a3, a4, a5⟩
      · rw [a3]; exact Nat.zero_le _
      · rw [a4]
        refine Nat.le_trans (ih (l c) a3 (by omega)) (cm_cnt_mono top ?_)
        intro i _ hi
        have := of_decide_eq_true hi
        exact decide_eq_true ⟨this.1, by omega⟩
      · rw [a3]; exact Nat.zero_le _
      · rw [a4]
        have h1 := ih (l c) a3 (by omega)
        have h2 : cm_cnt (fun d => decide (k d = 2 ∧ ρ d ≤ ρ (l c))) top < cm_cnt (fun d => decide (k d = 2 ∧ ρ d ≤ ρ c)) top := by
          refine cm_cnt_lt (j := c) (decide_eq_true ⟨a1, Nat.le_refl _⟩) ?_ top hc ?_
          · intro x
            have := of_decide_eq_true x
            omega
          · intro i _ hi
            have := of_decide_eq_true hi
            exact decide_eq_true ⟨this.1, by omega⟩
        show (w (l c)).1.length + 1 ≤ _
        omega
  refine Nat.le_trans (key (ρ c + 1) c hc (by omega)) (cm_cnt_mono top ?_)
  intro i _ hi
  exact decide_eq_true (of_decide_eq_true hi).1
theorem cm_HX_end {top : Nat} {k m l : Nat → Nat} {w : Nat → cm_W} {ρ : Nat → Nat} (h : cm_HX top k m l w ρ) {c : Nat} (hc : c < top) : (w c).2 < 3 ∨ ∃ f, f < top ∧ k f = 0 ∧ l f = f ∧ (w c).2 = 3 + f := by
  have key : ∀ n c, c < top → ρ c < n → (w c).2 < 3 ∨ ∃ f, f < top ∧ k f = 0 ∧ l f = f ∧ (w c).2 = 3 + f := by
    intro n
    induction n with
    | zero => intro c _ hn; omega
    | succ n ih =>
      intro c hc hn
      rcases h c hc with ⟨b1, b2, a3⟩ | ⟨a1, a2, a3, a4, a5⟩ | ⟨_, b2, a3⟩ | ⟨a1, a2, a3, a4, a5⟩
      · exact Or.inr ⟨c, hc, b1, b2, by rw [a3]⟩
      · rw [a4]; exact ih (l c) a3 (by omega)
      · rw [a3]; exact Or.inl b2
      · rw [a4]; exact ih (l c) a3 (by omega)
  exact key _ c hc (Nat.lt_succ_self _)
theorem cm_HX_lt {top : Nat} {k m l : Nat → Nat} {w : Nat → cm_W} {ρ : Nat → Nat} (h : cm_HX top k m l w ρ) {c : Nat} (hc : c < top) : (w c).2 < 3 + top := by
  rcases cm_HX_end h hc with h1 | ⟨f, hf, _, _, h1⟩ <;> omega
/-- a cell more -/
theorem cm_HX_new {top : Nat} {k m l : Nat → Nat} {w : Nat → cm_W} {ρ : Nat → Nat} (h : cm_HX top k m l w ρ) (kd mk lk : Nat) (wd : cm_W) (r : Nat)
    (e : (kd = 0 ∧ lk = top ∧ wd = ([], 3 + top)) ∨ (kd = 1 ∧ mk < 3 ∧ wd = ([], mk)) ∨ (kd = 2 ∧ mk < 3 ∧ lk < top ∧ wd = (mk :: (w lk).1, (w lk).2) ∧ ρ lk < r)) :
    cm_HX (top + 1) (cm_s k top kd) (cm_s m top mk) (cm_s l top lk) (cm_s w top wd) (cm_s ρ top r) := by
  intro c hc
  by_cases ec : c = top
  · subst ec
    rw [cm_ss, cm_ss, cm_ss, cm_ss, cm_ss]
    rcases e with ⟨a1, a2, a3⟩ | ⟨a1, a2, a3⟩ | ⟨a1, a2, a3, a4, a5⟩
    · exact Or.inl ⟨a1, a2, a3⟩
    · exact Or.inr (Or.inr (Or.inl ⟨a1, a2, a3⟩))
    · rw [cm_sn (f := w) (show lk ≠ c by omega), cm_sn (f := ρ) (show lk ≠ c by omega)]
      exact Or.inr (Or.inr (Or.inr ⟨a1, a2, by omega, a4, a5⟩))
  · have hc' : c < top := by omega
    rw [cm_sn ec, cm_sn ec, cm_sn ec, cm_sn ec, cm_sn ec]
    rcases h c hc' with h1 | ⟨a1, a2, a3, a4, a5⟩ | h1 | ⟨a1, a2, a3, a4, a5⟩
    · exact Or.inl h1
    · rw [cm_sn (f := w) (show l c ≠ top by omega), cm_sn (f := ρ) (show l c ≠ top by omega)]
      exact Or.inr (Or.inl ⟨a1, a2, by omega, a4, a5⟩)
    · exact Or.inr (Or.inr (Or.inl h1))
    · rw [cm_sn (f := w) (show l c ≠ top by omega), cm_sn (f := ρ) (show l c ≠ top by omega)]
      exact Or.inr (Or.inr (Or.inr ⟨a1, a2, by omega, a4, a5⟩))
theorem cm_nl_new {k : Nat → Nat} {top kd : Nat} : cm_nl (cm_s k top kd) (top + 1) = cm_nl k top + (if kd = 2 then 1 else 0) := by
  show cm_cnt _ top + _ = _
  rw [cm_cnt_congr (Q := fun d => decide (k d = 2)) top (fun i hi => by rw [cm_sn (show i ≠ top by omega)])]
  have e : cm_s k top kd top = kd := cm_ss
  by_cases h : kd = 2
  · rw [if_pos h, if_pos (show decide (cm_s k top kd top = 2) = true from decide_eq_true (e.trans h))]; rfl
  · rw [if_neg h, if_neg (show ¬ decide (cm_s k top kd top = 2) = true from fun z => h (e.symm.trans (of_decide_eq_true z)))]; rfl
theorem cm_nl_congr {k k' : Nat → Nat} {top : Nat} (h : ∀ c, c < top → k' c = k c) : cm_nl k' top = cm_nl k top :=
  cm_cnt_congr top fun i hi => by rw [h i hi]
/-- a free cell bound -/
theorem cm_HX_bind {top : Nat} {k m l : Nat → Nat} {w : Nat → cm_W} {ρ : Nat → Nat} (h : cm_HX top k m l w ρ) {c0 q : Nat} (hc0 : c0 < top) (hk : k c0 = 0) (hl : l c0 = c0) (hq : q < top) (hne : (w q).2 ≠ 3 + c0) :
    cm_HX top k m (cm_s l c0 q) (fun c => cm_sub (3 + c0) (w q) (w c)) (fun c => if (w c).2 = 3 + c0 then ρ c + ρ q + 1 else ρ c) := by
  have hw0 : w c0 = ([], 3 + c0) := by
    rcases h c0 hc0 with ⟨_, _, a3⟩ | ⟨_, a2, _⟩ | ⟨a1, _⟩ | ⟨a1, _⟩
    · exact a3
    · exact absurd hl a2
    · omega
    · omega
  have hqc : q ≠ c0 := by
    intro e
    rw [e, hw0] at hne
    exact hne rfl
  intro c hc
  dsimp only
  by_cases ec : c = c0
  · subst ec
    rw [cm_ss]
    refine Or.inr (Or.inl ⟨hk, hqc, hq, ?_, ?_⟩)
    · rw [cm_sub_ne hne, hw0]; exact cm_sub_eq (a := ([], 3 + c)) rfl
    · rw [if_neg hne, hw0, if_pos rfl]; omega
  · rw [cm_sn ec]
    rcases h c hc with ⟨a1, a2, a3⟩ | ⟨a1, a2, a3, a4, a5⟩ | ⟨a1, a2, a3⟩ | ⟨a1, a2, a3, a4, a5⟩
    · refine Or.inl ⟨a1, a2, ?_⟩
      rw [a3]; exact cm_sub_ne (by show 3 + c ≠ 3 + c0; omega)
    · refine Or.inr (Or.inl ⟨a1, a2, a3, by rw [a4], ?_⟩)
      rw [a4]
      split <;> omega
    · refine Or.inr (Or.inr (Or.inl ⟨a1, a2, ?_⟩))
      rw [a3]; exact cm_sub_ne (by show m c ≠ 3 + c0; omega)
    · refine Or.inr (Or.inr (Or.inr ⟨a1, a2, a3, ?_, ?_⟩))
      · rw [a4]; exact cm_sub_cons _ _ _ _
      · rw [a4]
        dsimp only
        split <;> omega
/-- a heap that extends another: undone to the other's trail it is the other one below the other's top -/
def cm_EX (H H' : cm_HT) : Prop :=
  H.1 ≤ H'.1 ∧ H.2.1 ≤ H'.2.1 ∧ (∀ c, c < H.1 → H'.2.2.1 c = H.2.2.1 c ∧ H'.2.2.2.1 c = H.2.2.2.1 c) ∧ (∀ i, i < H.2.1 → H'.2.2.2.2.2 i = H.2.2.2.2.2 i) ∧ (∀ c, c < H.1 → H'.2.2.2.2.1 c = H.2.2.2.2.1 c ∨ ∃ i, H.2.1 ≤ i ∧ i < H'.2.1 ∧ H'.2.2.2.2.2 i = c) ∧ (∀ i, H.2.1 ≤ i → i < H'.2.1 → H'.2.2.2.2.2 i < H'.1 ∧ (H'.2.2.2.2.2 i < H.1 → H.2.2.2.2.1 (H'.2.2.2.2.2 i) = H'.2.2.2.2.2 i))
theorem cm_EX_refl (H : cm_HT) : cm_EX H H :=
  ⟨Nat.le_refl _, Nat.le_refl _, fun _ _ => ⟨rfl, rfl⟩, fun _ _ => rfl, fun _ _ => Or.inl rfl, fun i h1 h2 => by omega⟩
theorem cm_EX_trans {H H' H'' : cm_HT} (h : cm_EX H H') (h' : cm_EX H' H'') : cm_EX H H'' := by
  obtain ⟨t, tr, k, m, l, tc⟩ := H
  obtain ⟨t', tr', k', m', l', tc'⟩ := H'
  obtain ⟨t'', tr'', k'', m'', l'', tc''⟩ := H''
  obtain ⟨a1, a2, a3, a4, a5, a6⟩ := h
  obtain ⟨b1, b2, b3, b4, b5, b6⟩ := h'
  dsimp only at *
  refine ⟨by dsimp only; omega, by dsimp only; omega, ?_, ?_, ?_, ?_⟩
  · intro c hc
    dsimp only at hc ⊢
    have x := a3 c hc
    have y := b3 c (by omega)
    exact ⟨y.1.trans x.1, y.2.trans x.2⟩
  · intro i hi
    dsimp only at hi ⊢
    exact (b4 i (by omega)).trans (a4 i hi)
  · intro c hc
    dsimp only at hc ⊢
    rcases b5 c (by omega) with e | ⟨i, i1, i2, i3⟩
    · rcases a5 c hc with e' | ⟨i, i1, i2, i3⟩
      · exact Or.inl (e.trans e')
      · exact Or.inr ⟨i, i1, by omega, by rw [b4 i i2]; exact i3⟩
    · exact Or.inr ⟨i, by omega, i2, i3⟩
  · intro i h1 h2
    dsimp only at h1 h2 ⊢
    by_cases h3 : i < tr'
    · have x := a6 i h1 h3
      rw [b4 i h3]
      exact ⟨by omega, x.2⟩
    · have x := b6 i (by omega) h2
      refine ⟨x.1, fun h4 => ?_⟩
      have y := x.2 (by omega)
      rcases a5 _ h4 with e | ⟨j, j1, j2, j3⟩
      · rw [← e]; exact y
      · have z := a6 j j1 j2
        rw [j3] at z
        exact z.2 h4
theorem cm_EX_cell (top trail : Nat) (k m l tc : Nat → Nat) (kd mk lk : Nat) : cm_EX (top, trail, k, m, l, tc) (top + 1, trail, cm_s k top kd, cm_s m top mk, cm_s l top lk, tc) := by
  refine ⟨Nat.le_succ _, Nat.le_refl _, ?_, fun _ _ => rfl, ?_, ?_⟩
  · intro c hc
    dsimp only at hc ⊢
    exact ⟨cm_sn (by omega), cm_sn (by omega)⟩
  · intro c hc
    dsimp only at hc ⊢
    exact Or.inl (cm_sn (by omega))
  · intro i h1 h2
    dsimp only at h1 h2
    omega
theorem cm_EX_bind {top trail : Nat} {k m l tc : Nat → Nat} {c q : Nat} (hc : c < top) (hl : l c = c) : cm_EX (top, trail, k, m, l, tc) (top, trail + 1, k, m, cm_s l c q, cm_s tc trail c) := by
  refine ⟨Nat.le_refl _, Nat.le_succ _, fun _ _ => ⟨rfl, rfl⟩, ?_, ?_, ?_⟩
  · intro i hi
    dsimp only at hi ⊢
    exact cm_sn (by omega)
  · intro d hd
    dsimp only at hd ⊢
    by_cases e : d = c
    · exact Or.inr ⟨trail, Nat.le_refl _, by omega, by rw [cm_ss, e]⟩
    · exact Or.inl (cm_sn e)
  · intro i h1 h2
    dsimp only at h1 h2 ⊢
    have e : i = trail := by omega
    subst e
    rw [cm_ss]
    exact ⟨hc, fun _ => hl⟩
/-- what an undo leaves -/
def cm_Und (trail to : Nat) (tc l l' : Nat → Nat) : Prop := ∀ c, ((∃ i, to ≤ i ∧ i < trail ∧ tc i = c) → l' c = c) ∧ ((¬ ∃ i, to ≤ i ∧ i < trail ∧ tc i = c) → l' c = l c)
theorem cm_Und_EX {H : cm_HT} {top trail : Nat} {k m l tc l' : Nat → Nat} (h : cm_EX H (top, trail, k, m, l, tc)) (hu : cm_Und trail H.2.1 tc l l') : (∀ c, c < H.1 → k c = H.2.2.1 c ∧ m c = H.2.2.2.1 c ∧ l' c = H.2.2.2.2.1 c) ∧ cm_EX H (H.1, H.2.1, k, m, l', tc) := by
  obtain ⟨a1, a2, a3, a4, a5, a6⟩ := h
  dsimp only at a1 a2 a3 a4 a5 a6
  have key : ∀ c, c < H.1 → l' c = H.2.2.2.2.1 c := by
    intro c hc
    by_cases e : ∃ i, H.2.1 ≤ i ∧ i < trail ∧ tc i = c
    · rw [(hu c).1 e]
      obtain ⟨i, i1, i2, i3⟩ := e
      have x := (a6 i i1 i2).2
      rw [i3] at x
      exact (x hc).symm
    · rw [(hu c).2 e]
      rcases a5 c hc with e1 | e1
      · exact e1
      · exact absurd e1 e
  refine ⟨fun c hc => ⟨(a3 c hc).1, (a3 c hc).2, key c hc⟩, Nat.le_refl _, Nat.le_refl _, a3, a4, fun c hc => Or.inl (key c hc), ?_⟩
  intro i h1 h2
  dsimp only at h1 h2
  omega
end
section
/-! terms -/
def cm_bt : Nat → Nat → Nat
  | 0, _ => 1
  | r + 1, w => if w = 0 then 0 else if w % 4 = 0 then 1 else cm_bt r (w / 4)
def cm_VT (t : Nat) : Prop := cm_bt 5 (t / 7) = 0
def cm_lw (w : Nat) : List Nat := if w = 0 then [] else if w < 4 then [w - 1] else if w < 16 then [w / 4 - 1, w % 4 - 1] else if w < 64 then [w / 16 - 1, w / 4 % 4 - 1, w % 4 - 1] else [w / 64 - 1, w / 16 % 4 - 1, w / 4 % 4 - 1, w % 4 - 1]
def cm_lt (t : Nat) : List Nat := cm_lw (t / 7)
theorem cm_bt_s (r w : Nat) : cm_bt (r + 1) w = if w = 0 then 0 else if w % 4 = 0 then 1 else cm_bt r (w / 4) := rfl
theorem cm_bt_01 : ∀ r w, cm_bt r w = 0 ∨ cm_bt r w = 1
  | 0, _ => Or.inr rfl
  | r + 1, w => by
    rw [cm_bt_s]
    split
    · exact Or.inl rfl
    · split
      · exact Or.inr rfl
      · exact cm_bt_01 r _
theorem cm_bt_lt : ∀ r w, cm_bt (r + 1) w = 0 → w < 4 ^ r
  | 0, w, h => by
    rw [cm_bt_s] at h
    split at h
    · rename_i e; rw [e]; decide
    · split at h <;> cases h
  | r + 1, w, h => by
    rw [cm_bt_s] at h
    split at h
    · rename_i e; rw [e]; exact Nat.pow_pos (by decide)
    · split at h
      · cases h
      · have := cm_bt_lt r _ h
        rw [Nat.pow_succ]
        omega
theorem cm_VT_lt {t : Nat} (h : cm_VT t) : t / 7 < 256 := cm_bt_lt 4 _ h
theorem cm_VT_t {t : Nat} (h : cm_VT t) : t < 1792 := by have := cm_VT_lt h; omega
theorem cm_lw_len (w : Nat) : (cm_lw w).length ≤ 4 := by
  unfold cm_lw
  split
  · decide
  · split
    · simp
    · split
      · simp
      · split <;> simp
theorem cm_lt_len (t : Nat) : (cm_lt t).length ≤ 4 := cm_lw_len _
/-- all of letters' facts, by the 256 words -/
theorem cm_lw_all : ∀ w, w < 256 → cm_bt 5 w = 0 → ∀ i, i < 4 → i < (cm_lw w).length → (cm_lw w).getD i 0 < 3 ∧ w / 4 ^ ((cm_lw w).length - 1 - i) % 4 = (cm_lw w).getD i 0 + 1 := by decide +kernel
theorem cm_lw_nd : ∀ w, w < 256 → (cm_lw w).length = if w = 0 then 0 else (cm_lw (w / 4)).length + 1 := by decide +kernel
def cm_la (t s : Nat) : Nat := (cm_lt t).getD s 0
theorem cm_la_lt {t s : Nat} (h : cm_VT t) (hs : s < (cm_lt t).length) : cm_la t s < 3 := by
  have := cm_lt_len t
  exact (cm_lw_all _ (cm_VT_lt h) h s (by omega) hs).1
theorem cm_la_drop {t s : Nat} (hs : s < (cm_lt t).length) : (cm_lt t).drop s = cm_la t s :: (cm_lt t).drop (s + 1) := by
  rw [List.drop_eq_getElem_cons hs]
  refine congrArg (· :: _) ?_
  unfold cm_la
  rw [List.getD_eq_getElem?_getD, List.getElem?_eq_getElem hs]
  rfl
/-! Y's store: each variable's word, one by one -/
def cm_pw (w : Nat → cm_W) (t s o : Nat) : cm_W := if t % 7 < 3 then ((cm_lt t).drop s, t % 7) else ((cm_lt t).drop s ++ (w (4 * o + (t % 7 - 3))).1, (w (4 * o + (t % 7 - 3))).2)
def cm_PO (nv t s o : Nat) : Prop := cm_VT t ∧ s ≤ (cm_lt t).length ∧ 4 * o + 3 < nv
def cm_YS (nv : Nat) (tm sk ow bd : Nat → Nat) (w : Nat → cm_W) (ρ : Nat → Nat) : Prop :=
  ∀ v, (v < nv → (bd v = 0 ∧ w v = ([], 3 + v)) ∨ (bd v = 1 ∧ cm_PO nv (tm v) (sk v) (ow v) ∧ w v = cm_pw w (tm v) (sk v) (ow v) ∧ (3 ≤ tm v % 7 → ρ (4 * ow v + (tm v % 7 - 3)) < ρ v))) ∧ (nv ≤ v → bd v = 0)
theorem cm_pw_drop {w : Nat → cm_W} {t s o : Nat} (hs : s < (cm_lt t).length) : cm_pw w t s o = (cm_la t s :: (cm_pw w t (s + 1) o).1, (cm_pw w t (s + 1) o).2) := by
  unfold cm_pw
  rw [cm_la_drop hs]
  split <;> rfl
theorem cm_pw_c {w : Nat → cm_W} {t o : Nat} (h : t % 7 < 3) : cm_pw w t (cm_lt t).length o = ([], t % 7) := by
  unfold cm_pw
  rw [if_pos h, List.drop_length]
theorem cm_pw_v {w : Nat → cm_W} {t o : Nat} (h : ¬ t % 7 < 3) : cm_pw w t (cm_lt t).length o = w (4 * o + (t % 7 - 3)) := by
  unfold cm_pw
  rw [if_neg h, List.drop_length]
  rfl
theorem cm_pw_sub {w : Nat → cm_W} {V : Nat} {q : cm_W} (hV : 3 ≤ V) (t s o : Nat) : cm_pw (fun v => cm_sub V q (w v)) t s o = cm_sub V q (cm_pw w t s o) := by
  unfold cm_pw
  split
  · exact (cm_sub_ne (by dsimp only; omega)).symm
  · exact (cm_sub_app V q _ _).symm
theorem cm_pw_congr {w w' : Nat → cm_W} {nv t s o : Nat} (ho : 4 * o + 3 < nv) (h : ∀ v, v < nv → w' v = w v) : cm_pw w' t s o = cm_pw w t s o := by
  unfold cm_pw
  have : t % 7 < 7 := Nat.mod_lt _ (by decide)
  rw [h (4 * o + (t % 7 - 3)) (by omega)]
theorem cm_YS_end {nv : Nat} {tm sk ow bd : Nat → Nat} {w : Nat → cm_W} {ρ : Nat → Nat} (h : cm_YS nv tm sk ow bd w ρ) {v : Nat} (hv : v < nv) : (w v).2 < 3 ∨ ∃ u, u < nv ∧ bd u = 0 ∧ (w v).2 = 3 + u := by
  have key : ∀ n v, v < nv → ρ v < n → (w v).2 < 3 ∨ ∃ u, u < nv ∧ bd u = 0 ∧ (w v).2 = 3 + u := by
    intro n
    induction n with
    | zero => intro v _ hn; omega
    | succ n ih =>
      intro v hv hn
      rcases (h v).1 hv with ⟨a1, a2⟩ | ⟨a1, a2, a3, a4⟩
      · exact Or.inr ⟨v, hv, a1, by rw [a2]⟩
      · rw [a3]
        unfold cm_pw
        have h7 : tm v % 7 < 7 := Nat.mod_lt _ (by decide)
        split
        · rename_i e; exact Or.inl e
        · rename_i e
          have := a2.2.2
          exact ih _ (by omega) (by have := a4 (by omega); omega)
  exact key _ v hv (Nat.lt_succ_self _)
theorem cm_pw_end {nv : Nat} {tm sk ow bd : Nat → Nat} {w : Nat → cm_W} {ρ : Nat → Nat} (h : cm_YS nv tm sk ow bd w ρ) {t s o : Nat} (ho : 4 * o + 3 < nv) : (cm_pw w t s o).2 < 3 ∨ ∃ u, u < nv ∧ bd u = 0 ∧ (cm_pw w t s o).2 = 3 + u := by
  unfold cm_pw
  have h7 : t % 7 < 7 := Nat.mod_lt _ (by decide)
  split
  · rename_i e; exact Or.inl e
  · exact cm_YS_end h (by omega)
theorem cm_YS_free {nv : Nat} {tm sk ow bd : Nat → Nat} {w : Nat → cm_W} {ρ : Nat → Nat} (h : cm_YS nv tm sk ow bd w ρ) {v : Nat} (hv : v < nv) (hb : bd v = 0) : w v = ([], 3 + v) := by
  rcases (h v).1 hv with ⟨_, a2⟩ | ⟨a1, _⟩
  · exact a2
  · omega
theorem cm_YS_bind {nv : Nat} {tm sk ow bd : Nat → Nat} {w : Nat → cm_W} {ρ : Nat → Nat} (h : cm_YS nv tm sk ow bd w ρ) {v0 t s o : Nat} (hv0 : v0 < nv) (hb : bd v0 = 0) (hp : cm_PO nv t s o) (hne : (cm_pw w t s o).2 ≠ 3 + v0) :
    cm_YS nv (cm_s tm v0 t) (cm_s sk v0 s) (cm_s ow v0 o) (cm_s bd v0 1) (fun v => cm_sub (3 + v0) (cm_pw w t s o) (w v)) (fun v => if (w v).2 = 3 + v0 then ρ v + ρ (4 * o + (t % 7 - 3)) + 1 else ρ v) := by
  have hw0 := cm_YS_free h hv0 hb
  intro v
  refine ⟨fun hv => ?_, fun hv => ?_⟩
  · dsimp only
    by_cases e : v = v0
    · subst e
      rw [cm_ss, cm_ss, cm_ss, cm_ss]
      refine Or.inr ⟨rfl, hp, ?_, fun h3 => ?_⟩
      · rw [cm_pw_sub (by omega), cm_sub_ne hne, hw0]; exact cm_sub_eq (a := ([], 3 + v)) rfl
      · have h4 : (w (4 * o + (t % 7 - 3))).2 ≠ 3 + v := by
          intro x
          apply hne
          unfold cm_pw
          rw [if_neg (by omega)]
          exact x
        rw [if_neg h4, hw0, if_pos rfl]
        omega
    · rw [cm_sn e, cm_sn e, cm_sn e, cm_sn e]
      rcases (h v).1 hv with ⟨a1, a2⟩ | ⟨a1, a2, a3, a4⟩
      · refine Or.inl ⟨a1, ?_⟩
        rw [a2]; exact cm_sub_ne (by show 3 + v ≠ 3 + v0; omega)
      · refine Or.inr ⟨a1, a2, ?_, fun h3 => ?_⟩
        · rw [cm_pw_sub (by omega), ← a3]
        · have h4 : (w v).2 = (w (4 * ow v + (tm v % 7 - 3))).2 := by
            rw [a3]
            unfold cm_pw
            rw [if_neg (by omega)]
          have h5 := a4 h3
          rw [h4]
          split <;> omega
  · rw [cm_sn (by omega)]
    exact (h v).2 hv
theorem cm_YS_congr {nv : Nat} {tm sk ow bd tm' sk' ow' : Nat → Nat} {w : Nat → cm_W} {ρ : Nat → Nat} (h : cm_YS nv tm sk ow bd w ρ) (e : ∀ v, bd v ≠ 0 → tm' v = tm v ∧ sk' v = sk v ∧ ow' v = ow v) : cm_YS nv tm' sk' ow' bd w ρ := by
  intro v
  refine ⟨fun hv => ?_, (h v).2⟩
  rcases (h v).1 hv with h1 | ⟨a1, a2, a3, a4⟩
  · exact Or.inl h1
  · obtain ⟨e1, e2, e3⟩ := e v (by omega)
    rw [e1, e2, e3]
    exact Or.inr ⟨a1, a2, a3, a4⟩
/-- a call more: four variables more -/
def cm_wx (nv : Nat) (w : Nat → cm_W) : Nat → cm_W := fun v => if v < nv then w v else ([], 3 + v)
theorem cm_wx_lt {nv : Nat} {w : Nat → cm_W} {v : Nat} (h : v < nv) : cm_wx nv w v = w v := if_pos h
theorem cm_wx_ge {nv : Nat} {w : Nat → cm_W} {v : Nat} (h : nv ≤ v) : cm_wx nv w v = ([], 3 + v) := if_neg (by omega)
theorem cm_YS_more {nv : Nat} {tm sk ow bd : Nat → Nat} {w : Nat → cm_W} {ρ : Nat → Nat} (h : cm_YS nv tm sk ow bd w ρ) (d : Nat) : cm_YS (nv + d) tm sk ow bd (cm_wx nv w) ρ := by
  intro v
  refine ⟨fun hv => ?_, fun hv => (h v).2 (by omega)⟩
  by_cases e : v < nv
  · rw [cm_wx_lt e]
    rcases (h v).1 e with h1 | ⟨a1, a2, a3, a4⟩
    · exact Or.inl h1
    · refine Or.inr ⟨a1, ⟨a2.1, a2.2.1, by have := a2.2.2; omega⟩, ?_, a4⟩
      rw [cm_pw_congr a2.2.2 (fun v hv => cm_wx_lt hv)]
      exact a3
  · exact Or.inl ⟨(h v).2 (by omega), cm_wx_ge (by omega)⟩
def cm_EY (S S' : cm_ST) : Prop :=
  S.1 ≤ S'.1 ∧ (∀ i, i < S.1 → S'.2.2.2.2.2 i = S.2.2.2.2.2 i) ∧ (∀ v, S'.2.2.2.2.1 v = S.2.2.2.2.1 v ∨ ∃ i, S.1 ≤ i ∧ i < S'.1 ∧ S'.2.2.2.2.2 i = v) ∧ (∀ i, S.1 ≤ i → i < S'.1 → S'.2.2.2.2.2 i < 328 ∧ S.2.2.2.2.1 (S'.2.2.2.2.2 i) = 0) ∧ (∀ v, S.2.2.2.2.1 v ≠ 0 → S'.2.1 v = S.2.1 v ∧ S'.2.2.1 v = S.2.2.1 v ∧ S'.2.2.2.1 v = S.2.2.2.1 v)
theorem cm_EY_refl (S : cm_ST) : cm_EY S S :=
  ⟨Nat.le_refl _, fun _ _ => rfl, fun _ => Or.inl rfl, fun i h1 h2 => by omega, fun _ _ => ⟨rfl, rfl, rfl⟩⟩
theorem cm_EY_bd {S S' : cm_ST} (h : cm_EY S S') {v : Nat} (hv : S.2.2.2.2.1 v ≠ 0) : S'.2.2.2.2.1 v = S.2.2.2.2.1 v := by
  obtain ⟨a1, a2, a3, a4, a5⟩ := h
  rcases a3 v with e | ⟨i, i1, i2, i3⟩
  · exact e
  · have := (a4 i i1 i2).2
    rw [i3] at this
    exact absurd this hv
theorem cm_EY_trans {S S' S'' : cm_ST} (h : cm_EY S S') (h' : cm_EY S' S'') : cm_EY S S'' := by
  have hb := fun v hv => cm_EY_bd h (v := v) hv
  obtain ⟨a1, a2, a3, a4, a5⟩ := h
  obtain ⟨b1, b2, b3, b4, b5⟩ := h'
  refine ⟨by omega, fun i hi => (b2 i (by omega)).trans (a2 i hi), ?_, ?_, ?_⟩
  · intro v
    rcases b3 v with e | ⟨i, i1, i2, i3⟩
    · rcases a3 v with e' | ⟨i, i1, i2, i3⟩
      · exact Or.inl (e.trans e')
      · exact Or.inr ⟨i, i1, by omega, by rw [b2 i i2]; exact i3⟩
    · exact Or.inr ⟨i, by omega, i2, i3⟩
  · intro i h1 h2
    by_cases h3 : i < S'.1
    · rw [b2 i h3]; exact a4 i h1 h3
    · have x := b4 i (by omega) h2
      refine ⟨x.1, ?_⟩
      by_cases h4 : S.2.2.2.2.1 (S''.2.2.2.2.2 i) = 0
      · exact h4
      · rw [← hb _ h4]; exact x.2
  · intro v hv
    have x := a5 v hv
    have y := b5 v (by rw [hb v hv]; exact hv)
    exact ⟨y.1.trans x.1, y.2.1.trans x.2.1, y.2.2.trans x.2.2⟩
/-- what is written for a variable that isn't bound -/
theorem cm_EY_unb {trailed : Nat} {tm sk ow bd tr : Nat → Nat} {v t s o : Nat} (hb : bd v = 0) : cm_EY (trailed, tm, sk, ow, bd, tr) (trailed, cm_s tm v t, cm_s sk v s, cm_s ow v o, bd, tr) := by
  refine ⟨Nat.le_refl _, fun _ _ => rfl, fun _ => Or.inl rfl, fun i h1 h2 => ?_, fun u hu => ?_⟩
  · dsimp only at h1 h2; omega
  · dsimp only at hu ⊢
    have e : u ≠ v := by intro e; rw [e] at hu; exact hu hb
    exact ⟨cm_sn e, cm_sn e, cm_sn e⟩
theorem cm_EY_bind {trailed : Nat} {tm sk ow bd tr : Nat → Nat} {v t s o : Nat} (hb : bd v = 0) (hv : v < 328) : cm_EY (trailed, tm, sk, ow, bd, tr) (trailed + 1, cm_s tm v t, cm_s sk v s, cm_s ow v o, cm_s bd v 1, cm_s tr trailed v) := by
  refine ⟨Nat.le_succ _, fun i hi => ?_, fun u => ?_, fun i h1 h2 => ?_, fun u hu => ?_⟩
  · dsimp only at hi ⊢; exact cm_sn (by omega)
  · dsimp only
    by_cases e : u = v
    · exact Or.inr ⟨trailed, Nat.le_refl _, by omega, by rw [cm_ss, e]⟩
    · exact Or.inl (cm_sn e)
  · dsimp only at h1 h2 ⊢
    have e : i = trailed := by omega
    subst e
    rw [cm_ss]
    exact ⟨hv, hb⟩
  · dsimp only at hu ⊢
    have e : u ≠ v := by intro e; rw [e] at hu; exact hu hb
    exact ⟨cm_sn e, cm_sn e, cm_sn e⟩
def cm_UnY (trailed to : Nat) (tr bd bd' : Nat → Nat) : Prop := ∀ v, ((∃ i, to ≤ i ∧ i < trailed ∧ tr i = v) → bd' v = 0) ∧ ((¬ ∃ i, to ≤ i ∧ i < trailed ∧ tr i = v) → bd' v = bd v)
theorem cm_UnY_EY {S : cm_ST} {trailed : Nat} {tm sk ow bd tr bd' : Nat → Nat} (h : cm_EY S (trailed, tm, sk, ow, bd, tr)) (hu : cm_UnY trailed S.1 tr bd bd') : bd' = S.2.2.2.2.1 ∧ cm_EY S (S.1, tm, sk, ow, S.2.2.2.2.1, tr) := by
  obtain ⟨a1, a2, a3, a4, a5⟩ := h
  dsimp only at a1 a2 a3 a4 a5
  refine ⟨funext fun v => ?_, Nat.le_refl _, a2, fun _ => Or.inl rfl, fun i h1 h2 => by dsimp only at h1 h2; omega, a5⟩
  by_cases e : ∃ i, S.1 ≤ i ∧ i < trailed ∧ tr i = v
  · rw [(hu v).1 e]
    obtain ⟨i, i1, i2, i3⟩ := e
    have x := (a4 i i1 i2).2
    rw [i3] at x
    exact x.symm
  · rw [(hu v).2 e]
    rcases a3 v with e1 | e1
    · exact e1
    · exact absurd e1 e
end
section
/-! X's walks over the heap -/
section cmX1
variable {R : cm_RT} {nf : Nat} {fr : cm_FT} {nc : Nat} {ch : cm_CT} {M : cm_MT} {D : cm_DT} {top trail : Nat} {k m l tc : Nat → Nat} {w : Nat → cm_W} {ρ : Nat → Nat}
theorem cm_HX_k (h : cm_HX top k m l w ρ) {c : Nat} (hc : c < top) : k c ≤ 2 := by
  rcases h c hc with h1 | h1 | h1 | h1 <;> omega
theorem cm_HX_m (h : cm_HX top k m l w ρ) {c : Nat} (hc : c < top) (hk : k c ≠ 0) : m c < 3 := by
  rcases h c hc with h1 | h1 | h1 | h1 <;> omega
theorem cm_HX_l (h : cm_HX top k m l w ρ) {c : Nat} (hc : c < top) (hk : k c ≠ 1) : l c < top := by
  rcases h c hc with h1 | h1 | h1 | h1 <;> omega
theorem cm_HX_free (h : cm_HX top k m l w ρ) {c : Nat} (hc : c < top) (hk : k c = 0) (hl : l c = c) : w c = ([], 3 + c) := by
  rcases h c hc with h1 | h1 | h1 | h1
  · exact h1.2.2
  · omega
  · omega
  · omega
theorem cm_HX_con (h : cm_HX top k m l w ρ) {c : Nat} (hc : c < top) (hk : k c = 1) : w c = ([], m c) := by
  rcases h c hc with h1 | h1 | h1 | h1
  · omega
  · omega
  · exact h1.2.2
  · omega
theorem cm_HX_let (h : cm_HX top k m l w ρ) {c : Nat} (hc : c < top) (hk : k c = 2) : l c < top ∧ w c = (m c :: (w (l c)).1, (w (l c)).2) := by
  rcases h c hc with h1 | h1 | h1 | h1
  · omega
  · omega
  · omega
  · exact ⟨h1.2.2.1, h1.2.2.2.1⟩
theorem cm_x_cell {post : Int32 → SX → Prop} {kd mk lk : Nat} (h : top < 2700) (H : post (nI top) (cm_X R nf fr nc ch M D (top + 1, trail, cm_s k top kd, cm_s m top mk, cm_s l top lk, tc))) : wpX_cell post (cm_X R nf fr nc ch M D (top, trail, k, m, l, tc)) (nI kd) (nI mk) (nI lk) := by
  unfold wpX_cell cm_X
  dsimp only
  have hi : vp_in (nI top) 2700 := vp_in_nI h (by decide)
  refine ⟨hi, nm_r (cm_wr (by omega)) ⟨hi, nm_r (cm_wr (by omega)) ⟨hi, nm_r (cm_wr (by omega)) (nm_r (nI_1 top) ?_)⟩⟩⟩
  rw [nI_pred]
  exact H
theorem cm_x_freeCell {post : Int32 → SX → Prop} (h : top < 2700) (H : post (nI top) (cm_X R nf fr nc ch M D (top + 1, trail, cm_s k top 0, cm_s m top 0, cm_s l top top, tc))) : wpX_freeCell post (cm_X R nf fr nc ch M D (top, trail, k, m, l, tc)) := by
  unfold wpX_freeCell cm_X
  dsimp only
  show wpX_cell _ (cm_X R nf fr nc ch M D (top, trail, k, m, l, tc)) (nI 0) (nI 0) (nI top)
  exact cm_x_cell h H
theorem cm_x_bind {post : SX → Prop} {c q : Nat} (hc : c < 2700) (ht : trail < 2700) (H : post (cm_X R nf fr nc ch M D (top, trail + 1, k, m, cm_s l c q, cm_s tc trail c))) : wpX_bind post (cm_X R nf fr nc ch M D (top, trail, k, m, l, tc)) (nI c) (nI q) := by
  unfold wpX_bind cm_X
  dsimp only
  refine ⟨vp_in_nI hc (by decide), nm_r (cm_wr (by omega)) ⟨vp_in_nI ht (by decide), nm_r (cm_wr (by omega)) (nm_r (nI_1 trail) ?_)⟩⟩
  exact H
theorem cm_x_deref_l {post : Int32 → Prop} (hH : cm_HX top k m l w ρ) (ht : top ≤ 2700) : ∀ n c i, c < top → ρ c < n → i + ρ c < 2700 → (∀ d, d < top → (k d = 0 → l d = d) → w d = w c → post (nI d)) → wX_deref_4 post (nI R.1) (nI top) (nI trail) (nI nf) (nI nc) (nI M.1) (nI M.2.1) (nI M.2.2.1) (nI M.2.2.2.1) (nI M.2.2.2.2.1) (nI M.2.2.2.2.2.1) (nI M.2.2.2.2.2.2.1) (nI D.1) (nI M.2.2.2.2.2.2.2) (cm_A R.2.1) (cm_A R.2.2.1) (cm_A R.2.2.2.1) (cm_A R.2.2.2.2) (cm_A k) (cm_A m) (cm_A l) (cm_A tc) (cm_A (fun i => (fr i).1)) (cm_A (fun i => (fr i).2.1)) (cm_A (fun i => (fr i).2.2.1)) (cm_A (fun i => (fr i).2.2.2)) (cm_A (fun i => (ch i).1)) (cm_A (fun i => (ch i).2.1)) (cm_A (fun i => (ch i).2.2.1)) (cm_A (fun i => (ch i).2.2.2.1)) (cm_A (fun i => (ch i).2.2.2.2.1)) (cm_A (fun i => (ch i).2.2.2.2.2.1)) (cm_A (fun i => (ch i).2.2.2.2.2.2.1)) (cm_A (fun i => (ch i).2.2.2.2.2.2.2.1)) (cm_A (fun i => (ch i).2.2.2.2.2.2.2.2)) (cm_A D.2) n (nI c) (nI i) := by
  intro n
  induction n with
  | zero => intro c i _ hn; omega
  | succ n ih =>
    intro c i hc hn hi H
    have hk := cm_HX_k hH hc
    have hv : vp_in (nI c) 2700 := vp_in_nI (by omega) (by decide)
    refine br_f (nI_ge (b := 2700) (by omega) (by decide)) ⟨hv, ?_⟩
    refine pk_eq (k c) 0 (fun h0 => ⟨hv, ?_⟩) (fun h0 => H c hc (fun z => absurd z h0) rfl) (cm_rd (by omega)) rfl (by omega) (by omega)
    have hl := cm_HX_l hH hc (by omega)
    refine pk_eq (l c) c (fun h1 => H c hc (fun _ => h1) rfl) (fun h1 => ⟨hv, ?_⟩) (cm_rd (by omega)) rfl (by omega) (by omega)
    rcases hH c hc with a | ⟨a1, a2, a3, a4, a5⟩ | a | a
    · omega
    · refine nm_r (cm_rd (by omega)) (nm_r (nI_1 i) (ih (l c) (i + 1) a3 (by omega) (by omega) ?_))
      intro d hd hs he
      exact H d hd hs (he.trans a4.symm)
    · omega
    · omega
theorem cm_x_deref {post : Int32 → Prop} {x : Int32} {c : Nat} (hH : cm_HX top k m l w ρ) (ht : top ≤ 2700) (hc : c < top) (hx : x = nI c) (H : ∀ d, d < top → (k d = 0 → l d = d) → w d = w c → post (nI d)) : wpX_deref post (cm_X R nf fr nc ch M D (top, trail, k, m, l, tc)) x := by
  obtain ⟨r, hr, hb⟩ := cm_HX_rank hH
  subst hx
  unfold wpX_deref cm_X
  dsimp only
  have := hb c hc
  exact ⟨2701, cm_x_deref_l hr ht 2701 c 0 hc (by omega) (by omega) H⟩
theorem cm_x_isFree {post : Int32 → Prop} {c : Nat} (hH : cm_HX top k m l w ρ) (ht : top ≤ 2700) (hc : c < top) (h1 : k c = 0 → l c = c → post 1) (h0 : ¬ (k c = 0 ∧ l c = c) → post 0) : wpX_isFree post (cm_X R nf fr nc ch M D (top, trail, k, m, l, tc)) (nI c) := by
  have hk := cm_HX_k hH hc
  have hv : vp_in (nI c) 2700 := vp_in_nI (by omega) (by decide)
  unfold wpX_isFree cm_X
  dsimp only
  refine ⟨hv, pk_eq (k c) 0 (fun a => ⟨hv, ?_⟩) (fun a => h0 (fun z => a z.1)) (cm_rd (by omega)) rfl (by omega) (by omega)⟩
  have hl := cm_HX_l hH hc (by omega)
  exact pk_eq (l c) c (fun b => h1 a b) (fun b => h0 (fun z => b z.2)) (cm_rd (by omega)) rfl (by omega) (by omega)
theorem cm_x_endsIn_l {post : Int32 → Prop} {c : Nat} (hH : cm_HX top k m l w ρ) (ht : top ≤ 2700) (hc : c < top) (hk : k c = 0) (hl : l c = c) : ∀ n x i, x < top → (k x = 0 → l x = x) → (w x).1.length < n → i + (w x).1.length < 1000 → ((w x).2 = 3 + c → post 1) → ((w x).2 ≠ 3 + c → post 0) → wX_endsIn_9 post (nI c) (nI R.1) (nI top) (nI trail) (nI nf) (nI nc) (nI M.1) (nI M.2.1) (nI M.2.2.1) (nI M.2.2.2.1) (nI M.2.2.2.2.1) (nI M.2.2.2.2.2.1) (nI M.2.2.2.2.2.2.1) (nI D.1) (nI M.2.2.2.2.2.2.2) (cm_A R.2.1) (cm_A R.2.2.1) (cm_A R.2.2.2.1) (cm_A R.2.2.2.2) (cm_A k) (cm_A m) (cm_A l) (cm_A tc) (cm_A (fun i => (fr i).1)) (cm_A (fun i => (fr i).2.1)) (cm_A (fun i => (fr i).2.2.1)) (cm_A (fun i => (fr i).2.2.2)) (cm_A (fun i => (ch i).1)) (cm_A (fun i => (ch i).2.1)) (cm_A (fun i => (ch i).2.2.1)) (cm_A (fun i => (ch i).2.2.2.1)) (cm_A (fun i => (ch i).2.2.2.2.1)) (cm_A (fun i => (ch i).2.2.2.2.2.1)) (cm_A (fun i => (ch i).2.2.2.2.2.2.1)) (cm_A (fun i => (ch i).2.2.2.2.2.2.2.1)) (cm_A (fun i => (ch i).2.2.2.2.2.2.2.2)) (cm_A D.2) n (nI x) (nI i) := by
  intro n
  induction n with
  | zero => intro x i _ _ hn; omega
  | succ n ih =>
    intro x i hx hs hn hi h1 h0
    have hkx := cm_HX_k hH hx
    have hv : vp_in (nI x) 2700 := vp_in_nI (by omega) (by decide)
    refine br_f (nI_ge (b := 1000) (by omega) (by decide)) ⟨hv, ?_⟩
    refine pk_eq (k x) 2 (fun h2 => ⟨hv, ?_⟩) (fun h2 => ?_) (cm_rd (by omega)) rfl (by omega) (by omega)
    · obtain ⟨b1, b2⟩ := cm_HX_let hH hx h2
      rw [b2] at hn hi h1 h0
      dsimp only [List.length_cons] at hn hi
      refine cm_x_deref (M := M) hH ht b1 (cm_rd (by omega)) fun d hd hsd hwd => nm_r (nI_1 i) ?_
      exact ih d (i + 1) hd hsd (by rw [hwd]; omega) (by rw [hwd]; omega) (by rw [hwd]; exact h1) (by rw [hwd]; exact h0)
    · unfold wX_endsIn_44
      have e : x = c ↔ (w x).2 = 3 + c := by
        rcases hH x hx with a | a | a | a
        · rw [a.2.2]; show x = c ↔ 3 + x = 3 + c; omega
        · exact absurd (hs a.1) a.2.1
        · rw [a.2.2]
          constructor
          · intro z; rw [z] at a; omega
          · intro z; exact absurd z (by show m x ≠ 3 + c; omega)
        · omega
      exact pk_eq x c (fun z => h1 (e.mp z)) (fun z => h0 (fun y => z (e.mpr y))) rfl rfl (by omega) (by omega)
theorem cm_x_endsIn {post : Int32 → Prop} {c q : Nat} (hH : cm_HX top k m l w ρ) (ht : top ≤ 2700) (hn : cm_nl k top < 1000) (hc : c < top) (hk : k c = 0) (hl : l c = c) (hq : q < top) (h1 : (w q).2 = 3 + c → post 1) (h0 : (w q).2 ≠ 3 + c → post 0) : wpX_endsIn post (cm_X R nf fr nc ch M D (top, trail, k, m, l, tc)) (nI c) (nI q) := by
  unfold wpX_endsIn cm_X
  dsimp only
  have hlen := cm_HX_len hH hq
  show wpX_deref _ (cm_X R nf fr nc ch M D (top, trail, k, m, l, tc)) (nI q)
  refine cm_x_deref hH ht hq rfl fun d hd hs hw => ⟨1001, ?_⟩
  exact cm_x_endsIn_l (M := M) hH ht hc hk hl 1001 d 0 hd hs (by rw [hw]; omega) (by rw [hw]; omega) (by rw [hw]; exact h1) (by rw [hw]; exact h0)
/-- the binding of a free cell to another end or word -/
theorem cm_x_bind27 {post : Int32 → SX → Prop} {c q : Nat} (hH : cm_HX top k m l w ρ) (ht : top ≤ 2700) (htr : trail < 2700) (hn : cm_nl k top < 1000) (hc : c < top) (hk : k c = 0) (hl : l c = c) (hq : q < top) (hs : k q = 0 → l q = q) (hne : q ≠ c)
    (h0 : (w q).2 = 3 + c → post 0 (cm_X R nf fr nc ch M D (top, trail, k, m, l, tc))) (h1 : (w q).2 ≠ 3 + c → post 1 (cm_X R nf fr nc ch M D (top, trail + 1, k, m, cm_s l c q, cm_s tc trail c))) : wX_bindEnds_27 post (nI c) (nI q) (nI R.1) (nI top) (nI trail) (nI nf) (nI nc) (nI M.1) (nI M.2.1) (nI M.2.2.1) (nI M.2.2.2.1) (nI M.2.2.2.2.1) (nI M.2.2.2.2.2.1) (nI M.2.2.2.2.2.2.1) (nI D.1) (nI M.2.2.2.2.2.2.2) (cm_A R.2.1) (cm_A R.2.2.1) (cm_A R.2.2.2.1) (cm_A R.2.2.2.2) (cm_A k) (cm_A m) (cm_A l) (cm_A tc) (cm_A (fun i => (fr i).1)) (cm_A (fun i => (fr i).2.1)) (cm_A (fun i => (fr i).2.2.1)) (cm_A (fun i => (fr i).2.2.2)) (cm_A (fun i => (ch i).1)) (cm_A (fun i => (ch i).2.1)) (cm_A (fun i => (ch i).2.2.1)) (cm_A (fun i => (ch i).2.2.2.1)) (cm_A (fun i => (ch i).2.2.2.2.1)) (cm_A (fun i => (ch i).2.2.2.2.2.1)) (cm_A (fun i => (ch i).2.2.2.2.2.2.1)) (cm_A (fun i => (ch i).2.2.2.2.2.2.2.1)) (cm_A (fun i => (ch i).2.2.2.2.2.2.2.2)) (cm_A D.2) := by
  unfold wX_bindEnds_27
  have hkq := cm_HX_k hH hq
  refine ⟨vp_in_nI (by omega) (by decide), pk_eq (k q) 2 (fun h2 => ?_) (fun h2 => ?_) (cm_rd (by omega)) rfl (by omega) (by omega)⟩
  · show wpX_endsIn _ (cm_X R nf fr nc ch M D (top, trail, k, m, l, tc)) (nI c) (nI q)
    refine cm_x_endsIn hH ht hn hc hk hl hq (fun e => br_f (by decide) (h0 e)) (fun e => br_t rfl ?_)
    unfold wX_bindEnds_52
    show wpX_bind _ (cm_X R nf fr nc ch M D (top, trail, k, m, l, tc)) (nI c) (nI q)
    exact cm_x_bind (by omega) htr (h1 e)
  · unfold wX_bindEnds_52
    show wpX_bind _ (cm_X R nf fr nc ch M D (top, trail, k, m, l, tc)) (nI c) (nI q)
    refine cm_x_bind (by omega) htr (h1 ?_)
    rcases hH q hq with a | a | a | a
    · rw [a.2.2]; show 3 + q ≠ 3 + c; omega
    · exact absurd (hs a.1) a.2.1
    · rw [a.2.2]; show m q ≠ 3 + c; omega
    · omega
/-- x is free -/
theorem cm_x_bindEnds1 {post : Int32 → SX → Prop} {x y : Nat} (hH : cm_HX top k m l w ρ) (ht : top ≤ 2700) (htr : trail < 2700) (hn : cm_nl k top < 1000) (hx : x < top) (hk : k x = 0) (hl : l x = x) (hy : y < top) (hs : k y = 0 → l y = y) (hne : y ≠ x)
    (h0 : (w y).2 = 3 + x → post 0 (cm_X R nf fr nc ch M D (top, trail, k, m, l, tc))) (h1 : (w y).2 ≠ 3 + x → post 1 (cm_X R nf fr nc ch M D (top, trail + 1, k, m, cm_s l x y, cm_s tc trail x))) : wpX_bindEnds post (cm_X R nf fr nc ch M D (top, trail, k, m, l, tc)) (nI x) (nI y) := by
  unfold wpX_bindEnds cm_X
  dsimp only
  show wpX_isFree _ (cm_X R nf fr nc ch M D (top, trail, k, m, l, tc)) (nI x)
  refine cm_x_isFree hH ht hx (fun _ _ => br_f (by decide) ?_) (fun z => absurd ⟨hk, hl⟩ z)
  unfold wX_bindEnds_13
  show wpX_isFree _ (cm_X R nf fr nc ch M D (top, trail, k, m, l, tc)) (nI x)
  refine cm_x_isFree hH ht hx (fun _ _ => br_f (by decide) ?_) (fun z => absurd ⟨hk, hl⟩ z)
  exact cm_x_bind27 (M := M) hH ht htr hn hx hk hl hy hs hne h0 h1
/-- x isn't free, y is -/
theorem cm_x_bindEnds2 {post : Int32 → SX → Prop} {x y : Nat} (hH : cm_HX top k m l w ρ) (ht : top ≤ 2700) (htr : trail < 2700) (hn : cm_nl k top < 1000) (hx : x < top) (hf : ¬ (k x = 0 ∧ l x = x)) (hy : y < top) (hk : k y = 0) (hl : l y = y) (hs : k x = 0 → l x = x)
    (h0 : (w x).2 = 3 + y → post 0 (cm_X R nf fr nc ch M D (top, trail, k, m, l, tc))) (h1 : (w x).2 ≠ 3 + y → post 1 (cm_X R nf fr nc ch M D (top, trail + 1, k, m, cm_s l y x, cm_s tc trail y))) : wpX_bindEnds post (cm_X R nf fr nc ch M D (top, trail, k, m, l, tc)) (nI x) (nI y) := by
  have hne : x ≠ y := by intro e; rw [e] at hf; exact hf ⟨hk, hl⟩
  unfold wpX_bindEnds cm_X
  dsimp only
  show wpX_isFree _ (cm_X R nf fr nc ch M D (top, trail, k, m, l, tc)) (nI x)
  refine cm_x_isFree hH ht hx (fun a b => absurd ⟨a, b⟩ hf) (fun _ => br_t rfl ?_)
  unfold wX_bindEnds_13
  show wpX_isFree _ (cm_X R nf fr nc ch M D (top, trail, k, m, l, tc)) (nI x)
  refine cm_x_isFree hH ht hx (fun a b => absurd ⟨a, b⟩ hf) (fun _ => br_t rfl ?_)
  exact cm_x_bind27 (M := M) hH ht htr hn hy hk hl hx hs hne h0 h1
end cmX1
end
section
section cmX2
variable {R : cm_RT} {nf : Nat} {fr : cm_FT} {nc : Nat} {ch : cm_CT} {M : cm_MT} {D : cm_DT} {top trail : Nat} {k m l tc : Nat → Nat} {w : Nat → cm_W} {ρ : Nat → Nat}
theorem cm_u_self (a : cm_W) : cm_u a a = some none := by
  obtain ⟨ls, e⟩ := a
  show cm_U ls e ls e = some none
  induction ls with
  | nil => rw [cm_U_nn, if_pos rfl]
  | cons b bs ih => rw [cm_U_cc, if_pos rfl]; exact ih
theorem cm_u_free1 {V : Nat} {b : cm_W} (hV : 3 ≤ V) (h : b.1 = [] → b.2 ≠ V) : cm_u ([], V) b = if b.2 = V then none else some (some (V, b)) := by
  obtain ⟨bl, be⟩ := b
  show cm_U [] V bl be = if be = V then none else some (some (V, (bl, be)))
  cases bl with
  | nil =>
    have h1 : be ≠ V := h rfl
    rw [cm_U_nn, if_neg (fun e => h1 e.symm), if_pos hV, if_neg h1]
  | cons b bs =>
    rw [cm_U_nc, if_pos hV]
    by_cases e : be = V
    · rw [if_pos e, if_pos e.symm]
    · rw [if_neg e, if_neg (fun z => e z.symm)]
theorem cm_u_free2 {V : Nat} {a : cm_W} (hV : 3 ≤ V) (h : a.1 = [] → a.2 < 3) : cm_u a ([], V) = if a.2 = V then none else some (some (V, a)) := by
  obtain ⟨al, ae⟩ := a
  show cm_U al ae [] V = if ae = V then none else some (some (V, (al, ae)))
  cases al with
  | nil =>
    have h1 : ae < 3 := h rfl
    rw [cm_U_nn, if_neg (by omega), if_neg (by omega), if_pos hV, if_neg (by omega)]
  | cons b bs => rw [cm_U_cn, if_pos hV]
theorem cm_x_unify_l {post : Int32 → SX → Prop} (hH : cm_HX top k m l w ρ) (ht : top ≤ 2700) (htr : trail < 2700) (hnl : cm_nl k top < 1000) : ∀ n x y i, x < top → (k x = 0 → l x = x) → y < top → (k y = 0 → l y = y) → (w x).1.length < n → i + (w x).1.length < 1000 →
    (cm_u (w x) (w y) = none → post 0 (cm_X R nf fr nc ch M D (top, trail, k, m, l, tc))) → (cm_u (w x) (w y) = some none → post 1 (cm_X R nf fr nc ch M D (top, trail, k, m, l, tc))) → (∀ c q, c < top → q < top → k c = 0 → l c = c → cm_u (w x) (w y) = some (some (3 + c, w q)) → post 1 (cm_X R nf fr nc ch M D (top, trail + 1, k, m, cm_s l c q, cm_s tc trail c))) →
    wX_unify_16 post (nI R.1) (nI top) (nI trail) (nI nf) (nI nc) (nI M.1) (nI M.2.1) (nI M.2.2.1) (nI M.2.2.2.1) (nI M.2.2.2.2.1) (nI M.2.2.2.2.2.1) (nI M.2.2.2.2.2.2.1) (nI D.1) (nI M.2.2.2.2.2.2.2) (cm_A R.2.1) (cm_A R.2.2.1) (cm_A R.2.2.2.1) (cm_A R.2.2.2.2) (cm_A k) (cm_A m) (cm_A l) (cm_A tc) (cm_A (fun i => (fr i).1)) (cm_A (fun i => (fr i).2.1)) (cm_A (fun i => (fr i).2.2.1)) (cm_A (fun i => (fr i).2.2.2)) (cm_A (fun i => (ch i).1)) (cm_A (fun i => (ch i).2.1)) (cm_A (fun i => (ch i).2.2.1)) (cm_A (fun i => (ch i).2.2.2.1)) (cm_A (fun i => (ch i).2.2.2.2.1)) (cm_A (fun i => (ch i).2.2.2.2.2.1)) (cm_A (fun i => (ch i).2.2.2.2.2.2.1)) (cm_A (fun i => (ch i).2.2.2.2.2.2.2.1)) (cm_A (fun i => (ch i).2.2.2.2.2.2.2.2)) (cm_A D.2) n (nI x) (nI y) (nI i) := by
  intro n
  induction n with
  | zero => intro x y i _ _ _ _ hn; omega
  | succ n ih =>
    intro x y i hx hsx hy hsy hn hi p0 p1 p2
    have hkx := cm_HX_k hH hx
    have hky := cm_HX_k hH hy
    have vx : vp_in (nI x) 2700 := vp_in_nI (by omega) (by decide)
    have vy : vp_in (nI y) 2700 := vp_in_nI (by omega) (by decide)
    refine br_f (nI_ge (b := 1000) (by omega) (by decide)) (pk_eq x y (fun e => ?_) (fun hne => ?_) rfl rfl (by omega) (by omega))
    · subst e; exact p1 (cm_u_self _)
    · refine cm_x_isFree (M := M) hH ht hx (fun fk fl => br_f (by decide) ?_) (fun nfx => br_t rfl ?_)
      · have hu : cm_u (w x) (w y) = if (w y).2 = 3 + x then none else some (some (3 + x, w y)) := by
          rw [cm_HX_free hH hx fk fl]
          refine cm_u_free1 (by omega) (fun e1 e2 => ?_)
          rcases hH y hy with a | a | a | a
          · rw [a.2.2] at e2; dsimp only at e2; omega
          · exact absurd (hsy a.1) a.2.1
          · rw [a.2.2] at e2; dsimp only at e2; omega
          · rw [a.2.2.2.1] at e1; cases e1
        unfold wX_unify_47
        show wpX_bindEnds _ (cm_X R nf fr nc ch M D (top, trail, k, m, l, tc)) (nI x) (nI y)
        refine cm_x_bindEnds1 hH ht htr hnl hx fk fl hy hsy (fun z => hne z.symm) (fun e => ⟨by trivial, p0 ?_⟩) (fun e => ⟨by trivial, p2 x y hx hy fk fl ?_⟩)
        · rw [hu, if_pos e]
        · rw [hu, if_neg e]
      · refine cm_x_isFree (M := M) hH ht hy (fun fk fl => br_f (by decide) ?_) (fun nfy => br_t rfl ⟨vx, vy, ?_⟩)
        · have hu : cm_u (w x) (w y) = if (w x).2 = 3 + y then none else some (some (3 + y, w x)) := by
            rw [cm_HX_free hH hy fk fl]
            refine cm_u_free2 (by omega) (fun e1 => ?_)
            rcases hH x hx with a | a | a | a
            · exact absurd ⟨a.1, a.2.1⟩ nfx
            · exact absurd (hsx a.1) a.2.1
            · rw [a.2.2]; exact a.2.1
            · rw [a.2.2.2.1] at e1; cases e1
          unfold wX_unify_47
          show wpX_bindEnds _ (cm_X R nf fr nc ch M D (top, trail, k, m, l, tc)) (nI x) (nI y)
          refine cm_x_bindEnds2 hH ht htr hnl hx nfx hy fk fl hsx (fun e => ⟨by trivial, p0 ?_⟩) (fun e => ⟨by trivial, p2 y x hy hx fk fl ?_⟩)
          · rw [hu, if_pos e]
          · rw [hu, if_neg e]
        · have k0 : k x ≠ 0 := fun z => nfx ⟨z, hsx z⟩
          have k1 : k y ≠ 0 := fun z => nfy ⟨z, hsy z⟩
          have hmx := cm_HX_m hH hx k0
          have hmy := cm_HX_m hH hy k1
          have h97 : cm_u (w x) (w y) = (if k x = 1 ∧ k y = 1 ∧ m x = m y then some none else none) → wX_unify_97 post (nI x) (nI y) (nI R.1) (nI top) (nI trail) (nI nf) (nI nc) (nI M.1) (nI M.2.1) (nI M.2.2.1) (nI M.2.2.2.1) (nI M.2.2.2.2.1) (nI M.2.2.2.2.2.1) (nI M.2.2.2.2.2.2.1) (nI D.1) (nI M.2.2.2.2.2.2.2) (cm_A R.2.1) (cm_A R.2.2.1) (cm_A R.2.2.2.1) (cm_A R.2.2.2.2) (cm_A k) (cm_A m) (cm_A l) (cm_A tc) (cm_A (fun i => (fr i).1)) (cm_A (fun i => (fr i).2.1)) (cm_A (fun i => (fr i).2.2.1)) (cm_A (fun i => (fr i).2.2.2)) (cm_A (fun i => (ch i).1)) (cm_A (fun i => (ch i).2.1)) (cm_A (fun i => (ch i).2.2.1)) (cm_A (fun i => (ch i).2.2.2.1)) (cm_A (fun i => (ch i).2.2.2.2.1)) (cm_A (fun i => (ch i).2.2.2.2.2.1)) (cm_A (fun i => (ch i).2.2.2.2.2.2.1)) (cm_A (fun i => (ch i).2.2.2.2.2.2.2.1)) (cm_A (fun i => (ch i).2.2.2.2.2.2.2.2)) (cm_A D.2) := by
            intro hu
            unfold wX_unify_97
            refine ⟨vx, pk_eq (k x) 1 (fun a => ⟨vy, pk_eq (k y) 1 (fun b => ⟨vx, vy, ?_⟩) (fun b => p0 (by rw [hu, if_neg (by omega)])) (cm_rd (by omega)) rfl (by omega) (by omega)⟩) (fun a => p0 (by rw [hu, if_neg (by omega)])) (cm_rd (by omega)) rfl (by omega) (by omega)⟩
            rw [cm_rd (f := m) (c := x) (by omega), cm_rd (f := m) (c := y) (by omega)]
            exact pk_eq (m x) (m y) (fun d => p1 (by rw [hu, if_pos ⟨a, b, d⟩])) (fun d => p0 (by rw [hu, if_neg (by omega)])) rfl rfl (by omega) (by omega)
          rw [cm_rd (f := k) (c := x) (by omega), cm_rd (f := k) (c := y) (by omega)]
          refine pk_eq (k x) (k y) (fun e1 => ⟨vx, vy, ?_⟩) (fun e1 => h97 ?_) rfl rfl (by omega) (by omega)
          · rw [cm_rd (f := m) (c := x) (by omega), cm_rd (f := m) (c := y) (by omega)]
            refine pk_eq (m x) (m y) (fun e2 => ⟨vx, ?_⟩) (fun e2 => h97 ?_) rfl rfl (by omega) (by omega)
            · refine pk_eq (k x) 1 (fun e3 => h97 ?_) (fun e3 => ⟨vx, ?_⟩) rfl rfl (by omega) (by omega)
              · rw [cm_HX_con hH hx e3, cm_HX_con hH hy (by omega), if_pos ⟨e3, by omega, e2⟩, e2]
                exact cm_u_self _
              · obtain ⟨lx, wx⟩ := cm_HX_let hH hx (by omega)
                obtain ⟨ly, wy⟩ := cm_HX_let hH hy (by omega)
                have hu : cm_u (w x) (w y) = cm_u (w (l x)) (w (l y)) := by
                  rw [wx, wy]
                  show cm_U (m x :: (w (l x)).1) (w (l x)).2 (m y :: (w (l y)).1) (w (l y)).2 = _
                  rw [cm_U_cc, if_pos e2]; rfl
                rw [hu] at p0 p1 p2
                rw [wx] at hn hi
                dsimp only [List.length_cons] at hn hi
                refine cm_x_deref (M := M) hH ht lx (cm_rd (by omega)) fun d hd hsd hwd => ⟨vy, ?_⟩
                refine cm_x_deref (M := M) hH ht ly (cm_rd (by omega)) fun d' hd' hsd' hwd' => nm_r (nI_1 i) ?_
                rw [← hwd, ← hwd'] at p0 p1 p2
                exact ih d d' (i + 1) hd hsd hd' hsd' (by rw [hwd]; omega) (by rw [hwd]; omega) p0 p1 p2
            · rw [if_neg (by omega)]
              by_cases e3 : k x = 1
              · rw [cm_HX_con hH hx e3, cm_HX_con hH hy (by omega)]
                show cm_U [] (m x) [] (m y) = none
                rw [cm_U_nn, if_neg e2, if_neg (by omega), if_neg (by omega)]
              · rw [(cm_HX_let hH hx (by omega)).2, (cm_HX_let hH hy (by omega)).2]
                show cm_U (m x :: _) _ (m y :: _) _ = none
                rw [cm_U_cc, if_neg e2]
          · rw [if_neg (by omega)]
            by_cases e3 : k x = 1
            · rw [cm_HX_con hH hx e3, (cm_HX_let hH hy (by omega)).2]
              show cm_U [] (m x) (m y :: _) _ = none
              rw [cm_U_nc, if_neg (by omega)]
            · rw [(cm_HX_let hH hx (by omega)).2, cm_HX_con hH hy (by omega)]
              show cm_U (m x :: _) _ [] (m y) = none
              rw [cm_U_cn, if_neg (by omega)]
theorem cm_x_unify {post : Int32 → SX → Prop} {x y : Int32} {a b : Nat} (hH : cm_HX top k m l w ρ) (ht : top ≤ 2700) (htr : trail < 2700) (hnl : cm_nl k top < 1000) (ha : a < top) (hb : b < top) (ex : x = nI a) (ey : y = nI b)
    (p0 : cm_u (w a) (w b) = none → post 0 (cm_X R nf fr nc ch M D (top, trail, k, m, l, tc))) (p1 : cm_u (w a) (w b) = some none → post 1 (cm_X R nf fr nc ch M D (top, trail, k, m, l, tc))) (p2 : ∀ c q, c < top → q < top → k c = 0 → l c = c → cm_u (w a) (w b) = some (some (3 + c, w q)) → post 1 (cm_X R nf fr nc ch M D (top, trail + 1, k, m, cm_s l c q, cm_s tc trail c))) : wpX_unify post (cm_X R nf fr nc ch M D (top, trail, k, m, l, tc)) x y := by
  have hla := cm_HX_len hH ha
  unfold wpX_unify cm_X
  dsimp only
  show wpX_deref _ (cm_X R nf fr nc ch M D (top, trail, k, m, l, tc)) x
  refine cm_x_deref hH ht ha ex fun d hd hs hw => ?_
  show wpX_deref _ (cm_X R nf fr nc ch M D (top, trail, k, m, l, tc)) y
  refine cm_x_deref hH ht hb ey fun d' hd' hs' hw' => ⟨1001, ?_⟩
  rw [← hw, ← hw'] at p0 p1 p2
  exact cm_x_unify_l (M := M) hH ht htr hnl 1001 d d' 0 hd hs hd' hs' (by rw [hw]; omega) (by rw [hw]; omega) p0 p1 p2
end cmX2
end
section
/-! the letters of a term; a term built -/
def cm_sp (w : Nat) : Nat → cm_DT → cm_DT
  | 0, D => D
  | i + 1, D => if w / 2 ^ (2 * i) % 2 ^ 2 = 0 then cm_sp w i D else cm_sp w i (D.1 + 1, cm_s D.2 D.1 (w / 2 ^ (2 * i) % 2 ^ 2 - 1))
def cm_spl (w : Nat) : Nat → List Nat
  | 0 => []
  | i + 1 => if w / 2 ^ (2 * i) % 2 ^ 2 = 0 then cm_spl w i else (w / 2 ^ (2 * i) % 2 ^ 2 - 1) :: cm_spl w i
theorem cm_sp_ok (w : Nat) : ∀ i D, (cm_sp w i D).1 = D.1 + (cm_spl w i).length ∧ (∀ j, j < D.1 → (cm_sp w i D).2 j = D.2 j) ∧ (∀ j, j < (cm_spl w i).length → (cm_sp w i D).2 (D.1 + j) = (cm_spl w i).getD j 0)
  | 0, D => ⟨rfl, fun _ _ => rfl, fun j hj => absurd hj (Nat.not_lt_zero j)⟩
  | i + 1, D => by
    unfold cm_sp cm_spl
    split
    · exact cm_sp_ok w i D
    · obtain ⟨a1, a2, a3⟩ := cm_sp_ok w i (D.1 + 1, cm_s D.2 D.1 (w / 2 ^ (2 * i) % 2 ^ 2 - 1))
      refine ⟨?_, ?_, ?_⟩
      · rw [a1, List.length_cons]; dsimp only; omega
      · intro j hj
        rw [a2 j (by dsimp only; omega)]
        exact cm_sn (by omega)
      · intro j hj
        cases j with
        | zero =>
          exact (a2 D.1 (by dsimp only; omega)).trans cm_ss
        | succ j =>
          rw [List.length_cons] at hj
          have := a3 j (by omega)
          dsimp only at this
          rw [show D.1 + (j + 1) = D.1 + 1 + j by omega, this]
          rfl
theorem cm_spl_lw : ∀ w, w < 256 → cm_bt 5 w = 0 → cm_spl w 4 = cm_lw w := by decide +kernel
theorem cm_sh2 : ∀ i, i < 4 → ((2 * nI i &&& 31).toBitVec.smod 32).toNat = 2 * i := by decide
section cmX3
variable {R : cm_RT} {nf : Nat} {fr : cm_FT} {nc : Nat} {ch : cm_CT} {M : cm_MT} {D : cm_DT} {top trail : Nat} {k m l tc : Nat → Nat} {w : Nat → cm_W} {ρ : Nat → Nat}
theorem cm_x_spread_l {post : SX → Prop} {wd : Nat} (hw : wd < 2 ^ 31) : ∀ i (D : cm_DT) n, i < n → D.1 + i ≤ 4 → post (cm_X R nf fr nc ch M (cm_sp wd i D) (top, trail, k, m, l, tc)) → wX_spread_12 post (nI wd) (nI R.1) (nI top) (nI trail) (nI nf) (nI nc) (nI M.1) (nI M.2.1) (nI M.2.2.1) (nI M.2.2.2.1) (nI M.2.2.2.2.1) (nI M.2.2.2.2.2.1) (nI M.2.2.2.2.2.2.1) (nI M.2.2.2.2.2.2.2) n (nI i - 1) (nI D.1) (cm_A R.2.1) (cm_A R.2.2.1) (cm_A R.2.2.2.1) (cm_A R.2.2.2.2) (cm_A k) (cm_A m) (cm_A l) (cm_A tc) (cm_A (fun i => (fr i).1)) (cm_A (fun i => (fr i).2.1)) (cm_A (fun i => (fr i).2.2.1)) (cm_A (fun i => (fr i).2.2.2)) (cm_A (fun i => (ch i).1)) (cm_A (fun i => (ch i).2.1)) (cm_A (fun i => (ch i).2.2.1)) (cm_A (fun i => (ch i).2.2.2.1)) (cm_A (fun i => (ch i).2.2.2.2.1)) (cm_A (fun i => (ch i).2.2.2.2.2.1)) (cm_A (fun i => (ch i).2.2.2.2.2.2.1)) (cm_A (fun i => (ch i).2.2.2.2.2.2.2.1)) (cm_A (fun i => (ch i).2.2.2.2.2.2.2.2)) (cm_A D.2) := by
  intro i
  induction i with
  | zero =>
    intro D n hn _ H
    obtain ⟨n, rfl⟩ : ∃ q, n = q + 1 := ⟨n - 1, by omega⟩
    exact br_t (by decide) H
  | succ i ih =>
    intro D n hn hD H
    obtain ⟨n, rfl⟩ : ∃ q, n = q + 1 := ⟨n - 1, by omega⟩
    rw [nI_pred]
    refine br_f (nI_pos (by omega)) ?_
    have e : (nI wd >>> ((2 * nI i) &&& 31)) &&& 3 = nI (wd / 2 ^ (2 * i) % 2 ^ 2) := by
      rw [pk_shrN hw _ (2 * i) (cm_sh2 i (by omega))]
      exact pk_andN (Nat.lt_of_le_of_lt (Nat.div_le_self _ _) (by omega)) 2 (by decide)
    have hd : wd / 2 ^ (2 * i) % 2 ^ 2 < 4 := Nat.mod_lt _ (by decide)
    refine nm_r e (pk_le (wd / 2 ^ (2 * i) % 2 ^ 2) 0 (fun h0 => nm_r (Int32.sub_eq_add_neg _ _).symm ?_) (fun h0 => ⟨vp_in_nI (by omega) (by decide), ?_⟩) rfl rfl (by omega) (by omega))
    · refine ih D n (by omega) (by omega) ?_
      unfold cm_sp at H
      rw [if_pos (by omega)] at H
      exact H
    · rw [cm_sub1 h0]
      refine nm_r (cm_wr (by omega)) (nm_r (nI_1 _) (nm_r (Int32.sub_eq_add_neg _ _).symm ?_))
      refine ih (D.1 + 1, cm_s D.2 D.1 (wd / 2 ^ (2 * i) % 2 ^ 2 - 1)) n (by omega) (by dsimp only; omega) ?_
      unfold cm_sp at H
      rw [if_neg (by omega)] at H
      exact H
theorem cm_x_spread {post : SX → Prop} {t : Nat} {x : Int32} (hv : cm_VT t) (ex : x = nI t) (H : ∀ dg, (∀ i, i < (cm_lt t).length → dg i = cm_la t i) → post (cm_X R nf fr nc ch M (((cm_lt t).length, dg)) (top, trail, k, m, l, tc))) : wpX_spread post (cm_X R nf fr nc ch M D (top, trail, k, m, l, tc)) x := by
  subst ex
  have ht := cm_VT_t hv
  unfold wpX_spread cm_X
  dsimp only
  refine ⟨by decide, nm_r (pk_div (d := 7) (by omega) (by decide) (by decide)) ⟨5, ?_⟩⟩
  refine cm_x_spread_l (M := M) (wd := t / 7) (by omega) 4 (0, D.2) 5 (by omega) (by dsimp only; omega) ?_
  obtain ⟨a1, _, a3⟩ := cm_sp_ok (t / 7) 4 (0, D.2)
  have e := cm_spl_lw (t / 7) (cm_VT_lt hv) hv
  rw [e] at a1 a3
  have := H (cm_sp (t / 7) 4 (0, D.2)).2 (fun i hi => by have := a3 i hi; dsimp only at this; rw [Nat.zero_add] at this; exact this)
  rw [show (cm_lt t).length = (cm_sp (t / 7) 4 (0, D.2)).1 by rw [a1]; dsimp only; rw [Nat.zero_add]; rfl] at this
  exact this
/-- cells more, words as they were -/
def cm_NW (H : cm_HT) (w : Nat → cm_W) (H' : cm_HT) (w' : Nat → cm_W) (d n : Nat) : Prop :=
  cm_EX H H' ∧ H'.1 ≤ H.1 + d ∧ H'.2.1 = H.2.1 ∧ (∀ c, c < H.1 → w' c = w c) ∧ cm_nl H'.2.2.1 H'.1 = cm_nl H.2.2.1 H.1 + n ∧ ∃ ρ', cm_HX H'.1 H'.2.2.1 H'.2.2.2.1 H'.2.2.2.2.1 w' ρ'
theorem cm_NW_trans {H H' H'' : cm_HT} {w w' w'' : Nat → cm_W} {d d' n n' : Nat} (h : cm_NW H w H' w' d n) (h' : cm_NW H' w' H'' w'' d' n') : cm_NW H w H'' w'' (d + d') (n + n') := by
  obtain ⟨a1, a2, a3, a4, a5, _⟩ := h
  obtain ⟨b1, b2, b3, b4, b5, b6⟩ := h'
  exact ⟨cm_EX_trans a1 b1, by omega, by omega, fun c hc => (b4 c (Nat.lt_of_lt_of_le hc a1.1)).trans (a4 c hc), by omega, b6⟩
theorem cm_NW_refl {H : cm_HT} {w : Nat → cm_W} {ρ : Nat → Nat} (h : cm_HX H.1 H.2.2.1 H.2.2.2.1 H.2.2.2.2.1 w ρ) : cm_NW H w H w 0 0 :=
  ⟨cm_EX_refl H, Nat.le_refl _, rfl, fun _ _ => rfl, rfl, ρ, h⟩
theorem cm_NW_cell {top trail : Nat} {k m l tc : Nat → Nat} {w : Nat → cm_W} {ρ : Nat → Nat} (h : cm_HX top k m l w ρ) {kd mk lk : Nat} {wd : cm_W}
    (e : (kd = 0 ∧ lk = top ∧ wd = ([], 3 + top)) ∨ (kd = 1 ∧ mk < 3 ∧ wd = ([], mk)) ∨ (kd = 2 ∧ mk < 3 ∧ lk < top ∧ wd = (mk :: (w lk).1, (w lk).2))) :
    cm_NW (top, trail, k, m, l, tc) w (top + 1, trail, cm_s k top kd, cm_s m top mk, cm_s l top lk, tc) (cm_s w top wd) 1 (if kd = 2 then 1 else 0) := by
  refine ⟨cm_EX_cell _ _ _ _ _ _ _ _ _, Nat.le_refl _, rfl, fun c hc => cm_sn (by dsimp only at hc; omega), cm_nl_new, cm_s ρ top (ρ lk + 1), cm_HX_new h kd mk lk wd (ρ lk + 1) ?_⟩
  rcases e with e | e | ⟨e1, e2, e3, e4⟩
  · exact Or.inl e
  · exact Or.inr (Or.inl e)
  · exact Or.inr (Or.inr ⟨e1, e2, e3, e4, Nat.lt_succ_self _⟩)
theorem cm_x_build_l {post : Int32 → SX → Prop} {t : Nat} (hv : cm_VT t) (hd : ∀ i, i < (cm_lt t).length → D.2 i = cm_la t i) : ∀ j n at' top trail k m l tc w ρ, j < n → j ≤ (cm_lt t).length → cm_HX top k m l w ρ → at' < top → top + j ≤ 2700 →
    (∀ a H' w', cm_NW (top, trail, k, m, l, tc) w H' w' j j → a < H'.1 → w' a = ((cm_lt t).take j ++ (w at').1, (w at').2) → post (nI a) (cm_X R nf fr nc ch M D H')) → wX_build_40 post n (nI at') (nI j - 1) (nI R.1) (nI top) (nI trail) (nI nf) (nI nc) (nI M.1) (nI M.2.1) (nI M.2.2.1) (nI M.2.2.2.1) (nI M.2.2.2.2.1) (nI M.2.2.2.2.2.1) (nI M.2.2.2.2.2.2.1) (nI D.1) (nI M.2.2.2.2.2.2.2) (cm_A R.2.1) (cm_A R.2.2.1) (cm_A R.2.2.2.1) (cm_A R.2.2.2.2) (cm_A k) (cm_A m) (cm_A l) (cm_A tc) (cm_A (fun i => (fr i).1)) (cm_A (fun i => (fr i).2.1)) (cm_A (fun i => (fr i).2.2.1)) (cm_A (fun i => (fr i).2.2.2)) (cm_A (fun i => (ch i).1)) (cm_A (fun i => (ch i).2.1)) (cm_A (fun i => (ch i).2.2.1)) (cm_A (fun i => (ch i).2.2.2.1)) (cm_A (fun i => (ch i).2.2.2.2.1)) (cm_A (fun i => (ch i).2.2.2.2.2.1)) (cm_A (fun i => (ch i).2.2.2.2.2.2.1)) (cm_A (fun i => (ch i).2.2.2.2.2.2.2.1)) (cm_A (fun i => (ch i).2.2.2.2.2.2.2.2)) (cm_A D.2) := by
  intro j
  induction j with
  | zero =>
    intro n at' top trail k m l tc w ρ hn _ hH ha _ P
    obtain ⟨n, rfl⟩ : ∃ q, n = q + 1 := ⟨n - 1, by omega⟩
    exact br_t (by decide) (P at' (top, trail, k, m, l, tc) w (cm_NW_refl hH) ha rfl)
  | succ j ih =>
    intro n at' top trail k m l tc w ρ hn hj hH ha ht P
    obtain ⟨n, rfl⟩ : ∃ q, n = q + 1 := ⟨n - 1, by omega⟩
    have h4 := cm_lt_len t
    rw [nI_pred]
    refine br_f (nI_pos (by omega)) ⟨vp_in_nI (by omega) (by decide), ?_⟩
    rw [cm_rd (by omega), hd j (by omega)]
    show wpX_cell _ (cm_X R nf fr nc ch M D (top, trail, k, m, l, tc)) (nI 2) (nI (cm_la t j)) (nI at')
    refine cm_x_cell (by omega) (nm_r (Int32.sub_eq_add_neg _ _).symm ?_)
    have hN := cm_NW_cell (trail := trail) (tc := tc) hH (kd := 2) (mk := cm_la t j) (lk := at') (wd := (cm_la t j :: (w at').1, (w at').2)) (Or.inr (Or.inr ⟨rfl, cm_la_lt hv (by omega), ha, rfl⟩))
    obtain ⟨ρ', hH'⟩ := hN.2.2.2.2.2
    refine ih n top (top + 1) trail _ _ _ tc _ ρ' (by omega) (by omega) hH' (Nat.lt_succ_self _) (by omega) ?_
    intro a H' w' hN' ha' hw'
    refine P a H' w' ?_ ha' ?_
    · have := cm_NW_trans hN hN'
      rw [if_pos rfl, Nat.add_comm 1 j] at this
      exact this
    · rw [hw', cm_ss]
      dsimp only
      refine Prod.ext ?_ rfl
      dsimp only
      have h5 : (cm_lt t).take (j + 1) = (cm_lt t).take j ++ [cm_la t j] := by
        rw [List.take_succ]
        refine congrArg _ ?_
        unfold cm_la
        rw [List.getD_eq_getElem?_getD, List.getElem?_eq_getElem (show j < (cm_lt t).length by omega)]
        rfl
      rw [h5, List.append_assoc]
      rfl
/-- the word of a term whose variables' cells begin at b -/
def cm_tw (w : Nat → cm_W) (b t : Nat) : cm_W := if t % 7 < 3 then (cm_lt t, t % 7) else (cm_lt t ++ (w (b + (t % 7 - 3))).1, (w (b + (t % 7 - 3))).2)
theorem cm_x_build {post : Int32 → SX → Prop} {t b : Nat} {x y : Int32} (hv : cm_VT t) (hH : cm_HX top k m l w ρ) (hb : b + 3 < top) (ht : top + 5 ≤ 2700) (ex : x = nI t) (ey : y = nI b)
    (P : ∀ a D' H' w', cm_NW (top, trail, k, m, l, tc) w H' w' 5 (cm_lt t).length → a < H'.1 → w' a = cm_tw w b t → post (nI a) (cm_X R nf fr nc ch M D' H')) : wpX_build post (cm_X R nf fr nc ch M D (top, trail, k, m, l, tc)) x y := by
  subst ex
  subst ey
  have ht7 := cm_VT_t hv
  have h4 := cm_lt_len t
  have h7 : t % 7 < 7 := Nat.mod_lt _ (by decide)
  unfold wpX_build cm_X
  dsimp only
  show wpX_spread _ (cm_X R nf fr nc ch M D (top, trail, k, m, l, tc)) (nI t)
  refine cm_x_spread hv rfl fun dg hdg => ⟨by decide, nm_r (pk_rem (d := 7) (by omega) (by decide) (by decide)) ?_⟩
  refine pk_le 3 (t % 7) (fun h3 => ?_) (fun h3 => ?_) rfl rfl (by omega) (by omega)
  · refine nm_r (e' := nI (b + (t % 7 - 3))) ?_ (nm_e ⟨5, ?_⟩)
    · rw [nI_add]
      exact (pk_sub (a := b + t % 7) (b := 3) (by omega)).trans (congrArg nI (by omega))
    · refine cm_x_build_l (M := M) (D := ((cm_lt t).length, dg)) hv hdg (cm_lt t).length 5 (b + (t % 7 - 3)) top trail k m l tc w ρ (by omega) (Nat.le_refl _) hH (by omega) (by omega) ?_
      intro a H' w' hN ha hw
      refine P a _ H' w' ⟨hN.1, by have := hN.2.1; omega, hN.2.2⟩ ha ?_
      rw [hw, List.take_length]
      unfold cm_tw
      rw [if_neg (by omega)]
  · show wpX_cell _ (cm_X R nf fr nc ch M (((cm_lt t).length, dg)) (top, trail, k, m, l, tc)) (nI 1) (nI (t % 7)) (nI 0)
    refine cm_x_cell (by omega) (nm_e ⟨5, ?_⟩)
    have hN := cm_NW_cell (trail := trail) (tc := tc) hH (kd := 1) (mk := t % 7) (lk := 0) (wd := ([], t % 7)) (Or.inr (Or.inl ⟨rfl, h3, rfl⟩))
    obtain ⟨ρ', hH'⟩ := hN.2.2.2.2.2
    refine cm_x_build_l (M := M) (D := ((cm_lt t).length, dg)) hv hdg (cm_lt t).length 5 top (top + 1) trail _ _ _ tc _ ρ' (by omega) (Nat.le_refl _) hH' (Nat.lt_succ_self _) (by omega) ?_
    intro a H' w' hN' ha hw
    have hT := cm_NW_trans hN hN'
    rw [if_neg (by decide), Nat.zero_add] at hT
    refine P a _ H' w' ⟨hT.1, by have := hT.2.1; omega, hT.2.2⟩ ha ?_
    rw [hw, List.take_length, cm_ss]
    unfold cm_tw
    rw [if_pos h3]
    dsimp only
    rw [List.append_nil]
end cmX3
end
section
/-! a head's term matched against a word -/
/-- what a match leaves: the outcome u of the words -/
def cm_MR (H : cm_HT) (w : Nat → cm_W) (u : Option (Option (Nat × cm_W))) (bt btr bn r : Nat) (H' : cm_HT) : Prop :=
  cm_EX H H' ∧ H'.1 ≤ bt ∧ H'.2.1 ≤ btr ∧ cm_nl H'.2.2.1 H'.1 ≤ bn ∧ ((r = 0 ∧ u = none) ∨ (r = 1 ∧ ∃ w' ρ', cm_HX H'.1 H'.2.2.1 H'.2.2.2.1 H'.2.2.2.2.1 w' ρ' ∧
    ((u = some none ∧ ∀ c, c < H.1 → w' c = w c) ∨ (∃ V q f g, u = some (some (V, q)) ∧ cm_FG f g ∧ ∀ c, c < H.1 → w' c = cm_ren f (cm_sub V q (w c)) ∧ cm_sub V q (w c) = cm_ren g (w' c)))))
theorem cm_sub_self (V : Nat) (a : cm_W) : cm_sub V ([], V) a = a := by
  by_cases e : a.2 = V
  · rw [cm_sub_eq e, List.append_nil, ← e]
  · exact cm_sub_ne e
theorem cm_ren_id (a : cm_W) : cm_ren (fun e => e) a = a := rfl
section cmX4
variable {R : cm_RT} {nf : Nat} {fr : cm_FT} {nc : Nat} {ch : cm_CT} {M : cm_MT} {D : cm_DT} {top trail : Nat} {k m l tc : Nat → Nat} {w : Nat → cm_W} {ρ : Nat → Nat}
/-- a letter made where the word ends in a free cell -/
theorem cm_mstep (hH : cm_HX top k m l w ρ) {x h : Nat} (hx : x < top) (hk : k x = 0) (hl : l x = x) (hh : h < 3) :
    ∃ w' ρ', cm_HX (top + 1 + 1) (cm_s (cm_s k top 0) (top + 1) 2) (cm_s (cm_s m top 0) (top + 1) h) (cm_s (cm_s (cm_s l top top) (top + 1) top) x (top + 1)) w' ρ' ∧ (∀ c, c < top → w' c = cm_sub (3 + x) ([h], 3 + top) (w c))
      ∧ cm_EX (top, trail, k, m, l, tc) (top + 1 + 1, trail + 1, cm_s (cm_s k top 0) (top + 1) 2, cm_s (cm_s m top 0) (top + 1) h, cm_s (cm_s (cm_s l top top) (top + 1) top) x (top + 1), cm_s tc trail x)
      ∧ cm_nl (cm_s (cm_s k top 0) (top + 1) 2) (top + 1 + 1) = cm_nl k top + 1 ∧ cm_s (cm_s k top 0) (top + 1) 2 top = 0 ∧ cm_s (cm_s (cm_s l top top) (top + 1) top) x (top + 1) top = top := by
  have n1 := cm_NW_cell (trail := trail) (tc := tc) hH (kd := 0) (mk := 0) (lk := top) (wd := ([], 3 + top)) (Or.inl ⟨rfl, rfl, rfl⟩)
  obtain ⟨ρ1, h1⟩ := n1.2.2.2.2.2
  have n2 := cm_NW_cell (trail := trail) (tc := tc) h1 (kd := 2) (mk := h) (lk := top) (wd := ([h], 3 + top)) (Or.inr (Or.inr ⟨rfl, hh, Nat.lt_succ_self _, by rw [cm_ss]⟩))
  obtain ⟨ρ2, h2⟩ := n2.2.2.2.2.2
  dsimp only at h1 h2
  have kx : cm_s (cm_s k top 0) (top + 1) 2 x = 0 := by rw [cm_sn (by omega), cm_sn (by omega)]; exact hk
  have lx : cm_s (cm_s l top top) (top + 1) top x = x := by rw [cm_sn (by omega), cm_sn (by omega)]; exact hl
  have ew : cm_s (cm_s w top ([], 3 + top)) (top + 1) ([h], 3 + top) (top + 1) = ([h], 3 + top) := cm_ss
  have h3 := cm_HX_bind h2 (c0 := x) (q := top + 1) (by omega) kx lx (by omega) (by rw [ew]; show 3 + top ≠ 3 + x; omega)
  refine ⟨_, _, h3, ?_, ?_, ?_, ?_, ?_⟩
  · intro c hc
    rw [ew, cm_sn (f := cm_s w top ([], 3 + top)) (by omega), cm_sn (f := w) (by omega)]
  · refine cm_EX_trans (cm_EX_trans n1.1 n2.1) (cm_EX_bind (by omega) lx)
  · rw [cm_nl_new, cm_nl_new]; rfl
  · rw [cm_sn (by omega)]; exact cm_ss
  · rw [cm_sn (by omega), cm_sn (by omega)]; exact cm_ss
/-- the end behind letters that were made -/
theorem cm_x_match_f2 {post : Int32 → SX → Prop} {b e n i x x0 top0 trail0 bt btr bn : Nat} {k0 m0 l0 tc0 ρ0 : Nat → Nat} {w0 : Nat → cm_W} {L : List Nat}
    (h0 : cm_HX top0 k0 m0 l0 w0 ρ0) (hE : cm_EX (top0, trail0, k0, m0, l0, tc0) (top, trail, k, m, l, tc)) (hH : cm_HX top k m l w ρ) (hx : x < top) (hk : k x = 0) (hl : l x = x) (hx2 : top0 ≤ x) (hL : L ≠ [])
    (hw : ∀ c, c < top0 → w c = cm_sub (3 + x0) (L, 3 + x) (w0 c)) (ht : top + 1 ≤ 2700) (htr : trail + 1 ≤ 2700) (hnl : cm_nl k top < 1000) (he : e < 7) (hb : 3 ≤ e → b + (e - 3) < top0) (hi : D.1 ≤ i) (hi2 : i < 2 ^ 31)
    (hbt : top + 1 ≤ bt) (hbr : trail + 1 ≤ btr) (hbn : cm_nl k top ≤ bn)
    (P : ∀ r H', cm_MR (top0, trail0, k0, m0, l0, tc0) w0 (cm_U (L ++ (if e < 3 then ([], e) else w0 (b + (e - 3))).1) (if e < 3 then ([], e) else w0 (b + (e - 3))).2 [] (3 + x0)) bt btr bn r H' → post (nI r) (cm_X R nf fr nc ch M D H')) :
    wX_match_21 post (nI b) (nI e) (n + 1) (nI x) (nI i) (nI R.1) (nI top) (nI trail) (nI nf) (nI nc) (nI M.1) (nI M.2.1) (nI M.2.2.1) (nI M.2.2.2.1) (nI M.2.2.2.2.1) (nI M.2.2.2.2.2.1) (nI M.2.2.2.2.2.2.1) (nI D.1) (nI M.2.2.2.2.2.2.2) (cm_A R.2.1) (cm_A R.2.2.1) (cm_A R.2.2.2.1) (cm_A R.2.2.2.2) (cm_A k) (cm_A m) (cm_A l) (cm_A tc) (cm_A (fun i => (fr i).1)) (cm_A (fun i => (fr i).2.1)) (cm_A (fun i => (fr i).2.2.1)) (cm_A (fun i => (fr i).2.2.2)) (cm_A (fun i => (ch i).1)) (cm_A (fun i => (ch i).2.1)) (cm_A (fun i => (ch i).2.2.1)) (cm_A (fun i => (ch i).2.2.2.1)) (cm_A (fun i => (ch i).2.2.2.2.1)) (cm_A (fun i => (ch i).2.2.2.2.2.1)) (cm_A (fun i => (ch i).2.2.2.2.2.2.1)) (cm_A (fun i => (ch i).2.2.2.2.2.2.2.1)) (cm_A (fun i => (ch i).2.2.2.2.2.2.2.2)) (cm_A D.2) := by
  refine br_t (nI_le hi hi2) (pk_lt e 3 (fun h3 => ?_) (fun h3 => ?_) rfl rfl (by omega) (by omega))
  · show wpX_isFree _ (cm_X R nf fr nc ch M D (top, trail, k, m, l, tc)) (nI x)
    refine cm_x_isFree hH (by omega) hx (fun _ _ => br_f (by decide) ?_) (fun z => absurd ⟨hk, hl⟩ z)
    show wpX_cell _ (cm_X R nf fr nc ch M D (top, trail, k, m, l, tc)) (nI 1) (nI e) (nI 0)
    refine cm_x_cell (by omega) ?_
    show wpX_bind _ (cm_X R nf fr nc ch M D (top + 1, trail, cm_s k top 1, cm_s m top e, cm_s l top 0, tc)) (nI x) (nI top)
    refine cm_x_bind (by omega) (by omega) ?_
    have n1 := cm_NW_cell (trail := trail) (tc := tc) hH (kd := 1) (mk := e) (lk := 0) (wd := ([], e)) (Or.inr (Or.inl ⟨rfl, h3, rfl⟩))
    obtain ⟨ρ1, h1⟩ := n1.2.2.2.2.2
    dsimp only at h1
    have kx : cm_s k top 1 x = 0 := by rw [cm_sn (by omega)]; exact hk
    have lx : cm_s l top 0 x = x := by rw [cm_sn (by omega)]; exact hl
    have ew : cm_s w top ([], e) top = ([], e) := cm_ss
    have h4 := cm_HX_bind h1 (c0 := x) (q := top) (by omega) kx lx (by omega) (by rw [ew]; show e ≠ 3 + x; omega)
    refine P 1 _ ⟨cm_EX_trans hE (cm_EX_trans n1.1 (cm_EX_bind (by omega) lx)), hbt, hbr, ?_, Or.inr ⟨rfl, _, _, h4, Or.inr ⟨3 + x0, (L, e), fun z => z, fun z => z, ?_, cm_FG_id, fun c hc => ?_⟩⟩⟩
    · have := n1.2.2.2.2.1
      rw [if_neg (by decide)] at this
      dsimp only at this ⊢
      omega
    · rw [if_pos h3, List.append_nil]
      cases L with
      | nil => exact absurd rfl hL
      | cons a as => rw [cm_U_cn, if_pos (by omega), if_neg (by dsimp only; omega)]
    · dsimp only at hc
      rw [cm_ren_id, cm_ren_id]
      have hlt := cm_HX_lt h0 hc
      have : cm_sub (3 + x) (cm_s w top ([], e) top) (cm_s w top ([], e) c) = cm_sub (3 + x0) (L, e) (w0 c) := by
        have ht0 := hE.1
        dsimp only at ht0
        rw [ew, cm_sn (show c ≠ top by omega), hw c hc, cm_sub_sub (a := w0 c) (x := 3 + x) (by omega), List.append_nil]
      exact ⟨this, this.symm⟩
  · have hz := hb h3
    have ht0 : top0 ≤ top := hE.1
    have hlt := cm_HX_lt h0 hz
    have ez := hw _ hz
    have wx := cm_HX_free hH hx hk hl
    rw [if_neg (by omega)] at P
    show wpX_unify _ (cm_X R nf fr nc ch M D (top, trail, k, m, l, tc)) _ _
    refine cm_x_unify hH (by omega) (by omega) hnl (a := b + (e - 3)) (b := x) (by omega) hx ?_ rfl (fun u0 => ⟨by trivial, P 0 _ ⟨hE, by dsimp only; omega, by dsimp only; omega, hbn, Or.inl ⟨rfl, ?_⟩⟩⟩) (fun u1 => ?_) (fun c q hc hq fk fl u2 => ⟨by trivial, ?_⟩)
    · rw [nI_add]
      exact (pk_sub (a := b + e) (b := 3) (by omega)).trans (congrArg nI (by omega))
    · -- no way
      rw [ez, wx] at u0
      by_cases e0 : (w0 (b + (e - 3))).2 = 3 + x0
      · rw [e0]
        cases L with
        | nil => exact absurd rfl hL
        | cons a as => rw [List.cons_append, cm_U_cn, if_pos (by omega), if_pos rfl]
      · rw [cm_sub_ne e0] at u0
        exfalso
        revert u0
        generalize w0 (b + (e - 3)) = z at *
        obtain ⟨zl, ze⟩ := z
        dsimp only at *
        unfold cm_u
        dsimp only
        cases zl with
        | nil =>
          rw [cm_U_nn, if_neg (by omega)]
          split
          · exact fun z => by cases z
          · rw [if_pos (by omega)]; exact fun z => by cases z
        | cons a as => rw [cm_U_cn, if_pos (by omega), if_neg (by omega)]; exact fun z => by cases z
    · -- never alike
      exfalso
      rw [ez, wx] at u1
      revert u1
      by_cases e0 : (w0 (b + (e - 3))).2 = 3 + x0
      · rw [cm_sub_eq e0]
        unfold cm_u
        dsimp only
        cases L with
        | nil => exact absurd rfl hL
        | cons a as =>
          cases (w0 (b + (e - 3))).1 with
          | nil => rw [List.nil_append, cm_U_cn, if_pos (by omega), if_pos rfl]; exact fun z => by cases z
          | cons a' as' => rw [List.cons_append, cm_U_cn, if_pos (by omega), if_pos rfl]; exact fun z => by cases z
      · rw [cm_sub_ne e0]
        generalize w0 (b + (e - 3)) = z at *
        obtain ⟨zl, ze⟩ := z
        dsimp only at *
        unfold cm_u
        dsimp only
        cases zl with
        | nil =>
          rw [cm_U_nn, if_neg (by omega)]
          split
          · exact fun z => by cases z
          · rw [if_pos (by omega)]; exact fun z => by cases z
        | cons a as => rw [cm_U_cn, if_pos (by omega), if_neg (by omega)]; exact fun z => by cases z
    · -- bound
      have ok := cm_U_ok _ _ u2
      have h4 := cm_HX_bind hH hc fk fl hq ok.2.1
      refine P 1 _ ⟨cm_EX_trans hE (cm_EX_bind hc fl), by dsimp only; omega, hbr, hbn, Or.inr ⟨rfl, _, _, h4, Or.inr ?_⟩⟩
      rw [ez, wx] at u2
      by_cases e0 : (w0 (b + (e - 3))).2 = 3 + x0
      · exfalso
        revert u2
        rw [cm_sub_eq e0]
        unfold cm_u
        dsimp only
        cases L with
        | nil => exact absurd rfl hL
        | cons a as =>
          cases (w0 (b + (e - 3))).1 with
          | nil => rw [List.nil_append, cm_U_cn, if_pos (by omega), if_pos rfl]; exact fun z => by cases z
          | cons a' as' => rw [List.cons_append, cm_U_cn, if_pos (by omega), if_pos rfl]; exact fun z => by cases z
      · rw [cm_sub_ne e0] at u2
        have hu : cm_U (L ++ (w0 (b + (e - 3))).1) (w0 (b + (e - 3))).2 [] (3 + x0) = some (some (3 + x0, (L ++ (w0 (b + (e - 3))).1, (w0 (b + (e - 3))).2))) := by
          cases L with
          | nil => exact absurd rfl hL
          | cons a as => rw [List.cons_append, cm_U_cn, if_pos (by omega), if_neg e0]
        by_cases ez2 : (w0 (b + (e - 3))).1 = [] ∧ 3 ≤ (w0 (b + (e - 3))).2
        · -- the head's variable is free: it goes to the made cell
          have u3 : cm_u (w0 (b + (e - 3))) ([], 3 + x) = some (some ((w0 (b + (e - 3))).2, ([], 3 + x))) := by
            unfold cm_u
            rw [ez2.1, cm_U_nn, if_neg (by omega), if_pos ez2.2]
          rw [u3] at u2
          injection u2 with u2
          injection u2 with u2
          injection u2 with u2 u4
          refine ⟨3 + x0, (L ++ (w0 (b + (e - 3))).1, (w0 (b + (e - 3))).2), cm_sw (w0 (b + (e - 3))).2 (3 + x), cm_sw (w0 (b + (e - 3))).2 (3 + x), hu, cm_FG_sw ez2.2 (by omega), fun d hd => ?_⟩
          dsimp only at hd
          have hdl := cm_HX_lt h0 hd
          have key : cm_sub (3 + c) (w q) (w d) = cm_ren (cm_sw (w0 (b + (e - 3))).2 (3 + x)) (cm_sub (3 + x0) (L ++ (w0 (b + (e - 3))).1, (w0 (b + (e - 3))).2) (w0 d)) := by
            rw [← u2, ← u4, hw d hd, ez2.1, List.append_nil]
            by_cases d0 : (w0 d).2 = 3 + x0
            · rw [cm_sub_eq d0, cm_sub_eq d0, cm_sub_ne (by dsimp only; omega)]
              refine Prod.ext rfl ?_
              show 3 + x = cm_sw _ _ (w0 (b + (e - 3))).2
              unfold cm_sw
              rw [if_pos rfl]
            · rw [cm_sub_ne d0, cm_sub_ne d0]
              by_cases d1 : (w0 d).2 = (w0 (b + (e - 3))).2
              · rw [cm_sub_eq d1, List.append_nil]
                refine Prod.ext rfl ?_
                show 3 + x = cm_sw _ _ (w0 d).2
                unfold cm_sw
                rw [if_pos d1]
              · rw [cm_sub_ne d1]
                refine Prod.ext rfl ?_
                show (w0 d).2 = cm_sw _ _ (w0 d).2
                unfold cm_sw
                rw [if_neg d1, if_neg (by omega)]
          exact ⟨key, by rw [key, cm_ren_sw]⟩
        · -- the made cell goes to the head's word
          have u3 : cm_u (w0 (b + (e - 3))) ([], 3 + x) = some (some (3 + x, w0 (b + (e - 3)))) := by
            rw [cm_u_free2 (by omega) (fun z => Nat.lt_of_not_le (fun y => ez2 ⟨z, y⟩)), if_neg (by omega)]
          rw [u3] at u2
          injection u2 with u2
          injection u2 with u2
          injection u2 with u2 u4
          refine ⟨3 + x0, (L ++ (w0 (b + (e - 3))).1, (w0 (b + (e - 3))).2), fun z => z, fun z => z, hu, cm_FG_id, fun d hd => ?_⟩
          dsimp only at hd
          have hdl := cm_HX_lt h0 hd
          rw [cm_ren_id, cm_ren_id]
          have key : cm_sub (3 + c) (w q) (w d) = cm_sub (3 + x0) (L ++ (w0 (b + (e - 3))).1, (w0 (b + (e - 3))).2) (w0 d) := by
            rw [← u2, ← u4, hw d hd, cm_sub_sub (a := w0 d) (x := 3 + x) (by omega)]
          exact ⟨key, key.symm⟩
end cmX4
end
section
section cmX5
variable {R : cm_RT} {nf : Nat} {fr : cm_FT} {nc : Nat} {ch : cm_CT} {M : cm_MT} {D : cm_DT} {top trail : Nat} {k m l tc : Nat → Nat} {w : Nat → cm_W} {ρ : Nat → Nat}
/-- letters made one by one -/
theorem cm_x_match_p2 {post : Int32 → SX → Prop} {b e x0 top0 trail0 bt btr bn t : Nat} {k0 m0 l0 tc0 ρ0 : Nat → Nat} {w0 : Nat → cm_W} (hv : cm_VT t) (hD : D.1 = (cm_lt t).length) (hd : ∀ i, i < (cm_lt t).length → D.2 i = cm_la t i)
    (h0 : cm_HX top0 k0 m0 l0 w0 ρ0) (he : e < 7) (hb : 3 ≤ e → b + (e - 3) < top0) :
    ∀ j n i x L top trail k m l tc w ρ, j < n → i + j = (cm_lt t).length → cm_EX (top0, trail0, k0, m0, l0, tc0) (top, trail, k, m, l, tc) → cm_HX top k m l w ρ → x < top → k x = 0 → l x = x → top0 ≤ x → L ≠ [] →
    (∀ c, c < top0 → w c = cm_sub (3 + x0) (L, 3 + x) (w0 c)) → top + 2 * j + 1 ≤ 2700 → trail + j + 1 ≤ 2700 → cm_nl k top + j < 1000 → top + 2 * j + 1 ≤ bt → trail + j + 1 ≤ btr → cm_nl k top + j ≤ bn →
    (∀ r H', cm_MR (top0, trail0, k0, m0, l0, tc0) w0 (cm_U ((L ++ (cm_lt t).drop i) ++ (if e < 3 then ([], e) else w0 (b + (e - 3))).1) (if e < 3 then ([], e) else w0 (b + (e - 3))).2 [] (3 + x0)) bt btr bn r H' → post (nI r) (cm_X R nf fr nc ch M D H')) →
    wX_match_21 post (nI b) (nI e) n (nI x) (nI i) (nI R.1) (nI top) (nI trail) (nI nf) (nI nc) (nI M.1) (nI M.2.1) (nI M.2.2.1) (nI M.2.2.2.1) (nI M.2.2.2.2.1) (nI M.2.2.2.2.2.1) (nI M.2.2.2.2.2.2.1) (nI D.1) (nI M.2.2.2.2.2.2.2) (cm_A R.2.1) (cm_A R.2.2.1) (cm_A R.2.2.2.1) (cm_A R.2.2.2.2) (cm_A k) (cm_A m) (cm_A l) (cm_A tc) (cm_A (fun i => (fr i).1)) (cm_A (fun i => (fr i).2.1)) (cm_A (fun i => (fr i).2.2.1)) (cm_A (fun i => (fr i).2.2.2)) (cm_A (fun i => (ch i).1)) (cm_A (fun i => (ch i).2.1)) (cm_A (fun i => (ch i).2.2.1)) (cm_A (fun i => (ch i).2.2.2.1)) (cm_A (fun i => (ch i).2.2.2.2.1)) (cm_A (fun i => (ch i).2.2.2.2.2.1)) (cm_A (fun i => (ch i).2.2.2.2.2.2.1)) (cm_A (fun i => (ch i).2.2.2.2.2.2.2.1)) (cm_A (fun i => (ch i).2.2.2.2.2.2.2.2)) (cm_A D.2) := by
  have h4 := cm_lt_len t
  intro j
  induction j with
  | zero =>
    intro n i x L top trail k m l tc w ρ hn hij hE hH hx hk hl hx2 hL hw ht htr hnl hbt hbr hbn P
    obtain ⟨n, rfl⟩ : ∃ q, n = q + 1 := ⟨n - 1, by omega⟩
    rw [List.drop_of_length_le (by omega), List.append_nil] at P
    exact cm_x_match_f2 (M := M) h0 hE hH hx hk hl hx2 hL hw (by omega) (by omega) (by omega) he hb (by omega) (by omega) (by omega) (by omega) (by omega) P
  | succ j ih =>
    intro n i x L top trail k m l tc w ρ hn hij hE hH hx hk hl hx2 hL hw ht htr hnl hbt hbr hbn P
    obtain ⟨n, rfl⟩ : ∃ q, n = q + 1 := ⟨n - 1, by omega⟩
    have hla := cm_la_lt hv (show i < (cm_lt t).length by omega)
    obtain ⟨w', ρ', hH', hw', hE', hnl', hk', hl'⟩ := cm_mstep (trail := trail) (tc := tc) hH hx hk hl hla
    refine br_f (nI_ge (by omega) (by omega)) ?_
    show wpX_isFree _ (cm_X R nf fr nc ch M D (top, trail, k, m, l, tc)) (nI x)
    refine cm_x_isFree hH (by omega) hx (fun _ _ => br_f (by decide) ?_) (fun z => absurd ⟨hk, hl⟩ z)
    show wpX_freeCell _ (cm_X R nf fr nc ch M D (top, trail, k, m, l, tc))
    refine cm_x_freeCell (by omega) ⟨vp_in_nI (by omega) (by decide), ?_⟩
    rw [cm_rd (by omega), hd i (by omega)]
    show wpX_cell _ (cm_X R nf fr nc ch M D (top + 1, trail, cm_s k top 0, cm_s m top 0, cm_s l top top, tc)) (nI 2) (nI (cm_la t i)) (nI top)
    refine cm_x_cell (by omega) ?_
    show wpX_bind _ (cm_X R nf fr nc ch M D (top + 1 + 1, trail, cm_s (cm_s k top 0) (top + 1) 2, cm_s (cm_s m top 0) (top + 1) (cm_la t i), cm_s (cm_s l top top) (top + 1) top, tc)) (nI x) (nI (top + 1))
    refine cm_x_bind (by omega) (by omega) (nm_r (nI_1 i) ?_)
    refine ih n (i + 1) top (L ++ [cm_la t i]) (top + 1 + 1) (trail + 1) (cm_s (cm_s k top 0) (top + 1) 2) (cm_s (cm_s m top 0) (top + 1) (cm_la t i)) (cm_s (cm_s (cm_s l top top) (top + 1) top) x (top + 1)) (cm_s tc trail x) w' ρ' (by omega) (by omega) (cm_EX_trans hE hE') hH' (by omega) hk' hl' (by omega) (by simp) ?_ (by omega) (by omega) (by omega) (by omega) (by omega) (by omega) ?_
    · intro c hc
      have hlt := cm_HX_lt h0 hc
      have ht0 : top0 ≤ top := hE.1
      rw [hw' c (by omega), hw c hc, cm_sub_sub (a := w0 c) (x := 3 + x) (by omega)]
    · rw [List.append_assoc L, List.singleton_append, ← cm_la_drop (show i < (cm_lt t).length by omega)]
      exact P
/-- along the word's own letters -/
theorem cm_x_match_p1 {post : Int32 → SX → Prop} {b e bt btr bn t : Nat} (hv : cm_VT t) (hD : D.1 = (cm_lt t).length) (hd : ∀ i, i < (cm_lt t).length → D.2 i = cm_la t i)
    (hH : cm_HX top k m l w ρ) (he : e < 7) (hb : 3 ≤ e → b + (e - 3) < top) (ht : top + 9 ≤ 2700) (htr : trail + 5 ≤ 2700) (hnl : cm_nl k top + 4 < 1000) (hbt : top + 9 ≤ bt) (hbr : trail + 5 ≤ btr) :
    ∀ j n i x, j < n → i + j = (cm_lt t).length → x < top → (k x = 0 → l x = x) → cm_nl k top + (j - (w x).1.length) ≤ bn →
    (∀ r H', cm_MR (top, trail, k, m, l, tc) w (cm_U ((cm_lt t).drop i ++ (if e < 3 then ([], e) else w (b + (e - 3))).1) (if e < 3 then ([], e) else w (b + (e - 3))).2 (w x).1 (w x).2) bt btr bn r H' → post (nI r) (cm_X R nf fr nc ch M D H')) →
    wX_match_21 post (nI b) (nI e) n (nI x) (nI i) (nI R.1) (nI top) (nI trail) (nI nf) (nI nc) (nI M.1) (nI M.2.1) (nI M.2.2.1) (nI M.2.2.2.1) (nI M.2.2.2.2.1) (nI M.2.2.2.2.2.1) (nI M.2.2.2.2.2.2.1) (nI D.1) (nI M.2.2.2.2.2.2.2) (cm_A R.2.1) (cm_A R.2.2.1) (cm_A R.2.2.2.1) (cm_A R.2.2.2.2) (cm_A k) (cm_A m) (cm_A l) (cm_A tc) (cm_A (fun i => (fr i).1)) (cm_A (fun i => (fr i).2.1)) (cm_A (fun i => (fr i).2.2.1)) (cm_A (fun i => (fr i).2.2.2)) (cm_A (fun i => (ch i).1)) (cm_A (fun i => (ch i).2.1)) (cm_A (fun i => (ch i).2.2.1)) (cm_A (fun i => (ch i).2.2.2.1)) (cm_A (fun i => (ch i).2.2.2.2.1)) (cm_A (fun i => (ch i).2.2.2.2.2.1)) (cm_A (fun i => (ch i).2.2.2.2.2.2.1)) (cm_A (fun i => (ch i).2.2.2.2.2.2.2.1)) (cm_A (fun i => (ch i).2.2.2.2.2.2.2.2)) (cm_A D.2) := by
  have h4 := cm_lt_len t
  intro j
  induction j with
  | zero =>
    intro n i x hn hij hx hs hbn P
    obtain ⟨n, rfl⟩ : ∃ q, n = q + 1 := ⟨n - 1, by omega⟩
    rw [List.drop_of_length_le (by omega), List.nil_append] at P
    have hkx := cm_HX_k hH hx
    have vx : vp_in (nI x) 2700 := vp_in_nI (by omega) (by decide)
    refine br_t (nI_le (by omega) (by omega)) (pk_lt e 3 (fun h3 => ?_) (fun h3 => ?_) rfl rfl (by omega) (by omega))
    · rw [if_pos h3] at P
      show wpX_isFree _ (cm_X R nf fr nc ch M D (top, trail, k, m, l, tc)) (nI x)
      refine cm_x_isFree hH (by omega) hx (fun fk fl => br_f (by decide) ?_) (fun nfx => br_t rfl ⟨vx, ?_⟩)
      · show wpX_cell _ (cm_X R nf fr nc ch M D (top, trail, k, m, l, tc)) (nI 1) (nI e) (nI 0)
        refine cm_x_cell (by omega) ?_
        show wpX_bind _ (cm_X R nf fr nc ch M D (top + 1, trail, cm_s k top 1, cm_s m top e, cm_s l top 0, tc)) (nI x) (nI top)
        refine cm_x_bind (by omega) (by omega) ?_
        have n1 := cm_NW_cell (trail := trail) (tc := tc) hH (kd := 1) (mk := e) (lk := 0) (wd := ([], e)) (Or.inr (Or.inl ⟨rfl, h3, rfl⟩))
        obtain ⟨ρ1, h1⟩ := n1.2.2.2.2.2
        dsimp only at h1
        have kx : cm_s k top 1 x = 0 := by rw [cm_sn (by omega)]; exact fk
        have lx : cm_s l top 0 x = x := by rw [cm_sn (by omega)]; exact fl
        have ew : cm_s w top ([], e) top = ([], e) := cm_ss
        have h5 := cm_HX_bind h1 (c0 := x) (q := top) (by omega) kx lx (by omega) (by rw [ew]; show e ≠ 3 + x; omega)
        refine P 1 _ ⟨cm_EX_trans n1.1 (cm_EX_bind (by omega) lx), by dsimp only; omega, by dsimp only; omega, ?_, Or.inr ⟨rfl, _, _, h5, Or.inr ⟨3 + x, ([], e), fun z => z, fun z => z, ?_, cm_FG_id, fun c hc => ?_⟩⟩⟩
        · have := n1.2.2.2.2.1
          rw [if_neg (by decide)] at this
          dsimp only at this ⊢
          omega
        · rw [cm_HX_free hH hx fk fl]
          dsimp only
          rw [cm_U_nn, if_neg (by omega), if_neg (by omega), if_pos (by omega)]
        · dsimp only at hc
          rw [cm_ren_id, cm_ren_id]
          have : cm_sub (3 + x) (cm_s w top ([], e) top) (cm_s w top ([], e) c) = cm_sub (3 + x) ([], e) (w c) := by
            rw [ew, cm_sn (by omega)]
          exact ⟨this, this.symm⟩
      · have k0 : k x ≠ 0 := fun z => nfx ⟨z, hs z⟩
        have hmx := cm_HX_m hH hx k0
        refine pk_eq (k x) 1 (fun k1 => ⟨vx, ?_⟩) (fun k1 => ?_) (cm_rd (by omega)) rfl (by omega) (by omega)
        · rw [cm_HX_con hH hx k1] at P
          dsimp only at P
          rw [cm_U_nn] at P
          refine pk_eq (m x) e (fun q => ?_) (fun q => ?_) (cm_rd (by omega)) rfl (by omega) (by omega)
          · rw [if_pos q.symm] at P
            exact P 1 _ ⟨cm_EX_refl _, by dsimp only; omega, by dsimp only; omega, by dsimp only; omega, Or.inr ⟨rfl, w, ρ, hH, Or.inl ⟨rfl, fun _ _ => rfl⟩⟩⟩
          · rw [if_neg (fun z => q z.symm), if_neg (by omega), if_neg (by omega)] at P
            exact P 0 _ ⟨cm_EX_refl _, by dsimp only; omega, by dsimp only; omega, by dsimp only; omega, Or.inl ⟨rfl, rfl⟩⟩
        · rw [(cm_HX_let hH hx (by omega)).2] at P
          dsimp only at P
          rw [cm_U_nc, if_neg (by omega)] at P
          exact P 0 _ ⟨cm_EX_refl _, by dsimp only; omega, by dsimp only; omega, by dsimp only; omega, Or.inl ⟨rfl, rfl⟩⟩
    · rw [if_neg (by omega)] at P
      have hz := hb h3
      show wpX_unify _ (cm_X R nf fr nc ch M D (top, trail, k, m, l, tc)) _ _
      refine cm_x_unify hH (by omega) (by omega) (by omega) (a := b + (e - 3)) (b := x) hz hx ?_ rfl (fun u0 => ⟨by trivial, P 0 _ ⟨cm_EX_refl _, by dsimp only; omega, by dsimp only; omega, by dsimp only; omega, Or.inl ⟨rfl, u0⟩⟩⟩) (fun u1 => ⟨by trivial, P 1 _ ⟨cm_EX_refl _, by dsimp only; omega, by dsimp only; omega, by dsimp only; omega, Or.inr ⟨rfl, w, ρ, hH, Or.inl ⟨u1, fun _ _ => rfl⟩⟩⟩⟩) (fun c q hc hq fk fl u2 => ⟨by trivial, ?_⟩)
      · rw [nI_add]
        exact (pk_sub (a := b + e) (b := 3) (by omega)).trans (congrArg nI (by omega))
      · have ok := cm_U_ok _ _ u2
        have h5 := cm_HX_bind hH hc fk fl hq ok.2.1
        exact P 1 _ ⟨cm_EX_bind hc fl, by dsimp only; omega, by dsimp only; omega, by dsimp only; omega, Or.inr ⟨rfl, _, _, h5, Or.inr ⟨3 + c, w q, fun z => z, fun z => z, u2, cm_FG_id, fun _ _ => ⟨rfl, rfl⟩⟩⟩⟩
  | succ j ih =>
    intro n i x hn hij hx hs hbn P
    obtain ⟨n, rfl⟩ : ∃ q, n = q + 1 := ⟨n - 1, by omega⟩
    have hi : i < (cm_lt t).length := by omega
    have hkx := cm_HX_k hH hx
    have vx : vp_in (nI x) 2700 := vp_in_nI (by omega) (by decide)
    have hla := cm_la_lt hv hi
    rw [cm_la_drop hi, List.cons_append] at P
    refine br_f (nI_ge (by omega) (by omega)) ?_
    show wpX_isFree _ (cm_X R nf fr nc ch M D (top, trail, k, m, l, tc)) (nI x)
    refine cm_x_isFree hH (by omega) hx (fun fk fl => br_f (by decide) ?_) (fun nfx => br_t rfl ⟨vx, ?_⟩)
    · obtain ⟨w', ρ', hH', hw', hE', hnl', hk', hl'⟩ := cm_mstep (trail := trail) (tc := tc) hH hx fk fl hla
      rw [cm_HX_free hH hx fk fl] at hbn P
      dsimp only [List.length_nil] at hbn P
      show wpX_freeCell _ (cm_X R nf fr nc ch M D (top, trail, k, m, l, tc))
      refine cm_x_freeCell (by omega) ⟨vp_in_nI (by omega) (by decide), ?_⟩
      rw [cm_rd (by omega), hd i (by omega)]
      show wpX_cell _ (cm_X R nf fr nc ch M D (top + 1, trail, cm_s k top 0, cm_s m top 0, cm_s l top top, tc)) (nI 2) (nI (cm_la t i)) (nI top)
      refine cm_x_cell (by omega) ?_
      show wpX_bind _ (cm_X R nf fr nc ch M D (top + 1 + 1, trail, cm_s (cm_s k top 0) (top + 1) 2, cm_s (cm_s m top 0) (top + 1) (cm_la t i), cm_s (cm_s l top top) (top + 1) top, tc)) (nI x) (nI (top + 1))
      refine cm_x_bind (by omega) (by omega) (nm_r (nI_1 i) ?_)
      exact cm_x_match_p2 (M := M) hv hD hd hH he hb j n (i + 1) top [cm_la t i] (top + 1 + 1) (trail + 1) (cm_s (cm_s k top 0) (top + 1) 2) (cm_s (cm_s m top 0) (top + 1) (cm_la t i)) (cm_s (cm_s (cm_s l top top) (top + 1) top) x (top + 1)) (cm_s tc trail x) w' ρ' (by omega) (by omega) hE' hH' (by omega) hk' hl' (by omega) (by simp) hw' (by omega) (by omega) (by omega) (by omega) (by omega) (by omega) P
    · have k0 : k x ≠ 0 := fun z => nfx ⟨z, hs z⟩
      have hmx := cm_HX_m hH hx k0
      refine pk_eq (k x) 2 (fun k2 => ⟨vx, vp_in_nI (by omega) (by decide), ?_⟩) (fun k2 => ?_) (cm_rd (by omega)) rfl (by omega) (by omega)
      · obtain ⟨lx, wx⟩ := cm_HX_let hH hx k2
        rw [wx] at hbn P
        dsimp only [List.length_cons] at hbn P
        rw [cm_U_cc] at P
        rw [cm_rd (f := m) (by omega), cm_rd (f := D.2) (by omega), hd i hi]
        refine pk_eq (m x) (cm_la t i) (fun q => ⟨vx, ?_⟩) (fun q => ?_) rfl rfl (by omega) (by omega)
        · rw [if_pos q.symm] at P
          show wpX_deref _ (cm_X R nf fr nc ch M D (top, trail, k, m, l, tc)) _
          refine cm_x_deref hH (by omega) lx (cm_rd (by omega)) fun d hd' hsd hwd => nm_r (nI_1 i) ?_
          rw [← hwd] at P hbn
          exact ih n (i + 1) d (by omega) (by omega) hd' hsd (by omega) P
        · rw [if_neg (fun z => q z.symm)] at P
          exact P 0 _ ⟨cm_EX_refl _, by dsimp only; omega, by dsimp only; omega, by dsimp only; omega, Or.inl ⟨rfl, rfl⟩⟩
      · rw [cm_HX_con hH hx (by omega)] at P
        dsimp only at P
        rw [cm_U_cn, if_neg (by omega)] at P
        exact P 0 _ ⟨cm_EX_refl _, by dsimp only; omega, by dsimp only; omega, by dsimp only; omega, Or.inl ⟨rfl, rfl⟩⟩
theorem cm_tw_eq (w : Nat → cm_W) (b t : Nat) : cm_tw w b t = (cm_lt t ++ (if t % 7 < 3 then ([], t % 7) else w (b + (t % 7 - 3))).1, (if t % 7 < 3 then ([], t % 7) else w (b + (t % 7 - 3))).2) := by
  unfold cm_tw
  split
  · rw [List.append_nil]
  · rfl
theorem cm_x_match {post : Int32 → SX → Prop} {t b q : Nat} {x y z : Int32} (hv : cm_VT t) (hH : cm_HX top k m l w ρ) (hb : b + 3 < top) (hq : q < top) (ht : top + 9 ≤ 2700) (htr : trail + 5 ≤ 2700) (hnl : cm_nl k top + 4 < 1000) (ex : x = nI t) (ey : y = nI b) (ez : z = nI q)
    (P : ∀ r D' H', cm_MR (top, trail, k, m, l, tc) w (cm_u (cm_tw w b t) (w q)) (top + 9) (trail + 5) (cm_nl k top + ((cm_lt t).length - (w q).1.length)) r H' → post (nI r) (cm_X R nf fr nc ch M D' H')) : wpX_match post (cm_X R nf fr nc ch M D (top, trail, k, m, l, tc)) x y z := by
  subst ex
  subst ey
  subst ez
  have ht7 := cm_VT_t hv
  have h4 := cm_lt_len t
  have h7 : t % 7 < 7 := Nat.mod_lt _ (by decide)
  unfold wpX_match cm_X
  dsimp only
  show wpX_spread _ (cm_X R nf fr nc ch M D (top, trail, k, m, l, tc)) (nI t)
  refine cm_x_spread hv rfl fun dg hdg => ⟨by decide, nm_r (pk_rem (d := 7) (by omega) (by decide) (by decide)) ?_⟩
  show wpX_deref _ (cm_X R nf fr nc ch M (((cm_lt t).length, dg)) (top, trail, k, m, l, tc)) (nI q)
  refine cm_x_deref hH (by omega) hq rfl fun d hd hs hw => ⟨5, ?_⟩
  refine cm_x_match_p1 (M := M) (D := ((cm_lt t).length, dg)) (bt := top + 9) (btr := trail + 5) (bn := cm_nl k top + ((cm_lt t).length - (w q).1.length)) hv rfl hdg hH h7 (by omega) ht htr hnl (Nat.le_refl _) (Nat.le_refl _) (cm_lt t).length 5 0 d (by omega) (by omega) hd hs (by rw [hw]; omega) ?_
  intro r H' hm
  refine P r _ H' ?_
  rw [cm_tw_eq]
  rw [hw] at hm
  exact hm
end cmX5
end
section
/-! Y's walks: letters and readers -/
theorem cm_s2 {α : Type} {f : Nat → α} {i : Nat} {a b : α} : cm_s (cm_s f i a) i b = cm_s f i b := by
  funext j
  unfold cm_s
  split <;> rfl
def cm_stb (bd : Nat → Nat) (t s o : Nat) : Prop := s = (cm_lt t).length → 3 ≤ t % 7 → bd (4 * o + (t % 7 - 3)) = 0
/-- the reader rd has the word wd before it -/
def cm_RD (nv : Nat) (bd : Nat → Nat) (w : Nat → cm_W) (rt rp ro : Nat → Nat) (rd : Nat) (wd : cm_W) : Prop := cm_PO nv (rt rd) (rp rd) (ro rd) ∧ cm_stb bd (rt rd) (rp rd) (ro rd) ∧ cm_pw w (rt rd) (rp rd) (ro rd) = wd
def cm_OT (rd : Nat) (rt rp ro rt' rp' ro' : Nat → Nat) : Prop := ∀ x, x ≠ rd → rt' x = rt x ∧ rp' x = rp x ∧ ro' x = ro x
theorem cm_OT_refl (rd : Nat) (rt rp ro : Nat → Nat) : cm_OT rd rt rp ro rt rp ro := fun _ _ => ⟨rfl, rfl, rfl⟩
theorem cm_OT_trans {rd : Nat} {rt rp ro rt' rp' ro' rt'' rp'' ro'' : Nat → Nat} (h : cm_OT rd rt rp ro rt' rp' ro') (h' : cm_OT rd rt' rp' ro' rt'' rp'' ro'') : cm_OT rd rt rp ro rt'' rp'' ro'' := by
  intro x hx
  obtain ⟨a1, a2, a3⟩ := h x hx
  obtain ⟨b1, b2, b3⟩ := h' x hx
  exact ⟨b1.trans a1, b2.trans a2, b3.trans a3⟩
theorem cm_OT_s (rd : Nat) (rt rp ro : Nat → Nat) (a b c : Nat) : cm_OT rd rt rp ro (cm_s rt rd a) (cm_s rp rd b) (cm_s ro rd c) := fun _ hx => ⟨cm_sn hx, cm_sn hx, cm_sn hx⟩
theorem cm_RD_other {nv : Nat} {bd : Nat → Nat} {w : Nat → cm_W} {rt rp ro rt' rp' ro' : Nat → Nat} {rd x : Nat} {wd : cm_W} (h : cm_RD nv bd w rt rp ro x wd) (hx : x ≠ rd) (ho : cm_OT rd rt rp ro rt' rp' ro') : cm_RD nv bd w rt' rp' ro' x wd := by
  obtain ⟨a1, a2, a3⟩ := ho x hx
  unfold cm_RD
  rw [a1, a2, a3]
  exact h
section cmY1
variable {Q : cm_QT} {tp : Nat} {cl : cm_LT} {N : cm_NT} {trailed : Nat} {tm sk ow bd tr rt rp ro : Nat → Nat} {w : Nat → cm_W} {ρ : Nat → Nat} {nv : Nat}
theorem cm_y_lo_l {post : Int32 → Prop} : ∀ r wd c n, r < n → wd < 4 ^ r → wd < 256 → post (nI (c + (cm_lw wd).length)) → wY_lettersOf_7 post (nI Q.1) (nI tp) (nI trailed) (nI N.1) (nI N.2.1) (nI N.2.2) (cm_A Q.2.1) (cm_A Q.2.2) (cm_A (fun i => (cl i).1)) (cm_A (fun i => (cl i).2.1)) (cm_A (fun i => (cl i).2.2.1)) (cm_A (fun i => (cl i).2.2.2.1)) (cm_A (fun i => (cl i).2.2.2.2)) (cm_A tm) (cm_A sk) (cm_A ow) (cm_A bd) (cm_A tr) (cm_A rt) (cm_A rp) (cm_A ro) n (nI c) (nI wd) := by
  intro r
  induction r with
  | zero =>
    intro wd c n hn hw _ H
    obtain ⟨n, rfl⟩ : ∃ q, n = q + 1 := ⟨n - 1, by omega⟩
    have e : wd = 0 := by rw [Nat.pow_zero] at hw; omega
    subst e
    exact br_t (by decide) H
  | succ r ih =>
    intro wd c n hn hw hw2 H
    obtain ⟨n, rfl⟩ : ∃ q, n = q + 1 := ⟨n - 1, by omega⟩
    rw [cm_lw_nd wd hw2] at H
    refine pk_le wd 0 (fun h0 => ?_) (fun h0 => ?_) rfl rfl (by omega) (by omega)
    · rw [if_pos (by omega)] at H
      exact H
    · rw [if_neg (by omega)] at H
      refine nm_r (nI_1 c) ⟨by decide, nm_r (pk_div (d := 4) (by omega) (by decide) (by decide)) (ih (wd / 4) (c + 1) n (by omega) ?_ (by omega) ?_)⟩
      · rw [Nat.pow_succ] at hw; omega
      · rw [show c + 1 + (cm_lw (wd / 4)).length = c + ((cm_lw (wd / 4)).length + 1) by omega]
        exact H
theorem cm_y_lettersOf {post : Int32 → Prop} {t : Nat} {x : Int32} (hv : cm_VT t) (ex : x = nI t) (H : post (nI (cm_lt t).length)) : wpY_lettersOf post (cm_Y Q tp cl N (trailed, tm, sk, ow, bd, tr) rt rp ro) x := by
  subst ex
  have ht := cm_VT_t hv
  unfold wpY_lettersOf cm_Y
  dsimp only
  refine ⟨by decide, nm_r (pk_div (d := 7) (by omega) (by decide) (by decide)) ⟨5, ?_⟩⟩
  refine cm_y_lo_l (Q := Q) (tp := tp) (cl := cl) (N := N) 4 (t / 7) 0 5 (by decide) (cm_VT_lt hv) (cm_VT_lt hv) ?_
  rw [Nat.zero_add]
  exact H
theorem cm_y_la_l {post : Int32 → Prop} {i : Nat} : ∀ d n wd, d < n → wd < 2 ^ 31 → i + d < 2 ^ 31 → post (nI (wd / 4 ^ d % 4) - 1) → wY_letterAt_14 post (nI i) (nI Q.1) (nI tp) (nI trailed) (nI N.1) (nI N.2.1) (nI N.2.2) (cm_A Q.2.1) (cm_A Q.2.2) (cm_A (fun i => (cl i).1)) (cm_A (fun i => (cl i).2.1)) (cm_A (fun i => (cl i).2.2.1)) (cm_A (fun i => (cl i).2.2.2.1)) (cm_A (fun i => (cl i).2.2.2.2)) (cm_A tm) (cm_A sk) (cm_A ow) (cm_A bd) (cm_A tr) (cm_A rt) (cm_A rp) (cm_A ro) n (nI wd) (nI (i + d)) := by
  intro d
  induction d with
  | zero =>
    intro n wd hn hw hi H
    obtain ⟨n, rfl⟩ : ∃ q, n = q + 1 := ⟨n - 1, by omega⟩
    refine br_t (nI_le (by omega) (by omega)) ⟨by decide, ?_⟩
    have e : nI wd - nI wd / 4 * 4 = nI (wd % 4) := pk_rem (d := 4) hw (by decide) (by decide)
    rw [Nat.pow_zero, Nat.div_one] at H
    rw [e]
    exact H
  | succ d ih =>
    intro n wd hn hw hi H
    obtain ⟨n, rfl⟩ : ∃ q, n = q + 1 := ⟨n - 1, by omega⟩
    refine br_f (nI_ge (by omega) (by omega)) ⟨by decide, nm_r (pk_div (d := 4) (by omega) (by decide) (by decide)) (nm_r (pk_m1 (i + d)) (ih n (wd / 4) (by omega) (by omega) (by omega) ?_))⟩
    rw [Nat.div_div_eq_div_mul, Nat.mul_comm, ← Nat.pow_succ]
    exact H
theorem cm_y_letterAt {post : Int32 → Prop} {t s : Nat} {x y : Int32} (hv : cm_VT t) (hs : s < (cm_lt t).length) (ex : x = nI t) (ey : y = nI s) (H : post (nI (cm_la t s))) : wpY_letterAt post (cm_Y Q tp cl N (trailed, tm, sk, ow, bd, tr) rt rp ro) x y := by
  subst ex
  subst ey
  have ht := cm_VT_t hv
  have h4 := cm_lt_len t
  unfold wpY_letterAt cm_Y
  dsimp only
  refine ⟨by decide, nm_r (pk_div (d := 7) (by omega) (by decide) (by decide)) ?_⟩
  show wpY_lettersOf _ (cm_Y Q tp cl N (trailed, tm, sk, ow, bd, tr) rt rp ro) (nI t)
  refine cm_y_lettersOf hv rfl (nm_r (cm_sub1 (by omega)) ⟨5, ?_⟩)
  have h := (cm_lw_all (t / 7) (cm_VT_lt hv) hv s (by omega) hs).2
  have e : (cm_lt t).length - 1 = s + ((cm_lt t).length - 1 - s) := by omega
  rw [e]
  refine cm_y_la_l (Q := Q) (tp := tp) (cl := cl) (N := N) ((cm_lt t).length - 1 - s) 5 (t / 7) (by omega) (by omega) (by omega) ?_
  have h2 : t / 7 / 4 ^ ((cm_lt t).length - 1 - s) % 4 = cm_la t s + 1 := h
  rw [h2, nI_pred]
  exact H
theorem cm_y_isAt {post : Int32 → Prop} {rd : Nat} (hr : rd < 2) (hv : cm_VT (rt rd)) (hs : rp rd ≤ (cm_lt (rt rd)).length) (h1 : rp rd < (cm_lt (rt rd)).length → post 1) (h0 : rp rd = (cm_lt (rt rd)).length → post 0) : wpY_isAtLetter post (cm_Y Q tp cl N (trailed, tm, sk, ow, bd, tr) rt rp ro) (nI rd) := by
  have h4 := cm_lt_len (rt rd)
  have vi : vp_in (nI rd) 2 := vp_in_nI hr (by decide)
  unfold wpY_isAtLetter cm_Y
  dsimp only
  refine ⟨vi, vi, ?_⟩
  show wpY_lettersOf _ (cm_Y Q tp cl N (trailed, tm, sk, ow, bd, tr) rt rp ro) _
  refine cm_y_lettersOf hv (cm_rd (by omega)) ?_
  exact pk_le (cm_lt (rt rd)).length (rp rd) (fun h => h0 (by omega)) (fun h => h1 h) rfl (cm_rd (by omega)) (by omega) (by omega)
theorem cm_y_varAt {post : Int32 → Prop} {rd : Nat} (hr : rd < 2) (hv : cm_VT (rt rd)) (hs : rp rd ≤ (cm_lt (rt rd)).length) (ho : ro rd < 1000) (h1 : (rp rd < (cm_lt (rt rd)).length ∨ rt rd % 7 < 3) → post (-4)) (h0 : rp rd = (cm_lt (rt rd)).length → 3 ≤ rt rd % 7 → post (nI (4 * ro rd + (rt rd % 7 - 3)))) : wpY_variableAt post (cm_Y Q tp cl N (trailed, tm, sk, ow, bd, tr) rt rp ro) (nI rd) := by
  have ht := cm_VT_t hv
  have h7 : rt rd % 7 < 7 := Nat.mod_lt _ (by decide)
  have vi : vp_in (nI rd) 2 := vp_in_nI hr (by decide)
  unfold wpY_variableAt cm_Y
  dsimp only
  refine ⟨vi, by decide, ?_⟩
  rw [cm_rd (f := rt) (by omega)]
  refine nm_r (pk_rem (d := 7) (by omega) (by decide) (by decide)) ?_
  show wpY_isAtLetter _ (cm_Y Q tp cl N (trailed, tm, sk, ow, bd, tr) rt rp ro) (nI rd)
  refine cm_y_isAt hr hv hs (fun a => br_f (by decide) (h1 (Or.inl a))) (fun a => br_t rfl ?_)
  refine pk_le 3 (rt rd % 7) (fun b => ⟨vi, ?_⟩) (fun b => h1 (Or.inr b)) rfl rfl (by omega) (by omega)
  rw [cm_rd (by omega)]
  have e : 4 * nI (ro rd) + nI (rt rd % 7) - 3 = nI (4 * ro rd + (rt rd % 7 - 3)) := by
    have e1 : 4 * nI (ro rd) = nI (4 * ro rd) := pk_mul 4 (ro rd)
    rw [e1, nI_add]
    exact (pk_sub (a := 4 * ro rd + rt rd % 7) (b := 3) (by omega)).trans (congrArg nI (by omega))
  rw [e]
  exact h0 a b
theorem cm_y_goOn_l {rd : Nat} (hY : cm_YS nv tm sk ow bd w ρ) (hnv : nv ≤ 328) (hr : rd < 2) (wd : cm_W) : ∀ q rt rp ro (x : Int32), cm_PO nv (rt rd) (rp rd) (ro rd) → cm_pw w (rt rd) (rp rd) (ro rd) = wd →
    (((rp rd < (cm_lt (rt rd)).length ∨ rt rd % 7 < 3) ∧ x = -4) ∨ (rp rd = (cm_lt (rt rd)).length ∧ 3 ≤ rt rd % 7 ∧ x = nI (4 * ro rd + (rt rd % 7 - 3)) ∧ ρ (4 * ro rd + (rt rd % 7 - 3)) < q)) →
    ∃ rt' rp' ro', cm_RD nv bd w rt' rp' ro' rd wd ∧ cm_OT rd rt rp ro rt' rp' ro' ∧ ∀ (post : SY → Prop) n, q < n → post (cm_Y Q tp cl N (trailed, tm, sk, ow, bd, tr) rt' rp' ro') → wY_goOn_6 post (nI rd) (nI Q.1) (nI tp) (nI trailed) (nI N.1) (nI N.2.1) (nI N.2.2) n x (cm_A Q.2.1) (cm_A Q.2.2) (cm_A (fun i => (cl i).1)) (cm_A (fun i => (cl i).2.1)) (cm_A (fun i => (cl i).2.2.1)) (cm_A (fun i => (cl i).2.2.2.1)) (cm_A (fun i => (cl i).2.2.2.2)) (cm_A tm) (cm_A sk) (cm_A ow) (cm_A bd) (cm_A tr) (cm_A rt) (cm_A rp) (cm_A ro) := by
  intro q
  induction q with
  | zero =>
    intro rt rp ro x hP hw hx
    rcases hx with ⟨h1, rfl⟩ | ⟨h1, h2, _, h3⟩
    · refine ⟨rt, rp, ro, ⟨hP, fun a b => by omega, hw⟩, cm_OT_refl _ _ _ _, fun post n hn H => ?_⟩
      obtain ⟨n, rfl⟩ : ∃ q, n = q + 1 := ⟨n - 1, by omega⟩
      exact br_t (by decide) H
    · omega
  | succ q ih =>
    intro rt rp ro x hP hw hx
    have hv2 : vp_in (nI rd) 2 := vp_in_nI hr (by decide)
    rcases hx with ⟨h1, rfl⟩ | ⟨h1, h2, rfl, h3⟩
    · refine ⟨rt, rp, ro, ⟨hP, fun a b => by omega, hw⟩, cm_OT_refl _ _ _ _, fun post n hn H => ?_⟩
      obtain ⟨n, rfl⟩ : ∃ q, n = q + 1 := ⟨n - 1, by omega⟩
      exact br_t (by decide) H
    · have h7 : rt rd % 7 < 7 := Nat.mod_lt _ (by decide)
      have hvl : 4 * ro rd + (rt rd % 7 - 3) < nv := by have := hP.2.2; omega
      have vi : vp_in (nI (4 * ro rd + (rt rd % 7 - 3))) 328 := vp_in_nI (by omega) (by decide)
      rcases (hY _).1 hvl with ⟨b1, b2⟩ | ⟨b1, b2, b3, b4⟩
      · refine ⟨rt, rp, ro, ⟨hP, fun _ _ => b1, hw⟩, cm_OT_refl _ _ _ _, fun post n hn H => ?_⟩
        obtain ⟨n, rfl⟩ : ∃ q, n = q + 1 := ⟨n - 1, by omega⟩
        refine br_f (nI_pos (by omega)) ⟨vi, ?_⟩
        rw [cm_rd (f := bd) (by omega), b1]
        exact br_t rfl H
      · have ew : cm_pw w (tm (4 * ro rd + (rt rd % 7 - 3))) (sk (4 * ro rd + (rt rd % 7 - 3))) (ow (4 * ro rd + (rt rd % 7 - 3))) = wd := by
          rw [← b3, ← hw, h1, cm_pw_v (by omega)]
        have key : ∀ x' : Int32, (((sk (4 * ro rd + (rt rd % 7 - 3)) < (cm_lt (tm (4 * ro rd + (rt rd % 7 - 3)))).length ∨ tm (4 * ro rd + (rt rd % 7 - 3)) % 7 < 3) ∧ x' = -4) ∨ (sk (4 * ro rd + (rt rd % 7 - 3)) = (cm_lt (tm (4 * ro rd + (rt rd % 7 - 3)))).length ∧ 3 ≤ tm (4 * ro rd + (rt rd % 7 - 3)) % 7 ∧ x' = nI (4 * ow (4 * ro rd + (rt rd % 7 - 3)) + (tm (4 * ro rd + (rt rd % 7 - 3)) % 7 - 3)))) →
            ∃ rt' rp' ro', cm_RD nv bd w rt' rp' ro' rd wd ∧ cm_OT rd rt rp ro rt' rp' ro' ∧ ∀ (post : SY → Prop) n, q < n → post (cm_Y Q tp cl N (trailed, tm, sk, ow, bd, tr) rt' rp' ro') → wY_goOn_6 post (nI rd) (nI Q.1) (nI tp) (nI trailed) (nI N.1) (nI N.2.1) (nI N.2.2) n x' (cm_A Q.2.1) (cm_A Q.2.2) (cm_A (fun i => (cl i).1)) (cm_A (fun i => (cl i).2.1)) (cm_A (fun i => (cl i).2.2.1)) (cm_A (fun i => (cl i).2.2.2.1)) (cm_A (fun i => (cl i).2.2.2.2)) (cm_A tm) (cm_A sk) (cm_A ow) (cm_A bd) (cm_A tr) (cm_A (cm_s rt rd (tm (4 * ro rd + (rt rd % 7 - 3))))) (cm_A (cm_s rp rd (sk (4 * ro rd + (rt rd % 7 - 3))))) (cm_A (cm_s ro rd (ow (4 * ro rd + (rt rd % 7 - 3))))) := by
          intro x' hx'
          obtain ⟨rt', rp', ro', hR, hO, hc⟩ := ih (cm_s rt rd (tm (4 * ro rd + (rt rd % 7 - 3)))) (cm_s rp rd (sk (4 * ro rd + (rt rd % 7 - 3)))) (cm_s ro rd (ow (4 * ro rd + (rt rd % 7 - 3)))) x' (by rw [cm_ss, cm_ss, cm_ss]; exact b2) (by rw [cm_ss, cm_ss, cm_ss]; exact ew) (by
            rw [cm_ss, cm_ss, cm_ss]
            rcases hx' with hx' | ⟨c1, c2, c3⟩
            · exact Or.inl hx'
            · exact Or.inr ⟨c1, c2, c3, by have := b4 c2; omega⟩)
          exact ⟨rt', rp', ro', hR, cm_OT_trans (cm_OT_s _ _ _ _ _ _ _) hO, hc⟩
        by_cases hx' : sk (4 * ro rd + (rt rd % 7 - 3)) < (cm_lt (tm (4 * ro rd + (rt rd % 7 - 3)))).length ∨ tm (4 * ro rd + (rt rd % 7 - 3)) % 7 < 3
        · obtain ⟨rt', rp', ro', hR, hO, hc⟩ := key (-4) (Or.inl ⟨hx', rfl⟩)
          refine ⟨rt', rp', ro', hR, hO, fun post n hn H => ?_⟩
          obtain ⟨n, rfl⟩ : ∃ q, n = q + 1 := ⟨n - 1, by omega⟩
          refine br_f (nI_pos (by omega)) ⟨vi, ?_⟩
          rw [cm_rd (f := bd) (by omega), b1]
          refine br_f (by decide) ⟨vi, hv2, ?_⟩
          rw [cm_rd (f := tm) (by omega)]
          refine nm_r (cm_wr (by omega)) ⟨vi, hv2, ?_⟩
          rw [cm_rd (f := sk) (by omega)]
          refine nm_r (cm_wr (by omega)) ⟨vi, hv2, ?_⟩
          rw [cm_rd (f := ow) (by omega)]
          refine nm_r (cm_wr (by omega)) ?_
          show wpY_variableAt _ (cm_Y Q tp cl N (trailed, tm, sk, ow, bd, tr) (cm_s rt rd (tm (4 * ro rd + (rt rd % 7 - 3)))) (cm_s rp rd (sk (4 * ro rd + (rt rd % 7 - 3)))) (cm_s ro rd (ow (4 * ro rd + (rt rd % 7 - 3))))) (nI rd)
          refine cm_y_varAt hr (by rw [cm_ss]; exact b2.1) (by rw [cm_ss, cm_ss]; exact b2.2.1) (by rw [cm_ss]; have := b2.2.2; omega) (fun _ => hc post n (by omega) H) (fun c1 c2 => ?_)
          rw [cm_ss, cm_ss] at c1
          rw [cm_ss] at c2
          omega
        · obtain ⟨rt', rp', ro', hR, hO, hc⟩ := key _ (Or.inr ⟨by have := b2.2.1; omega, by omega, rfl⟩)
          refine ⟨rt', rp', ro', hR, hO, fun post n hn H => ?_⟩
          obtain ⟨n, rfl⟩ : ∃ q, n = q + 1 := ⟨n - 1, by omega⟩
          refine br_f (nI_pos (by omega)) ⟨vi, ?_⟩
          rw [cm_rd (f := bd) (by omega), b1]
          refine br_f (by decide) ⟨vi, hv2, ?_⟩
          rw [cm_rd (f := tm) (by omega)]
          refine nm_r (cm_wr (by omega)) ⟨vi, hv2, ?_⟩
          rw [cm_rd (f := sk) (by omega)]
          refine nm_r (cm_wr (by omega)) ⟨vi, hv2, ?_⟩
          rw [cm_rd (f := ow) (by omega)]
          refine nm_r (cm_wr (by omega)) ?_
          show wpY_variableAt _ (cm_Y Q tp cl N (trailed, tm, sk, ow, bd, tr) (cm_s rt rd (tm (4 * ro rd + (rt rd % 7 - 3)))) (cm_s rp rd (sk (4 * ro rd + (rt rd % 7 - 3)))) (cm_s ro rd (ow (4 * ro rd + (rt rd % 7 - 3))))) (nI rd)
          refine cm_y_varAt hr (by rw [cm_ss]; exact b2.1) (by rw [cm_ss, cm_ss]; exact b2.2.1) (by rw [cm_ss]; have := b2.2.2; omega) (fun c => ?_) (fun c1 c2 => ?_)
          · rw [cm_ss, cm_ss] at c
            exact absurd c hx'
          · rw [cm_ss, cm_ss]
            exact hc post n (by omega) H
theorem cm_y_goOn {rd : Nat} {wd : cm_W} (hY : cm_YS nv tm sk ow bd w ρ) (hnv : nv ≤ 328) (hr : rd < 2) (hP : cm_PO nv (rt rd) (rp rd) (ro rd)) (hw : cm_pw w (rt rd) (rp rd) (ro rd) = wd) :
    ∃ rt' rp' ro', cm_RD nv bd w rt' rp' ro' rd wd ∧ cm_OT rd rt rp ro rt' rp' ro' ∧ ∀ post : SY → Prop, post (cm_Y Q tp cl N (trailed, tm, sk, ow, bd, tr) rt' rp' ro') → wpY_goOn post (cm_Y Q tp cl N (trailed, tm, sk, ow, bd, tr) rt rp ro) (nI rd) := by
  by_cases hx : rp rd < (cm_lt (rt rd)).length ∨ rt rd % 7 < 3
  · obtain ⟨rt', rp', ro', hR, hO, hc⟩ := cm_y_goOn_l (Q := Q) (tp := tp) (cl := cl) (N := N) (trailed := trailed) (tr := tr) hY hnv hr wd 0 rt rp ro (-4) hP hw (Or.inl ⟨hx, rfl⟩)
    refine ⟨rt', rp', ro', hR, hO, fun post H => ?_⟩
    unfold wpY_goOn cm_Y
    dsimp only
    show wpY_variableAt _ (cm_Y Q tp cl N (trailed, tm, sk, ow, bd, tr) rt rp ro) (nI rd)
    refine cm_y_varAt hr hP.1 hP.2.1 (by have := hP.2.2; omega) (fun a => ⟨1, hc post 1 (by decide) H⟩) (fun a b => by omega)
  · obtain ⟨rt', rp', ro', hR, hO, hc⟩ := cm_y_goOn_l (Q := Q) (tp := tp) (cl := cl) (N := N) (trailed := trailed) (tr := tr) hY hnv hr wd (ρ (4 * ro rd + (rt rd % 7 - 3)) + 1) rt rp ro _ hP hw (Or.inr ⟨by have := hP.2.1; omega, by omega, rfl, Nat.lt_succ_self _⟩)
    refine ⟨rt', rp', ro', hR, hO, fun post H => ?_⟩
    unfold wpY_goOn cm_Y
    dsimp only
    show wpY_variableAt _ (cm_Y Q tp cl N (trailed, tm, sk, ow, bd, tr) rt rp ro) (nI rd)
    exact cm_y_varAt hr hP.1 hP.2.1 (by have := hP.2.2; omega) (fun a => absurd a hx) (fun a b => ⟨_, hc post _ (Nat.lt_succ_self _) H⟩)
theorem cm_y_startReading {rd t s o : Nat} (hY : cm_YS nv tm sk ow bd w ρ) (hnv : nv ≤ 328) (hr : rd < 2) (hP : cm_PO nv t s o) :
    ∃ rt' rp' ro', cm_RD nv bd w rt' rp' ro' rd (cm_pw w t s o) ∧ cm_OT rd rt rp ro rt' rp' ro' ∧ ∀ (post : SY → Prop) (x y z : Int32), x = nI t → y = nI s → z = nI o → post (cm_Y Q tp cl N (trailed, tm, sk, ow, bd, tr) rt' rp' ro') → wpY_startReading post (cm_Y Q tp cl N (trailed, tm, sk, ow, bd, tr) rt rp ro) (nI rd) x y z := by
  obtain ⟨rt', rp', ro', hR, hO, hc⟩ := cm_y_goOn (Q := Q) (tp := tp) (cl := cl) (N := N) (trailed := trailed) (tr := tr) (rt := cm_s rt rd t) (rp := cm_s rp rd s) (ro := cm_s ro rd o) (wd := cm_pw w t s o) hY hnv hr (by rw [cm_ss, cm_ss, cm_ss]; exact hP) (by rw [cm_ss, cm_ss, cm_ss])
  refine ⟨rt', rp', ro', hR, cm_OT_trans (cm_OT_s _ _ _ _ _ _ _) hO, fun post x y z ex ey ez H => ?_⟩
  subst ex
  subst ey
  subst ez
  have hv2 : vp_in (nI rd) 2 := vp_in_nI hr (by decide)
  unfold wpY_startReading cm_Y
  dsimp only
  refine ⟨hv2, nm_r (cm_wr (by omega)) ⟨hv2, nm_r (cm_wr (by omega)) ⟨hv2, nm_r (cm_wr (by omega)) ?_⟩⟩⟩
  show wpY_goOn _ (cm_Y Q tp cl N (trailed, tm, sk, ow, bd, tr) (cm_s rt rd t) (cm_s rp rd s) (cm_s ro rd o)) (nI rd)
  exact hc _ H
theorem cm_y_step {rd a : Nat} {ls : List Nat} {e : Nat} (hY : cm_YS nv tm sk ow bd w ρ) (hnv : nv ≤ 328) (hr : rd < 2) (hR : cm_RD nv bd w rt rp ro rd (a :: ls, e)) (hs : rp rd < (cm_lt (rt rd)).length) :
    ∃ rt' rp' ro', cm_RD nv bd w rt' rp' ro' rd (ls, e) ∧ cm_OT rd rt rp ro rt' rp' ro' ∧ ∀ post : SY → Prop, post (cm_Y Q tp cl N (trailed, tm, sk, ow, bd, tr) rt' rp' ro') → wpY_step post (cm_Y Q tp cl N (trailed, tm, sk, ow, bd, tr) rt rp ro) (nI rd) := by
  have hv2 : vp_in (nI rd) 2 := vp_in_nI hr (by decide)
  have h4 := cm_lt_len (rt rd)
  obtain ⟨hP, _, hw⟩ := hR
  have hw2 : cm_pw w (rt rd) (cm_s rp rd (rp rd + 1) rd) (ro rd) = (ls, e) := by
    rw [cm_ss]
    rw [cm_pw_drop hs] at hw
    injection hw with h1 h2
    injection h1 with h1 h3
    exact Prod.ext h3 h2
  obtain ⟨rt', rp', ro', hR, hO, hc⟩ := cm_y_goOn (Q := Q) (tp := tp) (cl := cl) (N := N) (trailed := trailed) (tr := tr) (rp := cm_s rp rd (rp rd + 1)) hY hnv hr (by rw [cm_ss]; exact ⟨hP.1, by omega, hP.2.2⟩) hw2
  refine ⟨rt', rp', ro', hR, cm_OT_trans (fun x hx => ⟨rfl, cm_sn hx, rfl⟩) hO, fun post H => ?_⟩
  unfold wpY_step cm_Y
  dsimp only
  refine ⟨hv2, hv2, ?_⟩
  rw [cm_rd (by omega), nI_1]
  refine nm_r (cm_wr (by omega)) ?_
  show wpY_goOn _ (cm_Y Q tp cl N (trailed, tm, sk, ow, bd, tr) rt (cm_s rp rd (rp rd + 1)) ro) (nI rd)
  exact hc _ H
/-- what stands before a reader -/
theorem cm_RD_let {rd a : Nat} {ls : List Nat} {e : Nat} (hY : cm_YS nv tm sk ow bd w ρ) (hR : cm_RD nv bd w rt rp ro rd (a :: ls, e)) : rp rd < (cm_lt (rt rd)).length ∧ cm_la (rt rd) (rp rd) = a := by
  obtain ⟨hP, hs, hw⟩ := hR
  by_cases h : rp rd < (cm_lt (rt rd)).length
  · refine ⟨h, ?_⟩
    rw [cm_pw_drop h] at hw
    injection hw with h1 h2
    injection h1
  · exfalso
    have h1 : rp rd = (cm_lt (rt rd)).length := by have := hP.2.1; omega
    have h7 : rt rd % 7 < 7 := Nat.mod_lt _ (by decide)
    rw [h1] at hw
    by_cases h3 : rt rd % 7 < 3
    · rw [cm_pw_c h3] at hw
      injection hw with h4 h5
      cases h4
    · rw [cm_pw_v h3, cm_YS_free hY (by have := hP.2.2; omega) (hs h1 (by omega))] at hw
      injection hw with h4 h5
      cases h4
theorem cm_RD_end {rd e : Nat} (hY : cm_YS nv tm sk ow bd w ρ) (hR : cm_RD nv bd w rt rp ro rd ([], e)) : rp rd = (cm_lt (rt rd)).length ∧ ((e < 3 ∧ rt rd % 7 = e) ∨ (3 ≤ e ∧ 3 ≤ rt rd % 7 ∧ 4 * ro rd + (rt rd % 7 - 3) = e - 3 ∧ e - 3 < nv ∧ bd (e - 3) = 0)) := by
  obtain ⟨hP, hs, hw⟩ := hR
  have h7 : rt rd % 7 < 7 := Nat.mod_lt _ (by decide)
  by_cases h : rp rd < (cm_lt (rt rd)).length
  · exfalso
    rw [cm_pw_drop h] at hw
    injection hw with h1 h2
    cases h1
  · have h1 : rp rd = (cm_lt (rt rd)).length := by have := hP.2.1; omega
    refine ⟨h1, ?_⟩
    rw [h1] at hw
    by_cases h3 : rt rd % 7 < 3
    · rw [cm_pw_c h3] at hw
      injection hw with h4 h5
      exact Or.inl ⟨by omega, h5⟩
    · have hb := hs h1 (by omega)
      rw [cm_pw_v h3, cm_YS_free hY (by have := hP.2.2; omega) hb] at hw
      injection hw with h4 h5
      have h6 : 4 * ro rd + (rt rd % 7 - 3) = e - 3 := by omega
      rw [h6] at hb
      exact Or.inr ⟨by omega, by omega, h6, by have := hP.2.2; omega, hb⟩
/-- the two questions to a reader, by its word -/
theorem cm_y_at {post : Int32 → Prop} {rd : Nat} {ls : List Nat} {e : Nat} (hY : cm_YS nv tm sk ow bd w ρ) (hr : rd < 2) (hR : cm_RD nv bd w rt rp ro rd (ls, e)) (h1 : ∀ a as, ls = a :: as → post 1) (h0 : ls = [] → post 0) : wpY_isAtLetter post (cm_Y Q tp cl N (trailed, tm, sk, ow, bd, tr) rt rp ro) (nI rd) := by
  refine cm_y_isAt hr hR.1.1 hR.1.2.1 (fun a => ?_) (fun a => ?_)
  · cases ls with
    | nil => have := (cm_RD_end hY hR).1; omega
    | cons b bs => exact h1 b bs rfl
  · cases ls with
    | nil => exact h0 rfl
    | cons b bs => have := (cm_RD_let hY hR).1; omega
theorem cm_y_var {post : Int32 → Prop} {rd : Nat} {ls : List Nat} {e : Nat} (hY : cm_YS nv tm sk ow bd w ρ) (hnv : nv ≤ 328) (hr : rd < 2) (hR : cm_RD nv bd w rt rp ro rd (ls, e)) (h1 : (ls ≠ [] ∨ e < 3) → post (-4)) (h0 : ls = [] → 3 ≤ e → e - 3 < nv → bd (e - 3) = 0 → post (nI (e - 3))) : wpY_variableAt post (cm_Y Q tp cl N (trailed, tm, sk, ow, bd, tr) rt rp ro) (nI rd) := by
  refine cm_y_varAt hr hR.1.1 hR.1.2.1 (by have := hR.1.2.2; omega) (fun a => ?_) (fun a b => ?_)
  · cases ls with
    | nil =>
      have := cm_RD_end hY hR
      exact h1 (Or.inr (by omega))
    | cons b bs => exact h1 (Or.inl (by simp))
  · cases ls with
    | nil =>
      obtain ⟨c1, c2 | ⟨c2, c3, c4, c5, c6⟩⟩ := cm_RD_end hY hR
      · omega
      · rw [c4]; exact h0 rfl c2 c5 c6
    | cons b bs => have := (cm_RD_let hY hR).1; omega
end cmY1
end
section
/-! Y's walks: putting, making the same, undoing -/
section cmY2
variable {Q : cm_QT} {tp : Nat} {cl : cm_LT} {N : cm_NT} {trailed : Nat} {tm sk ow bd tr rt rp ro : Nat → Nat} {w : Nat → cm_W} {ρ : Nat → Nat} {nv : Nat}
theorem cm_vb0 : vp_nar .boolean 0 = nI 0 := by decide
theorem cm_vb1 : vp_nar .boolean 1 = nI 1 := by decide
theorem cm_y_putRest_l {rd v e : Nat} (hY : cm_YS nv tm sk ow bd w ρ) (hnv : nv ≤ 328) (hr : rd < 2) (hv : v < nv) (hb : bd v = 0) (htr : trailed < 328) : ∀ ls rt rp ro, cm_RD nv bd w rt rp ro rd (ls, e) →
    ∃ rt' rp' ro', ∀ (post : Int32 → SY → Prop) n, ls.length < n → (e = 3 + v → post 0 (cm_Y Q tp cl N (trailed, tm, sk, ow, bd, tr) rt' rp' ro')) → (e ≠ 3 + v → post 1 (cm_Y Q tp cl N (trailed + 1, tm, sk, ow, cm_s bd v 1, cm_s tr trailed v) rt' rp' ro')) → wY_putRest_36 post (nI v) (nI rd) n (nI Q.1) (nI tp) (nI trailed) (nI N.1) (nI N.2.1) (nI N.2.2) (cm_A Q.2.1) (cm_A Q.2.2) (cm_A (fun i => (cl i).1)) (cm_A (fun i => (cl i).2.1)) (cm_A (fun i => (cl i).2.2.1)) (cm_A (fun i => (cl i).2.2.2.1)) (cm_A (fun i => (cl i).2.2.2.2)) (cm_A tm) (cm_A sk) (cm_A ow) (cm_A bd) (cm_A tr) (cm_A rt) (cm_A rp) (cm_A ro) := by
  intro ls
  induction ls with
  | nil =>
    intro rt rp ro hR
    refine ⟨rt, rp, ro, fun post n hn h0 h1 => ?_⟩
    obtain ⟨n, rfl⟩ : ∃ q, n = q + 1 := ⟨n - 1, by omega⟩
    rw [wY_putRest_36]
    show wpY_isAtLetter _ (cm_Y Q tp cl N (trailed, tm, sk, ow, bd, tr) rt rp ro) (nI rd)
    refine cm_y_at hY hr hR (fun a as z => by cases z) (fun _ => br_t rfl ?_)
    have fin : (e ≠ 3 + v) → vp_in (nI v) 328 ∧ ∀ a_bound_57 : Nat → Int32, a_bound_57 = upd (cm_A bd) (nI v).toNatClampNeg (vp_nar .boolean 1) → (vp_in (nI trailed) 328 ∧ ∀ a_trail_59 : Nat → Int32, a_trail_59 = upd (cm_A tr) (nI trailed).toNatClampNeg (nI v) → (∀ f_trailed_60 : Int32, f_trailed_60 = nI trailed + 1 → post 1 (nI Q.1, nI tp, f_trailed_60, nI N.1, nI N.2.1, nI N.2.2, cm_A Q.2.1, cm_A Q.2.2, cm_A (fun i => (cl i).1), cm_A (fun i => (cl i).2.1), cm_A (fun i => (cl i).2.2.1), cm_A (fun i => (cl i).2.2.2.1), cm_A (fun i => (cl i).2.2.2.2), cm_A tm, cm_A sk, cm_A ow, a_bound_57, a_trail_59, cm_A rt, cm_A rp, cm_A ro))) := by
      intro he
      rw [cm_vb1]
      exact ⟨vp_in_nI (by omega) (by decide), nm_r (cm_wr (by omega)) ⟨vp_in_nI htr (by decide), nm_r (cm_wr (by omega)) (nm_r (nI_1 _) (h1 he))⟩⟩
    show wpY_variableAt _ (cm_Y Q tp cl N (trailed, tm, sk, ow, bd, tr) rt rp ro) (nI rd)
    refine cm_y_var hY hnv hr hR (fun a => ?_) (fun a1 a2 a3 a4 => ?_)
    · refine br_f ?_ (fin ?_)
      · intro z
        have := nI_pos (n := v) (by omega)
        rw [← z] at this
        exact this (by decide)
      · rcases a with a | a
        · exact absurd rfl a
        · omega
    · refine pk_eq (e - 3) v (fun z => h0 (by omega)) (fun z => fin (by omega)) rfl rfl (by omega) (by omega)
  | cons a as ih =>
    intro rt rp ro hR
    obtain ⟨rt1, rp1, ro1, hR1, _, c1⟩ := cm_y_step (Q := Q) (tp := tp) (cl := cl) (N := N) (trailed := trailed) (tr := tr) hY hnv hr hR (cm_RD_let hY hR).1
    obtain ⟨rt', rp', ro', c2⟩ := ih rt1 rp1 ro1 hR1
    refine ⟨rt', rp', ro', fun post n hn h0 h1 => ?_⟩
    obtain ⟨n, rfl⟩ : ∃ q, n = q + 1 := ⟨n - 1, by omega⟩
    rw [wY_putRest_36]
    show wpY_isAtLetter _ (cm_Y Q tp cl N (trailed, tm, sk, ow, bd, tr) rt rp ro) (nI rd)
    refine cm_y_at hY hr hR (fun _ _ _ => br_f (by decide) ?_) (fun z => by cases z)
    show wpY_step _ (cm_Y Q tp cl N (trailed, tm, sk, ow, bd, tr) rt rp ro) (nI rd)
    exact c1 _ (c2 post n (by rw [List.length_cons] at hn; omega) h0 h1)
theorem cm_y_putRest {rd v : Nat} {q : cm_W} (hY : cm_YS nv tm sk ow bd w ρ) (hnv : nv ≤ 328) (hr : rd < 2) (hv : v < nv) (hb : bd v = 0) (htr : trailed < 328) (hR : cm_RD nv bd w rt rp ro rd q) :
    ∃ rt' rp' ro', ∀ (post : Int32 → SY → Prop) (x : Int32), x = nI v → (q.2 = 3 + v → post 0 (cm_Y Q tp cl N (trailed, cm_s tm v (rt rd), cm_s sk v (rp rd), cm_s ow v (ro rd), bd, tr) rt' rp' ro')) → (q.2 ≠ 3 + v → post 1 (cm_Y Q tp cl N (trailed + 1, cm_s tm v (rt rd), cm_s sk v (rp rd), cm_s ow v (ro rd), cm_s bd v 1, cm_s tr trailed v) rt' rp' ro')) → wpY_putRest post (cm_Y Q tp cl N (trailed, tm, sk, ow, bd, tr) rt rp ro) x (nI rd) := by
  have hY' : cm_YS nv (cm_s tm v (rt rd)) (cm_s sk v (rp rd)) (cm_s ow v (ro rd)) bd w ρ := cm_YS_congr hY (fun u hu => by
    have e : u ≠ v := by intro e; rw [e] at hu; exact hu hb
    exact ⟨cm_sn e, cm_sn e, cm_sn e⟩)
  obtain ⟨rt', rp', ro', c⟩ := cm_y_putRest_l (Q := Q) (tp := tp) (cl := cl) (N := N) (trailed := trailed) (tr := tr) hY' hnv hr hv hb htr q.1 rt rp ro hR
  refine ⟨rt', rp', ro', fun post x ex h0 h1 => ?_⟩
  subst ex
  have hv2 : vp_in (nI rd) 2 := vp_in_nI hr (by decide)
  have vi : vp_in (nI v) 328 := vp_in_nI (by omega) (by decide)
  unfold wpY_putRest cm_Y
  dsimp only
  refine ⟨hv2, vi, ?_⟩
  rw [cm_rd (f := rt) (by omega)]
  refine nm_r (cm_wr (by omega)) ⟨hv2, vi, ?_⟩
  rw [cm_rd (f := rp) (by omega)]
  refine nm_r (cm_wr (by omega)) ⟨hv2, vi, ?_⟩
  rw [cm_rd (f := ro) (by omega)]
  refine nm_r (cm_wr (by omega)) ⟨q.1.length + 1, ?_⟩
  exact c post _ (Nat.lt_succ_self _) h0 h1
/-- what a making same leaves in the store, by the outcome u of the words -/
def cm_YR (nv : Nat) (w : Nat → cm_W) (u : Option (Option (Nat × cm_W))) (S : cm_ST) (r : Nat) (S' : cm_ST) : Prop :=
  (r = 0 ∧ u = none ∧ ∃ tm' sk' ow', S' = (S.1, tm', sk', ow', S.2.2.2.2.1, S.2.2.2.2.2) ∧ ∀ v, S.2.2.2.2.1 v ≠ 0 → tm' v = S.2.1 v ∧ sk' v = S.2.2.1 v ∧ ow' v = S.2.2.2.1 v) ∨
  (r = 1 ∧ u = some none ∧ S' = S) ∨
  (r = 1 ∧ ∃ V t s o, V < nv ∧ S.2.2.2.2.1 V = 0 ∧ cm_PO nv t s o ∧ u = some (some (3 + V, cm_pw w t s o)) ∧ S' = (S.1 + 1, cm_s S.2.1 V t, cm_s S.2.2.1 V s, cm_s S.2.2.2.1 V o, cm_s S.2.2.2.2.1 V 1, cm_s S.2.2.2.2.2 S.1 V))
/-- the end of the making same -/
theorem cm_y_unify_e {w0 w1 : cm_W} (hY : cm_YS nv tm sk ow bd w ρ) (hnv : nv ≤ 328) (htr : trailed < 328) (hR0 : cm_RD nv bd w rt rp ro 0 w0) (hR1 : cm_RD nv bd w rt rp ro 1 w1) (hn : w0.1 = [] ∨ w1.1 = []) :
    ∃ r S' rt' rp' ro', cm_YR nv w (cm_u w1 w0) (trailed, tm, sk, ow, bd, tr) r S' ∧ ∀ post : Int32 → SY → Prop, post (nI r) (cm_Y Q tp cl N S' rt' rp' ro') → wY_unify_83 post (nI Q.1) (nI tp) (nI trailed) (nI N.1) (nI N.2.1) (nI N.2.2) (cm_A Q.2.1) (cm_A Q.2.2) (cm_A (fun i => (cl i).1)) (cm_A (fun i => (cl i).2.1)) (cm_A (fun i => (cl i).2.2.1)) (cm_A (fun i => (cl i).2.2.2.1)) (cm_A (fun i => (cl i).2.2.2.2)) (cm_A tm) (cm_A sk) (cm_A ow) (cm_A bd) (cm_A tr) (cm_A rt) (cm_A rp) (cm_A ro) := by
  obtain ⟨l0, e0⟩ := w0
  obtain ⟨l1, e1⟩ := w1
  dsimp only at hn
  have same : ∀ v, bd v ≠ 0 → tm v = tm v ∧ sk v = sk v ∧ ow v = ow v := fun _ _ => ⟨rfl, rfl, rfl⟩
  have unb : ∀ V t s o, bd V = 0 → ∀ v, bd v ≠ 0 → cm_s tm V t v = tm v ∧ cm_s sk V s v = sk v ∧ cm_s ow V o v = ow v := by
    intro V t s o hV u hu
    have e : u ≠ V := by intro e; rw [e] at hu; exact hu hV
    exact ⟨cm_sn e, cm_sn e, cm_sn e⟩
  have neg : ∀ q, q < 2 ^ 31 → ¬ nI q = -4 := by
    intro q hq z
    have := nI_pos (n := q) hq
    rw [z] at this
    exact this (by decide)
  by_cases c1 : l1 = [] ∧ 3 ≤ e1
  · -- the second reader is at a variable
    obtain ⟨h1, h2⟩ := c1
    subst h1
    obtain ⟨_, h3 | ⟨_, _, _, v1, b1⟩⟩ := cm_RD_end hY hR1
    · omega
    by_cases c0 : l0 = [] ∧ e0 = e1
    · -- the same one
      obtain ⟨h5, h6⟩ := c0
      subst h5
      subst h6
      refine ⟨1, (trailed, tm, sk, ow, bd, tr), rt, rp, ro, Or.inr (Or.inl ⟨rfl, ?_, rfl⟩), fun post H => ?_⟩
      · exact cm_u_self _
      · unfold wY_unify_83
        show wpY_variableAt _ (cm_Y Q tp cl N (trailed, tm, sk, ow, bd, tr) rt rp ro) (nI 0)
        refine cm_y_var hY hnv (by decide) hR0 (fun a => by rcases a with a | a; (exact absurd rfl a); omega) (fun _ _ _ _ => ?_)
        show wpY_variableAt _ (cm_Y Q tp cl N (trailed, tm, sk, ow, bd, tr) rt rp ro) (nI 1)
        refine cm_y_var hY hnv (by decide) hR1 (fun a => by rcases a with a | a; (exact absurd rfl a); omega) (fun _ _ _ _ => br_f (nI_pos (by omega)) (br_t rfl ?_))
        unfold wY_unify_117
        refine br_f (nI_pos (by omega)) (br_t rfl ?_)
        unfold wY_unify_137
        exact br_t rfl (br_t (nI_pos' (by omega)) H)
    · have ee : 3 + (e1 - 3) = e1 := by omega
      have hu : cm_u ([], e1) (l0, e0) = if e0 = e1 then none else some (some (e1, (l0, e0))) := cm_u_free1 h2 (fun z1 z2 => c0 ⟨z1, z2⟩)
      obtain ⟨rt', rp', ro', c⟩ := cm_y_putRest (Q := Q) (tp := tp) (cl := cl) (N := N) (tr := tr) hY hnv (by decide) v1 b1 htr hR0
      have go : ∀ (post : Int32 → SY → Prop), (e0 = 3 + (e1 - 3) → post 0 (cm_Y Q tp cl N (trailed, cm_s tm (e1 - 3) (rt 0), cm_s sk (e1 - 3) (rp 0), cm_s ow (e1 - 3) (ro 0), bd, tr) rt' rp' ro')) → (e0 ≠ 3 + (e1 - 3) → post 1 (cm_Y Q tp cl N (trailed + 1, cm_s tm (e1 - 3) (rt 0), cm_s sk (e1 - 3) (rp 0), cm_s ow (e1 - 3) (ro 0), cm_s bd (e1 - 3) 1, cm_s tr trailed (e1 - 3)) rt' rp' ro')) → wY_unify_83 post (nI Q.1) (nI tp) (nI trailed) (nI N.1) (nI N.2.1) (nI N.2.2) (cm_A Q.2.1) (cm_A Q.2.2) (cm_A (fun i => (cl i).1)) (cm_A (fun i => (cl i).2.1)) (cm_A (fun i => (cl i).2.2.1)) (cm_A (fun i => (cl i).2.2.2.1)) (cm_A (fun i => (cl i).2.2.2.2)) (cm_A tm) (cm_A sk) (cm_A ow) (cm_A bd) (cm_A tr) (cm_A rt) (cm_A rp) (cm_A ro) := by
        intro post H0 H1
        unfold wY_unify_83
        show wpY_variableAt _ (cm_Y Q tp cl N (trailed, tm, sk, ow, bd, tr) rt rp ro) (nI 0)
        refine cm_y_var hY hnv (by decide) hR0 (fun a => ?_) (fun a1 a2 a3 a4 => ?_)
        · show wpY_variableAt _ (cm_Y Q tp cl N (trailed, tm, sk, ow, bd, tr) rt rp ro) (nI 1)
          refine cm_y_var hY hnv (by decide) hR1 (fun a => by rcases a with a | a; (exact absurd rfl a); omega) (fun _ _ _ _ => br_f (nI_pos (by omega)) (br_f (neg _ (by omega)) ?_))
          show wpY_putRest _ (cm_Y Q tp cl N (trailed, tm, sk, ow, bd, tr) rt rp ro) (nI (e1 - 3)) (nI 0)
          exact c _ _ rfl (fun z => ⟨by trivial, H0 z⟩) (fun z => ⟨by trivial, H1 z⟩)
        · show wpY_variableAt _ (cm_Y Q tp cl N (trailed, tm, sk, ow, bd, tr) rt rp ro) (nI 1)
          refine cm_y_var hY hnv (by decide) hR1 (fun a => by rcases a with a | a; (exact absurd rfl a); omega) (fun _ _ _ _ => br_f (nI_pos (by omega)) (br_f ?_ ?_))
          · intro z
            rw [nI_eq (by omega) (by omega)] at z
            exact c0 ⟨a1, by omega⟩
          · show wpY_putRest _ (cm_Y Q tp cl N (trailed, tm, sk, ow, bd, tr) rt rp ro) (nI (e1 - 3)) (nI 0)
            exact c _ _ rfl (fun z => ⟨by trivial, H0 z⟩) (fun z => ⟨by trivial, H1 z⟩)
      by_cases hz : e0 = e1
      · refine ⟨0, _, rt', rp', ro', Or.inl ⟨rfl, by rw [hu, if_pos hz], _, _, _, rfl, unb _ _ _ _ b1⟩, fun post H => go post (fun _ => H) (fun z => absurd (by omega) z)⟩
      · refine ⟨1, _, rt', rp', ro', Or.inr (Or.inr ⟨rfl, e1 - 3, _, _, _, v1, b1, hR0.1, ?_, rfl⟩), fun post H => go post (fun z => absurd (by omega) hz) (fun _ => H)⟩
        rw [hu, if_neg hz, ee, hR0.2.2]
  · -- it isn't
    have c1' : l1 ≠ [] ∨ e1 < 3 := by
      by_cases z : l1 = []
      · exact Or.inr (by
          by_cases y : e1 < 3
          · exact y
          · exact absurd ⟨z, by omega⟩ c1)
      · exact Or.inl z
    by_cases c0 : l0 = [] ∧ 3 ≤ e0
    · obtain ⟨h1, h2⟩ := c0
      subst h1
      obtain ⟨_, h3 | ⟨_, _, _, v0, b0⟩⟩ := cm_RD_end hY hR0
      · omega
      have ee : 3 + (e0 - 3) = e0 := by omega
      have hu : cm_u (l1, e1) ([], e0) = if e1 = e0 then none else some (some (e0, (l1, e1))) := by
        refine cm_u_free2 h2 (fun z => ?_)
        rcases c1' with h | h
        · exact absurd z h
        · exact h
      obtain ⟨rt', rp', ro', c⟩ := cm_y_putRest (Q := Q) (tp := tp) (cl := cl) (N := N) (tr := tr) hY hnv (by decide) v0 b0 htr hR1
      have go : ∀ (post : Int32 → SY → Prop), (e1 = 3 + (e0 - 3) → post 0 (cm_Y Q tp cl N (trailed, cm_s tm (e0 - 3) (rt 1), cm_s sk (e0 - 3) (rp 1), cm_s ow (e0 - 3) (ro 1), bd, tr) rt' rp' ro')) → (e1 ≠ 3 + (e0 - 3) → post 1 (cm_Y Q tp cl N (trailed + 1, cm_s tm (e0 - 3) (rt 1), cm_s sk (e0 - 3) (rp 1), cm_s ow (e0 - 3) (ro 1), cm_s bd (e0 - 3) 1, cm_s tr trailed (e0 - 3)) rt' rp' ro')) → wY_unify_83 post (nI Q.1) (nI tp) (nI trailed) (nI N.1) (nI N.2.1) (nI N.2.2) (cm_A Q.2.1) (cm_A Q.2.2) (cm_A (fun i => (cl i).1)) (cm_A (fun i => (cl i).2.1)) (cm_A (fun i => (cl i).2.2.1)) (cm_A (fun i => (cl i).2.2.2.1)) (cm_A (fun i => (cl i).2.2.2.2)) (cm_A tm) (cm_A sk) (cm_A ow) (cm_A bd) (cm_A tr) (cm_A rt) (cm_A rp) (cm_A ro) := by
        intro post H0 H1
        unfold wY_unify_83
        show wpY_variableAt _ (cm_Y Q tp cl N (trailed, tm, sk, ow, bd, tr) rt rp ro) (nI 0)
        refine cm_y_var hY hnv (by decide) hR0 (fun a => by rcases a with a | a; (exact absurd rfl a); omega) (fun a1 a2 a3 a4 => ?_)
        show wpY_variableAt _ (cm_Y Q tp cl N (trailed, tm, sk, ow, bd, tr) rt rp ro) (nI 1)
        refine cm_y_var hY hnv (by decide) hR1 (fun _ => br_t (by decide) ?_) (fun b1 b2 _ _ => absurd ⟨b1, b2⟩ c1)
        unfold wY_unify_117
        refine br_f (nI_pos (by omega)) (br_f (fun z => neg _ (by omega) z.symm) ?_)
        show wpY_putRest _ (cm_Y Q tp cl N (trailed, tm, sk, ow, bd, tr) rt rp ro) (nI (e0 - 3)) (nI 1)
        exact c _ _ rfl (fun z => ⟨by trivial, H0 z⟩) (fun z => ⟨by trivial, H1 z⟩)
      by_cases hz : e1 = e0
      · refine ⟨0, _, rt', rp', ro', Or.inl ⟨rfl, by rw [hu, if_pos hz], _, _, _, rfl, unb _ _ _ _ b0⟩, fun post H => go post (fun _ => H) (fun z => absurd (by omega) z)⟩
      · refine ⟨1, _, rt', rp', ro', Or.inr (Or.inr ⟨rfl, e0 - 3, _, _, _, v0, b0, hR1.1, ?_, rfl⟩), fun post H => go post (fun z => absurd (by omega) hz) (fun _ => H)⟩
        rw [hu, if_neg hz, ee, hR1.2.2]
    · have c0' : l0 ≠ [] ∨ e0 < 3 := by
        by_cases z : l0 = []
        · exact Or.inr (by
            by_cases y : e0 < 3
            · exact y
            · exact absurd ⟨z, by omega⟩ c0)
        · exact Or.inl z
      have go : ∀ (post : Int32 → SY → Prop), (¬ (l0 = [] ∧ l1 = []) → post 0 (cm_Y Q tp cl N (trailed, tm, sk, ow, bd, tr) rt rp ro)) → (l0 = [] → l1 = [] → e0 < 3 → e1 < 3 → (e0 = e1 → post 1 (cm_Y Q tp cl N (trailed, tm, sk, ow, bd, tr) rt rp ro)) ∧ (e0 ≠ e1 → post 0 (cm_Y Q tp cl N (trailed, tm, sk, ow, bd, tr) rt rp ro))) → wY_unify_83 post (nI Q.1) (nI tp) (nI trailed) (nI N.1) (nI N.2.1) (nI N.2.2) (cm_A Q.2.1) (cm_A Q.2.2) (cm_A (fun i => (cl i).1)) (cm_A (fun i => (cl i).2.1)) (cm_A (fun i => (cl i).2.2.1)) (cm_A (fun i => (cl i).2.2.2.1)) (cm_A (fun i => (cl i).2.2.2.2)) (cm_A tm) (cm_A sk) (cm_A ow) (cm_A bd) (cm_A tr) (cm_A rt) (cm_A rp) (cm_A ro) := by
        intro post H0 H1
        unfold wY_unify_83
        show wpY_variableAt _ (cm_Y Q tp cl N (trailed, tm, sk, ow, bd, tr) rt rp ro) (nI 0)
        refine cm_y_var hY hnv (by decide) hR0 (fun _ => ?_) (fun b1 b2 _ _ => absurd ⟨b1, b2⟩ c0)
        show wpY_variableAt _ (cm_Y Q tp cl N (trailed, tm, sk, ow, bd, tr) rt rp ro) (nI 1)
        refine cm_y_var hY hnv (by decide) hR1 (fun _ => br_t (by decide) ?_) (fun b1 b2 _ _ => absurd ⟨b1, b2⟩ c1)
        unfold wY_unify_117
        refine br_t (by decide) ?_
        unfold wY_unify_137
        refine br_t rfl (br_f (by decide) ?_)
        show wpY_isAtLetter _ (cm_Y Q tp cl N (trailed, tm, sk, ow, bd, tr) rt rp ro) (nI 0)
        refine cm_y_at hY (by decide) hR0 (fun a as ea => br_f (by decide) (H0 (fun z => by rw [ea] at z; cases z.1))) (fun en0 => br_t rfl ?_)
        show wpY_isAtLetter _ (cm_Y Q tp cl N (trailed, tm, sk, ow, bd, tr) rt rp ro) (nI 1)
        refine cm_y_at hY (by decide) hR1 (fun a as ea => br_f (by decide) (H0 (fun z => by rw [ea] at z; cases z.2))) (fun en1 => br_t rfl ⟨by decide, by decide, ?_⟩)
        have h0 : e0 < 3 := by
          rcases c0' with h | h
          · exact absurd en0 h
          · exact h
        have h1 : e1 < 3 := by
          rcases c1' with h | h
          · exact absurd en1 h
          · exact h
        have q0 := cm_VT_t hR0.1.1
        have q1 := cm_VT_t hR1.1.1
        have r0 : cm_A rt 0 - cm_A rt 0 / 7 * 7 = nI (rt 0 % 7) := pk_rem (d := 7) (by omega) (by decide) (by decide)
        have r1 : cm_A rt 1 - cm_A rt 1 / 7 * 7 = nI (rt 1 % 7) := pk_rem (d := 7) (by omega) (by decide) (by decide)
        rw [r0, r1]
        subst en0
        subst en1
        have d0 := cm_RD_end hY hR0
        have d1 := cm_RD_end hY hR1
        have H2 := H1 rfl rfl h0 h1
        exact pk_eq (rt 0 % 7) (rt 1 % 7) (fun z => H2.1 (by omega)) (fun z => H2.2 (by omega)) rfl rfl (by omega) (by omega)
      by_cases hb : l0 = [] ∧ l1 = []
      · obtain ⟨h5, h6⟩ := hb
        subst h5
        subst h6
        have h0 : e0 < 3 := by
          rcases c0' with h | h
          · exact absurd rfl h
          · exact h
        have h1 : e1 < 3 := by
          rcases c1' with h | h
          · exact absurd rfl h
          · exact h
        have hu : cm_u ([], e1) ([], e0) = if e1 = e0 then some none else none := by
          show cm_U [] e1 [] e0 = _
          rw [cm_U_nn, if_neg (show ¬ 3 ≤ e1 by omega), if_neg (show ¬ 3 ≤ e0 by omega)]
        by_cases hz : e0 = e1
        · refine ⟨1, (trailed, tm, sk, ow, bd, tr), rt, rp, ro, Or.inr (Or.inl ⟨rfl, by rw [hu, if_pos hz.symm], rfl⟩), fun post H => go post (fun z => absurd ⟨rfl, rfl⟩ z) (fun _ _ _ _ => ⟨fun _ => H, fun z => absurd hz z⟩)⟩
        · refine ⟨0, (trailed, tm, sk, ow, bd, tr), rt, rp, ro, Or.inl ⟨rfl, by rw [hu, if_neg (fun z => hz z.symm)], tm, sk, ow, rfl, same⟩, fun post H => go post (fun z => absurd ⟨rfl, rfl⟩ z) (fun _ _ _ _ => ⟨fun z => absurd z hz, fun _ => H⟩)⟩
      · refine ⟨0, (trailed, tm, sk, ow, bd, tr), rt, rp, ro, Or.inl ⟨rfl, ?_, tm, sk, ow, rfl, same⟩, fun post H => go post (fun _ => H) (fun z1 z2 => absurd ⟨z1, z2⟩ hb)⟩
        cases l0 with
        | nil =>
          cases l1 with
          | nil => exact absurd ⟨rfl, rfl⟩ hb
          | cons a as =>
            have h0 : e0 < 3 := by
              rcases c0' with h | h
              · exact absurd rfl h
              · exact h
            show cm_U (a :: as) e1 [] e0 = none
            rw [cm_U_cn, if_neg (by omega)]
        | cons b bs =>
          cases l1 with
          | nil =>
            have h1 : e1 < 3 := by
              rcases c1' with h | h
              · exact absurd rfl h
              · exact h
            show cm_U [] e1 (b :: bs) e0 = none
            rw [cm_U_nc, if_neg (by omega)]
          | cons a as =>
            rcases hn with h | h <;> cases h
theorem cm_y_unify_l {e0 e1 : Nat} (hY : cm_YS nv tm sk ow bd w ρ) (hnv : nv ≤ 328) (htr : trailed < 328) : ∀ l0 l1 rt rp ro, cm_RD nv bd w rt rp ro 0 (l0, e0) → cm_RD nv bd w rt rp ro 1 (l1, e1) →
    ∃ r S' rt' rp' ro', cm_YR nv w (cm_U l1 e1 l0 e0) (trailed, tm, sk, ow, bd, tr) r S' ∧ ∀ (post : Int32 → SY → Prop) n, l0.length < n → post (nI r) (cm_Y Q tp cl N S' rt' rp' ro') → wY_unify_17 post n (nI Q.1) (nI tp) (nI trailed) (nI N.1) (nI N.2.1) (nI N.2.2) (cm_A Q.2.1) (cm_A Q.2.2) (cm_A (fun i => (cl i).1)) (cm_A (fun i => (cl i).2.1)) (cm_A (fun i => (cl i).2.2.1)) (cm_A (fun i => (cl i).2.2.2.1)) (cm_A (fun i => (cl i).2.2.2.2)) (cm_A tm) (cm_A sk) (cm_A ow) (cm_A bd) (cm_A tr) (cm_A rt) (cm_A rp) (cm_A ro) := by
  intro l0
  induction l0 with
  | nil =>
    intro l1 rt rp ro hR0 hR1
    obtain ⟨r, S', rt', rp', ro', hy, c⟩ := cm_y_unify_e (Q := Q) (tp := tp) (cl := cl) (N := N) (tr := tr) hY hnv htr hR0 hR1 (Or.inl rfl)
    refine ⟨r, S', rt', rp', ro', hy, fun post n hn H => ?_⟩
    obtain ⟨n, rfl⟩ : ∃ q, n = q + 1 := ⟨n - 1, by omega⟩
    rw [wY_unify_17]
    show wpY_isAtLetter _ (cm_Y Q tp cl N (trailed, tm, sk, ow, bd, tr) rt rp ro) (nI 0)
    exact cm_y_at hY (by decide) hR0 (fun a as z => by cases z) (fun _ => br_t rfl (c post H))
  | cons a as ih =>
    intro l1 rt rp ro hR0 hR1
    cases l1 with
    | nil =>
      obtain ⟨r, S', rt', rp', ro', hy, c⟩ := cm_y_unify_e (Q := Q) (tp := tp) (cl := cl) (N := N) (tr := tr) hY hnv htr hR0 hR1 (Or.inr rfl)
      refine ⟨r, S', rt', rp', ro', hy, fun post n hn H => ?_⟩
      obtain ⟨n, rfl⟩ : ∃ q, n = q + 1 := ⟨n - 1, by omega⟩
      rw [wY_unify_17]
      show wpY_isAtLetter _ (cm_Y Q tp cl N (trailed, tm, sk, ow, bd, tr) rt rp ro) (nI 0)
      refine cm_y_at hY (by decide) hR0 (fun _ _ _ => br_f (by decide) ?_) (fun z => by cases z)
      show wpY_isAtLetter _ (cm_Y Q tp cl N (trailed, tm, sk, ow, bd, tr) rt rp ro) (nI 1)
      exact cm_y_at hY (by decide) hR1 (fun a as z => by cases z) (fun _ => br_t rfl (c post H))
    | cons b bs =>
      obtain ⟨s0, c0⟩ := cm_RD_let hY hR0
      obtain ⟨s1, c1⟩ := cm_RD_let hY hR1
      have b0 := cm_la_lt hR0.1.1 s0
      have b1 := cm_la_lt hR1.1.1 s1
      have head : ∀ (post : Int32 → SY → Prop) n, (b = a → wpY_step (fun u => match u with | (f_rules_282, f_top_283, f_trailed_284, f_found_285, f_called_286, f_ending_287, a_goals_288, a_sizes_289, a_taken_290, a_callerOf_291, a_goalOf_292, a_nextRule_293, a_marks_294, a_terms_295, a_skips_296, a_owners_297, a_bound_298, a_trail_299, a_term_300, a_place_301, a_owner_302) => (wpY_step (fun u => match u with | (f_rules_304, f_top_305, f_trailed_306, f_found_307, f_called_308, f_ending_309, a_goals_310, a_sizes_311, a_taken_312, a_callerOf_313, a_goalOf_314, a_nextRule_315, a_marks_316, a_terms_317, a_skips_318, a_owners_319, a_bound_320, a_trail_321, a_term_322, a_place_323, a_owner_324) => (wY_unify_17 post n f_rules_304 f_top_305 f_trailed_306 f_found_307 f_called_308 f_ending_309 a_goals_310 a_sizes_311 a_taken_312 a_callerOf_313 a_goalOf_314 a_nextRule_315 a_marks_316 a_terms_317 a_skips_318 a_owners_319 a_bound_320 a_trail_321 a_term_322 a_place_323 a_owner_324)) (f_rules_282, f_top_283, f_trailed_284, f_found_285, f_called_286, f_ending_287, a_goals_288, a_sizes_289, a_taken_290, a_callerOf_291, a_goalOf_292, a_nextRule_293, a_marks_294, a_terms_295, a_skips_296, a_owners_297, a_bound_298, a_trail_299, a_term_300, a_place_301, a_owner_302) 1)) (cm_Y Q tp cl N (trailed, tm, sk, ow, bd, tr) rt rp ro) 0) → (b ≠ a → post 0 (cm_Y Q tp cl N (trailed, tm, sk, ow, bd, tr) rt rp ro)) → wY_unify_17 post (n + 1) (nI Q.1) (nI tp) (nI trailed) (nI N.1) (nI N.2.1) (nI N.2.2) (cm_A Q.2.1) (cm_A Q.2.2) (cm_A (fun i => (cl i).1)) (cm_A (fun i => (cl i).2.1)) (cm_A (fun i => (cl i).2.2.1)) (cm_A (fun i => (cl i).2.2.2.1)) (cm_A (fun i => (cl i).2.2.2.2)) (cm_A tm) (cm_A sk) (cm_A ow) (cm_A bd) (cm_A tr) (cm_A rt) (cm_A rp) (cm_A ro) := by
        intro post n H1 H0
        rw [wY_unify_17]
        show wpY_isAtLetter _ (cm_Y Q tp cl N (trailed, tm, sk, ow, bd, tr) rt rp ro) (nI 0)
        refine cm_y_at hY (by decide) hR0 (fun _ _ _ => br_f (by decide) ?_) (fun z => by cases z)
        show wpY_isAtLetter _ (cm_Y Q tp cl N (trailed, tm, sk, ow, bd, tr) rt rp ro) (nI 1)
        refine cm_y_at hY (by decide) hR1 (fun _ _ _ => br_f (by decide) ?_) (fun z => by cases z)
        show wpY_letterAt _ (cm_Y Q tp cl N (trailed, tm, sk, ow, bd, tr) rt rp ro) _ _
        refine cm_y_letterAt hR0.1.1 s0 rfl rfl ?_
        show wpY_letterAt _ (cm_Y Q tp cl N (trailed, tm, sk, ow, bd, tr) rt rp ro) _ _
        refine cm_y_letterAt hR1.1.1 s1 rfl rfl ?_
        exact pk_eq (cm_la (rt 0) (rp 0)) (cm_la (rt 1) (rp 1)) (fun z => H1 (by omega)) (fun z => H0 (by omega)) rfl rfl (by omega) (by omega)
      by_cases hab : b = a
      · obtain ⟨rt1, rp1, ro1, hR0', hO1, k1⟩ := cm_y_step (Q := Q) (tp := tp) (cl := cl) (N := N) (trailed := trailed) (tr := tr) hY hnv (by decide) hR0 s0
        have hR1' := cm_RD_other hR1 (by decide) hO1
        obtain ⟨rt2, rp2, ro2, hR1'', hO2, k2⟩ := cm_y_step (Q := Q) (tp := tp) (cl := cl) (N := N) (trailed := trailed) (tr := tr) hY hnv (by decide) hR1' (cm_RD_let hY hR1').1
        obtain ⟨r, S', rt', rp', ro', hy, c⟩ := ih bs rt2 rp2 ro2 (cm_RD_other hR0' (by decide) hO2) hR1''
        refine ⟨r, S', rt', rp', ro', by rw [cm_U_cc, if_pos hab]; exact hy, fun post n hn H => ?_⟩
        obtain ⟨n, rfl⟩ : ∃ q, n = q + 1 := ⟨n - 1, by omega⟩
        refine head post n (fun _ => k1 _ ?_) (fun z => absurd hab z)
        show wpY_step _ (cm_Y Q tp cl N (trailed, tm, sk, ow, bd, tr) rt1 rp1 ro1) (nI 1)
        exact k2 _ (c post n (by rw [List.length_cons] at hn; omega) H)
      · refine ⟨0, (trailed, tm, sk, ow, bd, tr), rt, rp, ro, Or.inl ⟨rfl, by rw [cm_U_cc, if_neg hab], tm, sk, ow, rfl, fun _ _ => ⟨rfl, rfl, rfl⟩⟩, fun post n hn H => ?_⟩
        obtain ⟨n, rfl⟩ : ∃ q, n = q + 1 := ⟨n - 1, by omega⟩
        exact head post n (fun z => absurd z hab) (fun _ => H)
theorem cm_y_unify {t c u o : Nat} (hY : cm_YS nv tm sk ow bd w ρ) (hnv : nv ≤ 328) (htr : trailed < 328) (hP0 : cm_PO nv t 0 c) (hP1 : cm_PO nv u 0 o) :
    ∃ r S' rt' rp' ro', cm_YR nv w (cm_u (cm_pw w u 0 o) (cm_pw w t 0 c)) (trailed, tm, sk, ow, bd, tr) r S' ∧ ∀ (post : Int32 → SY → Prop) (x1 x2 x3 x4 : Int32), x1 = nI t → x2 = nI c → x3 = nI u → x4 = nI o → post (nI r) (cm_Y Q tp cl N S' rt' rp' ro') → wpY_unify post (cm_Y Q tp cl N (trailed, tm, sk, ow, bd, tr) rt rp ro) x1 x2 x3 x4 := by
  obtain ⟨rt1, rp1, ro1, hR0, hO1, k1⟩ := cm_y_startReading (Q := Q) (tp := tp) (cl := cl) (N := N) (trailed := trailed) (tr := tr) (rt := rt) (rp := rp) (ro := ro) (rd := 0) hY hnv (by decide) hP0
  obtain ⟨rt2, rp2, ro2, hR1, hO2, k2⟩ := cm_y_startReading (Q := Q) (tp := tp) (cl := cl) (N := N) (trailed := trailed) (tr := tr) (rt := rt1) (rp := rp1) (ro := ro1) (rd := 1) hY hnv (by decide) hP1
  obtain ⟨r, S', rt', rp', ro', hy, k3⟩ := cm_y_unify_l (Q := Q) (tp := tp) (cl := cl) (N := N) (tr := tr) hY hnv htr _ _ rt2 rp2 ro2 (cm_RD_other hR0 (by decide) hO2) hR1
  refine ⟨r, S', rt', rp', ro', hy, fun post x1 x2 x3 x4 e1 e2 e3 e4 H => ?_⟩
  unfold wpY_unify cm_Y
  dsimp only
  show wpY_startReading _ (cm_Y Q tp cl N (trailed, tm, sk, ow, bd, tr) rt rp ro) (nI 0) x1 (nI 0) x2
  refine k1 _ _ _ _ e1 rfl e2 ?_
  show wpY_startReading _ (cm_Y Q tp cl N (trailed, tm, sk, ow, bd, tr) rt1 rp1 ro1) (nI 1) x3 (nI 0) x4
  exact k2 _ _ _ _ e3 rfl e4 ⟨_, k3 post _ (Nat.lt_succ_self _) H⟩
theorem cm_y_undo_l {to : Nat} (hto : to ≤ 328) (bd0 : Nat → Nat) (t0 : Nat) (htr : ∀ i, to ≤ i → i < t0 → tr i < 328) (ht0 : t0 ≤ 328) : ∀ d bd, to + d ≤ t0 → cm_UnY t0 (to + d) tr bd0 bd → ∃ bd', cm_UnY t0 to tr bd0 bd' ∧ ∀ (post : SY → Prop) n, d < n → post (cm_Y Q tp cl N (to, tm, sk, ow, bd', tr) rt rp ro) → wY_undo_0 post (nI to) (nI Q.1) (nI tp) (nI N.1) (nI N.2.1) (nI N.2.2) n (nI (to + d)) (cm_A Q.2.1) (cm_A Q.2.2) (cm_A (fun i => (cl i).1)) (cm_A (fun i => (cl i).2.1)) (cm_A (fun i => (cl i).2.2.1)) (cm_A (fun i => (cl i).2.2.2.1)) (cm_A (fun i => (cl i).2.2.2.2)) (cm_A tm) (cm_A sk) (cm_A ow) (cm_A bd) (cm_A tr) (cm_A rt) (cm_A rp) (cm_A ro) := by
  intro d
  induction d with
  | zero =>
    intro bd hd hu
    refine ⟨bd, hu, fun post n hn H => ?_⟩
    obtain ⟨n, rfl⟩ : ∃ q, n = q + 1 := ⟨n - 1, by omega⟩
    exact br_t (nI_le (by omega) (by omega)) H
  | succ d ih =>
    intro bd hd hu
    have h3 := htr (to + d) (by omega) (by omega)
    obtain ⟨bd', hu', c⟩ := ih (cm_s bd (tr (to + d)) 0) (by omega) (by
      intro v
      refine ⟨fun ⟨i, i1, i2, i3⟩ => ?_, fun hn => ?_⟩
      · by_cases e : v = tr (to + d)
        · rw [e, cm_ss]
        · rw [cm_sn e]
          refine (hu v).1 ⟨i, ?_, i2, i3⟩
          by_cases e2 : i = to + d
          · rw [e2] at i3; exact absurd i3.symm e
          · omega
      · have e : v ≠ tr (to + d) := fun z => hn ⟨to + d, Nat.le_refl _, by omega, z.symm⟩
        rw [cm_sn e]
        exact (hu v).2 (fun ⟨i, i1, i2, i3⟩ => hn ⟨i, by omega, i2, i3⟩))
    refine ⟨bd', hu', fun post n hn H => ?_⟩
    obtain ⟨n, rfl⟩ : ∃ q, n = q + 1 := ⟨n - 1, by omega⟩
    refine br_f (nI_ge (by omega) (by omega)) (nm_r (nI_pred (to + d)) ⟨vp_in_nI (by omega) (by decide), ?_⟩)
    rw [cm_rd (f := tr) (by omega), cm_vb0]
    exact ⟨vp_in_nI h3 (by decide), nm_r (cm_wr (by omega)) (c post n (by omega) H)⟩
theorem cm_y_undo {to : Nat} (hto : to ≤ trailed) (htr : ∀ i, to ≤ i → i < trailed → tr i < 328) (ht0 : trailed ≤ 328) : ∃ bd', cm_UnY trailed to tr bd bd' ∧ ∀ (post : SY → Prop) (x : Int32), x = nI to → post (cm_Y Q tp cl N (to, tm, sk, ow, bd', tr) rt rp ro) → wpY_undo post (cm_Y Q tp cl N (trailed, tm, sk, ow, bd, tr) rt rp ro) x := by
  obtain ⟨bd', hu, c⟩ := cm_y_undo_l (Q := Q) (tp := tp) (cl := cl) (N := N) (tm := tm) (sk := sk) (ow := ow) (rt := rt) (rp := rp) (ro := ro) (to := to) (by omega) bd trailed htr ht0 (trailed - to) bd (by omega) (fun v => ⟨fun ⟨i, i1, i2, i3⟩ => by omega, fun _ => rfl⟩)
  refine ⟨bd', hu, fun post x ex H => ?_⟩
  subst ex
  unfold wpY_undo cm_Y
  dsimp only
  have := c post (trailed - to + 1) (Nat.lt_succ_self _) H
  rw [show to + (trailed - to) = trailed by omega] at this
  exact ⟨_, this⟩
end cmY2
end
section
/-! X's walks: undo, a new frame, the rules left out -/
theorem cm_m1lt {n : Nat} (h : n < 2 ^ 31) : nI n - 1 < nI n := by
  cases n with
  | zero => decide
  | succ n => rw [nI_pred]; exact nI_lt (Nat.lt_succ_self n) h
/-- a rule left out: another predicate, or the first symbol is another -/
def cm_PsR (R : cm_RT) (p : Nat) (c : cm_W) (r : Nat) : Prop := R.2.2.1 (r * 4) ≠ p ∨ cm_Psd (cm_lt (R.2.2.2.1 (r * 4))) (R.2.2.2.1 (r * 4) % 7) c
section cmX6
variable {R : cm_RT} {nf : Nat} {fr : cm_FT} {nc : Nat} {ch : cm_CT} {M : cm_MT} {D : cm_DT} {top trail : Nat} {k m l tc : Nat → Nat} {w : Nat → cm_W} {ρ : Nat → Nat}
theorem cm_x_undo_l {post : SX → Prop} {to : Nat} (l0 : Nat → Nat) (ht : trail ≤ 2700) (htc : ∀ i, to ≤ i → i < trail → tc i < 2700) : ∀ d n l, d < n → to + d ≤ trail → cm_Und trail (to + d) tc l0 l → (∀ l', cm_Und trail to tc l0 l' → post (cm_X R nf fr nc ch M D (top, to, k, m, l', tc))) → wX_undo_7 post (nI to) (nI R.1) (nI top) (nI trail) (nI nf) (nI nc) (nI M.1) (nI M.2.1) (nI M.2.2.1) (nI M.2.2.2.1) (nI M.2.2.2.2.1) (nI M.2.2.2.2.2.1) (nI M.2.2.2.2.2.2.1) (nI D.1) (nI M.2.2.2.2.2.2.2) n (nI (to + d) - 1) (cm_A R.2.1) (cm_A R.2.2.1) (cm_A R.2.2.2.1) (cm_A R.2.2.2.2) (cm_A k) (cm_A m) (cm_A l) (cm_A tc) (cm_A (fun i => (fr i).1)) (cm_A (fun i => (fr i).2.1)) (cm_A (fun i => (fr i).2.2.1)) (cm_A (fun i => (fr i).2.2.2)) (cm_A (fun i => (ch i).1)) (cm_A (fun i => (ch i).2.1)) (cm_A (fun i => (ch i).2.2.1)) (cm_A (fun i => (ch i).2.2.2.1)) (cm_A (fun i => (ch i).2.2.2.2.1)) (cm_A (fun i => (ch i).2.2.2.2.2.1)) (cm_A (fun i => (ch i).2.2.2.2.2.2.1)) (cm_A (fun i => (ch i).2.2.2.2.2.2.2.1)) (cm_A (fun i => (ch i).2.2.2.2.2.2.2.2)) (cm_A D.2) := by
  intro d
  induction d with
  | zero =>
    intro n l hn hd hu H
    obtain ⟨n, rfl⟩ : ∃ q, n = q + 1 := ⟨n - 1, by omega⟩
    exact br_t (cm_m1lt (by omega)) (H l hu)
  | succ d ih =>
    intro n l hn hd hu H
    obtain ⟨n, rfl⟩ : ∃ q, n = q + 1 := ⟨n - 1, by omega⟩
    have h3 := htc (to + d) (by omega) (by omega)
    have e1 : nI (to + (d + 1)) - 1 = nI (to + d) := nI_pred (to + d)
    rw [e1]
    have vi : vp_in (nI (to + d)) 2700 := vp_in_nI (by omega) (by decide)
    refine br_f (nI_nlt (by omega) (by omega)) ⟨vi, vi, ?_⟩
    rw [cm_rd (f := tc) (by omega)]
    refine ⟨vp_in_nI h3 (by decide), nm_r (cm_wr (by omega)) (nm_r (Int32.sub_eq_add_neg _ _).symm (ih n _ (by omega) (by omega) ?_ H))⟩
    intro v
    refine ⟨fun ⟨i, i1, i2, i3⟩ => ?_, fun hn => ?_⟩
    · by_cases e : v = tc (to + d)
      · rw [e, cm_ss]
      · rw [cm_sn e]
        refine (hu v).1 ⟨i, ?_, i2, i3⟩
        by_cases e2 : i = to + d
        · rw [e2] at i3; exact absurd i3.symm e
        · omega
    · have e : v ≠ tc (to + d) := fun z => hn ⟨to + d, Nat.le_refl _, by omega, z.symm⟩
      rw [cm_sn e]
      exact (hu v).2 (fun ⟨i, i1, i2, i3⟩ => hn ⟨i, by omega, i2, i3⟩)
theorem cm_x_undo {post : SX → Prop} {to : Nat} {x : Int32} (hto : to ≤ trail) (ht : trail ≤ 2700) (htc : ∀ i, to ≤ i → i < trail → tc i < 2700) (ex : x = nI to) (H : ∀ l', cm_Und trail to tc l l' → post (cm_X R nf fr nc ch M D (top, to, k, m, l', tc))) : wpX_undo post (cm_X R nf fr nc ch M D (top, trail, k, m, l, tc)) x := by
  subst ex
  unfold wpX_undo cm_X
  dsimp only
  refine nm_e ⟨trail - to + 1, ?_⟩
  have e : trail = to + (trail - to) := by omega
  have := cm_x_undo_l (R := R) (nf := nf) (fr := fr) (nc := nc) (ch := ch) (M := M) (D := D) (top := top) (k := k) (m := m) (post := post) (to := to) l ht htc (trail - to) (trail - to + 1) l (Nat.lt_succ_self _) (by omega) (fun v => ⟨fun ⟨i, i1, i2, i3⟩ => by omega, fun _ => rfl⟩) H
  rw [← e] at this
  exact this
theorem cm_x_newFrame_l {post : Int32 → SX → Prop} (H0 : cm_HT) (w0 : Nat → cm_W) : ∀ j n i top k m l w, i + j = 4 → j < n → top + j ≤ 2700 → cm_NW H0 w0 (top, trail, k, m, l, tc) w i 0 → top = H0.1 + i → (∀ v, v < i → w (H0.1 + v) = ([], 3 + (H0.1 + v))) →
    (∀ H' w', cm_NW H0 w0 H' w' 4 0 → H'.1 = H0.1 + 4 → (∀ v, v < 4 → w' (H0.1 + v) = ([], 3 + (H0.1 + v))) → post (nI nf) (cm_X R (nf + 1) fr nc ch M D H')) → wX_newFrame_46 post n (nI i) (nI R.1) (nI top) (nI trail) (nI nf) (nI nc) (nI M.1) (nI M.2.1) (nI M.2.2.1) (nI M.2.2.2.1) (nI M.2.2.2.2.1) (nI M.2.2.2.2.2.1) (nI M.2.2.2.2.2.2.1) (nI D.1) (nI M.2.2.2.2.2.2.2) (cm_A R.2.1) (cm_A R.2.2.1) (cm_A R.2.2.2.1) (cm_A R.2.2.2.2) (cm_A k) (cm_A m) (cm_A l) (cm_A tc) (cm_A (fun i => (fr i).1)) (cm_A (fun i => (fr i).2.1)) (cm_A (fun i => (fr i).2.2.1)) (cm_A (fun i => (fr i).2.2.2)) (cm_A (fun i => (ch i).1)) (cm_A (fun i => (ch i).2.1)) (cm_A (fun i => (ch i).2.2.1)) (cm_A (fun i => (ch i).2.2.2.1)) (cm_A (fun i => (ch i).2.2.2.2.1)) (cm_A (fun i => (ch i).2.2.2.2.2.1)) (cm_A (fun i => (ch i).2.2.2.2.2.2.1)) (cm_A (fun i => (ch i).2.2.2.2.2.2.2.1)) (cm_A (fun i => (ch i).2.2.2.2.2.2.2.2)) (cm_A D.2) := by
  intro j
  induction j with
  | zero =>
    intro n i top k m l w hi hn _ hN ht hw P
    obtain ⟨n, rfl⟩ : ∃ q, n = q + 1 := ⟨n - 1, by omega⟩
    have e : i = 4 := by omega
    subst e
    refine br_t (by decide) (nm_r (nI_1 nf) ?_)
    rw [nI_pred]
    exact P _ w hN ht hw
  | succ j ih =>
    intro n i top k m l w hi hn ht hN htop hw P
    obtain ⟨n, rfl⟩ : ∃ q, n = q + 1 := ⟨n - 1, by omega⟩
    refine br_f (nI_ge (b := 4) (by omega) (by decide)) ?_
    show wpX_freeCell _ (cm_X R nf fr nc ch M D (top, trail, k, m, l, tc))
    refine cm_x_freeCell (by omega) (nm_r (nI_1 i) ?_)
    obtain ⟨ρ', hH'⟩ := hN.2.2.2.2.2
    have n1 := cm_NW_cell (trail := trail) (tc := tc) hH' (kd := 0) (mk := 0) (lk := top) (wd := ([], 3 + top)) (Or.inl ⟨rfl, rfl, rfl⟩)
    have n2 := cm_NW_trans hN n1
    rw [if_neg (by decide)] at n2
    refine ih n (i + 1) (top + 1) _ _ _ _ (by omega) (by omega) (by omega) n2 (by omega) ?_ P
    intro v hv
    by_cases e : v = i
    · subst e
      rw [← htop, cm_ss]
    · rw [cm_sn (by omega)]
      exact hw v (by omega)
theorem cm_x_newFrame {post : Int32 → SX → Prop} {r c nx : Nat} {x y z : Int32} (hf : nf < 84) (hH : cm_HX top k m l w ρ) (ht : top + 4 ≤ 2700) (ex : x = nI r) (ey : y = nI c) (ez : z = nI nx)
    (P : ∀ H' w', cm_NW (top, trail, k, m, l, tc) w H' w' 4 0 → H'.1 = top + 4 → (∀ v, v < 4 → w' (top + v) = ([], 3 + (top + v))) → post (nI nf) (cm_X R (nf + 1) (cm_s fr nf (r, top, c, nx)) nc ch M D H')) : wpX_newFrame post (cm_X R nf fr nc ch M D (top, trail, k, m, l, tc)) x y z := by
  subst ex
  subst ey
  subst ez
  have vi : vp_in (nI nf) 84 := vp_in_nI hf (by decide)
  unfold wpX_newFrame cm_X
  dsimp only
  refine ⟨vi, nm_r (cm_wp (r := (r, top, c, nx)) (fun a => a.1) (by omega) rfl) ⟨vi, nm_r (cm_wp (r := (r, top, c, nx)) (fun a => a.2.2.1) (by omega) rfl) ⟨vi, nm_r (cm_wp (r := (r, top, c, nx)) (fun a => a.2.2.2) (by omega) rfl) ⟨vi, nm_r (cm_wp (r := (r, top, c, nx)) (fun a => a.2.1) (by omega) rfl) ⟨5, ?_⟩⟩⟩⟩⟩
  exact cm_x_newFrame_l (M := M) (fr := cm_s fr nf (r, top, c, nx)) (top, trail, k, m, l, tc) w 4 5 0 top k m l w (by omega) (by omega) ht (cm_NW_refl hH) rfl (fun v hv => by omega) P
theorem cm_x_passed {post : Int32 → SX → Prop} {r p : Nat} (hH : cm_HX top k m l w ρ) (ht : top ≤ 2700) (hA : M.2.2.1 < top) (hr : r < 9) (hp : p < 2 ^ 31) (hq : R.2.2.1 (r * 4) < 2 ^ 31) (hv : cm_VT (R.2.2.2.1 (r * 4)))
    (h1 : cm_PsR R p (w M.2.2.1) r → ∀ D', post 1 (cm_X R nf fr nc ch M D' (top, trail, k, m, l, tc))) (h0 : ¬ cm_PsR R p (w M.2.2.1) r → ∀ D', post 0 (cm_X R nf fr nc ch M D' (top, trail, k, m, l, tc))) : wpX_passed post (cm_X R nf fr nc ch M D (top, trail, k, m, l, tc)) (nI r) (nI p) := by
  have e4 : nI r * 4 = nI (r * 4) := pk_mul r 4
  have vi : vp_in (nI (r * 4)) 36 := vp_in_nI (by omega) (by decide)
  have ht7 := cm_VT_t hv
  have h4 := cm_lt_len (R.2.2.2.1 (r * 4))
  have h7 : R.2.2.2.1 (r * 4) % 7 < 7 := Nat.mod_lt _ (by decide)
  unfold wpX_passed cm_X
  dsimp only
  rw [e4]
  refine ⟨vi, pk_eq (R.2.2.1 (r * 4)) p (fun ep => ?_) (fun ep => h1 (Or.inl ep) D) (cm_rd (by omega)) rfl hq hp⟩
  have hPs : cm_PsR R p (w M.2.2.1) r ↔ cm_Psd (cm_lt (R.2.2.2.1 (r * 4))) (R.2.2.2.1 (r * 4) % 7) (w M.2.2.1) :=
    ⟨fun z => z.elim (fun y => absurd ep y) id, Or.inr⟩
  rw [hPs] at h1 h0
  show wpX_deref _ (cm_X R nf fr nc ch M D (top, trail, k, m, l, tc)) (nI M.2.2.1)
  refine cm_x_deref hH ht hA rfl fun d hd hs hw => ⟨vi, ?_⟩
  rw [← hw] at h1 h0
  show wpX_spread _ (cm_X R nf fr nc ch M D (top, trail, k, m, l, tc)) _
  refine cm_x_spread hv (cm_rd (by omega)) fun dg hdg => ⟨vi, by decide, ?_⟩
  refine nm_r (e' := nI (R.2.2.2.1 (r * 4) % 7)) (by
    show cm_A R.2.2.2.1 (nI (r * 4)).toNatClampNeg - cm_A R.2.2.2.1 (nI (r * 4)).toNatClampNeg / 7 * 7 = nI (R.2.2.2.1 (r * 4) % 7)
    rw [cm_rd (f := R.2.2.2.1) (by omega)]
    exact pk_rem (d := 7) (by omega) (by decide) (by decide)) ?_
  have hkd := cm_HX_k hH hd
  have vd : vp_in (nI d) 2700 := vp_in_nI (by omega) (by decide)
  show wpX_isFree _ (cm_X R nf fr nc ch M (((cm_lt (R.2.2.2.1 (r * 4))).length, dg)) (top, trail, k, m, l, tc)) (nI d)
  refine cm_x_isFree hH ht hd (fun fk fl => br_f (by decide) (h0 ?_ _)) (fun nfx => br_t rfl ?_)
  · rw [cm_HX_free hH hd fk fl]
    intro z
    exact z.1 ⟨rfl, by show 3 ≤ 3 + d; omega⟩
  · have k0 : k d ≠ 0 := fun z => nfx ⟨z, hs z⟩
    have hmd := cm_HX_m hH hd k0
    have hnf : ¬ ((w d).1 = [] ∧ 3 ≤ (w d).2) := by
      rcases Nat.lt_or_ge (k d) 2 with a | a
      · rw [cm_HX_con hH hd (by omega)]
        intro z
        have := z.2
        dsimp only at this
        omega
      · rw [(cm_HX_let hH hd (by omega)).2]
        intro z
        exact absurd z.1 (by simp)
    refine pk_eq (cm_lt (R.2.2.2.1 (r * 4))).length 0 (fun e0 => ?_) (fun e0 => ?_) rfl rfl (by omega) (by omega)
    · have e0' : cm_lt (R.2.2.2.1 (r * 4)) = [] := List.length_eq_zero_iff.mp e0
      refine pk_lt (R.2.2.2.1 (r * 4) % 7) 3 (fun e3 => ?_) (fun e3 => h0 ?_ _) rfl rfl (by omega) (by omega)
      · unfold wX_passed_71
        refine br_t (by rw [e0]; rfl) ⟨vd, pk_eq (k d) 1 (fun k1 => ⟨vd, ?_⟩) (fun k1 => h1 ⟨hnf, Or.inl ⟨e0', e3, ?_⟩⟩ _) (cm_rd (by omega)) rfl (by omega) (by omega)⟩
        · refine pk_eq (m d) (R.2.2.2.1 (r * 4) % 7) (fun em => h0 ?_ _) (fun em => h1 ⟨hnf, Or.inl ⟨e0', e3, ?_⟩⟩ _) (cm_rd (by omega)) rfl (by omega) (by omega)
          · rw [cm_HX_con hH hd k1, em]
            intro z
            rcases z.2 with ⟨_, _, z⟩ | ⟨a, b, z, _⟩
            · exact z ⟨rfl, rfl⟩
            · rw [e0'] at z; cases z
          · rw [cm_HX_con hH hd k1]
            intro z
            exact em z.2
        · rw [(cm_HX_let hH hd (by omega)).2]
          intro z
          exact absurd z.1 (by simp)
      · intro z
        rcases z.2 with ⟨_, z, _⟩ | ⟨a, b, z, _⟩
        · omega
        · rw [e0'] at z; cases z
    · obtain ⟨a, as, ea⟩ : ∃ a as, cm_lt (R.2.2.2.1 (r * 4)) = a :: as := by
        cases h : cm_lt (R.2.2.2.1 (r * 4)) with
        | nil => rw [h] at e0; exact absurd rfl e0
        | cons a as => exact ⟨a, as, rfl⟩
      have eda : dg 0 = a := by
        rw [hdg 0 (by omega)]
        unfold cm_la
        rw [ea]
        rfl
      have hla := cm_la_lt hv (s := 0) (by omega)
      rw [← hdg 0 (by omega), eda] at hla
      unfold wX_passed_71
      refine br_f (nI_ne0 (by omega) (by omega)) ⟨vd, pk_eq (k d) 2 (fun k2 => ⟨vd, ?_⟩) (fun k2 => h1 ⟨hnf, Or.inr ⟨a, as, ea, ?_⟩⟩ _) (cm_rd (by omega)) rfl (by omega) (by omega)⟩
      · refine pk_eq (m d) a (fun em => h0 ?_ _) (fun em => h1 ⟨hnf, Or.inr ⟨a, as, ea, ?_⟩⟩ _) (cm_rd (by omega)) (by show nI (dg 0) = nI a; rw [eda]) (by omega) (by omega)
        · rw [(cm_HX_let hH hd k2).2, em]
          intro z
          rcases z.2 with ⟨z, _⟩ | ⟨a', b, z, z2⟩
          · rw [ea] at z; cases z
          · rw [ea] at z
            injection z with z3 z4
            exact z2 _ (by rw [z3])
        · rw [(cm_HX_let hH hd k2).2]
          intro tl z
          injection z with z3 z4
          exact em z3
      · rw [cm_HX_con hH hd (by omega)]
        intro tl z
        cases z
theorem cm_x_candidate_l {post : Int32 → SX → Prop} {p fm : Nat} (hH : cm_HX top k m l w ρ) (ht : top ≤ 2700) (hA : M.2.2.1 < top) (hR : R.1 ≤ 8) (hp : p < 2 ^ 31) (hq : ∀ r, r < R.1 → R.2.2.1 (r * 4) < 2 ^ 31 ∧ cm_VT (R.2.2.2.1 (r * 4)))
    (hN : (∀ r, fm ≤ r → r < R.1 → cm_PsR R p (w M.2.2.1) r) → ∀ D', post (-4) (cm_X R nf fr nc ch M D' (top, trail, k, m, l, tc))) (hS : ∀ r, fm ≤ r → r < R.1 → (∀ r', fm ≤ r' → r' < r → cm_PsR R p (w M.2.2.1) r') → ¬ cm_PsR R p (w M.2.2.1) r → ∀ D', post (nI r) (cm_X R nf fr nc ch M D' (top, trail, k, m, l, tc))) :
    ∀ j n r (D : cm_DT), 9 - r ≤ j → j < n → fm ≤ r → r ≤ 9 → (∀ r', fm ≤ r' → r' < r → cm_PsR R p (w M.2.2.1) r') → wX_candidate_2 post (nI p) n (nI r) (nI R.1) (nI top) (nI trail) (nI nf) (nI nc) (nI M.1) (nI M.2.1) (nI M.2.2.1) (nI M.2.2.2.1) (nI M.2.2.2.2.1) (nI M.2.2.2.2.2.1) (nI M.2.2.2.2.2.2.1) (nI D.1) (nI M.2.2.2.2.2.2.2) (cm_A R.2.1) (cm_A R.2.2.1) (cm_A R.2.2.2.1) (cm_A R.2.2.2.2) (cm_A k) (cm_A m) (cm_A l) (cm_A tc) (cm_A (fun i => (fr i).1)) (cm_A (fun i => (fr i).2.1)) (cm_A (fun i => (fr i).2.2.1)) (cm_A (fun i => (fr i).2.2.2)) (cm_A (fun i => (ch i).1)) (cm_A (fun i => (ch i).2.1)) (cm_A (fun i => (ch i).2.2.1)) (cm_A (fun i => (ch i).2.2.2.1)) (cm_A (fun i => (ch i).2.2.2.2.1)) (cm_A (fun i => (ch i).2.2.2.2.2.1)) (cm_A (fun i => (ch i).2.2.2.2.2.2.1)) (cm_A (fun i => (ch i).2.2.2.2.2.2.2.1)) (cm_A (fun i => (ch i).2.2.2.2.2.2.2.2)) (cm_A D.2) := by
  intro j
  induction j with
  | zero =>
    intro n r D hj hn hf hr9 hps
    obtain ⟨n, rfl⟩ : ∃ q, n = q + 1 := ⟨n - 1, by omega⟩
    exact br_t (nI_le (by omega) (by omega)) (hN (fun r' h1 h2 => hps r' h1 (by omega)) D)
  | succ j ih =>
    intro n r D hj hn hf hr9 hps
    obtain ⟨n, rfl⟩ : ∃ q, n = q + 1 := ⟨n - 1, by omega⟩
    refine pk_le R.1 r (fun h => hN (fun r' h1 h2 => hps r' h1 (by omega)) D) (fun h => ?_) rfl rfl (by omega) (by omega)
    show wpX_passed _ (cm_X R nf fr nc ch M D (top, trail, k, m, l, tc)) (nI r) (nI p)
    refine cm_x_passed hH ht hA (by omega) hp (hq r h).1 (hq r h).2 (fun hp1 D' => br_f (by decide) (nm_r (nI_1 r) ?_)) (fun hp0 D' => br_t rfl (hS r hf h hps hp0 D'))
    refine ih n (r + 1) D' (by omega) (by omega) (by omega) (by omega) ?_
    intro r' h1 h2
    by_cases e : r' = r
    · rw [e]; exact hp1
    · exact hps r' h1 (by omega)
theorem cm_x_candidate {post : Int32 → SX → Prop} {p fm : Nat} {x : Int32} (hH : cm_HX top k m l w ρ) (ht : top ≤ 2700) (hA : M.2.2.1 < top) (hR : R.1 ≤ 8) (hp : p < 2 ^ 31) (hq : ∀ r, r < R.1 → R.2.2.1 (r * 4) < 2 ^ 31 ∧ cm_VT (R.2.2.2.1 (r * 4))) (hf : fm ≤ 9) (ex : x = nI fm)
    (hN : (∀ r, fm ≤ r → r < R.1 → cm_PsR R p (w M.2.2.1) r) → ∀ D', post (-4) (cm_X R nf fr nc ch M D' (top, trail, k, m, l, tc))) (hS : ∀ r, fm ≤ r → r < R.1 → (∀ r', fm ≤ r' → r' < r → cm_PsR R p (w M.2.2.1) r') → ¬ cm_PsR R p (w M.2.2.1) r → ∀ D', post (nI r) (cm_X R nf fr nc ch M D' (top, trail, k, m, l, tc))) : wpX_candidate post (cm_X R nf fr nc ch M D (top, trail, k, m, l, tc)) x (nI p) := by
  subst ex
  unfold wpX_candidate cm_X
  dsimp only
  exact ⟨11, cm_x_candidate_l (nf := nf) hH ht hA hR hp hq hN hS 10 11 fm D (by omega) (by omega) (Nat.le_refl _) hf (fun r' h1 h2 => by omega)⟩
end cmX6
end
section
/-! the two machines side by side: pure -/
def cm_G (R : cm_RT) (Q : cm_QT) (a b : Nat) : Prop := Q.2.1 a = R.2.2.1 b ∧ Q.2.1 (a + 1) = R.2.2.2.1 b ∧ Q.2.1 (a + 2) = R.2.2.2.2 b ∧ R.2.2.1 b ≤ 3 ∧ cm_VT (R.2.2.2.1 b) ∧ cm_VT (R.2.2.2.2 b)
/-- rules and question alike -/
def cm_RQ (R : cm_RT) (Q : cm_QT) : Prop :=
  Q.1 = R.1 ∧ R.1 ≤ 8 ∧ (∀ r, r < R.1 → R.2.1 r ≤ 2 ∧ Q.2.2 r = R.2.1 r + 1 ∧ ∀ j, j ≤ R.2.1 r → cm_G R Q (9 * r + 3 * j) (r * 4 + j)) ∧ R.2.1 8 ≤ 3 ∧ Q.2.2 8 = R.2.1 8 ∧ ∀ j, j < R.2.1 8 → cm_G R Q (72 + 3 * j) (8 * 4 + j + 1)
/-- frames and calls alike -/
def cm_Fb (T : Nat) (R : cm_RT) (fr : cm_FT) (cl : cm_LT) : Prop :=
  (fr 0).1 = 8 ∧ (fr 0).2.1 = 0 ∧ ∀ c, 1 ≤ c → c ≤ T → (fr c).1 < R.1 ∧ (cl c).1 = (fr c).1 ∧ (fr c).2.2.1 < c ∧ (cl c).2.1 = (fr c).2.2.1 ∧ 1 ≤ (fr c).2.2.2 ∧ (fr c).2.2.2 ≤ R.2.1 (fr (fr c).2.2.1).1 ∧ (cl c).2.2.1 + 1 = (fr c).2.2.2 + (if (fr c).2.2.1 = 0 then 0 else 1)
theorem cm_Fb_le {T T' : Nat} {R : cm_RT} {fr : cm_FT} {cl : cm_LT} (h : cm_Fb T R fr cl) (hT : T' ≤ T) : cm_Fb T' R fr cl :=
  ⟨h.1, h.2.1, fun c h1 h2 => h.2.2 c h1 (by omega)⟩
theorem cm_Fb_rule {T : Nat} {R : cm_RT} {fr : cm_FT} {cl : cm_LT} (h : cm_Fb T R fr cl) (hR : R.1 ≤ 8) {c : Nat} (hc : c ≤ T) : (fr c).1 ≤ 8 := by
  by_cases e : c = 0
  · rw [e, h.1]; exact Nat.le_refl 8
  · have := (h.2.2 c (by omega) hc).1
    omega
/-- heap, store, words, and their correspondence on the variables of all calls -/
def cm_Sm (T : Nat) (fr : cm_FT) (H : cm_HT) (S : cm_ST) (wX wY : Nat → cm_W) (f g : Nat → Nat) : Prop :=
  (∃ ρ, cm_HX H.1 H.2.2.1 H.2.2.2.1 H.2.2.2.2.1 wX ρ) ∧ (∃ ρ, cm_YS (4 * T + 4) S.2.1 S.2.2.1 S.2.2.2.1 S.2.2.2.2.1 wY ρ) ∧ cm_FG f g ∧ ∀ c v, c ≤ T → v < 4 → (fr c).2.1 + 3 < H.1 ∧ cm_Cor f g (wX ((fr c).2.1 + v)) (wY (4 * c + v))
theorem cm_Cor_c {f g : Nat → Nat} (h : cm_FG f g) (l : List Nat) {e : Nat} (he : e < 3) : cm_Cor f g (l, e) (l, e) := by
  obtain ⟨h1, h2⟩ := (h e).1 he
  exact cm_Cor_mk rfl h1.symm (by show g (f e) = e; rw [h1, h2])
/-- a term's word on both sides -/
theorem cm_Sm_term {T : Nat} {fr : cm_FT} {H : cm_HT} {S : cm_ST} {wX wY : Nat → cm_W} {f g : Nat → Nat} (h : cm_Sm T fr H S wX wY f g) {c : Nat} (hc : c ≤ T) (t : Nat) : cm_Cor f g (cm_tw wX (fr c).2.1 t) (cm_pw wY t 0 c) := by
  have h7 : t % 7 < 7 := Nat.mod_lt _ (by decide)
  unfold cm_tw cm_pw
  rw [List.drop_zero]
  by_cases e : t % 7 < 3
  · rw [if_pos e, if_pos e]
    exact cm_Cor_c h.2.2.1 _ e
  · rw [if_neg e, if_neg e]
    obtain ⟨a1, a2, a3⟩ := cm_Cor_1 (h.2.2.2 c (t % 7 - 3) hc (by omega)).2
    exact cm_Cor_mk (by dsimp only; rw [a1]) a2 a3
/-- a call more: a frame, four cells, four variables -/
theorem cm_Sm_new {d r c nx : Nat} {fr : cm_FT} {h H' : cm_HT} {s : cm_ST} {wX wX' wY : Nat → cm_W} {f g : Nat → Nat} (hS : cm_Sm d fr h s wX wY f g) (hN : cm_NW h wX H' wX' 4 0) (ht : H'.1 = h.1 + 4) (hw : ∀ v, v < 4 → wX' (h.1 + v) = ([], 3 + (h.1 + v))) :
    ∃ f' g', cm_Sm (d + 1) (cm_s fr (d + 1) (r, h.1, c, nx)) H' s wX' (cm_wx (4 * d + 4) wY) f' g' ∧ ∀ x y, x < h.1 → y.2 < 3 + (4 * d + 4) → cm_Cor f g (wX x) y → cm_Cor f' g' (wX' x) y := by
  obtain ⟨⟨ρX, hX⟩, ⟨ρY, hY⟩, hFG, hC⟩ := hS
  obtain ⟨n1, n2, n3, n4, n5, n6⟩ := hN
  have keep : ∀ x y, x < h.1 → y.2 < 3 + (4 * d + 4) → cm_Cor f g (wX x) y → cm_Cor (fun e => if 3 + h.1 ≤ e ∧ e < 3 + h.1 + 4 then 3 + (4 * d + 4) + (e - (3 + h.1)) else f e) (fun e => if 3 + (4 * d + 4) ≤ e ∧ e < 3 + (4 * d + 4) + 4 then 3 + h.1 + (e - (3 + (4 * d + 4))) else g e) (wX' x) y := by
    intro x y hx hy hc
    have hlt := cm_HX_lt hX hx
    rw [n4 x hx]
    obtain ⟨a1, a2, a3⟩ := cm_Cor_1 hc
    refine cm_Cor_mk a1 ?_ ?_
    · rw [if_neg (by omega)]
      exact a2
    · rw [if_neg (show ¬ (3 + h.1 ≤ (wX x).2 ∧ (wX x).2 < 3 + h.1 + 4) by omega), if_neg (by omega)]
      exact a3
  refine ⟨_, _, ⟨n6, ⟨ρY, ?_⟩, ?_, ?_⟩, keep⟩
  · rw [show 4 * (d + 1) + 4 = 4 * d + 4 + 4 by omega]
    exact cm_YS_more hY 4
  · intro e
    have he := hFG e
    refine ⟨fun h3 => ?_, fun h3 => ?_⟩
    · dsimp only
      rw [if_neg (by omega), if_neg (by omega)]
      exact he.1 h3
    · dsimp only
      constructor
      · split
        · omega
        · exact (he.2 h3).1
      · split
        · omega
        · exact (he.2 h3).2
  · intro c' v hc' hv
    by_cases e : c' = d + 1
    · subst e
      rw [cm_ss]
      dsimp only
      refine ⟨by omega, ?_⟩
      rw [hw v hv, cm_wx_ge (by omega)]
      refine cm_Cor_mk rfl ?_ ?_
      · dsimp only
        rw [if_pos (by omega)]
        omega
      · dsimp only
        rw [if_pos (show 3 + h.1 ≤ 3 + (h.1 + v) ∧ 3 + (h.1 + v) < 3 + h.1 + 4 by omega), if_pos (by omega)]
        omega
    · rw [cm_sn e]
      obtain ⟨b1, b2⟩ := hC c' v (by omega) hv
      refine ⟨by omega, ?_⟩
      rw [cm_wx_lt (by omega)]
      refine keep _ _ (by omega) ?_ b2
      rcases cm_YS_end hY (show 4 * c' + v < 4 * d + 4 by omega) with q | ⟨u, q1, _, q2⟩ <;> omega
def cm_su (u : Option (Option (Nat × cm_W))) (y : cm_W) : cm_W :=
  match u with
  | some (some (V, q)) => cm_sub V q y
  | _ => y
def cm_wu (u : Option (Option (Nat × cm_W))) (w : Nat → cm_W) : Nat → cm_W := fun v => cm_su u (w v)
theorem cm_pw_wu {a b : cm_W} {w : Nat → cm_W} (t s o : Nat) : cm_pw (cm_wu (cm_u a b) w) t s o = cm_su (cm_u a b) (cm_pw w t s o) := by
  cases h : cm_u a b with
  | none => rfl
  | some x =>
    cases x with
    | none => rfl
    | some x =>
      obtain ⟨V, q⟩ := x
      exact cm_pw_sub (cm_U_ok _ _ h).1 t s o
/-- the two outcomes are one, and what corresponds goes on to -/
theorem cm_lock {T r r' bt btr bn : Nat} {fr : cm_FT} {H H' : cm_HT} {S S' : cm_ST} {wX wY : Nat → cm_W} {f g : Nat → Nat} {a b a' b' : cm_W} (hS : cm_Sm T fr H S wX wY f g) (ha : cm_Cor f g a a') (hb : cm_Cor f g b b')
    (hm : cm_MR H wX (cm_u a b) bt btr bn r H') (hy : cm_YR (4 * T + 4) wY (cm_u a' b') S r' S') :
    r' = r ∧ (r = 0 ∨ r = 1) ∧ (r = 1 → ∃ wX' f' g', cm_Sm T fr H' S' wX' (cm_wu (cm_u a' b') wY) f' g' ∧ ∀ c y, c < H.1 → cm_Cor f g (wX c) y → cm_Cor f' g' (wX' c) (cm_su (cm_u a' b') y)) := by
  obtain ⟨hX, ⟨ρY, hY⟩, hFG, hC⟩ := hS
  obtain ⟨m1, m2, m3, m4, m5⟩ := hm
  have hu := cm_u_cor hFG ha hb
  obtain ⟨_, _, ka⟩ := cm_Cor_1 ha
  obtain ⟨_, _, kb⟩ := cm_Cor_1 hb
  rcases m5 with ⟨rfl, e⟩ | ⟨rfl, wX', ρ', hX', m5⟩
  · rw [e] at hu
    have hu' : cm_u a' b' = none := hu
    rw [hu'] at hy
    rcases hy with ⟨h1, _⟩ | ⟨_, h1, _⟩ | ⟨_, _, _, _, _, _, _, _, h1, _⟩
    · exact ⟨h1, Or.inl rfl, fun z => by omega⟩
    · cases h1
    · cases h1
  · rcases m5 with ⟨e, m6⟩ | ⟨V, q, f2, g2, e, hFG2, m6⟩
    · rw [e] at hu
      have hu' : cm_u a' b' = some none := hu
      rw [hu'] at hy ⊢
      rcases hy with ⟨_, h1, _⟩ | ⟨h1, _, h2⟩ | ⟨_, _, _, _, _, _, _, _, h1, _⟩
      · cases h1
      · subst h2
        refine ⟨h1, Or.inr rfl, fun _ => ⟨wX', f, g, ⟨⟨ρ', hX'⟩, ⟨ρY, hY⟩, hFG, fun c v hc hv => ?_⟩, fun c y hc hcy => ?_⟩⟩
        · obtain ⟨b1, b2⟩ := hC c v hc hv
          have : H.1 ≤ H'.1 := m1.1
          refine ⟨by omega, ?_⟩
          rw [m6 _ (by omega)]
          exact b2
        · rw [m6 c hc]
          exact hcy
      · cases h1
    · rw [e] at hu
      have hu' : cm_u a' b' = some (some (f V, cm_ren f q)) := hu
      have ok := cm_U_ok _ _ e
      have gV : g (f V) = V := by
        rcases ok.2.2 with z | z
        · rw [z.1]; exact ka
        · rw [z.1]; exact kb
      have gq : g (f q.2) = q.2 := by
        rcases ok.2.2 with z | z
        · rw [z.2]; exact kb
        · rw [z.2]; exact ka
      rw [hu'] at hy ⊢
      have hitem : ∀ c y, c < H.1 → cm_Cor f g (wX c) y → cm_Cor (fun e => f (g2 e)) (fun e => f2 (g e)) (wX' c) (cm_sub (f V) (cm_ren f q) y) := by
        intro c y hc hcy
        obtain ⟨q1, q2⟩ := m6 c hc
        exact cm_Cor_comp q1 q2 (cm_Cor_sub gV gq hcy)
      rcases hy with ⟨_, h1, _⟩ | ⟨_, h1, _⟩ | ⟨h1, v, t, s, o, hv, hbd, hP, h2, h3⟩
      · cases h1
      · cases h1
      · injection h2 with h2
        injection h2 with h2
        injection h2 with h2 h4
        refine ⟨h1, Or.inr rfl, fun _ => ⟨wX', _, _, ⟨⟨ρ', hX'⟩, ?_, cm_FG_comp hFG hFG2, fun c v hc hv => ?_⟩, hitem⟩⟩
        · subst h3
          have hne : (cm_pw wY t s o).2 ≠ 3 + v := by
            rw [← h4, ← h2]
            intro z
            apply ok.2.1
            rw [← gq, ← gV]
            exact congrArg g z
          have := cm_YS_bind hY hv hbd hP hne
          rw [← h4, ← h2] at this
          exact ⟨_, this⟩
        · obtain ⟨b1, b2⟩ := hC c v hc hv
          have : H.1 ≤ H'.1 := m1.1
          exact ⟨by omega, hitem _ _ (by omega) b2⟩
theorem cm_YR_EY {nv r : Nat} {w : Nat → cm_W} {u : Option (Option (Nat × cm_W))} {S S' : cm_ST} (hy : cm_YR nv w u S r S') (hnv : nv ≤ 328) : cm_EY S S' ∧ S'.1 ≤ S.1 + 1 ∧ (r = 0 ∨ r = 1) ∧ (r = 0 ↔ u = none) := by
  obtain ⟨t0, tm, sk, ow, bd, tr⟩ := S
  rcases hy with ⟨h1, h2, tm', sk', ow', h3, h4⟩ | ⟨h1, h2, h3⟩ | ⟨h1, v, t, s, o, hv, hbd, hP, h2, h3⟩
  · subst h3
    refine ⟨⟨Nat.le_refl _, fun _ _ => rfl, fun _ => Or.inl rfl, fun i i1 i2 => ?_, h4⟩, Nat.le_succ _, Or.inl h1, ⟨fun _ => h2, fun _ => h1⟩⟩
    dsimp only at i1 i2
    omega
  · subst h3
    refine ⟨cm_EY_refl _, Nat.le_succ _, Or.inr h1, ⟨fun z => by omega, fun z => ?_⟩⟩
    rw [h2] at z; cases z
  · subst h3
    refine ⟨cm_EY_bind hbd (by omega), Nat.le_refl _, Or.inr h1, ⟨fun z => by omega, fun z => ?_⟩⟩
    rw [h2] at z; cases z
/-- the words of the store behind a making same -/
theorem cm_YR_YS {nv : Nat} {w : Nat → cm_W} {ρ : Nat → Nat} {a b : cm_W} {S S' : cm_ST} (hy : cm_YR nv w (cm_u a b) S 1 S') (hY : cm_YS nv S.2.1 S.2.2.1 S.2.2.2.1 S.2.2.2.2.1 w ρ) : ∃ ρ', cm_YS nv S'.2.1 S'.2.2.1 S'.2.2.2.1 S'.2.2.2.2.1 (cm_wu (cm_u a b) w) ρ' := by
  rcases hy with ⟨h1, _⟩ | ⟨h1, h2, h3⟩ | ⟨h1, v, t, s, o, hv, hbd, hP, h2, h3⟩
  · omega
  · subst h3
    rw [h2]
    exact ⟨ρ, hY⟩
  · subst h3
    rw [h2]
    have hne : (cm_pw w t s o).2 ≠ 3 + v := (cm_U_ok _ _ h2).2.1
    exact ⟨_, cm_YS_bind hY hv hbd hP hne⟩
def cm_S0 : cm_ST := (0, fun _ => 0, fun _ => 0, fun _ => 0, fun _ => 0, fun _ => 0)
/-- the goal of call d + 1, and the store before it -/
def cm_Lv (R : cm_RT) (fr : cm_FT) (cl : cm_LT) (d : Nat) (s : cm_ST) (nx : Nat) (wY : Nat → cm_W) : Prop :=
  (∃ ρ, cm_YS (4 * d + 4) s.2.1 s.2.2.1 s.2.2.2.1 s.2.2.2.2.1 wY ρ) ∧ cm_EY cm_S0 s ∧ s.1 ≤ 2 * d ∧ s.1 = (cl (d + 1)).2.2.2.2 ∧ (cl (d + 1)).2.1 ≤ d ∧ nx < R.2.1 (fr (cl (d + 1)).2.1).1 ∧ (cl (d + 1)).2.2.1 = nx + (if (cl (d + 1)).2.1 = 0 then 0 else 1)
/-- where the goal stands in X's rules -/
def cm_at (fr : cm_FT) (cl : cm_LT) (d nx : Nat) : Nat := (fr (cl (d + 1)).2.1).1 * 4 + nx + 1
/-- the heap at a point of choice -/
def cm_Sn (R : cm_RT) (fr : cm_FT) (cl : cm_LT) (d : Nat) (h : cm_HT) (s : cm_ST) (nx : Nat) (wX wY : Nat → cm_W) (f g : Nat → Nat) (A B : Nat) : Prop :=
  cm_Sm d fr h s wX wY f g ∧ A < h.1 ∧ B < h.1 ∧ cm_Cor f g (wX A) (cm_pw wY (R.2.2.2.1 (cm_at fr cl d nx)) 0 (cl (d + 1)).2.1) ∧ cm_Cor f g (wX B) (cm_pw wY (R.2.2.2.2 (cm_at fr cl d nx)) 0 (cl (d + 1)).2.1) ∧
  h.1 ≤ 4 + 32 * d + 10 ∧ h.2.1 ≤ 10 * d ∧ cm_nl h.2.2.1 h.1 ≤ 8 * d + (cm_lt (R.2.2.2.1 (cm_at fr cl d nx))).length + (cm_lt (R.2.2.2.2 (cm_at fr cl d nx))).length
/-- the calls from 1 to d, of which the last is to be tried from rule r on, over j points of choice -/
def cm_Stk (R : cm_RT) (fr : cm_FT) (ch : cm_CT) (cl : cm_LT) : Nat → Nat → Nat → cm_HT → cm_ST → Prop
  | 0, _, j, _, _ => j = 0
  | d + 1, r, j, H, S => r ≤ R.1 ∧ ∃ s nx wY, cm_EY s S ∧ cm_Lv R fr cl d s nx wY ∧
      (((∀ r', r ≤ r' → r' < R.1 → cm_PsR R (R.2.2.1 (cm_at fr cl d nx)) (cm_pw wY (R.2.2.2.1 (cm_at fr cl d nx)) 0 (cl (d + 1)).2.1) r') ∧ cm_Stk R fr ch cl d (cl d).2.2.2.1 j H s) ∨
       (∃ h j' r0 A B wX f g, j = j' + 1 ∧ cm_EX h H ∧ ch j' = (r0, R.2.2.1 (cm_at fr cl d nx), A, B, (cl (d + 1)).2.1, nx, h.1, h.2.1, d + 1) ∧ r ≤ r0 ∧ r0 < R.1 ∧
        (∀ r', r ≤ r' → r' < r0 → cm_PsR R (R.2.2.1 (cm_at fr cl d nx)) (cm_pw wY (R.2.2.2.1 (cm_at fr cl d nx)) 0 (cl (d + 1)).2.1) r') ∧ ¬ cm_PsR R (R.2.2.1 (cm_at fr cl d nx)) (cm_pw wY (R.2.2.2.1 (cm_at fr cl d nx)) 0 (cl (d + 1)).2.1) r0 ∧ cm_Sn R fr cl d h s nx wX wY f g A B ∧ cm_Stk R fr ch cl d (cl d).2.2.2.1 j' h s))
theorem cm_Stk_mono {R : cm_RT} {fr : cm_FT} {ch : cm_CT} {cl : cm_LT} : ∀ d r j {H H' : cm_HT} {S S' : cm_ST}, cm_Stk R fr ch cl d r j H S → cm_EX H H' → cm_EY S S' → cm_Stk R fr ch cl d r j H' S'
  | 0, _, _, _, _, _, _, h, _, _ => h
  | d + 1, r, j, _, _, _, _, h, hE, hY => by
    obtain ⟨h0, s, nx, wY, h1, h2, h3⟩ := h
    refine ⟨h0, s, nx, wY, cm_EY_trans h1 hY, h2, ?_⟩
    rcases h3 with ⟨h3, h4⟩ | ⟨h', j', r0, A, B, wX, f, g, a1, a2, a3⟩
    · exact Or.inl ⟨h3, cm_Stk_mono d _ j h4 hE (cm_EY_refl s)⟩
    · exact Or.inr ⟨h', j', r0, A, B, wX, f, g, a1, cm_EX_trans a2 hE, a3⟩
theorem cm_Sm_fr {T : Nat} {fr fr' : cm_FT} {H : cm_HT} {S : cm_ST} {wX wY : Nat → cm_W} {f g : Nat → Nat} (h : cm_Sm T fr H S wX wY f g) (e : ∀ c, c ≤ T → fr' c = fr c) : cm_Sm T fr' H S wX wY f g :=
  ⟨h.1, h.2.1, h.2.2.1, fun c v hc hv => by rw [e c hc]; exact h.2.2.2 c v hc hv⟩
/-- what stands above doesn't matter -/
theorem cm_Stk_congr {R : cm_RT} {fr fr' : cm_FT} {ch ch' : cm_CT} {cl cl' : cm_LT} : ∀ d r j {H : cm_HT} {S : cm_ST}, cm_Stk R fr ch cl d r j H S → (∀ c, c < d → fr' c = fr c) → (∀ c, c < d → cl' c = cl c) → ((cl' d).2.1 = (cl d).2.1 ∧ (cl' d).2.2.1 = (cl d).2.2.1 ∧ (cl' d).2.2.2.2 = (cl d).2.2.2.2) → (∀ i, i < j → ch' i = ch i) → cm_Stk R fr' ch' cl' d r j H S
  | 0, _, _, _, _, h, _, _, _, _ => h
  | d + 1, r, j, _, _, h, hf, hl, ht, hc => by
    obtain ⟨h0, s, nx, wY, h1, h2, h3⟩ := h
    obtain ⟨t1, t2, t3⟩ := ht
    obtain ⟨v1, v2, v3, v4, v5, v6, v7⟩ := h2
    have eat : cm_at fr' cl' d nx = cm_at fr cl d nx := by
      unfold cm_at
      rw [t1, hf _ (by omega)]
    refine ⟨h0, s, nx, wY, h1, ⟨v1, v2, v3, by rw [t3]; exact v4, by rw [t1]; exact v5, by rw [t1, hf _ (by omega)]; exact v6, by rw [t1, t2]; exact v7⟩, ?_⟩
    rw [eat, t1]
    have low : ∀ j', j' ≤ j → ∀ {H S}, cm_Stk R fr ch cl d (cl d).2.2.2.1 j' H S → cm_Stk R fr' ch' cl' d (cl' d).2.2.2.1 j' H S := by
      intro j' hj' H S hs
      rw [hl d (by omega)]
      refine cm_Stk_congr d _ j' hs (fun c hc => hf c (by omega)) (fun c hc => hl c (by omega)) ?_ (fun i hi => hc i (by omega))
      rw [hl d (by omega)]
      exact ⟨rfl, rfl, rfl⟩
    rcases h3 with ⟨h3, h4⟩ | ⟨h', j', r0, A, B, wX, f, g, a1, a2, a3, a4, a5, a6, a7, a8, a9⟩
    · exact Or.inl ⟨h3, low j (Nat.le_refl j) h4⟩
    · refine Or.inr ⟨h', j', r0, A, B, wX, f, g, a1, a2, by rw [hc j' (by omega)]; exact a3, a4, a5, a6, a7, ?_, low j' (by omega) a9⟩
      unfold cm_Sn at a8 ⊢
      rw [eat, t1]
      exact ⟨cm_Sm_fr a8.1 (fun c hc => hf c (by omega)), a8.2⟩
theorem cm_Stk_j {R : cm_RT} {fr : cm_FT} {ch : cm_CT} {cl : cm_LT} : ∀ d r j {H : cm_HT} {S : cm_ST}, cm_Stk R fr ch cl d r j H S → j ≤ d
  | 0, _, _, _, _, h => by unfold cm_Stk at h; omega
  | d + 1, r, j, _, _, h => by
    obtain ⟨_, s, nx, wY, _, _, h3⟩ := h
    rcases h3 with ⟨_, h4⟩ | ⟨h', j', r0, A, B, wX, f, g, a1, _, _, _, _, _, _, _, a9⟩
    · have := cm_Stk_j d _ j h4; omega
    · have := cm_Stk_j d _ j' a9; omega
end
section
/-! Y's walks: a goal, a rule tried, rules left out -/
section cmY3
variable {R : cm_RT} {fr : cm_FT} {Q : cm_QT} {tp : Nat} {cl : cm_LT} {N : cm_NT} {trailed : Nat} {tm sk ow bd tr rt rp ro : Nat → Nat} {w wY : Nat → cm_W} {ρ : Nat → Nat} {nv d nx : Nat} {s : cm_ST}
theorem cm_goal (hRQ : cm_RQ R Q) (hF : cm_Fb d R fr cl) (hd : d ≤ 80) (hL : cm_Lv R fr cl d s nx wY) : ∃ ga, ga + 2 < 81 ∧ cm_G R Q ga (cm_at fr cl d nx) ∧ ∀ (post : Int32 → Prop) (x y : Int32), x = nI (cl (d + 1)).2.1 → y = nI (cl (d + 1)).2.2.1 → post (nI ga) → wpY_goalAt post (cm_Y Q tp cl N (trailed, tm, sk, ow, bd, tr) rt rp ro) x y := by
  obtain ⟨_, _, _, _, v5, v6, v7⟩ := hL
  obtain ⟨q1, q2, q3, q4, q5, q6⟩ := hRQ
  by_cases e : (cl (d + 1)).2.1 = 0
  · rw [if_pos e] at v7
    rw [e, hF.1] at v6
    refine ⟨72 + 3 * nx, by omega, ?_, fun post x y ex ey H => ?_⟩
    · unfold cm_at
      rw [e, hF.1]
      exact q6 nx v6
    · subst ex
      subst ey
      rw [e, v7]
      unfold wpY_goalAt cm_Y
      dsimp only
      refine br_t rfl ?_
      have e1 : (72 : Int32) + 3 * nI (nx + 0) = nI (72 + 3 * nx) := by
        have e2 : (3 : Int32) * nI (nx + 0) = nI (3 * nx) := pk_mul 3 nx
        rw [e2]
        exact nI_add 72 (3 * nx)
      rw [e1]
      exact H
  · rw [if_neg e] at v7
    obtain ⟨f1, f2, _⟩ := hF.2.2 _ (by omega) v5
    have q7 := q3 _ f1
    refine ⟨9 * (fr (cl (d + 1)).2.1).1 + 3 * (nx + 1), by omega, q7.2.2 (nx + 1) (by omega), fun post x y ex ey H => ?_⟩
    subst ex
    subst ey
    rw [v7]
    unfold wpY_goalAt cm_Y
    dsimp only
    refine br_f (nI_ne0 (by omega) (by omega)) ⟨vp_in_nI (by omega) (by decide), ?_⟩
    rw [cm_rd (by omega), f2]
    have e1 : (9 : Int32) * nI (fr (cl (d + 1)).2.1).1 + 3 * nI (nx + 1) = nI (9 * (fr (cl (d + 1)).2.1).1 + 3 * (nx + 1)) := by
      have e2 : (3 : Int32) * nI (nx + 1) = nI (3 * (nx + 1)) := pk_mul 3 (nx + 1)
      have e3 : (9 : Int32) * nI (fr (cl (d + 1)).2.1).1 = nI (9 * (fr (cl (d + 1)).2.1).1) := pk_mul 9 _
      rw [e2, e3, nI_add]
    rw [e1]
    exact H
theorem cm_head (hRQ : cm_RQ R Q) {r : Nat} (hr : r < R.1) : cm_G R Q (9 * r) (r * 4) := (hRQ.2.2.1 r hr).2.2 0 (Nat.zero_le _)
/-- a try whose predicate is another -/
theorem cm_y_fits_n {r : Nat} (hRQ : cm_RQ R Q) (hF : cm_Fb d R fr cl) (hd : d < 80) (hL : cm_Lv R fr cl d s nx wY) (hr : r < R.1) (hne : R.2.2.1 (r * 4) ≠ R.2.2.1 (cm_at fr cl d nx)) : ∀ post : Int32 → SY → Prop, post 0 (cm_Y Q (d + 1) cl N (trailed, tm, sk, ow, bd, tr) rt rp ro) → wpY_fits post (cm_Y Q (d + 1) cl N (trailed, tm, sk, ow, bd, tr) rt rp ro) (nI r) := by
  intro post H
  obtain ⟨ga, g1, g2, kg⟩ := cm_goal (N := N) (trailed := trailed) (tm := tm) (sk := sk) (ow := ow) (bd := bd) (tr := tr) (rt := rt) (rp := rp) (ro := ro) (tp := d + 1) hRQ hF (by omega) hL
  have hh := cm_head hRQ hr
  have h8 := hRQ.2.1
  have vi : vp_in (nI (d + 1)) 82 := vp_in_nI (by omega) (by decide)
  have e9 : (9 : Int32) * nI r = nI (9 * r) := pk_mul 9 r
  unfold wpY_fits cm_Y
  dsimp only
  refine ⟨vi, nm_r (cm_rd (by omega)) ⟨vi, ?_⟩⟩
  show wpY_goalAt _ (cm_Y Q (d + 1) cl N (trailed, tm, sk, ow, bd, tr) rt rp ro) _ _
  refine kg _ _ _ rfl (cm_rd (by omega)) ⟨vp_in_nI (by omega) (by decide), ?_⟩
  rw [e9]
  refine ⟨vp_in_nI (by omega) (by decide), ?_⟩
  rw [cm_rd (by omega), cm_rd (by omega), g2.1, hh.1]
  have b1 := g2.2.2.2.1
  have b2 := hh.2.2.2.1
  exact br_f (fun z => hne ((nI_eq (by omega) (by omega)).mp z).symm) H
/-- a try whose predicate is the goal's -/
theorem cm_y_fits_p {r : Nat} (hRQ : cm_RQ R Q) (hF : cm_Fb d R fr cl) (hd : d < 80) (hL : cm_Lv R fr cl d s nx wY) (hr : r < R.1) (heq : R.2.2.1 (r * 4) = R.2.2.1 (cm_at fr cl d nx)) (hY : cm_YS (4 * (d + 1) + 4) tm sk ow bd w ρ) (htr : trailed ≤ 2 * d) :
    ∃ r1 S1 ok S' rt' rp' ro', cm_YR (4 * (d + 1) + 4) w (cm_u (cm_pw w (R.2.2.2.1 (r * 4)) 0 (d + 1)) (cm_pw w (R.2.2.2.1 (cm_at fr cl d nx)) 0 (cl (d + 1)).2.1)) (trailed, tm, sk, ow, bd, tr) r1 S1 ∧
      ((r1 = 0 ∧ ok = 0 ∧ S' = S1) ∨ (r1 = 1 ∧ cm_YR (4 * (d + 1) + 4) (cm_wu (cm_u (cm_pw w (R.2.2.2.1 (r * 4)) 0 (d + 1)) (cm_pw w (R.2.2.2.1 (cm_at fr cl d nx)) 0 (cl (d + 1)).2.1)) w)
        (cm_u (cm_pw (cm_wu (cm_u (cm_pw w (R.2.2.2.1 (r * 4)) 0 (d + 1)) (cm_pw w (R.2.2.2.1 (cm_at fr cl d nx)) 0 (cl (d + 1)).2.1)) w) (R.2.2.2.2 (r * 4)) 0 (d + 1)) (cm_pw (cm_wu (cm_u (cm_pw w (R.2.2.2.1 (r * 4)) 0 (d + 1)) (cm_pw w (R.2.2.2.1 (cm_at fr cl d nx)) 0 (cl (d + 1)).2.1)) w) (R.2.2.2.2 (cm_at fr cl d nx)) 0 (cl (d + 1)).2.1)) S1 ok S')) ∧
      ∀ post : Int32 → SY → Prop, post (nI ok) (cm_Y Q (d + 1) cl N S' rt' rp' ro') → wpY_fits post (cm_Y Q (d + 1) cl N (trailed, tm, sk, ow, bd, tr) rt rp ro) (nI r) := by
  obtain ⟨ga, g1, g2, kg⟩ := cm_goal (N := N) (trailed := trailed) (tm := tm) (sk := sk) (ow := ow) (bd := bd) (tr := tr) (rt := rt) (rp := rp) (ro := ro) (tp := d + 1) hRQ hF (by omega) hL
  have hh := cm_head hRQ hr
  have h8 := hRQ.2.1
  have hco : (cl (d + 1)).2.1 ≤ d := hL.2.2.2.2.1
  have vi : vp_in (nI (d + 1)) 82 := vp_in_nI (by omega) (by decide)
  have e9 : (9 : Int32) * nI r = nI (9 * r) := pk_mul 9 r
  have ea : nI ga + 1 = nI (ga + 1) := nI_1 ga
  have eb : nI ga + 2 = nI (ga + 2) := nI_add ga 2
  have ec : nI (9 * r) + 1 = nI (9 * r + 1) := nI_1 _
  have ed : nI (9 * r) + 2 = nI (9 * r + 2) := nI_add _ 2
  have PO : ∀ t o, cm_VT t → o ≤ d + 1 → cm_PO (4 * (d + 1) + 4) t 0 o := fun t o hv ho => ⟨hv, Nat.zero_le _, by omega⟩
  obtain ⟨r1, S1, rt1, rp1, ro1, hy1, k1⟩ := cm_y_unify (Q := Q) (tp := d + 1) (cl := cl) (N := N) (tr := tr) (rt := rt) (rp := rp) (ro := ro) (trailed := trailed) hY (by omega) (by omega) (PO _ _ g2.2.2.2.2.1 (show (cl (d + 1)).2.1 ≤ d + 1 by omega)) (PO _ (d + 1) hh.2.2.2.2.1 (Nat.le_refl _))
  have hR := (cm_YR_EY hy1 (by omega)).2.2.1
  have hS1 := (cm_YR_EY hy1 (by omega)).2.1
  have start : ∀ post : Int32 → SY → Prop, (r1 = 0 → post 0 (cm_Y Q (d + 1) cl N S1 rt1 rp1 ro1)) → (r1 = 1 → wpY_unify (fun r_56 u => match u with | (f_rules_57, f_top_58, f_trailed_59, f_found_60, f_called_61, f_ending_62, a_goals_63, a_sizes_64, a_taken_65, a_callerOf_66, a_goalOf_67, a_nextRule_68, a_marks_69, a_terms_70, a_skips_71, a_owners_72, a_bound_73, a_trail_74, a_term_75, a_place_76, a_owner_77) => ((r_56 = 0 → (post 0 (f_rules_57, f_top_58, f_trailed_59, f_found_60, f_called_61, f_ending_62, a_goals_63, a_sizes_64, a_taken_65, a_callerOf_66, a_goalOf_67, a_nextRule_68, a_marks_69, a_terms_70, a_skips_71, a_owners_72, a_bound_73, a_trail_74, a_term_75, a_place_76, a_owner_77))) ∧ (¬ r_56 = 0 → (post 1 (f_rules_57, f_top_58, f_trailed_59, f_found_60, f_called_61, f_ending_62, a_goals_63, a_sizes_64, a_taken_65, a_callerOf_66, a_goalOf_67, a_nextRule_68, a_marks_69, a_terms_70, a_skips_71, a_owners_72, a_bound_73, a_trail_74, a_term_75, a_place_76, a_owner_77))))) (cm_Y Q (d + 1) cl N S1 rt1 rp1 ro1) (nI (R.2.2.2.2 (cm_at fr cl d nx))) (nI (cl (d + 1)).2.1) (nI (R.2.2.2.2 (r * 4))) (nI (d + 1))) → wpY_fits post (cm_Y Q (d + 1) cl N (trailed, tm, sk, ow, bd, tr) rt rp ro) (nI r) := by
    intro post H0 H1
    unfold wpY_fits cm_Y
    dsimp only
    refine ⟨vi, nm_r (cm_rd (by omega)) ⟨vi, ?_⟩⟩
    show wpY_goalAt _ (cm_Y Q (d + 1) cl N (trailed, tm, sk, ow, bd, tr) rt rp ro) _ _
    refine kg _ _ _ rfl (cm_rd (by omega)) ⟨vp_in_nI (by omega) (by decide), ?_⟩
    rw [e9]
    refine ⟨vp_in_nI (by omega) (by decide), ?_⟩
    rw [cm_rd (by omega), cm_rd (by omega), g2.1, hh.1]
    refine br_t (by rw [heq]) ?_
    rw [ea, ec]
    refine ⟨vp_in_nI (by omega) (by decide), vp_in_nI (by omega) (by decide), ?_⟩
    show wpY_unify _ (cm_Y Q (d + 1) cl N (trailed, tm, sk, ow, bd, tr) rt rp ro) _ _ _ _
    have f1 : cm_A Q.2.1 (nI (ga + 1)).toNatClampNeg = nI (R.2.2.2.1 (cm_at fr cl d nx)) := by rw [cm_rd (by omega), g2.2.1]
    have f2 : cm_A Q.2.1 (nI (9 * r + 1)).toNatClampNeg = nI (R.2.2.2.1 (r * 4)) := by rw [cm_rd (by omega), hh.2.1]
    refine k1 _ _ _ _ _ f1 rfl f2 rfl ?_
    rcases hR with h | h
    · refine br_t (by rw [h]; rfl) (H0 h)
    · refine br_f (by rw [h]; decide) ?_
      rw [eb, ed]
      refine ⟨vp_in_nI (by omega) (by decide), vp_in_nI (by omega) (by decide), ?_⟩
      have e1 : cm_A Q.2.1 (nI (ga + 2)).toNatClampNeg = nI (R.2.2.2.2 (cm_at fr cl d nx)) := by rw [cm_rd (by omega), g2.2.2.1]
      have e2 : cm_A Q.2.1 (nI (9 * r + 2)).toNatClampNeg = nI (R.2.2.2.2 (r * 4)) := by rw [cm_rd (by omega), hh.2.2.1]
      have := H1 h
      rw [← e1, ← e2] at this
      exact this
  rcases hR with h | h
  · exact ⟨r1, S1, 0, S1, rt1, rp1, ro1, hy1, Or.inl ⟨h, rfl, rfl⟩, fun post H => start post (fun _ => H) (fun z => by omega)⟩
  · subst h
    obtain ⟨ρ1, hY1⟩ := cm_YR_YS hy1 hY
    obtain ⟨t1, tm1, sk1, ow1, bd1, tr1⟩ := S1
    dsimp only at hY1 hS1
    obtain ⟨ok, S', rt', rp', ro', hy2, k2⟩ := cm_y_unify (Q := Q) (tp := d + 1) (cl := cl) (N := N) (tr := tr1) (rt := rt1) (rp := rp1) (ro := ro1) (trailed := t1) hY1 (by omega) (by omega) (PO _ _ g2.2.2.2.2.2 (show (cl (d + 1)).2.1 ≤ d + 1 by omega)) (PO _ (d + 1) hh.2.2.2.2.2 (Nat.le_refl _))
    refine ⟨1, _, ok, S', rt', rp', ro', hy1, Or.inr ⟨rfl, hy2⟩, fun post H => start post (fun z => by omega) (fun _ => ?_)⟩
    refine k2 _ _ _ _ _ rfl rfl rfl rfl ?_
    rcases (cm_YR_EY hy2 (by omega)).2.2.1 with h | h
    · subst h
      exact br_t rfl H
    · subst h
      exact br_f (by decide) H
/-- the store undone to a call's mark -/
theorem cm_y_unmark {S : cm_ST} (hL : cm_Lv R fr cl d s nx wY) (hE : cm_EY s S) (hS : S.1 ≤ 328) (hd : d < 80) : cm_EY s (s.1, S.2.1, S.2.2.1, S.2.2.2.1, s.2.2.2.2.1, S.2.2.2.2.2) ∧ (∃ ρ, cm_YS (4 * (d + 1) + 4) S.2.1 S.2.2.1 S.2.2.2.1 s.2.2.2.2.1 (cm_wx (4 * d + 4) wY) ρ) ∧
    ∀ post : SY → Prop, post (cm_Y Q (d + 1) cl N ((s.1, S.2.1, S.2.2.1, S.2.2.2.1, s.2.2.2.2.1, S.2.2.2.2.2)) rt rp ro) → wpY_undo post (cm_Y Q (d + 1) cl N S rt rp ro) (cm_A (fun i => (cl i).2.2.2.2) (nI (d + 1)).toNatClampNeg) := by
  obtain ⟨t0, tm, sk, ow, bd, tr⟩ := S
  obtain ⟨⟨ρ, v1⟩, v2, v3, v4, v5, v6, v7⟩ := hL
  have hE1 := hE.1
  have hE4 := hE.2.2.2.1
  dsimp only at hE1 hE4 hS ⊢
  obtain ⟨bd', hu, k⟩ := cm_y_undo (Q := Q) (tp := d + 1) (cl := cl) (N := N) (tm := tm) (sk := sk) (ow := ow) (bd := bd) (rt := rt) (rp := rp) (ro := ro) (trailed := t0) (tr := tr) hE1 (fun i i1 i2 => (hE4 i i1 i2).1) hS
  obtain ⟨u1, u2⟩ := cm_UnY_EY hE hu
  refine ⟨u2, ⟨ρ, ?_⟩, fun post H => ?_⟩
  · rw [show 4 * (d + 1) + 4 = 4 * d + 4 + 4 by omega]
    exact cm_YS_more (cm_YS_congr v1 u2.2.2.2.2) 4
  · refine k post _ (by rw [cm_rd (by omega), v4]) ?_
    rw [u1]
    exact H
/-- a rule that is left out: Y's try of it fails -/
theorem cm_y_skip1 {S : cm_ST} {r : Nat} (hRQ : cm_RQ R Q) (hF : cm_Fb d R fr cl) (hd : d < 80) (hL : cm_Lv R fr cl d s nx wY) (hE : cm_EY s S) (hS : S.1 ≤ 328) (hr : r < R.1) (hp : cm_PsR R (R.2.2.1 (cm_at fr cl d nx)) (cm_pw wY (R.2.2.2.1 (cm_at fr cl d nx)) 0 (cl (d + 1)).2.1) r) :
    ∃ S' rt' rp' ro', cm_EY s S' ∧ S'.1 ≤ 328 ∧ ∀ (post : Int32 → SY → Prop) n, wY_takeRule_10 post n (nI (r + 1)) (nI Q.1) (nI (d + 1)) (nI S'.1) (nI N.1) (nI N.2.1) (nI N.2.2) (cm_A Q.2.1) (cm_A Q.2.2) (cm_A (fun i => (cl i).1)) (cm_A (fun i => (cl i).2.1)) (cm_A (fun i => (cl i).2.2.1)) (cm_A (fun i => (cl i).2.2.2.1)) (cm_A (fun i => (cl i).2.2.2.2)) (cm_A S'.2.1) (cm_A S'.2.2.1) (cm_A S'.2.2.2.1) (cm_A S'.2.2.2.2.1) (cm_A S'.2.2.2.2.2) (cm_A rt') (cm_A rp') (cm_A ro') → wY_takeRule_10 post (n + 1) (nI r) (nI Q.1) (nI (d + 1)) (nI S.1) (nI N.1) (nI N.2.1) (nI N.2.2) (cm_A Q.2.1) (cm_A Q.2.2) (cm_A (fun i => (cl i).1)) (cm_A (fun i => (cl i).2.1)) (cm_A (fun i => (cl i).2.2.1)) (cm_A (fun i => (cl i).2.2.2.1)) (cm_A (fun i => (cl i).2.2.2.2)) (cm_A S.2.1) (cm_A S.2.2.1) (cm_A S.2.2.2.1) (cm_A S.2.2.2.2.1) (cm_A S.2.2.2.2.2) (cm_A rt) (cm_A rp) (cm_A ro) := by
  obtain ⟨u1, ⟨ρ', u2⟩, u3⟩ := cm_y_unmark (Q := Q) (N := N) (rt := rt) (rp := rp) (ro := ro) hL hE hS hd
  have h8 := hRQ.2.1
  have q1 := hRQ.1
  have hs2 := hL.2.2.1
  have fin : ∀ S' rt' rp' ro', (∀ pp : Int32 → SY → Prop, pp 0 (cm_Y Q (d + 1) cl N S' rt' rp' ro') → wpY_fits pp (cm_Y Q (d + 1) cl N ((s.1, S.2.1, S.2.2.1, S.2.2.2.1, s.2.2.2.2.1, S.2.2.2.2.2)) rt rp ro) (nI r)) → ∀ (post : Int32 → SY → Prop) n, wY_takeRule_10 post n (nI (r + 1)) (nI Q.1) (nI (d + 1)) (nI S'.1) (nI N.1) (nI N.2.1) (nI N.2.2) (cm_A Q.2.1) (cm_A Q.2.2) (cm_A (fun i => (cl i).1)) (cm_A (fun i => (cl i).2.1)) (cm_A (fun i => (cl i).2.2.1)) (cm_A (fun i => (cl i).2.2.2.1)) (cm_A (fun i => (cl i).2.2.2.2)) (cm_A S'.2.1) (cm_A S'.2.2.1) (cm_A S'.2.2.2.1) (cm_A S'.2.2.2.2.1) (cm_A S'.2.2.2.2.2) (cm_A rt') (cm_A rp') (cm_A ro') → wY_takeRule_10 post (n + 1) (nI r) (nI Q.1) (nI (d + 1)) (nI S.1) (nI N.1) (nI N.2.1) (nI N.2.2) (cm_A Q.2.1) (cm_A Q.2.2) (cm_A (fun i => (cl i).1)) (cm_A (fun i => (cl i).2.1)) (cm_A (fun i => (cl i).2.2.1)) (cm_A (fun i => (cl i).2.2.2.1)) (cm_A (fun i => (cl i).2.2.2.2)) (cm_A S.2.1) (cm_A S.2.2.1) (cm_A S.2.2.2.1) (cm_A S.2.2.2.2.1) (cm_A S.2.2.2.2.2) (cm_A rt) (cm_A rp) (cm_A ro) := by
    intro S' rt' rp' ro' hf post n H
    refine br_f ?_ ⟨vp_in_nI (by omega) (by decide), ?_⟩
    · rw [q1]; exact nI_ge hr (by omega)
    show wpY_undo _ (cm_Y Q (d + 1) cl N S rt rp ro) _
    refine u3 _ ?_
    show wpY_fits _ (cm_Y Q (d + 1) cl N ((s.1, S.2.1, S.2.2.1, S.2.2.2.1, s.2.2.2.2.1, S.2.2.2.2.2)) rt rp ro) (nI r)
    refine hf _ (br_t rfl (nm_r (nI_1 r) H))
  by_cases hne : R.2.2.1 (r * 4) = R.2.2.1 (cm_at fr cl d nx)
  · have hps : cm_Psd (cm_lt (R.2.2.2.1 (r * 4))) (R.2.2.2.1 (r * 4) % 7) (cm_pw wY (R.2.2.2.1 (cm_at fr cl d nx)) 0 (cl (d + 1)).2.1) := by
      rcases hp with h | h
      · exact absurd hne h
      · exact h
    obtain ⟨r1, S1, ok, S', rt', rp', ro', hy1, hy2, k⟩ := cm_y_fits_p (N := N) (tr := S.2.2.2.2.2) (rt := rt) (rp := rp) (ro := ro) hRQ hF hd hL hr hne u2 hs2
    have hu : cm_u (cm_pw (cm_wx (4 * d + 4) wY) (R.2.2.2.1 (r * 4)) 0 (d + 1)) (cm_pw (cm_wx (4 * d + 4) wY) (R.2.2.2.1 (cm_at fr cl d nx)) 0 (cl (d + 1)).2.1) = none := by
      have hco : (cl (d + 1)).2.1 ≤ d := hL.2.2.2.2.1
      rw [cm_pw_congr (nv := 4 * d + 4) (w' := cm_wx (4 * d + 4) wY) (w := wY) (o := (cl (d + 1)).2.1) (by omega) (fun v hv => cm_wx_lt hv)]
      unfold cm_pw cm_u
      rw [List.drop_zero]
      by_cases h3 : R.2.2.2.1 (r * 4) % 7 < 3
      · rw [if_pos h3]
        have := cm_Psd_U (z := ([], R.2.2.2.1 (r * 4) % 7)) hps (fun _ => rfl)
        rw [List.append_nil] at this
        exact this
      · rw [if_neg h3]
        exact cm_Psd_U hps (fun z => absurd z h3)
    have h0 : r1 = 0 := (cm_YR_EY hy1 (by omega)).2.2.2.mpr hu
    rcases hy2 with ⟨_, e1, e2⟩ | ⟨e1, _⟩
    · subst e1
      subst e2
      have hb := cm_YR_EY hy1 (by omega)
      exact ⟨S', rt', rp', ro', cm_EY_trans u1 hb.1, by have := hb.2.1; dsimp only at this; omega, fin S' rt' rp' ro' k⟩
    · omega
  · exact ⟨_, rt, rp, ro, u1, by dsimp only; omega, fin _ rt rp ro (cm_y_fits_n hRQ hF hd hL hr hne)⟩
theorem cm_y_skip {r0 : Nat} (hRQ : cm_RQ R Q) (hF : cm_Fb d R fr cl) (hd : d < 80) (hL : cm_Lv R fr cl d s nx wY) (hr0 : r0 ≤ R.1) : ∀ j r (S : cm_ST) rt rp ro, r + j = r0 → cm_EY s S → S.1 ≤ 328 → (∀ r', r ≤ r' → r' < r0 → cm_PsR R (R.2.2.1 (cm_at fr cl d nx)) (cm_pw wY (R.2.2.2.1 (cm_at fr cl d nx)) 0 (cl (d + 1)).2.1) r') →
    ∃ S' rt' rp' ro', cm_EY s S' ∧ S'.1 ≤ 328 ∧ ∀ (post : Int32 → SY → Prop) n, wY_takeRule_10 post n (nI r0) (nI Q.1) (nI (d + 1)) (nI S'.1) (nI N.1) (nI N.2.1) (nI N.2.2) (cm_A Q.2.1) (cm_A Q.2.2) (cm_A (fun i => (cl i).1)) (cm_A (fun i => (cl i).2.1)) (cm_A (fun i => (cl i).2.2.1)) (cm_A (fun i => (cl i).2.2.2.1)) (cm_A (fun i => (cl i).2.2.2.2)) (cm_A S'.2.1) (cm_A S'.2.2.1) (cm_A S'.2.2.2.1) (cm_A S'.2.2.2.2.1) (cm_A S'.2.2.2.2.2) (cm_A rt') (cm_A rp') (cm_A ro') → wY_takeRule_10 post (n + j) (nI r) (nI Q.1) (nI (d + 1)) (nI S.1) (nI N.1) (nI N.2.1) (nI N.2.2) (cm_A Q.2.1) (cm_A Q.2.2) (cm_A (fun i => (cl i).1)) (cm_A (fun i => (cl i).2.1)) (cm_A (fun i => (cl i).2.2.1)) (cm_A (fun i => (cl i).2.2.2.1)) (cm_A (fun i => (cl i).2.2.2.2)) (cm_A S.2.1) (cm_A S.2.2.1) (cm_A S.2.2.2.1) (cm_A S.2.2.2.2.1) (cm_A S.2.2.2.2.2) (cm_A rt) (cm_A rp) (cm_A ro) := by
  intro j
  induction j with
  | zero =>
    intro r S rt rp ro hj hE hS _
    refine ⟨S, rt, rp, ro, hE, hS, fun post n H => ?_⟩
    rw [show r = r0 by omega]
    exact H
  | succ j ih =>
    intro r S rt rp ro hj hE hS hp
    obtain ⟨S1, rt1, rp1, ro1, e1, b1, k1⟩ := cm_y_skip1 (N := N) (rt := rt) (rp := rp) (ro := ro) hRQ hF hd hL hE hS (by omega) (hp r (Nat.le_refl r) (by omega))
    obtain ⟨S', rt', rp', ro', e2, b2, k2⟩ := ih (r + 1) S1 rt1 rp1 ro1 (by omega) e1 b1 (fun r' h1 h2 => hp r' (by omega) h2)
    exact ⟨S', rt', rp', ro', e2, b2, fun post n H => k1 post (n + j) (k2 post n H)⟩
end cmY3
end
section
/-! a rule tried on both sides -/
theorem cm_pw_len (w : Nat → cm_W) (t o : Nat) : (cm_lt t).length ≤ (cm_pw w t 0 o).1.length := by
  unfold cm_pw
  rw [List.drop_zero]
  split
  · exact Nat.le_refl _
  · rw [List.length_append]; exact Nat.le_add_right _ _
section cmT1
variable {R : cm_RT} {fr : cm_FT} {nc : Nat} {ch : cm_CT} {D : cm_DT} {Q : cm_QT} {cl : cm_LT} {N : cm_NT} {trailed : Nat} {tm sk ow bd tr rt rp ro : Nat → Nat} {wX wY : Nat → cm_W} {f g : Nat → Nat} {d nx r0 A B ca fo en : Nat} {h : cm_HT} {s : cm_ST} {ρ : Nat → Nat}
theorem cm_try134 (hRQ : cm_RQ R Q) (hF : cm_Fb d R fr cl) (hd : d < 80) (hL : cm_Lv R fr cl d s nx wY) (hSn : cm_Sn R fr cl d h s nx wX wY f g A B) (hr : r0 < R.1) (heq : R.2.2.1 (r0 * 4) = R.2.2.1 (cm_at fr cl d nx))
    (hY : cm_YS (4 * (d + 1) + 4) tm sk ow bd (cm_wx (4 * d + 4) wY) ρ) (htr : trailed ≤ 2 * d) (hEY : cm_EY s (trailed, tm, sk, ow, bd, tr)) :
    ∃ ok S' rt' rp' ro', (ok = 0 ∨ ok = 1) ∧ cm_EY s S' ∧ S'.1 ≤ 2 * (d + 1) ∧ (∀ postY : Int32 → SY → Prop, postY (nI ok) (cm_Y Q (d + 1) cl N S' rt' rp' ro') → wpY_fits postY (cm_Y Q (d + 1) cl N (trailed, tm, sk, ow, bd, tr) rt rp ro) (nI r0)) ∧
      ∀ postX : SX → Prop,
        (ok = 0 → ∀ D' H', cm_EX h H' → H'.1 ≤ 2700 → H'.2.1 ≤ 2700 → postX (cm_X R (d + 1 + 1) (cm_s fr (d + 1) (r0, h.1, (cl (d + 1)).2.1, nx + 1)) nc ch (((cl (d + 1)).2.1, nx, A, B, ca, fo, en, 1)) D' H')) →
        (ok = 1 → ∀ D' H' wX' wY' f' g', cm_Sm (d + 1) (cm_s fr (d + 1) (r0, h.1, (cl (d + 1)).2.1, nx + 1)) H' S' wX' wY' f' g' → cm_EX h H' → H'.1 ≤ 4 + 32 * (d + 1) → H'.2.1 ≤ 10 * (d + 1) → cm_nl H'.2.2.1 H'.1 ≤ 8 * (d + 1) → postX (cm_X R (d + 1 + 1) (cm_s fr (d + 1) (r0, h.1, (cl (d + 1)).2.1, nx + 1)) nc ch ((d + 1, 0, A, B, ca, fo, en, 0)) D' H')) →
        wX_tryRule_134 postX (nI r0) (nI R.1) (nI h.1) (nI h.2.1) (nI (d + 1)) (nI nc) (nI ((((cl (d + 1)).2.1, nx, A, B, ca, fo, en, 0)).1)) (nI ((((cl (d + 1)).2.1, nx, A, B, ca, fo, en, 0)).2.1)) (nI ((((cl (d + 1)).2.1, nx, A, B, ca, fo, en, 0)).2.2.1)) (nI ((((cl (d + 1)).2.1, nx, A, B, ca, fo, en, 0)).2.2.2.1)) (nI ((((cl (d + 1)).2.1, nx, A, B, ca, fo, en, 0)).2.2.2.2.1)) (nI ((((cl (d + 1)).2.1, nx, A, B, ca, fo, en, 0)).2.2.2.2.2.1)) (nI ((((cl (d + 1)).2.1, nx, A, B, ca, fo, en, 0)).2.2.2.2.2.2.1)) (nI D.1) (nI ((((cl (d + 1)).2.1, nx, A, B, ca, fo, en, 0)).2.2.2.2.2.2.2)) (cm_A R.2.1) (cm_A R.2.2.1) (cm_A R.2.2.2.1) (cm_A R.2.2.2.2) (cm_A h.2.2.1) (cm_A h.2.2.2.1) (cm_A h.2.2.2.2.1) (cm_A h.2.2.2.2.2) (cm_A (fun i => (fr i).1)) (cm_A (fun i => (fr i).2.1)) (cm_A (fun i => (fr i).2.2.1)) (cm_A (fun i => (fr i).2.2.2)) (cm_A (fun i => (ch i).1)) (cm_A (fun i => (ch i).2.1)) (cm_A (fun i => (ch i).2.2.1)) (cm_A (fun i => (ch i).2.2.2.1)) (cm_A (fun i => (ch i).2.2.2.2.1)) (cm_A (fun i => (ch i).2.2.2.2.2.1)) (cm_A (fun i => (ch i).2.2.2.2.2.2.1)) (cm_A (fun i => (ch i).2.2.2.2.2.2.2.1)) (cm_A (fun i => (ch i).2.2.2.2.2.2.2.2)) (cm_A D.2) := by
  obtain ⟨top, trail, k, m, l, tc⟩ := h
  obtain ⟨hSm, hA, hB, hcA, hcB, b1, b2, b3⟩ := hSn
  dsimp only at hA hB b1 b2 b3 ⊢
  have hco : (cl (d + 1)).2.1 ≤ d := hL.2.2.2.2.1
  obtain ⟨ρ0, hYS⟩ := hL.1
  have hh := cm_head hRQ hr
  have h8 := hRQ.2.1
  obtain ⟨r1, S1, ok, S', rt', rp', ro', hy1, hy2, kY⟩ := cm_y_fits_p (N := N) (tr := tr) (rt := rt) (rp := rp) (ro := ro) hRQ hF hd hL hr heq hY htr
  have e1 := cm_YR_EY hy1 (by omega)
  have e2 : cm_EY S1 S' ∧ S'.1 ≤ S1.1 + 1 ∧ (ok = 0 ∨ ok = 1) := by
    rcases hy2 with ⟨_, z1, z2⟩ | ⟨_, z⟩
    · rw [z2]; exact ⟨cm_EY_refl _, Nat.le_succ _, Or.inl z1⟩
    · have := cm_YR_EY z (by omega)
      exact ⟨this.1, this.2.1, this.2.2.1⟩
  have e3 := e1.2.1
  dsimp only at e3
  refine ⟨ok, S', rt', rp', ro', e2.2.2, cm_EY_trans hEY (cm_EY_trans e1.1 e2.1), by omega, kY, fun postX P0 P1 => ?_⟩
  obtain ⟨⟨ρX, hX⟩, _, _, _⟩ := id hSm
  dsimp only at hX
  unfold wX_tryRule_134
  show wpX_newFrame _ (cm_X R (d + 1) fr nc ch (((cl (d + 1)).2.1, nx, A, B, ca, fo, en, 0)) D (top, trail, k, m, l, tc)) _ _ _
  refine cm_x_newFrame (r := r0) (c := (cl (d + 1)).2.1) (nx := nx + 1) (by omega) hX (by omega) rfl rfl (nI_1 nx) fun H0 w0 hN ht0 hw0 => ⟨vp_in_nI (by omega) (by decide), ?_⟩
  obtain ⟨f1, g1, hSm0', keep⟩ := cm_Sm_new (r := r0) (c := (cl (d + 1)).2.1) (nx := nx + 1) hSm hN ht0 hw0
  have hSm0 : cm_Sm (d + 1) (cm_s fr (d + 1) (r0, top, (cl (d + 1)).2.1, nx + 1)) H0 (trailed, tm, sk, ow, bd, tr) w0 (cm_wx (4 * d + 4) wY) f1 g1 := ⟨hSm0'.1, ⟨ρ, hY⟩, hSm0'.2.2⟩
  have hE0 := hN.1
  have hn0 := hN.2.2.2.2.1
  have hl0 := hN.2.2.1
  have hkA := hN.2.2.2.1 A hA
  obtain ⟨top0, trail0, k0, m0, l0, tc0⟩ := H0
  obtain ⟨⟨ρ1, hX0⟩, _, _, _⟩ := id hSm0
  dsimp only at ht0 hn0 hl0 hX0 hkA keep
  have e4 : nI r0 * 4 = nI (r0 * 4) := pk_mul r0 4
  have pcg : ∀ t, cm_pw (cm_wx (4 * d + 4) wY) t 0 (cl (d + 1)).2.1 = cm_pw wY t 0 (cl (d + 1)).2.1 := fun t => cm_pw_congr (nv := 4 * d + 4) (by omega) (fun v hv => cm_wx_lt hv)
  have pend : ∀ t, (cm_pw wY t 0 (cl (d + 1)).2.1).2 < 3 + (4 * d + 4) := by
    intro t
    rcases cm_pw_end hYS (t := t) (s := 0) (o := (cl (d + 1)).2.1) (by omega) with z | ⟨u, z1, _, z2⟩ <;> omega
  have la1 := cm_lt_len (R.2.2.2.1 (r0 * 4))
  have la2 := cm_lt_len (R.2.2.2.2 (r0 * 4))
  have la3 := cm_lt_len (R.2.2.2.1 (cm_at fr cl d nx))
  have la4 := cm_lt_len (R.2.2.2.2 (cm_at fr cl d nx))
  have lenA : (cm_lt (R.2.2.2.1 (cm_at fr cl d nx))).length ≤ (w0 A).1.length := by
    rw [hkA, ← (cm_Cor_1 hcA).1]
    exact cm_pw_len _ _ _
  refine nm_r (e' := nI top) (by
    show cm_A (fun i => (cm_s fr (d + 1) (r0, top, (cl (d + 1)).2.1, nx + 1) i).2.1) (nI (d + 1)).toNatClampNeg = nI top
    rw [cm_rd (by omega), cm_ss]) ?_
  rw [e4]
  have vi : vp_in (nI (r0 * 4)) 36 := vp_in_nI (by omega) (by decide)
  refine ⟨vi, ?_⟩
  show wpX_match _ (cm_X R (d + 1 + 1) (cm_s fr (d + 1) (r0, top, (cl (d + 1)).2.1, nx + 1)) nc ch (((cl (d + 1)).2.1, nx, A, B, ca, fo, en, 0)) D (top0, trail0, k0, m0, l0, tc0)) _ _ _
  refine cm_x_match (t := R.2.2.2.1 (r0 * 4)) (b := top) (q := A) hh.2.2.2.2.1 hX0 (by omega) (by omega) (by omega) (by omega) (by omega) (cm_rd (by omega)) rfl rfl fun r D1 H1 hm1 => ?_
  have ha1 := cm_Sm_term hSm0 (c := d + 1) (Nat.le_refl _) (R.2.2.2.1 (r0 * 4))
  rw [cm_ss] at ha1
  have hb1 := keep A _ hA (pend _) hcA
  rw [← pcg] at hb1
  obtain ⟨er, e01, hlk⟩ := cm_lock hSm0 ha1 hb1 hm1 hy1
  obtain ⟨x1, x2, x3, x4, _⟩ := hm1
  rcases e01 with z | z
  · -- the first doesn't fit
    subst z
    have hok : ok = 0 := by
      rcases hy2 with ⟨_, z1, _⟩ | ⟨z1, _⟩ <;> omega
    refine br_t rfl ?_
    unfold wX_tryRule_206 wX_tryRule_207
    exact br_t rfl (P0 hok D1 H1 (cm_EX_trans hE0 x1) (by omega) (by omega))
  · subst z
    obtain ⟨w1, f2, g2, hSm1, keep1⟩ := hlk rfl
    rcases hy2 with ⟨z1, _⟩ | ⟨_, hy2⟩
    · omega
    have hb2 := keep1 B _ (show B < top0 by omega) (keep B _ hB (pend _) hcB)
    rw [← pcg, ← cm_pw_wu] at hb2
    have lenB : (cm_lt (R.2.2.2.2 (cm_at fr cl d nx))).length ≤ (w1 B).1.length := by
      rw [← (cm_Cor_1 hb2).1]
      exact cm_pw_len _ _ _
    have ha2 := cm_Sm_term hSm1 (c := d + 1) (Nat.le_refl _) (R.2.2.2.2 (r0 * 4))
    rw [cm_ss] at ha2
    have x5 : top0 ≤ H1.1 := x1.1
    obtain ⟨top1, trail1, k1, m1, l1, tc1⟩ := H1
    obtain ⟨⟨ρ2, hX1⟩, _, _, _⟩ := id hSm1
    dsimp only at x2 x3 x4 x5 hX1 ha2
    refine br_f (by decide) ⟨vi, ?_⟩
    show wpX_match _ (cm_X R (d + 1 + 1) (cm_s fr (d + 1) (r0, top, (cl (d + 1)).2.1, nx + 1)) nc ch (((cl (d + 1)).2.1, nx, A, B, ca, fo, en, 0)) D1 (top1, trail1, k1, m1, l1, tc1)) _ _ _
    refine cm_x_match (t := R.2.2.2.2 (r0 * 4)) (b := top) (q := B) hh.2.2.2.2.2 hX1 (by omega) (by omega) (by omega) (by omega) (by omega) (cm_rd (by omega)) rfl rfl fun r D2 H2 hm2 => ?_
    obtain ⟨er2, e02, hlk2⟩ := cm_lock hSm1 ha2 hb2 hm2 hy2
    obtain ⟨y1, y2, y3, y4, _⟩ := hm2
    have hEE := cm_EX_trans hE0 (cm_EX_trans x1 y1)
    rcases e02 with z | z
    · subst z
      refine br_t rfl ?_
      unfold wX_tryRule_206 wX_tryRule_207
      exact br_t rfl (P0 er2 D2 H2 hEE (by omega) (by omega))
    · subst z
      obtain ⟨w2, f3, g3, hSm2, _⟩ := hlk2 rfl
      refine br_f (by decide) ?_
      unfold wX_tryRule_207
      exact br_f (by decide) (P1 er2 D2 H2 w2 _ f3 g3 hSm2 hEE (by omega) (by omega) (by omega))
end cmT1
end
section
/-! a rule tried: points of choice, and Y's loop over the rules -/
theorem cm_pr {α : Type} {f : Nat → α} {c : Nat} {r : α} (p : α → Nat) (e : p r = p (f c)) : (fun i => p (cm_s f c r i)) = fun i => p (f i) := by
  funext i
  unfold cm_s
  split
  · rename_i h; rw [h]; exact e
  · rfl
theorem cm_Cor_sym {f g : Nat → Nat} {a b : cm_W} (h : cm_Cor f g a b) : cm_Cor g f b a := ⟨h.2, h.1⟩
theorem cm_FG_sym {f g : Nat → Nat} (h : cm_FG f g) : cm_FG g f := fun e => ⟨fun he => ⟨((h e).1 he).2, ((h e).1 he).1⟩, fun he => ⟨((h e).2 he).2, ((h e).2 he).1⟩⟩
theorem cm_PsR_cor {f g : Nat → Nat} {R : cm_RT} {p r : Nat} {a b : cm_W} (hf : cm_FG f g) (hc : cm_Cor f g a b) : cm_PsR R p a r ↔ cm_PsR R p b r := by
  unfold cm_PsR
  constructor
  · intro h
    rcases h with h | h
    · exact Or.inl h
    · exact Or.inr (cm_Psd_cor hf hc h)
  · intro h
    rcases h with h | h
    · exact Or.inl h
    · exact Or.inr (cm_Psd_cor (cm_FG_sym hf) (cm_Cor_sym hc) h)
section cmT2
variable {R : cm_RT} {fr : cm_FT} {nc : Nat} {ch : cm_CT} {D : cm_DT} {Q : cm_QT} {cl : cm_LT} {N : cm_NT} {rt rp ro : Nat → Nat} {wX wY : Nat → cm_W} {f g : Nat → Nat} {d nx r r0 A B ca fo en : Nat} {h : cm_HT} {s S : cm_ST}
theorem cm_try (hRQ : cm_RQ R Q) (hF : cm_Fb d R fr cl) (hd : d < 80) (hL : cm_Lv R fr cl d s nx wY) (hSn : cm_Sn R fr cl d h s nx wX wY f g A B) (hr : r0 < R.1)
    (hnp : ¬ cm_PsR R (R.2.2.1 (cm_at fr cl d nx)) (cm_pw wY (R.2.2.2.1 (cm_at fr cl d nx)) 0 (cl (d + 1)).2.1) r0) (hrr : r ≤ r0) (hps : ∀ r', r ≤ r' → r' < r0 → cm_PsR R (R.2.2.1 (cm_at fr cl d nx)) (cm_pw wY (R.2.2.2.1 (cm_at fr cl d nx)) 0 (cl (d + 1)).2.1) r')
    (hStk : cm_Stk R fr ch cl d (cl d).2.2.2.1 nc h s) (hE : cm_EY s S) (hS : S.1 ≤ 328) (post : SX → Prop)
    (P0 : ∀ nc' ch' D' H' S' rt' rp' ro', cm_Stk R (cm_s fr (d + 1) (r0, h.1, (cl (d + 1)).2.1, nx + 1)) ch' cl (d + 1) (r0 + 1) nc' H' S' → H'.1 ≤ 2700 → H'.2.1 ≤ 2700 → S'.1 ≤ 2 * (d + 1) →
      (∀ (postY : Int32 → SY → Prop) n, wY_takeRule_10 postY n (nI (r0 + 1)) (nI Q.1) (nI (d + 1)) (nI S'.1) (nI N.1) (nI N.2.1) (nI N.2.2) (cm_A Q.2.1) (cm_A Q.2.2) (cm_A (fun i => (cl i).1)) (cm_A (fun i => (cl i).2.1)) (cm_A (fun i => (cl i).2.2.1)) (cm_A (fun i => (cl i).2.2.2.1)) (cm_A (fun i => (cl i).2.2.2.2)) (cm_A S'.2.1) (cm_A S'.2.2.1) (cm_A S'.2.2.2.1) (cm_A S'.2.2.2.2.1) (cm_A S'.2.2.2.2.2) (cm_A rt') (cm_A rp') (cm_A ro') → wY_takeRule_10 postY (n + (r0 + 1 - r)) (nI r) (nI Q.1) (nI (d + 1)) (nI S.1) (nI N.1) (nI N.2.1) (nI N.2.2) (cm_A Q.2.1) (cm_A Q.2.2) (cm_A (fun i => (cl i).1)) (cm_A (fun i => (cl i).2.1)) (cm_A (fun i => (cl i).2.2.1)) (cm_A (fun i => (cl i).2.2.2.1)) (cm_A (fun i => (cl i).2.2.2.2)) (cm_A S.2.1) (cm_A S.2.2.1) (cm_A S.2.2.2.1) (cm_A S.2.2.2.2.1) (cm_A S.2.2.2.2.2) (cm_A rt) (cm_A rp) (cm_A ro)) →
      post (cm_X R (d + 1 + 1) (cm_s fr (d + 1) (r0, h.1, (cl (d + 1)).2.1, nx + 1)) nc' ch' (((cl (d + 1)).2.1, nx, A, B, ca, fo, en, 1)) D' H'))
    (P1 : ∀ nc' ch' D' H' S' rt' rp' ro' wX' wY' f' g', cm_Stk R (cm_s fr (d + 1) (r0, h.1, (cl (d + 1)).2.1, nx + 1)) ch' (cm_s cl (d + 1) (r0, (cl (d + 1)).2.1, (cl (d + 1)).2.2.1, r0 + 1, (cl (d + 1)).2.2.2.2)) (d + 1) (r0 + 1) nc' H' S' →
      cm_Sm (d + 1) (cm_s fr (d + 1) (r0, h.1, (cl (d + 1)).2.1, nx + 1)) H' S' wX' wY' f' g' → H'.1 ≤ 4 + 32 * (d + 1) → H'.2.1 ≤ 10 * (d + 1) → cm_nl H'.2.2.1 H'.1 ≤ 8 * (d + 1) → S'.1 ≤ 2 * (d + 1) →
      (∀ (postY : Int32 → SY → Prop) n, postY 1 (cm_Y Q (d + 1) (cm_s cl (d + 1) (r0, (cl (d + 1)).2.1, (cl (d + 1)).2.2.1, r0 + 1, (cl (d + 1)).2.2.2.2)) N S' rt' rp' ro') → wY_takeRule_10 postY (n + (r0 + 1 - r)) (nI r) (nI Q.1) (nI (d + 1)) (nI S.1) (nI N.1) (nI N.2.1) (nI N.2.2) (cm_A Q.2.1) (cm_A Q.2.2) (cm_A (fun i => (cl i).1)) (cm_A (fun i => (cl i).2.1)) (cm_A (fun i => (cl i).2.2.1)) (cm_A (fun i => (cl i).2.2.2.1)) (cm_A (fun i => (cl i).2.2.2.2)) (cm_A S.2.1) (cm_A S.2.2.1) (cm_A S.2.2.2.1) (cm_A S.2.2.2.2.1) (cm_A S.2.2.2.2.2) (cm_A rt) (cm_A rp) (cm_A ro)) →
      post (cm_X R (d + 1 + 1) (cm_s fr (d + 1) (r0, h.1, (cl (d + 1)).2.1, nx + 1)) nc' ch' ((d + 1, 0, A, B, ca, fo, en, 0)) D' H')) :
    wpX_tryRule post (cm_X R (d + 1) fr nc ch (((cl (d + 1)).2.1, nx, A, B, ca, fo, en, 0)) D h) (nI r0) (nI (R.2.2.1 (cm_at fr cl d nx))) := by
  have h8 := hRQ.2.1
  have q1 := hRQ.1
  have hco : (cl (d + 1)).2.1 ≤ d := hL.2.2.2.2.1
  obtain ⟨ga, g1, g2, _⟩ := cm_goal (N := N) (trailed := 0) (tm := rt) (sk := rt) (ow := rt) (bd := rt) (tr := rt) (rt := rt) (rp := rp) (ro := ro) (tp := d + 1) hRQ hF (by omega) hL
  have hpd := g2.2.2.2.1
  have heq : R.2.2.1 (r0 * 4) = R.2.2.1 (cm_at fr cl d nx) := by
    by_cases z : R.2.2.1 (r0 * 4) = R.2.2.1 (cm_at fr cl d nx)
    · exact z
    · exact absurd (Or.inl z) hnp
  -- Y: the rules left out, then the mark, then the try
  obtain ⟨S1, rt1, rp1, ro1, sE, sB, sK⟩ := cm_y_skip (N := N) hRQ hF hd hL (by omega) (r0 - r) r S rt rp ro (by omega) hE hS hps
  obtain ⟨u1, ⟨ρu, u2⟩, u3⟩ := cm_y_unmark (Q := Q) (N := N) (rt := rt1) (rp := rp1) (ro := ro1) hL sE sB hd
  have hs2 := hL.2.2.1
  -- both sides, for whatever points of choice
  have both := fun (nc : Nat) (ch : cm_CT) (D : cm_DT) => cm_try134 (nc := nc) (ch := ch) (D := D) (N := N) (rt := rt1) (rp := rp1) (ro := ro1) (ca := ca) (fo := fo) (en := en) (tr := S1.2.2.2.2.2) hRQ hF hd hL hSn hr heq u2 hs2 u1
  have hSm := hSn.1
  have hFG := hSm.2.2.1
  obtain ⟨ρX, hX⟩ := hSm.1
  have hA := hSn.2.1
  have b1 := hSn.2.2.2.2.2.1
  have hPS : ∀ r', cm_PsR R (R.2.2.1 (cm_at fr cl d nx)) (wX A) r' ↔ cm_PsR R (R.2.2.1 (cm_at fr cl d nx)) (cm_pw wY (R.2.2.2.1 (cm_at fr cl d nx)) 0 (cl (d + 1)).2.1) r' := fun r' => cm_PsR_cor hFG hSn.2.2.2.1
  -- Y's loop at r0
  have yloop0 : ∀ S' rt' rp' ro', (∀ pp : Int32 → SY → Prop, pp (nI 0) (cm_Y Q (d + 1) cl N S' rt' rp' ro') → wpY_fits pp (cm_Y Q (d + 1) cl N ((s.1, S1.2.1, S1.2.2.1, S1.2.2.2.1, s.2.2.2.2.1, S1.2.2.2.2.2)) rt1 rp1 ro1) (nI r0)) → ∀ (postY : Int32 → SY → Prop) n, wY_takeRule_10 postY n (nI (r0 + 1)) (nI Q.1) (nI (d + 1)) (nI S'.1) (nI N.1) (nI N.2.1) (nI N.2.2) (cm_A Q.2.1) (cm_A Q.2.2) (cm_A (fun i => (cl i).1)) (cm_A (fun i => (cl i).2.1)) (cm_A (fun i => (cl i).2.2.1)) (cm_A (fun i => (cl i).2.2.2.1)) (cm_A (fun i => (cl i).2.2.2.2)) (cm_A S'.2.1) (cm_A S'.2.2.1) (cm_A S'.2.2.2.1) (cm_A S'.2.2.2.2.1) (cm_A S'.2.2.2.2.2) (cm_A rt') (cm_A rp') (cm_A ro') → wY_takeRule_10 postY (n + (r0 + 1 - r)) (nI r) (nI Q.1) (nI (d + 1)) (nI S.1) (nI N.1) (nI N.2.1) (nI N.2.2) (cm_A Q.2.1) (cm_A Q.2.2) (cm_A (fun i => (cl i).1)) (cm_A (fun i => (cl i).2.1)) (cm_A (fun i => (cl i).2.2.1)) (cm_A (fun i => (cl i).2.2.2.1)) (cm_A (fun i => (cl i).2.2.2.2)) (cm_A S.2.1) (cm_A S.2.2.1) (cm_A S.2.2.2.1) (cm_A S.2.2.2.2.1) (cm_A S.2.2.2.2.2) (cm_A rt) (cm_A rp) (cm_A ro) := by
    intro S' rt' rp' ro' hf postY n H
    rw [show n + (r0 + 1 - r) = n + 1 + (r0 - r) by omega]
    refine sK postY (n + 1) (br_f ?_ ⟨vp_in_nI (by omega) (by decide), ?_⟩)
    · rw [q1]; exact nI_ge hr (by omega)
    show wpY_undo _ (cm_Y Q (d + 1) cl N S1 rt1 rp1 ro1) _
    refine u3 _ ?_
    show wpY_fits _ (cm_Y Q (d + 1) cl N ((s.1, S1.2.1, S1.2.2.1, S1.2.2.2.1, s.2.2.2.2.1, S1.2.2.2.2.2)) rt1 rp1 ro1) (nI r0)
    exact hf _ (br_t rfl (nm_r (nI_1 r0) H))
  have yloop1 : ∀ S' rt' rp' ro', (∀ pp : Int32 → SY → Prop, pp (nI 1) (cm_Y Q (d + 1) cl N S' rt' rp' ro') → wpY_fits pp (cm_Y Q (d + 1) cl N ((s.1, S1.2.1, S1.2.2.1, S1.2.2.2.1, s.2.2.2.2.1, S1.2.2.2.2.2)) rt1 rp1 ro1) (nI r0)) → ∀ (postY : Int32 → SY → Prop) n, postY 1 (cm_Y Q (d + 1) (cm_s cl (d + 1) (r0, (cl (d + 1)).2.1, (cl (d + 1)).2.2.1, r0 + 1, (cl (d + 1)).2.2.2.2)) N S' rt' rp' ro') → wY_takeRule_10 postY (n + (r0 + 1 - r)) (nI r) (nI Q.1) (nI (d + 1)) (nI S.1) (nI N.1) (nI N.2.1) (nI N.2.2) (cm_A Q.2.1) (cm_A Q.2.2) (cm_A (fun i => (cl i).1)) (cm_A (fun i => (cl i).2.1)) (cm_A (fun i => (cl i).2.2.1)) (cm_A (fun i => (cl i).2.2.2.1)) (cm_A (fun i => (cl i).2.2.2.2)) (cm_A S.2.1) (cm_A S.2.2.1) (cm_A S.2.2.2.1) (cm_A S.2.2.2.2.1) (cm_A S.2.2.2.2.2) (cm_A rt) (cm_A rp) (cm_A ro) := by
    intro S' rt' rp' ro' hf postY n H
    rw [show n + (r0 + 1 - r) = n + 1 + (r0 - r) by omega]
    have vi : vp_in (nI (d + 1)) 82 := vp_in_nI (by omega) (by decide)
    refine sK postY (n + 1) (br_f ?_ ⟨vi, ?_⟩)
    · rw [q1]; exact nI_ge hr (by omega)
    show wpY_undo _ (cm_Y Q (d + 1) cl N S1 rt1 rp1 ro1) _
    refine u3 _ ?_
    show wpY_fits _ (cm_Y Q (d + 1) cl N ((s.1, S1.2.1, S1.2.2.1, S1.2.2.2.1, s.2.2.2.2.1, S1.2.2.2.2.2)) rt1 rp1 ro1) (nI r0)
    refine hf _ (br_f (by decide) ⟨vi, nm_r (cm_wp (r := (r0, (cl (d + 1)).2.1, (cl (d + 1)).2.2.1, r0 + 1, (cl (d + 1)).2.2.2.2)) (fun a => a.1) (by omega) rfl) ⟨vi, ?_⟩⟩)
    rw [nI_1]
    refine nm_r (cm_wp (r := (r0, (cl (d + 1)).2.1, (cl (d + 1)).2.2.1, r0 + 1, (cl (d + 1)).2.2.2.2)) (fun a => a.2.2.2.1) (by omega) rfl) ?_
    have e1 := cm_pr (f := cl) (c := d + 1) (r := (r0, (cl (d + 1)).2.1, (cl (d + 1)).2.2.1, r0 + 1, (cl (d + 1)).2.2.2.2)) (fun a => a.2.1) rfl
    have e2 := cm_pr (f := cl) (c := d + 1) (r := (r0, (cl (d + 1)).2.1, (cl (d + 1)).2.2.1, r0 + 1, (cl (d + 1)).2.2.2.2)) (fun a => a.2.2.1) rfl
    have e3 := cm_pr (f := cl) (c := d + 1) (r := (r0, (cl (d + 1)).2.1, (cl (d + 1)).2.2.1, r0 + 1, (cl (d + 1)).2.2.2.2)) (fun a => a.2.2.2.2) rfl
    unfold cm_Y at H
    rw [e1, e2, e3] at H
    exact H
  -- the stack behind the try, by what stands above it
  have stk : ∀ nc' ch' H' S', cm_EX h H' → cm_EY s S' → (((∀ r', r0 + 1 ≤ r' → r' < R.1 → cm_PsR R (R.2.2.1 (cm_at fr cl d nx)) (wX A) r') ∧ nc' = nc ∧ ch' = ch) ∨ (∃ r1, r0 + 1 ≤ r1 ∧ r1 < R.1 ∧ (∀ r', r0 + 1 ≤ r' → r' < r1 → cm_PsR R (R.2.2.1 (cm_at fr cl d nx)) (wX A) r') ∧ ¬ cm_PsR R (R.2.2.1 (cm_at fr cl d nx)) (wX A) r1 ∧ nc' = nc + 1 ∧ ch' = cm_s ch nc (r1, R.2.2.1 (cm_at fr cl d nx), A, B, (cl (d + 1)).2.1, nx, h.1, h.2.1, d + 1))) →
      cm_Stk R fr ch' cl (d + 1) (r0 + 1) nc' H' S' := by
    intro nc' ch' H' S' hEX hEY hc
    refine ⟨by omega, s, nx, wY, hEY, hL, ?_⟩
    rcases hc with ⟨c1, rfl, rfl⟩ | ⟨r1, c1, c2, c3, c4, rfl, rfl⟩
    · exact Or.inl ⟨fun r' h1 h2 => (hPS r').mp (c1 r' h1 h2), cm_Stk_mono d _ _ hStk hEX (cm_EY_refl s)⟩
    · refine Or.inr ⟨h, nc, r1, A, B, wX, f, g, rfl, hEX, cm_ss, c1, c2, fun r' h1 h2 => (hPS r').mp (c3 r' h1 h2), fun z => c4 ((hPS r1).mpr z), hSn, ?_⟩
      exact cm_Stk_congr d _ _ hStk (fun _ _ => rfl) (fun _ _ => rfl) ⟨rfl, rfl, rfl⟩ (fun i hi => cm_sn (by omega))
  have stk2 : ∀ nc' ch' H' S', cm_Stk R fr ch' cl (d + 1) (r0 + 1) nc' H' S' → cm_Stk R (cm_s fr (d + 1) (r0, h.1, (cl (d + 1)).2.1, nx + 1)) ch' cl (d + 1) (r0 + 1) nc' H' S' := fun nc' ch' H' S' hs =>
    cm_Stk_congr (d + 1) _ _ hs (fun c hc => cm_sn (by omega)) (fun _ _ => rfl) ⟨rfl, rfl, rfl⟩ (fun _ _ => rfl)
  have stk3 : ∀ nc' ch' H' S', cm_Stk R fr ch' cl (d + 1) (r0 + 1) nc' H' S' → cm_Stk R (cm_s fr (d + 1) (r0, h.1, (cl (d + 1)).2.1, nx + 1)) ch' (cm_s cl (d + 1) (r0, (cl (d + 1)).2.1, (cl (d + 1)).2.2.1, r0 + 1, (cl (d + 1)).2.2.2.2)) (d + 1) (r0 + 1) nc' H' S' := fun nc' ch' H' S' hs =>
    cm_Stk_congr (d + 1) _ _ hs (fun c hc => cm_sn (by omega)) (fun c hc => cm_sn (by omega)) (by rw [cm_ss]; exact ⟨rfl, rfl, rfl⟩) (fun _ _ => rfl)
  -- the X side, for a given new stack of points of choice
  have xgo : ∀ nc' ch' (D' : cm_DT), (((∀ r', r0 + 1 ≤ r' → r' < R.1 → cm_PsR R (R.2.2.1 (cm_at fr cl d nx)) (wX A) r') ∧ nc' = nc ∧ ch' = ch) ∨ (∃ r1, r0 + 1 ≤ r1 ∧ r1 < R.1 ∧ (∀ r', r0 + 1 ≤ r' → r' < r1 → cm_PsR R (R.2.2.1 (cm_at fr cl d nx)) (wX A) r') ∧ ¬ cm_PsR R (R.2.2.1 (cm_at fr cl d nx)) (wX A) r1 ∧ nc' = nc + 1 ∧ ch' = cm_s ch nc (r1, R.2.2.1 (cm_at fr cl d nx), A, B, (cl (d + 1)).2.1, nx, h.1, h.2.1, d + 1))) →
      wX_tryRule_134 post (nI r0) (nI R.1) (nI h.1) (nI h.2.1) (nI (d + 1)) (nI nc') (nI ((((cl (d + 1)).2.1, nx, A, B, ca, fo, en, 0)).1)) (nI ((((cl (d + 1)).2.1, nx, A, B, ca, fo, en, 0)).2.1)) (nI ((((cl (d + 1)).2.1, nx, A, B, ca, fo, en, 0)).2.2.1)) (nI ((((cl (d + 1)).2.1, nx, A, B, ca, fo, en, 0)).2.2.2.1)) (nI ((((cl (d + 1)).2.1, nx, A, B, ca, fo, en, 0)).2.2.2.2.1)) (nI ((((cl (d + 1)).2.1, nx, A, B, ca, fo, en, 0)).2.2.2.2.2.1)) (nI ((((cl (d + 1)).2.1, nx, A, B, ca, fo, en, 0)).2.2.2.2.2.2.1)) (nI D'.1) (nI ((((cl (d + 1)).2.1, nx, A, B, ca, fo, en, 0)).2.2.2.2.2.2.2)) (cm_A R.2.1) (cm_A R.2.2.1) (cm_A R.2.2.2.1) (cm_A R.2.2.2.2) (cm_A h.2.2.1) (cm_A h.2.2.2.1) (cm_A h.2.2.2.2.1) (cm_A h.2.2.2.2.2) (cm_A (fun i => (fr i).1)) (cm_A (fun i => (fr i).2.1)) (cm_A (fun i => (fr i).2.2.1)) (cm_A (fun i => (fr i).2.2.2)) (cm_A (fun i => (ch' i).1)) (cm_A (fun i => (ch' i).2.1)) (cm_A (fun i => (ch' i).2.2.1)) (cm_A (fun i => (ch' i).2.2.2.1)) (cm_A (fun i => (ch' i).2.2.2.2.1)) (cm_A (fun i => (ch' i).2.2.2.2.2.1)) (cm_A (fun i => (ch' i).2.2.2.2.2.2.1)) (cm_A (fun i => (ch' i).2.2.2.2.2.2.2.1)) (cm_A (fun i => (ch' i).2.2.2.2.2.2.2.2)) (cm_A D'.2) := by
    intro nc' ch' D' hc
    obtain ⟨ok, S', rt', rp', ro', hok, hEY', hS', kY, kX⟩ := both nc' ch' D'
    refine kX post (fun h0 D2 H2 hEX t1 t2 => ?_) (fun h1 D2 H2 wX2 wY2 f2 g2 hSm2 hEX t1 t2 t3 => ?_)
    · subst h0
      exact P0 nc' ch' D2 H2 S' rt' rp' ro' (stk2 _ _ _ _ (stk nc' ch' H2 S' hEX hEY' hc)) t1 t2 hS' (yloop0 S' rt' rp' ro' kY)
    · subst h1
      exact P1 nc' ch' D2 H2 S' rt' rp' ro' wX2 wY2 f2 g2 (stk3 _ _ _ _ (stk nc' ch' H2 S' hEX hEY' hc)) hSm2 t1 t2 t3 hS' (yloop1 S' rt' rp' ro' kY)
  have hj := cm_Stk_j d _ _ hStk
  obtain ⟨top, trail, k, m, l, tc⟩ := h
  dsimp only at hX hA b1
  unfold wpX_tryRule cm_X
  dsimp only
  show wpX_candidate _ (cm_X R (d + 1) fr nc ch (((cl (d + 1)).2.1, nx, A, B, ca, fo, en, 0)) D (top, trail, k, m, l, tc)) _ _
  refine cm_x_candidate (M := ((cl (d + 1)).2.1, nx, A, B, ca, fo, en, 0)) (fm := r0 + 1) hX (by omega) hA h8 (by omega) (fun r' hr' => ?_) (by omega) (nI_1 r0) (fun hall D' => br_t (by decide) (xgo nc ch D' (Or.inl ⟨hall, rfl, rfl⟩))) (fun r1 c1 c2 c3 c4 D' => br_f (nI_pos (by omega)) ?_)
  · have hh := cm_head hRQ hr'
    exact ⟨by have := hh.2.2.2.1; omega, hh.2.2.2.2.1⟩
  · have vi : vp_in (nI nc) 84 := vp_in_nI (by omega) (by decide)
    have fin := xgo (nc + 1) (cm_s ch nc (r1, R.2.2.1 (cm_at fr cl d nx), A, B, (cl (d + 1)).2.1, nx, top, trail, d + 1)) D' (Or.inr ⟨r1, c1, c2, c3, c4, rfl, rfl⟩)
    have hb : nc < 2 ^ 31 := by omega
    refine ⟨vi, nm_r (cm_wp (r := (r1, R.2.2.1 (cm_at fr cl d nx), A, B, (cl (d + 1)).2.1, nx, top, trail, d + 1)) (fun a => a.1) hb rfl) ⟨vi, nm_r (cm_wp (r := (r1, R.2.2.1 (cm_at fr cl d nx), A, B, (cl (d + 1)).2.1, nx, top, trail, d + 1)) (fun a => a.2.1) hb rfl) ⟨vi, nm_r (cm_wp (r := (r1, R.2.2.1 (cm_at fr cl d nx), A, B, (cl (d + 1)).2.1, nx, top, trail, d + 1)) (fun a => a.2.2.1) hb rfl) ⟨vi, nm_r (cm_wp (r := (r1, R.2.2.1 (cm_at fr cl d nx), A, B, (cl (d + 1)).2.1, nx, top, trail, d + 1)) (fun a => a.2.2.2.1) hb rfl) ?_⟩⟩⟩⟩
    refine ⟨vi, nm_r (cm_wp (r := (r1, R.2.2.1 (cm_at fr cl d nx), A, B, (cl (d + 1)).2.1, nx, top, trail, d + 1)) (fun a => a.2.2.2.2.1) hb rfl) ⟨vi, nm_r (cm_wp (r := (r1, R.2.2.1 (cm_at fr cl d nx), A, B, (cl (d + 1)).2.1, nx, top, trail, d + 1)) (fun a => a.2.2.2.2.2.1) hb rfl) ⟨vi, nm_r (cm_wp (r := (r1, R.2.2.1 (cm_at fr cl d nx), A, B, (cl (d + 1)).2.1, nx, top, trail, d + 1)) (fun a => a.2.2.2.2.2.2.1) hb rfl) ⟨vi, nm_r (cm_wp (r := (r1, R.2.2.1 (cm_at fr cl d nx), A, B, (cl (d + 1)).2.1, nx, top, trail, d + 1)) (fun a => a.2.2.2.2.2.2.2.1) hb rfl) ?_⟩⟩⟩⟩
    refine ⟨vi, nm_r (cm_wp (r := (r1, R.2.2.1 (cm_at fr cl d nx), A, B, (cl (d + 1)).2.1, nx, top, trail, d + 1)) (fun a => a.2.2.2.2.2.2.2.2) hb rfl) (nm_r (nI_1 nc) ?_)⟩
    exact fin
end cmT2
end
section
/-! frames left, on both sides -/
def cm_b (c : Nat) : Nat := if c = 0 then 0 else 1
theorem cm_b0 : cm_b 0 = 0 := rfl
theorem cm_b1 {c : Nat} (h : 0 < c) : cm_b c = 1 := if_neg (by omega)
section cmL1
variable {R : cm_RT} {nf : Nat} {fr : cm_FT} {nc : Nat} {ch : cm_CT} {M : cm_MT} {D : cm_DT} {H : cm_HT} {Q : cm_QT} {tp : Nat} {cl : cm_LT} {N : cm_NT} {S : cm_ST} {rt rp ro : Nat → Nat} {T : Nat}
theorem cm_gl (hRQ : cm_RQ R Q) (hF : cm_Fb T R fr cl) {c : Nat} (hc : c ≤ T) : R.2.1 (fr c).1 ≤ 3 := by
  by_cases e : c = 0
  · rw [e, hF.1]; exact hRQ.2.2.2.1
  · have := (hRQ.2.2.1 _ (hF.2.2 c (by omega) hc).1).1
    omega
theorem cm_y_goalsOf (hRQ : cm_RQ R Q) (hF : cm_Fb T R fr cl) (hT : T ≤ 80) {c : Nat} (hc : c ≤ T) (post : Int32 → Prop) (P : post (nI (R.2.1 (fr c).1 + cm_b c))) : wpY_goalsOf post (cm_Y Q tp cl N S rt rp ro) (nI c) := by
  unfold wpY_goalsOf cm_Y
  dsimp only
  by_cases e : c = 0
  · subst e
    rw [hF.1, ← hRQ.2.2.2.2.1] at P
    exact br_t rfl P
  · obtain ⟨f1, f2, _⟩ := hF.2.2 c (by omega) hc
    have h8 := hRQ.2.1
    refine br_f (nI_ne0 (by omega) (by omega)) ⟨vp_in_nI (by omega) (by decide), ?_⟩
    rw [cm_rd (by omega), f2]
    refine ⟨vp_in_nI (by omega) (by decide), ?_⟩
    rw [cm_rd (by omega), (hRQ.2.2.1 _ f1).2.1]
    rw [cm_b1 (by omega)] at P
    exact P
theorem cm_leave (hRQ : cm_RQ R Q) (hF : cm_Fb T R fr cl) (hT : T ≤ 80) : ∀ c nx, c ≤ T → nx ≤ R.2.1 (fr c).1 → ∃ c' nx', c' ≤ c ∧ nx' ≤ R.2.1 (fr c').1 ∧ (c' = 0 ∨ nx' < R.2.1 (fr c').1) ∧
    (∀ (post : SX → Prop) n x1, c < n → x1 + c < 84 → post (cm_X R nf fr nc ch (c', nx', M.2.2.1, M.2.2.2.1, M.2.2.2.2.1, M.2.2.2.2.2.1, M.2.2.2.2.2.2.1, M.2.2.2.2.2.2.2) D H) → wX_leave_2 post (nI R.1) (nI H.1) (nI H.2.1) (nI nf) (nI nc) (nI M.2.2.1) (nI M.2.2.2.1) (nI M.2.2.2.2.1) (nI M.2.2.2.2.2.1) (nI M.2.2.2.2.2.2.1) (nI D.1) (nI M.2.2.2.2.2.2.2) (cm_A R.2.1) (cm_A R.2.2.1) (cm_A R.2.2.2.1) (cm_A R.2.2.2.2) (cm_A H.2.2.1) (cm_A H.2.2.2.1) (cm_A H.2.2.2.2.1) (cm_A H.2.2.2.2.2) (cm_A (fun i => (fr i).1)) (cm_A (fun i => (fr i).2.1)) (cm_A (fun i => (fr i).2.2.1)) (cm_A (fun i => (fr i).2.2.2)) (cm_A (fun i => (ch i).1)) (cm_A (fun i => (ch i).2.1)) (cm_A (fun i => (ch i).2.2.1)) (cm_A (fun i => (ch i).2.2.2.1)) (cm_A (fun i => (ch i).2.2.2.2.1)) (cm_A (fun i => (ch i).2.2.2.2.2.1)) (cm_A (fun i => (ch i).2.2.2.2.2.2.1)) (cm_A (fun i => (ch i).2.2.2.2.2.2.2.1)) (cm_A (fun i => (ch i).2.2.2.2.2.2.2.2)) (cm_A D.2) n (nI x1) (nI c) (nI nx)) ∧
    (∀ (postY : Int32 → SY → Prop) n, c < n → wY_callNext_50 postY (nI c') (nI (nx' + cm_b c')) (nI Q.1) (nI tp) (nI S.1) (nI N.1) (nI N.2.1) (nI N.2.2) (cm_A Q.2.1) (cm_A Q.2.2) (cm_A (fun i => (cl i).1)) (cm_A (fun i => (cl i).2.1)) (cm_A (fun i => (cl i).2.2.1)) (cm_A (fun i => (cl i).2.2.2.1)) (cm_A (fun i => (cl i).2.2.2.2)) (cm_A S.2.1) (cm_A S.2.2.1) (cm_A S.2.2.2.1) (cm_A S.2.2.2.2.1) (cm_A S.2.2.2.2.2) (cm_A rt) (cm_A rp) (cm_A ro) → wY_callNext_18 postY (nI Q.1) (nI tp) (nI S.1) (nI N.1) (nI N.2.1) (nI N.2.2) (cm_A Q.2.1) (cm_A Q.2.2) (cm_A (fun i => (cl i).1)) (cm_A (fun i => (cl i).2.1)) (cm_A (fun i => (cl i).2.2.1)) (cm_A (fun i => (cl i).2.2.2.1)) (cm_A (fun i => (cl i).2.2.2.2)) (cm_A S.2.1) (cm_A S.2.2.1) (cm_A S.2.2.2.1) (cm_A S.2.2.2.2.1) (cm_A S.2.2.2.2.2) (cm_A rt) (cm_A rp) (cm_A ro) n (nI c) (nI (nx + cm_b c))) := by
  have key : ∀ q c nx, c < q → c ≤ T → nx ≤ R.2.1 (fr c).1 → ∃ c' nx', c' ≤ c ∧ nx' ≤ R.2.1 (fr c').1 ∧ (c' = 0 ∨ nx' < R.2.1 (fr c').1) ∧
    (∀ (post : SX → Prop) n x1, c < n → x1 + c < 84 → post (cm_X R nf fr nc ch (c', nx', M.2.2.1, M.2.2.2.1, M.2.2.2.2.1, M.2.2.2.2.2.1, M.2.2.2.2.2.2.1, M.2.2.2.2.2.2.2) D H) → wX_leave_2 post (nI R.1) (nI H.1) (nI H.2.1) (nI nf) (nI nc) (nI M.2.2.1) (nI M.2.2.2.1) (nI M.2.2.2.2.1) (nI M.2.2.2.2.2.1) (nI M.2.2.2.2.2.2.1) (nI D.1) (nI M.2.2.2.2.2.2.2) (cm_A R.2.1) (cm_A R.2.2.1) (cm_A R.2.2.2.1) (cm_A R.2.2.2.2) (cm_A H.2.2.1) (cm_A H.2.2.2.1) (cm_A H.2.2.2.2.1) (cm_A H.2.2.2.2.2) (cm_A (fun i => (fr i).1)) (cm_A (fun i => (fr i).2.1)) (cm_A (fun i => (fr i).2.2.1)) (cm_A (fun i => (fr i).2.2.2)) (cm_A (fun i => (ch i).1)) (cm_A (fun i => (ch i).2.1)) (cm_A (fun i => (ch i).2.2.1)) (cm_A (fun i => (ch i).2.2.2.1)) (cm_A (fun i => (ch i).2.2.2.2.1)) (cm_A (fun i => (ch i).2.2.2.2.2.1)) (cm_A (fun i => (ch i).2.2.2.2.2.2.1)) (cm_A (fun i => (ch i).2.2.2.2.2.2.2.1)) (cm_A (fun i => (ch i).2.2.2.2.2.2.2.2)) (cm_A D.2) n (nI x1) (nI c) (nI nx)) ∧
    (∀ (postY : Int32 → SY → Prop) n, c < n → wY_callNext_50 postY (nI c') (nI (nx' + cm_b c')) (nI Q.1) (nI tp) (nI S.1) (nI N.1) (nI N.2.1) (nI N.2.2) (cm_A Q.2.1) (cm_A Q.2.2) (cm_A (fun i => (cl i).1)) (cm_A (fun i => (cl i).2.1)) (cm_A (fun i => (cl i).2.2.1)) (cm_A (fun i => (cl i).2.2.2.1)) (cm_A (fun i => (cl i).2.2.2.2)) (cm_A S.2.1) (cm_A S.2.2.1) (cm_A S.2.2.2.1) (cm_A S.2.2.2.2.1) (cm_A S.2.2.2.2.2) (cm_A rt) (cm_A rp) (cm_A ro) → wY_callNext_18 postY (nI Q.1) (nI tp) (nI S.1) (nI N.1) (nI N.2.1) (nI N.2.2) (cm_A Q.2.1) (cm_A Q.2.2) (cm_A (fun i => (cl i).1)) (cm_A (fun i => (cl i).2.1)) (cm_A (fun i => (cl i).2.2.1)) (cm_A (fun i => (cl i).2.2.2.1)) (cm_A (fun i => (cl i).2.2.2.2)) (cm_A S.2.1) (cm_A S.2.2.1) (cm_A S.2.2.2.1) (cm_A S.2.2.2.2.1) (cm_A S.2.2.2.2.2) (cm_A rt) (cm_A rp) (cm_A ro) n (nI c) (nI (nx + cm_b c))) := by
    intro q
    induction q with
    | zero => intro c nx hq; omega
    | succ q ih =>
      intro c nx hq hc hnx
      have hg := cm_gl hRQ hF hc
      have h8 := hRQ.2.1
      have hrl := cm_Fb_rule hF h8 hc
      by_cases e0 : c = 0
      · subst e0
        refine ⟨0, nx, Nat.le_refl _, hnx, Or.inl rfl, fun post n x1 hn hx P => ?_, fun postY n hn P => ?_⟩
        · obtain ⟨n, rfl⟩ : ∃ q, n = q + 1 := ⟨n - 1, by omega⟩
          exact br_f (nI_ge (b := 84) (by omega) (by decide)) (br_t (by decide) P)
        · obtain ⟨n, rfl⟩ : ∃ q, n = q + 1 := ⟨n - 1, by omega⟩
          rw [wY_callNext_18]
          show wpY_goalsOf _ (cm_Y Q tp cl N S rt rp ro) (nI 0)
          refine cm_y_goalsOf hRQ hF hT hc _ (br_c (fun _ => P) (fun _ => br_t (by decide) P))
      · by_cases e1 : nx = R.2.1 (fr c).1
        · obtain ⟨f1, f2, f3, f4, f5, f6, f7⟩ := hF.2.2 c (by omega) hc
          obtain ⟨c', nx', a1, a2, a3, a4, a5⟩ := ih (fr c).2.2.1 (fr c).2.2.2 (by omega) (by omega) f6
          refine ⟨c', nx', by omega, a2, a3, fun post n x1 hn hx P => ?_, fun postY n hn P => ?_⟩
          · obtain ⟨n, rfl⟩ : ∃ q, n = q + 1 := ⟨n - 1, by omega⟩
            have vi : vp_in (nI c) 84 := vp_in_nI (by omega) (by decide)
            refine br_f (nI_ge (b := 84) (by omega) (by decide)) (br_f (nI_nle (by omega) (by omega)) ⟨vi, ?_⟩)
            rw [cm_rd (by omega)]
            refine ⟨vp_in_nI (by omega) (by decide), ?_⟩
            rw [cm_rd (by omega)]
            refine br_t (by rw [e1]) ⟨vi, ?_⟩
            refine nm_r (cm_rd (by omega)) ⟨vi, nm_r (cm_rd (by omega)) (nm_r (nI_1 x1) ?_)⟩
            exact a4 post n (x1 + 1) (by omega) (by omega) P
          · obtain ⟨n, rfl⟩ : ∃ q, n = q + 1 := ⟨n - 1, by omega⟩
            have vi : vp_in (nI c) 82 := vp_in_nI (by omega) (by decide)
            rw [wY_callNext_18]
            show wpY_goalsOf _ (cm_Y Q tp cl N S rt rp ro) (nI c)
            refine cm_y_goalsOf hRQ hF hT hc _ (br_f ?_ (br_f (nI_nle (by omega) (by omega)) ⟨vi, ?_⟩))
            · rw [e1]; exact nI_nlt (Nat.le_refl _) (by unfold cm_b; split <;> omega)
            · rw [cm_rd (by omega), nI_1]
              refine nm_e ⟨vi, nm_r (e' := nI (fr c).2.2.1) (by rw [cm_rd (by omega), f4]) ?_⟩
              rw [f7]
              exact a5 postY n (by omega) P
        · refine ⟨c, nx, Nat.le_refl _, hnx, Or.inr (by omega), fun post n x1 hn hx P => ?_, fun postY n hn P => ?_⟩
          · obtain ⟨n, rfl⟩ : ∃ q, n = q + 1 := ⟨n - 1, by omega⟩
            have vi : vp_in (nI c) 84 := vp_in_nI (by omega) (by decide)
            refine br_f (nI_ge (b := 84) (by omega) (by decide)) (br_f (nI_nle (by omega) (by omega)) ⟨vi, ?_⟩)
            rw [cm_rd (by omega)]
            refine ⟨vp_in_nI (by omega) (by decide), ?_⟩
            rw [cm_rd (by omega)]
            exact br_f (fun z => e1 ((nI_eq (by omega) (by omega)).mp z)) P
          · obtain ⟨n, rfl⟩ : ∃ q, n = q + 1 := ⟨n - 1, by omega⟩
            rw [wY_callNext_18]
            show wpY_goalsOf _ (cm_Y Q tp cl N S rt rp ro) (nI c)
            refine cm_y_goalsOf hRQ hF hT hc _ (br_t ?_ P)
            exact nI_lt (by omega) (by unfold cm_b; split <;> omega)
  intro c nx hc hnx
  exact key (c + 1) c nx (Nat.lt_succ_self c) hc hnx
/-- nothing to leave -/
theorem cm_x_leave0 {c nx : Nat} (hc : c < 84) (hr : (fr c).1 ≤ 8) (hg : R.2.1 (fr c).1 < 2 ^ 31) (hn : nx < 2 ^ 31) (h : c = 0 ∨ nx ≠ R.2.1 (fr c).1) (post : SX → Prop) (P : post (cm_X R nf fr nc ch (c, nx, M.2.2.1, M.2.2.2.1, M.2.2.2.2.1, M.2.2.2.2.2.1, M.2.2.2.2.2.2.1, M.2.2.2.2.2.2.2) D H)) : wpX_leave post (cm_X R nf fr nc ch (c, nx, M.2.2.1, M.2.2.2.1, M.2.2.2.2.1, M.2.2.2.2.2.1, M.2.2.2.2.2.2.1, M.2.2.2.2.2.2.2) D H) := by
  unfold wpX_leave cm_X
  dsimp only
  refine ⟨1, ?_⟩
  refine br_f (by decide) ?_
  by_cases e0 : c = 0
  · subst e0
    exact br_t (by decide) P
  · have vi : vp_in (nI c) 84 := vp_in_nI (by omega) (by decide)
    refine br_f (nI_nle (by omega) (by omega)) ⟨vi, ?_⟩
    rw [cm_rd (by omega)]
    refine ⟨vp_in_nI (by omega) (by decide), ?_⟩
    rw [cm_rd (by omega)]
    refine br_f (fun z => ?_) P
    have := (nI_eq (by omega) (by omega)).mp z
    omega
end cmL1
end
section
/-! the search: what Y still asks, and calls given up -/
def cm_K (postF : Int32 → SY → Prop) (y1 : Int32) (n : Nat) : Int32 → SY → Prop := fun r u => match u with
  | (f_rules, f_top, f_trailed, f_found, f_called, f_ending, a_goals, a_sizes, a_taken, a_callerOf, a_goalOf, a_nextRule, a_marks, a_terms, a_skips, a_owners, a_bound, a_trail, a_term, a_place, a_owner) => wY_search_27 postF y1 n r f_rules f_top f_trailed f_found f_called f_ending a_goals a_sizes a_taken a_callerOf a_goalOf a_nextRule a_marks a_terms a_skips a_owners a_bound a_trail a_term a_place a_owner
def cm_mu (cl : cm_LT) : Nat → Nat
  | 0 => 0
  | c + 1 => cm_mu cl c + (9 - (cl (c + 1)).2.2.2.1)
theorem cm_mu_congr {cl cl' : cm_LT} : ∀ T, (∀ c, c ≤ T → cl' c = cl c) → cm_mu cl' T = cm_mu cl T
  | 0, _ => rfl
  | T + 1, h => by
    unfold cm_mu
    rw [cm_mu_congr T (fun c hc => h c (by omega)), h (T + 1) (Nat.le_refl _)]
/-- Y is inside takeRule's loop at rule r -/
def cm_YB (YP : (Int32 → SY → Prop) → Prop) (K : Nat) (Q : cm_QT) (cl : cm_LT) (N : cm_NT) (μ tp r : Nat) (S : cm_ST) (rt rp ro : Nat → Nat) : Prop :=
  ∀ postF : Int32 → SY → Prop, (∀ N' n, μ ≤ N' → 9 - r ≤ n → wY_takeRule_10 (cm_K postF (nI (K + 1)) N') n (nI r) (nI Q.1) (nI tp) (nI S.1) (nI N.1) (nI N.2.1) (nI N.2.2) (cm_A Q.2.1) (cm_A Q.2.2) (cm_A (fun i => (cl i).1)) (cm_A (fun i => (cl i).2.1)) (cm_A (fun i => (cl i).2.2.1)) (cm_A (fun i => (cl i).2.2.2.1)) (cm_A (fun i => (cl i).2.2.2.2)) (cm_A S.2.1) (cm_A S.2.2.1) (cm_A S.2.2.2.1) (cm_A S.2.2.2.2.1) (cm_A S.2.2.2.2.2) (cm_A rt) (cm_A rp) (cm_A ro)) → YP postF
/-- Y is at the search's head, going ahead -/
def cm_YA (YP : (Int32 → SY → Prop) → Prop) (K : Nat) (Q : cm_QT) (cl : cm_LT) (N : cm_NT) (μ tp : Nat) (S : cm_ST) (rt rp ro : Nat → Nat) : Prop :=
  ∀ postF : Int32 → SY → Prop, (∀ N', μ < N' → wY_search_27 postF (nI (K + 1)) N' 1 (nI Q.1) (nI tp) (nI S.1) (nI N.1) (nI N.2.1) (nI N.2.2) (cm_A Q.2.1) (cm_A Q.2.2) (cm_A (fun i => (cl i).1)) (cm_A (fun i => (cl i).2.1)) (cm_A (fun i => (cl i).2.2.1)) (cm_A (fun i => (cl i).2.2.2.1)) (cm_A (fun i => (cl i).2.2.2.2)) (cm_A S.2.1) (cm_A S.2.2.1) (cm_A S.2.2.2.1) (cm_A S.2.2.2.2.1) (cm_A S.2.2.2.2.2) (cm_A rt) (cm_A rp) (cm_A ro)) → YP postF
/-- Y has ended -/
def cm_YF (YP : (Int32 → SY → Prop) → Prop) (r : Nat) (v : SY) : Prop := ∀ postF : Int32 → SY → Prop, postF (nI r) v → YP postF
section cmP1
variable {R : cm_RT} {fr : cm_FT} {nc : Nat} {ch : cm_CT} {Q : cm_QT} {cl : cm_LT} {N : cm_NT} {H : cm_HT} {YP : (Int32 → SY → Prop) → Prop} {K base μ : Nat}
theorem cm_pop (hRQ : cm_RQ R Q) (hN : N.2.2 = 0) : ∀ T r (S : cm_ST) rt rp ro, cm_Stk R fr ch cl T r nc H S → T ≤ 80 → cm_Fb (T - 1) R fr cl → cm_EY cm_S0 S → S.1 ≤ 328 →
    (T = 0 → cm_YF YP 0 (cm_Y Q 0 cl N S rt rp ro)) → (∀ d, T = d + 1 → base + cm_mu cl d + (9 - r) ≤ μ ∧ cm_YB YP K Q cl N (base + cm_mu cl d + (9 - r)) (d + 1) r S rt rp ro) →
    (nc = 0 ∧ ∃ S' rt' rp' ro', cm_EY cm_S0 S' ∧ S'.1 ≤ 328 ∧ cm_YF YP 0 (cm_Y Q 0 cl N S' rt' rp' ro')) ∨
    (∃ d r' S' rt' rp' ro' s nx wY h j' r0 A B wX f g, d + 1 ≤ T ∧ cm_EY s S' ∧ S'.1 ≤ 328 ∧ cm_Lv R fr cl d s nx wY ∧ nc = j' + 1 ∧ cm_EX h H ∧ ch j' = (r0, R.2.2.1 (cm_at fr cl d nx), A, B, (cl (d + 1)).2.1, nx, h.1, h.2.1, d + 1) ∧ r' ≤ r0 ∧ r0 < R.1 ∧
      (∀ q, r' ≤ q → q < r0 → cm_PsR R (R.2.2.1 (cm_at fr cl d nx)) (cm_pw wY (R.2.2.2.1 (cm_at fr cl d nx)) 0 (cl (d + 1)).2.1) q) ∧ ¬ cm_PsR R (R.2.2.1 (cm_at fr cl d nx)) (cm_pw wY (R.2.2.2.1 (cm_at fr cl d nx)) 0 (cl (d + 1)).2.1) r0 ∧ cm_Sn R fr cl d h s nx wX wY f g A B ∧ cm_Stk R fr ch cl d (cl d).2.2.2.1 j' h s ∧
      base + cm_mu cl d + (9 - r') ≤ μ ∧ cm_YB YP K Q cl N (base + cm_mu cl d + (9 - r')) (d + 1) r' S' rt' rp' ro') := by
  intro T
  induction T with
  | zero =>
    intro r S rt rp ro hS _ _ hE hb hF _
    exact Or.inl ⟨hS, S, rt, rp, ro, hE, hb, hF rfl⟩
  | succ d ih =>
    intro r S rt rp ro hS hT hFb hE hb _ hB
    obtain ⟨hmu, hYB⟩ := hB d rfl
    have h8 := hRQ.2.1
    have q1 := hRQ.1
    obtain ⟨h0, s, nx, wY, hEY, hL, h3⟩ := hS
    rcases h3 with ⟨hall, hlow⟩ | ⟨h, j', r0, A, B, wX, f, g, a1, a2, a3, a4, a5, a6, a7, a8, a9⟩
    · obtain ⟨S1, rt1, rp1, ro1, sE, sB, sK⟩ := cm_y_skip (N := N) hRQ hFb (by omega) hL (Nat.le_refl R.1) (R.1 - r) r S rt rp ro (by omega) hEY hb hall
      obtain ⟨u1, _, u3⟩ := cm_y_unmark (Q := Q) (N := N) (rt := rt1) (rp := rp1) (ro := ro1) hL sE sB (by omega)
      have hs2 := hL.2.2.1
      have down : ∀ (postF : Int32 → SY → Prop), (∀ N', base + cm_mu cl d + (9 - r) ≤ N' + 1 → wY_search_85 postF (wY_search_27 postF (nI (K + 1)) N') (nI (K + 1)) 0 (nI Q.1) (nI d) (nI (((s.1, S1.2.1, S1.2.2.1, S1.2.2.2.1, s.2.2.2.2.1, S1.2.2.2.2.2)).1)) (nI N.1) (nI N.2.1) (nI N.2.2) (cm_A Q.2.1) (cm_A Q.2.2) (cm_A (fun i => (cl i).1)) (cm_A (fun i => (cl i).2.1)) (cm_A (fun i => (cl i).2.2.1)) (cm_A (fun i => (cl i).2.2.2.1)) (cm_A (fun i => (cl i).2.2.2.2)) (cm_A (((s.1, S1.2.1, S1.2.2.1, S1.2.2.2.1, s.2.2.2.2.1, S1.2.2.2.2.2)).2.1)) (cm_A (((s.1, S1.2.1, S1.2.2.1, S1.2.2.2.1, s.2.2.2.2.1, S1.2.2.2.2.2)).2.2.1)) (cm_A (((s.1, S1.2.1, S1.2.2.1, S1.2.2.2.1, s.2.2.2.2.1, S1.2.2.2.2.2)).2.2.2.1)) (cm_A (((s.1, S1.2.1, S1.2.2.1, S1.2.2.2.1, s.2.2.2.2.1, S1.2.2.2.2.2)).2.2.2.2.1)) (cm_A (((s.1, S1.2.1, S1.2.2.1, S1.2.2.2.1, s.2.2.2.2.1, S1.2.2.2.2.2)).2.2.2.2.2)) (cm_A rt1) (cm_A rp1) (cm_A ro1)) → YP postF := by
        intro postF HP
        refine hYB postF fun N' n hN' hn => ?_
        obtain ⟨n', rfl⟩ : ∃ q, n = q + 1 + (R.1 - r) := ⟨n - 1 - (R.1 - r), by omega⟩
        obtain ⟨N'', rfl⟩ : ∃ q, N' = q + 1 := ⟨N' - 1, by omega⟩
        refine sK _ (n' + 1) (br_t (by rw [q1]; exact nI_le (Nat.le_refl _) (by omega)) ⟨vp_in_nI (by omega) (by decide), ?_⟩)
        show wpY_undo _ (cm_Y Q (d + 1) cl N S1 rt1 rp1 ro1) _
        refine u3 _ (nm_r (nI_pred d) ?_)
        show wY_search_27 postF (nI (K + 1)) (N'' + 1) 0 (nI Q.1) (nI d) (nI (((s.1, S1.2.1, S1.2.2.1, S1.2.2.2.1, s.2.2.2.2.1, S1.2.2.2.2.2)).1)) (nI N.1) (nI N.2.1) (nI N.2.2) (cm_A Q.2.1) (cm_A Q.2.2) (cm_A (fun i => (cl i).1)) (cm_A (fun i => (cl i).2.1)) (cm_A (fun i => (cl i).2.2.1)) (cm_A (fun i => (cl i).2.2.2.1)) (cm_A (fun i => (cl i).2.2.2.2)) (cm_A (((s.1, S1.2.1, S1.2.2.1, S1.2.2.2.1, s.2.2.2.2.1, S1.2.2.2.2.2)).2.1)) (cm_A (((s.1, S1.2.1, S1.2.2.1, S1.2.2.2.1, s.2.2.2.2.1, S1.2.2.2.2.2)).2.2.1)) (cm_A (((s.1, S1.2.1, S1.2.2.1, S1.2.2.2.1, s.2.2.2.2.1, S1.2.2.2.2.2)).2.2.2.1)) (cm_A (((s.1, S1.2.1, S1.2.2.1, S1.2.2.2.1, s.2.2.2.2.1, S1.2.2.2.2.2)).2.2.2.2.1)) (cm_A (((s.1, S1.2.1, S1.2.2.1, S1.2.2.2.1, s.2.2.2.2.1, S1.2.2.2.2.2)).2.2.2.2.2)) (cm_A rt1) (cm_A rp1) (cm_A ro1)
        exact br_t (by rw [hN]; rfl) (br_t rfl (HP N'' hN'))
      have hE' : cm_EY cm_S0 (s.1, S1.2.1, S1.2.2.1, S1.2.2.2.1, s.2.2.2.2.1, S1.2.2.2.2.2) := cm_EY_trans hL.2.1 u1
      have hz : d = 0 → cm_YF YP 0 (cm_Y Q 0 cl N ((s.1, S1.2.1, S1.2.2.1, S1.2.2.2.1, s.2.2.2.2.1, S1.2.2.2.2.2)) rt1 rp1 ro1) := by
        intro hd0 postF HP
        subst hd0
        refine down postF fun N' _ => ?_
        unfold wY_search_85
        exact br_t (by rw [hN]; rfl) (br_t rfl HP)
      have hs : ∀ d', d = d' + 1 → base + cm_mu cl d' + (9 - (cl d).2.2.2.1) ≤ μ ∧ cm_YB YP K Q cl N (base + cm_mu cl d' + (9 - (cl d).2.2.2.1)) (d' + 1) (cl d).2.2.2.1 (s.1, S1.2.1, S1.2.2.1, S1.2.2.2.1, s.2.2.2.2.1, S1.2.2.2.2.2) rt1 rp1 ro1 := by
        intro d' hd'
        subst hd'
        have hm : cm_mu cl (d' + 1) = cm_mu cl d' + (9 - (cl (d' + 1)).2.2.2.1) := rfl
        refine ⟨by omega, fun postF HP => down postF fun N' hN' => ?_⟩
        have hr8 : (cl (d' + 1)).2.2.2.1 ≤ R.1 := hlow.1
        unfold wY_search_85
        refine br_t (by rw [hN]; rfl) (br_f (nI_ne0 (by omega) (by omega)) ?_)
        show wpY_takeRule (cm_K postF (nI (K + 1)) N') (cm_Y Q (d' + 1) cl N ((s.1, S1.2.1, S1.2.2.1, S1.2.2.2.1, s.2.2.2.2.1, S1.2.2.2.2.2)) rt1 rp1 ro1)
        unfold wpY_takeRule cm_Y
        dsimp only
        refine ⟨vp_in_nI (by omega) (by decide), nm_r (cm_rd (by omega)) ⟨9, ?_⟩⟩
        exact HP N' 9 (by omega) (by omega)
      rcases ih (cl d).2.2.2.1 _ rt1 rp1 ro1 (cm_Stk_mono d _ _ hlow (cm_EX_refl H) u1) (by omega) (cm_Fb_le hFb (by omega)) hE' (by dsimp only; omega) hz hs with hres | ⟨d2, r2, S2, rt2, rp2, ro2, s2, nx2, wY2, h2, j2, r02, A2, B2, wX2, f2, g2, c1, c2⟩
      · exact Or.inl hres
      · exact Or.inr ⟨d2, r2, S2, rt2, rp2, ro2, s2, nx2, wY2, h2, j2, r02, A2, B2, wX2, f2, g2, by omega, c2⟩
    · exact Or.inr ⟨d, r, S, rt, rp, ro, s, nx, wY, h, j', r0, A, B, wX, f, g, Nat.le_refl _, hEY, hb, hL, a1, a2, a3, a4, a5, a6, a7, a8, a9, hmu, hYB⟩
end cmP1
end
section
/-! the search's rounds: going back -/
/-- how both ends stand when the search has ended -/
def cm_Fin (K : Nat) (R : cm_RT) (Q : cm_QT) (r : Nat) (u : SX) (v : SY) : Prop :=
  ∃ nf fr nc ch M D H tp cl N S rt rp ro, u = cm_X R nf fr nc ch M D H ∧ v = cm_Y Q tp cl N S rt rp ro ∧ M.2.2.2.2.2.1 = N.1 ∧ M.2.2.2.2.1 = N.2.1 ∧ (K = 12 → M.2.2.2.2.2.2.1 = N.2.2) ∧ N.1 ≤ 12 ∧ N.2.1 ≤ 80 ∧ N.2.2 ≤ 2 ∧ cm_EY cm_S0 S ∧ S.1 ≤ 328 ∧
    ((r = 1 ∧ N.1 = K + 1 ∧ ∃ T wX wY f g, cm_Sm T fr H S wX wY f g ∧ T ≤ 80 ∧ (fr 0).2.1 = 0 ∧ H.1 ≤ 2700 ∧ cm_nl H.2.2.1 H.1 < 1000) ∨ (r = 0 ∧ N.1 ≠ K + 1))
def cm_RA (R : cm_RT) (fr : cm_FT) (nc : Nat) (ch : cm_CT) (cl : cm_LT) (T : Nat) (H : cm_HT) (S : cm_ST) : Prop :=
  cm_Fb T R fr cl ∧ (∃ wX wY f g, cm_Sm T fr H S wX wY f g) ∧ H.1 ≤ 4 + 32 * T ∧ H.2.1 ≤ 10 * T ∧ cm_nl H.2.2.1 H.1 ≤ 8 * T ∧ S.1 ≤ 2 * T ∧ cm_EY cm_S0 S ∧ cm_Stk R fr ch cl T (cl T).2.2.2.1 nc H S
def cm_RB (R : cm_RT) (fr : cm_FT) (nc : Nat) (ch : cm_CT) (cl : cm_LT) (T r : Nat) (H : cm_HT) (S : cm_ST) : Prop :=
  cm_Fb (T - 1) R fr cl ∧ H.1 ≤ 2700 ∧ H.2.1 ≤ 2700 ∧ S.1 ≤ 328 ∧ cm_EY cm_S0 S ∧ cm_Stk R fr ch cl T r nc H S
def cm_MA (K m : Nat) : Prop :=
  ∀ (YP : (Int32 → SY → Prop) → Prop) (postX : SX → Prop) (R : cm_RT) (Q : cm_QT) (fr : cm_FT) (nc : Nat) (ch : cm_CT) (A B ca fo : Nat) (D : cm_DT) (T : Nat) (cl : cm_LT) (H : cm_HT) (S : cm_ST) (rt rp ro : Nat → Nat),
    cm_RQ R Q → cm_RA R fr nc ch cl T H S → T ≤ ca → ca ≤ 80 → fo < 12 → fo ≤ K → ((80 - ca) * 10 + 1) + cm_mu cl T + (12 - fo) ≤ m → cm_YA YP K Q cl (fo, ca, 0) (((80 - ca) * 10 + 1) + cm_mu cl T) T S rt rp ro →
    (∀ r u v, cm_Fin K R Q r u v → cm_YF YP r v → postX u) → ∀ n round, m + 1 < n → round + m < 1500 → wX_search_8 postX (nI K) n 1 (nI round) (nI R.1) (nI H.1) (nI H.2.1) (nI (T + 1)) (nI nc) (nI (((T, 0, A, B, ca, fo, 0, 0)).1)) (nI (((T, 0, A, B, ca, fo, 0, 0)).2.1)) (nI (((T, 0, A, B, ca, fo, 0, 0)).2.2.1)) (nI (((T, 0, A, B, ca, fo, 0, 0)).2.2.2.1)) (nI (((T, 0, A, B, ca, fo, 0, 0)).2.2.2.2.1)) (nI (((T, 0, A, B, ca, fo, 0, 0)).2.2.2.2.2.1)) (nI (((T, 0, A, B, ca, fo, 0, 0)).2.2.2.2.2.2.1)) (nI D.1) (nI (((T, 0, A, B, ca, fo, 0, 0)).2.2.2.2.2.2.2)) (cm_A R.2.1) (cm_A R.2.2.1) (cm_A R.2.2.2.1) (cm_A R.2.2.2.2) (cm_A H.2.2.1) (cm_A H.2.2.2.1) (cm_A H.2.2.2.2.1) (cm_A H.2.2.2.2.2) (cm_A (fun i => (fr i).1)) (cm_A (fun i => (fr i).2.1)) (cm_A (fun i => (fr i).2.2.1)) (cm_A (fun i => (fr i).2.2.2)) (cm_A (fun i => (ch i).1)) (cm_A (fun i => (ch i).2.1)) (cm_A (fun i => (ch i).2.2.1)) (cm_A (fun i => (ch i).2.2.2.1)) (cm_A (fun i => (ch i).2.2.2.2.1)) (cm_A (fun i => (ch i).2.2.2.2.2.1)) (cm_A (fun i => (ch i).2.2.2.2.2.2.1)) (cm_A (fun i => (ch i).2.2.2.2.2.2.2.1)) (cm_A (fun i => (ch i).2.2.2.2.2.2.2.2)) (cm_A D.2)
def cm_MB (K m : Nat) : Prop :=
  ∀ (YP : (Int32 → SY → Prop) → Prop) (postX : SX → Prop) (R : cm_RT) (Q : cm_QT) (nf : Nat) (fr : cm_FT) (nc : Nat) (ch : cm_CT) (c nx A B ca fo : Nat) (D : cm_DT) (T r : Nat) (cl : cm_LT) (H : cm_HT) (S : cm_ST) (rt rp ro : Nat → Nat),
    cm_RQ R Q → cm_RB R fr nc ch cl T r H S → T ≤ ca → ca ≤ 80 → fo < 12 → fo ≤ K → c < 84 → (fr c).1 ≤ 8 → R.2.1 (fr c).1 < 2 ^ 31 → nx < 2 ^ 31 → (c = 0 ∨ nx ≠ R.2.1 (fr c).1) →
    (T = 0 → cm_YF YP 0 (cm_Y Q 0 cl ((fo, ca, 0)) S rt rp ro)) → (∀ d, T = d + 1 → ((80 - ca) * 10 + 1) + cm_mu cl d + (9 - r) + (12 - fo) ≤ m ∧ cm_YB YP K Q cl (fo, ca, 0) (((80 - ca) * 10 + 1) + cm_mu cl d + (9 - r)) (d + 1) r S rt rp ro) →
    (∀ r u v, cm_Fin K R Q r u v → cm_YF YP r v → postX u) → ∀ n round, m + 1 < n → round + m < 1500 → wX_search_8 postX (nI K) n 1 (nI round) (nI R.1) (nI H.1) (nI H.2.1) (nI nf) (nI nc) (nI (((c, nx, A, B, ca, fo, 0, 1)).1)) (nI (((c, nx, A, B, ca, fo, 0, 1)).2.1)) (nI (((c, nx, A, B, ca, fo, 0, 1)).2.2.1)) (nI (((c, nx, A, B, ca, fo, 0, 1)).2.2.2.1)) (nI (((c, nx, A, B, ca, fo, 0, 1)).2.2.2.2.1)) (nI (((c, nx, A, B, ca, fo, 0, 1)).2.2.2.2.2.1)) (nI (((c, nx, A, B, ca, fo, 0, 1)).2.2.2.2.2.2.1)) (nI D.1) (nI (((c, nx, A, B, ca, fo, 0, 1)).2.2.2.2.2.2.2)) (cm_A R.2.1) (cm_A R.2.2.1) (cm_A R.2.2.2.1) (cm_A R.2.2.2.2) (cm_A H.2.2.1) (cm_A H.2.2.2.1) (cm_A H.2.2.2.2.1) (cm_A H.2.2.2.2.2) (cm_A (fun i => (fr i).1)) (cm_A (fun i => (fr i).2.1)) (cm_A (fun i => (fr i).2.2.1)) (cm_A (fun i => (fr i).2.2.2)) (cm_A (fun i => (ch i).1)) (cm_A (fun i => (ch i).2.1)) (cm_A (fun i => (ch i).2.2.1)) (cm_A (fun i => (ch i).2.2.2.1)) (cm_A (fun i => (ch i).2.2.2.2.1)) (cm_A (fun i => (ch i).2.2.2.2.2.1)) (cm_A (fun i => (ch i).2.2.2.2.2.2.1)) (cm_A (fun i => (ch i).2.2.2.2.2.2.2.1)) (cm_A (fun i => (ch i).2.2.2.2.2.2.2.2)) (cm_A D.2)
theorem cm_Fb_congr {T : Nat} {R : cm_RT} {fr fr' : cm_FT} {cl cl' : cm_LT} (h : cm_Fb T R fr cl) (e : ∀ c, c ≤ T → fr' c = fr c) (e' : ∀ c, c ≤ T → cl' c = cl c) : cm_Fb T R fr' cl' := by
  refine ⟨by rw [e 0 (by omega)]; exact h.1, by rw [e 0 (by omega)]; exact h.2.1, fun c h1 h2 => ?_⟩
  have := h.2.2 c h1 h2
  rw [e c h2, e' c h2, e _ (by omega)]
  exact this
/-- a frame more -/
theorem cm_Fb_new {d r0 b nx go : Nat} {R : cm_RT} {fr : cm_FT} {cl : cm_LT} (h : cm_Fb d R fr cl) (hr : r0 < R.1) (hco : (cl (d + 1)).2.1 ≤ d) (hnx : nx < R.2.1 (fr (cl (d + 1)).2.1).1) (hgo : go = nx + (if (cl (d + 1)).2.1 = 0 then 0 else 1)) (n : Nat) (mk : Nat) :
    cm_Fb (d + 1) R (cm_s fr (d + 1) (r0, b, (cl (d + 1)).2.1, nx + 1)) (cm_s cl (d + 1) (r0, (cl (d + 1)).2.1, go, n, mk)) := by
  refine ⟨by rw [cm_sn (by omega)]; exact h.1, by rw [cm_sn (by omega)]; exact h.2.1, fun c h1 h2 => ?_⟩
  by_cases e : c = d + 1
  · subst e
    rw [cm_ss, cm_ss]
    dsimp only
    rw [cm_sn (show (cl (d + 1)).2.1 ≠ d + 1 by omega)]
    refine ⟨hr, rfl, by omega, rfl, by omega, by omega, ?_⟩
    rw [hgo]
    split <;> omega
  · have q := h.2.2 c h1 (by omega)
    rw [cm_sn e, cm_sn e, cm_sn (show (fr c).2.2.1 ≠ d + 1 by omega)]
    exact q
theorem cm_stepB {K m : Nat} (hK : K ≤ 12) (ih : ∀ m', m' < m → cm_MA K m' ∧ cm_MB K m') : cm_MB K m := by
  intro YP postX R Q nf fr nc ch c nx A B ca fo D T r cl H S rt rp ro hRQ hRB hTc hca hfo hfK hc hfr hgl hnx hlv hY0 hY1 hfin n round hn hround
  obtain ⟨hFb, b1, b2, b3, hE0, hStk⟩ := hRB
  obtain ⟨n, rfl⟩ : ∃ q, n = q + 1 := ⟨n - 1, by omega⟩
  have h8 := hRQ.2.1
  have hj := cm_Stk_j T _ _ hStk
  refine br_f (nI_ge (b := 1500) (by omega) (by decide)) (br_f (by decide) ?_)
  show wpX_leave _ (cm_X R nf fr nc ch ((c, nx, A, B, ca, fo, 0, 1)) D H)
  refine cm_x_leave0 (M := (c, nx, A, B, ca, fo, 0, 1)) hc hfr hgl hnx hlv _ (br_f (show ¬ nI 1 = 0 by decide) ?_)
  show wpX_retry _ (cm_X R nf fr nc ch ((c, nx, A, B, ca, fo, 0, 0)) D H)
  unfold wpX_retry
  have hpop := cm_pop (K := K) (YP := YP) (base := ((80 - ca) * 10 + 1)) (μ := m - (12 - fo)) (N := (fo, ca, 0)) hRQ rfl T r S rt rp ro hStk (by omega) hFb hE0 b3 hY0 (fun d hd => ⟨by have := (hY1 d hd).1; omega, (hY1 d hd).2⟩)
  rcases hpop with ⟨hnc, S', rt', rp', ro', hE', hS', hYF⟩ | ⟨d, r', S', rt', rp', ro', s, nx', wY, h, j', r0, A', B', wX, f, g, hdT, hEY, hS', hL, hnc, hEX, hch, hr1, hr2, hps, hnp, hSn, hlow, hmu, hYB⟩
  · -- nothing is left
    subst hnc
    refine br_t rfl (nm_r (nI_1 round) ?_)
    have fin : postX (cm_X R nf fr 0 ch ((c, nx, A, B, ca, fo, 0, 0)) D H) := hfin 0 _ _ ⟨nf, fr, 0, ch, (c, nx, A, B, ca, fo, 0, 0), D, H, 0, cl, (fo, ca, 0), S', rt', rp', ro', rfl, rfl, rfl, rfl, fun _ => rfl, by dsimp only; omega, hca, by dsimp only; omega, hE', hS', Or.inr ⟨rfl, by dsimp only; omega⟩⟩ hYF
    obtain ⟨n, rfl⟩ : ∃ q, n = q + 1 := ⟨n - 1, by omega⟩
    exact br_c (fun _ => fin) (fun _ => br_t rfl fin)
  · -- the last point of choice
    subst hnc
    have hm1 : 0 < m := by omega
    obtain ⟨ihA, ihB⟩ := ih (m - 1) (by omega)
    have hco : (cl (d + 1)).2.1 ≤ d := hL.2.2.2.2.1
    have hFd : cm_Fb d R fr cl := cm_Fb_le hFb (by omega)
    obtain ⟨top, trail, k, mm, l, tc⟩ := H
    have hE2 := hEX.2.1
    have hE6 := hEX.2.2.2.2.2
    dsimp only at b1 b2 hE2 hE6
    have vi : vp_in (nI j') 84 := vp_in_nI (by omega) (by decide)
    have hjb : j' < 2 ^ 31 := by omega
    refine br_f (nI_ne0 (by omega) (by omega)) (nm_r (nI_pred j') ⟨vi, ?_⟩)
    show wpX_undo _ (cm_X R nf fr (j' + 1) ch ((c, nx, A, B, ca, fo, 0, 0)) D (top, trail, k, mm, l, tc)) _
    refine cm_x_undo (to := h.2.1) hE2 b2 (fun i i1 i2 => by have := (hE6 i i1 i2).1; omega) (by rw [cm_rd hjb, hch]) fun l' hu => ⟨vi, ?_⟩
    obtain ⟨res1, res2⟩ := cm_Und_EX hEX hu
    -- the heap as it was
    have hSn' : cm_Sn R fr cl d (h.1, h.2.1, k, mm, l', tc) s nx' wX wY f g A' B' := by
      obtain ⟨z1, z2⟩ := hSn
      obtain ⟨⟨ρ, y1⟩, y2⟩ := z1
      refine ⟨⟨⟨ρ, cm_HX_congr y1 res1⟩, y2⟩, ?_⟩
      obtain ⟨w1, w2, w3, w4, w5, w6, w7⟩ := z2
      refine ⟨w1, w2, w3, w4, w5, w6, ?_⟩
      dsimp only
      rw [cm_nl_congr (fun c hc => (res1 c hc).1)]
      exact w7
    have hlow' := cm_Stk_mono d _ _ hlow res2 (cm_EY_refl s)
    refine nm_r (e' := nI h.1) (by
      show cm_A (fun i => (ch i).2.2.2.2.2.2.1) (nI j').toNatClampNeg = nI h.1
      rw [cm_rd hjb, hch]) ⟨vi, nm_r (e' := nI (d + 1)) (by
      show cm_A (fun i => (ch i).2.2.2.2.2.2.2.2) (nI j').toNatClampNeg = nI (d + 1)
      rw [cm_rd hjb, hch]) ⟨vi, nm_r (e' := nI A') (by
      show cm_A (fun i => (ch i).2.2.1) (nI j').toNatClampNeg = nI A'
      rw [cm_rd hjb, hch]) ⟨vi, nm_r (e' := nI B') (by
      show cm_A (fun i => (ch i).2.2.2.1) (nI j').toNatClampNeg = nI B'
      rw [cm_rd hjb, hch]) ⟨vi, nm_r (e' := nI (cl (d + 1)).2.1) (by
      show cm_A (fun i => (ch i).2.2.2.2.1) (nI j').toNatClampNeg = nI (cl (d + 1)).2.1
      rw [cm_rd hjb, hch]) ⟨vi, nm_r (e' := nI nx') (by
      show cm_A (fun i => (ch i).2.2.2.2.2.1) (nI j').toNatClampNeg = nI nx'
      rw [cm_rd hjb, hch]) (nm_r (e' := nI j') (by exact nI_pred j') ⟨vi, vi, ?_⟩)⟩⟩⟩⟩⟩
    have er : cm_A (fun i => (ch i).1) (nI j').toNatClampNeg = nI r0 := by rw [cm_rd hjb, hch]
    have ep : cm_A (fun i => (ch i).2.1) (nI j').toNatClampNeg = nI (R.2.2.1 (cm_at fr cl d nx')) := by rw [cm_rd hjb, hch]
    show wpX_tryRule _ (cm_X R (d + 1) fr j' ch (((cl (d + 1)).2.1, nx', A', B', ca, fo, 0, 0)) D ((h.1, h.2.1, k, mm, l', tc))) (cm_A (fun i => (ch i).1) (nI j').toNatClampNeg) (cm_A (fun i => (ch i).2.1) (nI j').toNatClampNeg)
    rw [er, ep]
    refine cm_try (N := (fo, ca, 0)) (rt := rt') (rp := rp') (ro := ro') hRQ hFd (by omega) hL hSn' hr2 hnp hr1 hps hlow' hEY hS' _ ?_ ?_
    · intro nc' ch' D' H' S'' rt'' rp'' ro'' t1 t2 t3 t4 kY
      refine nm_r (nI_1 round) ?_
      refine ihB YP postX R Q _ _ nc' ch' _ _ A' B' ca fo D' (d + 1) (r0 + 1) cl H' S'' rt'' rp'' ro'' hRQ ⟨cm_Fb_congr hFd (fun c hc => cm_sn (by omega)) (fun _ _ => rfl), t2, t3, by omega, ?_, t1⟩ (by omega) hca hfo hfK (by omega) ?_ ?_ ?_ (Or.inr ?_) (fun z => by omega) (fun d' hd' => ?_) hfin n (round + 1) (by omega) (by omega)
      · obtain ⟨_, s2, nx2, wY2, g1, g2, _⟩ := t1
        exact cm_EY_trans g2.2.1 g1
      · rw [cm_sn (by omega)]; exact cm_Fb_rule hFd h8 hco
      · rw [cm_sn (by omega)]; have := cm_gl hRQ hFd hco; omega
      · have := hL.2.2.2.2.2.1; have := cm_gl hRQ hFd hco; omega
      · rw [cm_sn (by omega)]; have := hL.2.2.2.2.2.1; omega
      · have e : d' = d := by omega
        subst e
        refine ⟨by omega, fun postF HP => hYB postF fun N' n' hN' hn' => ?_⟩
        obtain ⟨n'', rfl⟩ : ∃ q, n' = q + (r0 + 1 - r') := ⟨n' - (r0 + 1 - r'), by omega⟩
        exact kY _ n'' (HP N' n'' (by omega) (by omega))
    · intro nc' ch' D' H' S'' rt'' rp'' ro'' wX' wY' f' g' t1 t2 t3 t4 t5 t6 kY
      refine nm_r (nI_1 round) ?_
      have hFn := cm_Fb_new (b := h.1) hFd hr2 hco hL.2.2.2.2.2.1 hL.2.2.2.2.2.2 (r0 + 1) (cl (d + 1)).2.2.2.2
      have hmuE : cm_mu (cm_s cl (d + 1) (r0, (cl (d + 1)).2.1, (cl (d + 1)).2.2.1, r0 + 1, (cl (d + 1)).2.2.2.2)) (d + 1) = cm_mu cl d + (9 - (r0 + 1)) := by
        show cm_mu _ d + (9 - (cm_s cl (d + 1) _ (d + 1)).2.2.2.1) = _
        rw [cm_ss, cm_mu_congr d (fun c hc => cm_sn (by omega))]
      refine ihA YP postX R Q _ nc' ch' A' B' ca fo D' (d + 1) _ H' S'' rt'' rp'' ro'' hRQ ⟨hFn, ⟨wX', wY', f', g', t2⟩, t3, t4, t5, t6, ?_, by rw [cm_ss]; exact t1⟩ (by omega) hca hfo hfK (by omega) ?_ hfin n (round + 1) (by omega) (by omega)
      · obtain ⟨_, s2, nx2, wY2, g1, g2, _⟩ := t1
        exact cm_EY_trans g2.2.1 g1
      · intro postF HP
        refine hYB postF fun N' n' hN' hn' => ?_
        obtain ⟨n'', rfl⟩ : ∃ q, n' = q + (r0 + 1 - r') := ⟨n' - (r0 + 1 - r'), by omega⟩
        exact kY _ n'' (HP N' (by omega))
end
section
/-! a goal called, on both sides -/
section cmC1
variable {R : cm_RT} {fr : cm_FT} {nc : Nat} {ch : cm_CT} {D : cm_DT} {Q : cm_QT} {cl : cm_LT} {N : cm_NT} {rt rp ro : Nat → Nat} {wX wY : Nat → cm_W} {f g : Nat → Nat} {d nx A0 B0 ca fo : Nat} {H : cm_HT} {s : cm_ST}
theorem cm_call (hRQ : cm_RQ R Q) (hF : cm_Fb d R fr cl) (hd : d < 80) (hL : cm_Lv R fr cl d s nx wY) (hSm : cm_Sm d fr H s wX wY f g) (b1 : H.1 ≤ 4 + 32 * d) (b2 : H.2.1 ≤ 10 * d) (b3 : cm_nl H.2.2.1 H.1 ≤ 8 * d) (hStk : cm_Stk R fr ch cl d (cl d).2.2.2.1 nc H s) (post : SX → Prop)
    (P0 : ∀ nf' fr' nc' ch' A' B' D' r1 H' S' rt' rp' ro', cm_RB R fr' nc' ch' cl (d + 1) r1 H' S' → (∀ c, c ≤ d → fr' c = fr c) →
      (∀ (postY : Int32 → SY → Prop) n, wY_takeRule_10 postY n (nI r1) (nI Q.1) (nI (d + 1)) (nI S'.1) (nI N.1) (nI N.2.1) (nI N.2.2) (cm_A Q.2.1) (cm_A Q.2.2) (cm_A (fun i => (cl i).1)) (cm_A (fun i => (cl i).2.1)) (cm_A (fun i => (cl i).2.2.1)) (cm_A (fun i => (cl i).2.2.2.1)) (cm_A (fun i => (cl i).2.2.2.2)) (cm_A S'.2.1) (cm_A S'.2.2.1) (cm_A S'.2.2.2.1) (cm_A S'.2.2.2.2.1) (cm_A S'.2.2.2.2.2) (cm_A rt') (cm_A rp') (cm_A ro') → wY_takeRule_10 postY (n + r1) (nI 0) (nI Q.1) (nI (d + 1)) (nI s.1) (nI N.1) (nI N.2.1) (nI N.2.2) (cm_A Q.2.1) (cm_A Q.2.2) (cm_A (fun i => (cl i).1)) (cm_A (fun i => (cl i).2.1)) (cm_A (fun i => (cl i).2.2.1)) (cm_A (fun i => (cl i).2.2.2.1)) (cm_A (fun i => (cl i).2.2.2.2)) (cm_A s.2.1) (cm_A s.2.2.1) (cm_A s.2.2.2.1) (cm_A s.2.2.2.2.1) (cm_A s.2.2.2.2.2) (cm_A rt) (cm_A rp) (cm_A ro)) → r1 ≤ 8 →
      post (cm_X R nf' fr' nc' ch' (((cl (d + 1)).2.1, nx, A', B', ca + 1, fo, 0, 1)) D' H'))
    (P1 : ∀ fr' nc' ch' A' B' D' r0 H' S' rt' rp' ro', cm_RA R fr' nc' ch' (cm_s cl (d + 1) (r0, (cl (d + 1)).2.1, (cl (d + 1)).2.2.1, r0 + 1, (cl (d + 1)).2.2.2.2)) (d + 1) H' S' →
      (∀ (postY : Int32 → SY → Prop) n, postY 1 (cm_Y Q (d + 1) (cm_s cl (d + 1) (r0, (cl (d + 1)).2.1, (cl (d + 1)).2.2.1, r0 + 1, (cl (d + 1)).2.2.2.2)) N S' rt' rp' ro') → wY_takeRule_10 postY (n + (r0 + 1)) (nI 0) (nI Q.1) (nI (d + 1)) (nI s.1) (nI N.1) (nI N.2.1) (nI N.2.2) (cm_A Q.2.1) (cm_A Q.2.2) (cm_A (fun i => (cl i).1)) (cm_A (fun i => (cl i).2.1)) (cm_A (fun i => (cl i).2.2.1)) (cm_A (fun i => (cl i).2.2.2.1)) (cm_A (fun i => (cl i).2.2.2.2)) (cm_A s.2.1) (cm_A s.2.2.1) (cm_A s.2.2.2.1) (cm_A s.2.2.2.2.1) (cm_A s.2.2.2.2.2) (cm_A rt) (cm_A rp) (cm_A ro)) → r0 < 8 →
      post (cm_X R (d + 1 + 1) fr' nc' ch' ((d + 1, 0, A', B', ca + 1, fo, 0, 0)) D' H')) :
    wpX_call post (cm_X R (d + 1) fr nc ch (((cl (d + 1)).2.1, nx, A0, B0, ca, fo, 0, 0)) D H) := by
  have h8 := hRQ.2.1
  have hco : (cl (d + 1)).2.1 ≤ d := hL.2.2.2.2.1
  have hnx := hL.2.2.2.2.2.1
  have hgl := cm_gl hRQ hF hco
  have hfr := cm_Fb_rule hF h8 hco
  obtain ⟨ga, _, g2, _⟩ := cm_goal (N := N) (trailed := 0) (tm := rt) (sk := rt) (ow := rt) (bd := rt) (tr := rt) (rt := rt) (rp := rp) (ro := ro) (tp := d + 1) hRQ hF (by omega) hL
  have hpd := g2.2.2.2.1
  have hvA := g2.2.2.2.2.1
  have hvB := g2.2.2.2.2.2
  have la3 := cm_lt_len (R.2.2.2.1 (cm_at fr cl d nx))
  have la4 := cm_lt_len (R.2.2.2.2 (cm_at fr cl d nx))
  have eat : cm_at fr cl d nx = (fr (cl (d + 1)).2.1).1 * 4 + nx + 1 := rfl
  have hatb : cm_at fr cl d nx < 36 := by omega
  obtain ⟨⟨ρ0, hX⟩, hYS, hFG, hC⟩ := id hSm
  have hfv := (hC (cl (d + 1)).2.1 0 hco (by omega)).1
  obtain ⟨top, trail, k, m, l, tc⟩ := H
  dsimp only at b1 b2 b3 hX hfv
  have vi : vp_in (nI (cl (d + 1)).2.1) 84 := vp_in_nI (by omega) (by decide)
  have va : vp_in (nI (cm_at fr cl d nx)) 36 := vp_in_nI hatb (by decide)
  have eA : cm_A R.2.2.2.1 (nI (cm_at fr cl d nx)).toNatClampNeg = nI (R.2.2.2.1 (cm_at fr cl d nx)) := cm_rd (by omega)
  have eB : cm_A R.2.2.2.2 (nI (cm_at fr cl d nx)).toNatClampNeg = nI (R.2.2.2.2 (cm_at fr cl d nx)) := cm_rd (by omega)
  have eP : cm_A R.2.2.1 (nI (cm_at fr cl d nx)).toNatClampNeg = nI (R.2.2.1 (cm_at fr cl d nx)) := cm_rd (by omega)
  unfold wpX_call cm_X
  dsimp only
  refine ⟨vi, nm_r (e' := nI (cm_at fr cl d nx)) (by
    rw [cm_rd (by omega)]
    have e4 : nI (fr (cl (d + 1)).2.1).1 * 4 = nI ((fr (cl (d + 1)).2.1).1 * 4) := pk_mul _ 4
    rw [e4, nI_add, nI_1, eat]) ⟨vi, nm_r (cm_rd (by omega)) ⟨va, ?_⟩⟩⟩
  show wpX_build _ (cm_X R (d + 1) fr nc ch (((cl (d + 1)).2.1, nx, A0, B0, ca, fo, 0, 0)) D (top, trail, k, m, l, tc)) _ _
  refine cm_x_build (t := R.2.2.2.1 (cm_at fr cl d nx)) (b := (fr (cl (d + 1)).2.1).2.1) hvA hX (by omega) (by omega) eA rfl fun A D1 H1 w1 hN1 hA1 hwA => ⟨va, ?_⟩
  obtain ⟨p1, p2, p3, p4, p5, ⟨ρ1, hX1⟩⟩ := id hN1
  obtain ⟨top1, trail1, k1, m1, l1, tc1⟩ := H1
  have p0 : top ≤ top1 := p1.1
  dsimp only at p2 p3 p4 p5 hX1 hA1
  show wpX_build _ (cm_X R (d + 1) fr nc ch (((cl (d + 1)).2.1, nx, A, B0, ca, fo, 0, 0)) D1 (top1, trail1, k1, m1, l1, tc1)) _ _
  refine cm_x_build (t := R.2.2.2.2 (cm_at fr cl d nx)) (b := (fr (cl (d + 1)).2.1).2.1) hvB hX1 (by omega) (by omega) eB rfl fun B D2 H2 w2 hN2 hB2 hwB => ?_
  have hN := cm_NW_trans hN1 hN2
  obtain ⟨q1, q2, q3, q4, q5, ⟨ρ2, hX2⟩⟩ := id hN
  have q4' := hN2.2.2.2.1
  obtain ⟨top2, trail2, k2, m2, l2, tc2⟩ := H2
  have q0 : top1 ≤ top2 := hN2.1.1
  dsimp only at q2 q3 q4 q4' q5 hX2 hB2
  have hA2 : A < top2 := by omega
  -- the point of choice's picture
  have hSm2 : cm_Sm d fr (top2, trail2, k2, m2, l2, tc2) s w2 wY f g := by
    refine ⟨⟨ρ2, hX2⟩, hYS, hFG, fun c v hc hv => ?_⟩
    obtain ⟨z1, z2⟩ := hC c v hc hv
    dsimp only at z1 ⊢
    refine ⟨by omega, ?_⟩
    rw [q4 _ (by omega)]
    exact z2
  have tw1 : cm_tw w1 (fr (cl (d + 1)).2.1).2.1 (R.2.2.2.2 (cm_at fr cl d nx)) = cm_tw wX (fr (cl (d + 1)).2.1).2.1 (R.2.2.2.2 (cm_at fr cl d nx)) := by
    have h7 : R.2.2.2.2 (cm_at fr cl d nx) % 7 < 7 := Nat.mod_lt _ (by decide)
    unfold cm_tw
    rw [p4 _ (by omega)]
  have hSn : cm_Sn R fr cl d (top2, trail2, k2, m2, l2, tc2) s nx w2 wY f g A B := by
    refine ⟨hSm2, hA2, hB2, ?_, ?_, ?_, ?_, ?_⟩
    · rw [q4' A hA1, hwA]
      exact cm_Sm_term hSm hco _
    · rw [hwB, tw1]
      exact cm_Sm_term hSm hco _
    · dsimp only; omega
    · dsimp only; omega
    · dsimp only; omega
  have hStk2 := cm_Stk_mono d _ _ hStk q1 (cm_EY_refl s)
  have hPS : ∀ r', cm_PsR R (R.2.2.1 (cm_at fr cl d nx)) (w2 A) r' ↔ cm_PsR R (R.2.2.1 (cm_at fr cl d nx)) (cm_pw wY (R.2.2.2.1 (cm_at fr cl d nx)) 0 (cl (d + 1)).2.1) r' := fun r' => cm_PsR_cor hFG hSn.2.2.2.1
  have hs2 := hL.2.2.1
  refine nm_r (nI_1 ca) ⟨va, nm_r eP ?_⟩
  show wpX_candidate _ (cm_X R (d + 1) fr nc ch (((cl (d + 1)).2.1, nx, A, B, ca + 1, fo, 0, 0)) D2 (top2, trail2, k2, m2, l2, tc2)) (nI 0) (nI (R.2.2.1 (cm_at fr cl d nx)))
  refine cm_x_candidate (M := ((cl (d + 1)).2.1, nx, A, B, ca + 1, fo, 0, 0)) (fm := 0) hX2 (by omega) hA2 h8 (by omega) (fun r' hr' => ?_) (by omega) rfl (fun hall D' => br_f (by decide) ?_) (fun r0 c1 c2 c3 c4 D' => br_t (nI_pos' (by omega)) ?_)
  · have hh := cm_head hRQ hr'
    exact ⟨by have := hh.2.2.2.1; omega, hh.2.2.2.2.1⟩
  · refine P0 (d + 1) fr nc ch A B D' 0 (top2, trail2, k2, m2, l2, tc2) s rt rp ro ⟨hF, by dsimp only; omega, by dsimp only; omega, by omega, hL.2.1, ?_⟩ (fun _ _ => rfl) (fun postY n P => P) (by omega)
    exact ⟨Nat.zero_le _, s, nx, wY, cm_EY_refl s, hL, Or.inl ⟨fun r' h1 h2 => (hPS r').mp (hall r' h1 h2), hStk2⟩⟩
  · show wpX_tryRule _ (cm_X R (d + 1) fr nc ch (((cl (d + 1)).2.1, nx, A, B, ca + 1, fo, 0, 0)) D' (top2, trail2, k2, m2, l2, tc2)) (nI r0) (nI (R.2.2.1 (cm_at fr cl d nx)))
    refine cm_try (N := N) (rt := rt) (rp := rp) (ro := ro) (r := 0) hRQ hF hd hL hSn c2 (fun z => c4 ((hPS r0).mpr z)) (Nat.zero_le _) (fun r' h1 h2 => (hPS r').mp (c3 r' h1 h2)) hStk2 (cm_EY_refl s) (by omega) _ ?_ ?_
    · intro nc' ch' D3 H3 S3 rt3 rp3 ro3 t1 t2 t3 t4 kY
      refine P0 _ _ nc' ch' A B D3 (r0 + 1) H3 S3 rt3 rp3 ro3 ⟨cm_Fb_congr hF (fun c hc => cm_sn (by omega)) (fun _ _ => rfl), t2, t3, by omega, ?_, t1⟩ (fun c hc => cm_sn (by omega)) kY (by omega)
      obtain ⟨_, s2, nx2, wY2, z1, z2, _⟩ := t1
      exact cm_EY_trans z2.2.1 z1
    · intro nc' ch' D3 H3 S3 rt3 rp3 ro3 wX3 wY3 f3 g3 t1 t2 t3 t4 t5 t6 kY
      refine P1 _ nc' ch' A B D3 r0 H3 S3 rt3 rp3 ro3 ⟨cm_Fb_new hF c2 hco hnx hL.2.2.2.2.2.2 (r0 + 1) (cl (d + 1)).2.2.2.2, ⟨wX3, wY3, f3, g3, t2⟩, t3, t4, t5, t6, ?_, by rw [cm_ss]; exact t1⟩ kY (by omega)
      obtain ⟨_, s2, nx2, wY2, z1, z2, _⟩ := t1
      exact cm_EY_trans z2.2.1 z1
end cmC1
end
section
/-! the search's rounds: going ahead -/
section cmS1
variable {R : cm_RT} {fr : cm_FT} {Q : cm_QT} {cl : cm_LT} {N : cm_NT} {S : cm_ST} {rt rp ro : Nat → Nat} {T : Nat}
theorem cm_y_callNext {c' nx' : Nat} (hT : T ≤ 80) (yL : ∀ (postY : Int32 → SY → Prop) n, T < n → wY_callNext_50 postY (nI c') (nI (nx' + cm_b c')) (nI Q.1) (nI T) (nI S.1) (nI N.1) (nI N.2.1) (nI N.2.2) (cm_A Q.2.1) (cm_A Q.2.2) (cm_A (fun i => (cl i).1)) (cm_A (fun i => (cl i).2.1)) (cm_A (fun i => (cl i).2.2.1)) (cm_A (fun i => (cl i).2.2.2.1)) (cm_A (fun i => (cl i).2.2.2.2)) (cm_A S.2.1) (cm_A S.2.2.1) (cm_A S.2.2.2.1) (cm_A S.2.2.2.2.1) (cm_A S.2.2.2.2.2) (cm_A rt) (cm_A rp) (cm_A ro) → wY_callNext_18 postY (nI Q.1) (nI T) (nI S.1) (nI N.1) (nI N.2.1) (nI N.2.2) (cm_A Q.2.1) (cm_A Q.2.2) (cm_A (fun i => (cl i).1)) (cm_A (fun i => (cl i).2.1)) (cm_A (fun i => (cl i).2.2.1)) (cm_A (fun i => (cl i).2.2.2.1)) (cm_A (fun i => (cl i).2.2.2.2)) (cm_A S.2.1) (cm_A S.2.2.1) (cm_A S.2.2.2.1) (cm_A S.2.2.2.2.1) (cm_A S.2.2.2.2.2) (cm_A rt) (cm_A rp) (cm_A ro) n (nI T) (nI (0 + cm_b T))) (postY : Int32 → SY → Prop) (P : wY_callNext_50 postY (nI c') (nI (nx' + cm_b c')) (nI Q.1) (nI T) (nI S.1) (nI N.1) (nI N.2.1) (nI N.2.2) (cm_A Q.2.1) (cm_A Q.2.2) (cm_A (fun i => (cl i).1)) (cm_A (fun i => (cl i).2.1)) (cm_A (fun i => (cl i).2.2.1)) (cm_A (fun i => (cl i).2.2.2.1)) (cm_A (fun i => (cl i).2.2.2.2)) (cm_A S.2.1) (cm_A S.2.2.1) (cm_A S.2.2.2.1) (cm_A S.2.2.2.2.1) (cm_A S.2.2.2.2.2) (cm_A rt) (cm_A rp) (cm_A ro)) : wpY_callNext postY (cm_Y Q T cl N S rt rp ro) := by
  have h := yL postY (T + 1) (Nat.lt_succ_self T) P
  unfold wpY_callNext cm_Y
  dsimp only
  by_cases e : T = 0
  · subst e
    exact br_t rfl ⟨1, h⟩
  · rw [cm_b1 (by omega)] at h
    exact br_f (nI_ne0 (by omega) (by omega)) ⟨T + 1, h⟩
/-- no goal is left -/
theorem cm_y_cn0 {c' nx' : Nat} (hRQ : cm_RQ R Q) (hF : cm_Fb T R fr cl) (hT : T ≤ 80) (hc : c' ≤ T) (hnx : R.2.1 (fr c').1 ≤ nx') (hnb : nx' < 100) (postY : Int32 → SY → Prop) (P : postY 0 (cm_Y Q T cl N S rt rp ro)) : wY_callNext_50 postY (nI c') (nI (nx' + cm_b c')) (nI Q.1) (nI T) (nI S.1) (nI N.1) (nI N.2.1) (nI N.2.2) (cm_A Q.2.1) (cm_A Q.2.2) (cm_A (fun i => (cl i).1)) (cm_A (fun i => (cl i).2.1)) (cm_A (fun i => (cl i).2.2.1)) (cm_A (fun i => (cl i).2.2.2.1)) (cm_A (fun i => (cl i).2.2.2.2)) (cm_A S.2.1) (cm_A S.2.2.1) (cm_A S.2.2.2.1) (cm_A S.2.2.2.2.1) (cm_A S.2.2.2.2.2) (cm_A rt) (cm_A rp) (cm_A ro) := by
  unfold wY_callNext_50
  show wpY_goalsOf _ (cm_Y Q T cl N S rt rp ro) (nI c')
  refine cm_y_goalsOf hRQ hF hT hc _ (br_f (nI_nlt (by omega) (by unfold cm_b; split <;> omega)) P)
/-- the calls are used up -/
theorem cm_y_cn80 {c' nx' : Nat} (hRQ : cm_RQ R Q) (hF : cm_Fb T R fr cl) (hT : T ≤ 80) (hc : c' ≤ T) (hnx : nx' < R.2.1 (fr c').1) (hN : N.2.1 = 80) (postY : Int32 → SY → Prop) (P : postY 1 (cm_Y Q T cl ((N.1, N.2.1, 1)) S rt rp ro)) : wY_callNext_50 postY (nI c') (nI (nx' + cm_b c')) (nI Q.1) (nI T) (nI S.1) (nI N.1) (nI N.2.1) (nI N.2.2) (cm_A Q.2.1) (cm_A Q.2.2) (cm_A (fun i => (cl i).1)) (cm_A (fun i => (cl i).2.1)) (cm_A (fun i => (cl i).2.2.1)) (cm_A (fun i => (cl i).2.2.2.1)) (cm_A (fun i => (cl i).2.2.2.2)) (cm_A S.2.1) (cm_A S.2.2.1) (cm_A S.2.2.2.1) (cm_A S.2.2.2.2.1) (cm_A S.2.2.2.2.2) (cm_A rt) (cm_A rp) (cm_A ro) := by
  have hg := cm_gl hRQ hF hc
  unfold wY_callNext_50
  show wpY_goalsOf _ (cm_Y Q T cl N S rt rp ro) (nI c')
  refine cm_y_goalsOf hRQ hF hT hc _ (br_t (nI_lt (by omega) (by unfold cm_b; split <;> omega)) (br_t (by show nI N.2.1 = 80; rw [hN]; rfl) P))
/-- a goal is called -/
theorem cm_y_cn1 {c' nx' : Nat} (hRQ : cm_RQ R Q) (hF : cm_Fb T R fr cl) (hT : T < 80) (hc : c' ≤ T) (hnx : nx' < R.2.1 (fr c').1) (hN : N.2.1 < 80) (postY : Int32 → SY → Prop) (P : postY 1 (cm_Y Q (T + 1) (cm_s cl (T + 1) ((cl (T + 1)).1, c', nx' + cm_b c', 0, S.1)) ((N.1, N.2.1 + 1, N.2.2)) S rt rp ro)) : wY_callNext_50 postY (nI c') (nI (nx' + cm_b c')) (nI Q.1) (nI T) (nI S.1) (nI N.1) (nI N.2.1) (nI N.2.2) (cm_A Q.2.1) (cm_A Q.2.2) (cm_A (fun i => (cl i).1)) (cm_A (fun i => (cl i).2.1)) (cm_A (fun i => (cl i).2.2.1)) (cm_A (fun i => (cl i).2.2.2.1)) (cm_A (fun i => (cl i).2.2.2.2)) (cm_A S.2.1) (cm_A S.2.2.1) (cm_A S.2.2.2.1) (cm_A S.2.2.2.2.1) (cm_A S.2.2.2.2.2) (cm_A rt) (cm_A rp) (cm_A ro) := by
  have hg := cm_gl hRQ hF hc
  have vi : vp_in (nI (T + 1)) 82 := vp_in_nI (by omega) (by decide)
  unfold wY_callNext_50
  show wpY_goalsOf _ (cm_Y Q T cl N S rt rp ro) (nI c')
  refine cm_y_goalsOf hRQ hF (by omega) hc _ (br_t (nI_lt (by omega) (by unfold cm_b; split <;> omega)) (br_f ?_ ?_))
  · intro z
    have := (nI_eq (b := 80) (by omega) (by omega)).mp z
    omega
  · refine nm_r (nI_1 N.2.1) (nm_r (nI_1 T) ⟨vi, nm_r (cm_wp (r := ((cl (T + 1)).1, c', nx' + cm_b c', 0, S.1)) (fun a => a.2.1) (by omega) rfl) ⟨vi, nm_r (cm_wp (r := ((cl (T + 1)).1, c', nx' + cm_b c', 0, S.1)) (fun a => a.2.2.1) (by omega) rfl) ⟨vi, nm_r (cm_wp (v := 0) (r := ((cl (T + 1)).1, c', nx' + cm_b c', 0, S.1)) (fun a => a.2.2.2.1) (by omega) rfl) ⟨vi, nm_r (cm_wp (r := ((cl (T + 1)).1, c', nx' + cm_b c', 0, S.1)) (fun a => a.2.2.2.2) (by omega) rfl) ?_⟩⟩⟩⟩)
    have e1 := cm_pr (f := cl) (c := T + 1) (r := ((cl (T + 1)).1, c', nx' + cm_b c', 0, S.1)) (fun a => a.1) rfl
    unfold cm_Y at P
    rw [e1] at P
    exact P
end cmS1
theorem cm_stepA {K m : Nat} (hK : K ≤ 12) (ih : ∀ m', m' < m → cm_MA K m' ∧ cm_MB K m') : cm_MA K m := by
  intro YP postX R Q fr nc ch A B ca fo D T cl H S rt rp ro hRQ hRA hTc hca hfo hfK hm hYA hfin n round hn hround
  obtain ⟨hFb, ⟨wX, wY, f, g, hSm⟩, b1, b2, b3, b4, hE0, hStk⟩ := hRA
  obtain ⟨n, rfl⟩ : ∃ q, n = q + 1 := ⟨n - 1, by omega⟩
  have h8 := hRQ.2.1
  obtain ⟨ihA, ihB⟩ := ih (m - 1) (by omega)
  obtain ⟨c', nx', a1, a2, a3, xL, yL⟩ := cm_leave (R := R) (Q := Q) (nf := T + 1) (fr := fr) (nc := nc) (ch := ch) (M := (T, 0, A, B, ca, fo, 0, 0)) (D := D) (H := H) (tp := T) (cl := cl) (N := (fo, ca, 0)) (S := S) (rt := rt) (rp := rp) (ro := ro) hRQ hFb (by omega) T 0 (Nat.le_refl T) (Nat.zero_le _)
  have hg := cm_gl hRQ hFb a1
  have hfr := cm_Fb_rule hFb h8 a1
  -- the exit of X's loop
  have exit : ∀ (nf' : Nat) (M' : cm_MT), postX (cm_X R nf' fr nc ch M' D H) → wX_search_8 postX (nI K) n 0 (nI (round + 1)) (nI R.1) (nI H.1) (nI H.2.1) (nI nf') (nI nc) (nI M'.1) (nI M'.2.1) (nI M'.2.2.1) (nI M'.2.2.2.1) (nI M'.2.2.2.2.1) (nI M'.2.2.2.2.2.1) (nI M'.2.2.2.2.2.2.1) (nI D.1) (nI M'.2.2.2.2.2.2.2) (cm_A R.2.1) (cm_A R.2.2.1) (cm_A R.2.2.2.1) (cm_A R.2.2.2.2) (cm_A H.2.2.1) (cm_A H.2.2.2.1) (cm_A H.2.2.2.2.1) (cm_A H.2.2.2.2.2) (cm_A (fun i => (fr i).1)) (cm_A (fun i => (fr i).2.1)) (cm_A (fun i => (fr i).2.2.1)) (cm_A (fun i => (fr i).2.2.2)) (cm_A (fun i => (ch i).1)) (cm_A (fun i => (ch i).2.1)) (cm_A (fun i => (ch i).2.2.1)) (cm_A (fun i => (ch i).2.2.2.1)) (cm_A (fun i => (ch i).2.2.2.2.1)) (cm_A (fun i => (ch i).2.2.2.2.2.1)) (cm_A (fun i => (ch i).2.2.2.2.2.2.1)) (cm_A (fun i => (ch i).2.2.2.2.2.2.2.1)) (cm_A (fun i => (ch i).2.2.2.2.2.2.2.2)) (cm_A D.2) := by
    intro nf' M' P
    obtain ⟨n, rfl⟩ : ∃ q, n = q + 1 := ⟨n - 1, by omega⟩
    exact br_c (fun _ => P) (fun _ => br_t rfl P)
  -- the beginning of Y's round
  have ystart : ∀ (postF : Int32 → SY → Prop), (∀ N', (80 - ca) * 10 + 1 + cm_mu cl T ≤ N' → wY_callNext_50 (fun r_49 u => match u with | (f_rules_50, f_top_51, f_trailed_52, f_found_53, f_called_54, f_ending_55, a_goals_56, a_sizes_57, a_taken_58, a_callerOf_59, a_goalOf_60, a_nextRule_61, a_marks_62, a_terms_63, a_skips_64, a_owners_65, a_bound_66, a_trail_67, a_term_68, a_place_69, a_owner_70) => (((r_49 = 0 → (∀ f_found_72 : Int32, f_found_72 = f_found_53 + 1 → (((f_found_72 = nI (K + 1) → (postF 1 (f_rules_50, f_top_51, f_trailed_52, f_found_72, f_called_54, f_ending_55, a_goals_56, a_sizes_57, a_taken_58, a_callerOf_59, a_goalOf_60, a_nextRule_61, a_marks_62, a_terms_63, a_skips_64, a_owners_65, a_bound_66, a_trail_67, a_term_68, a_place_69, a_owner_70))) ∧ (¬ f_found_72 = nI (K + 1) → (((f_found_72 = 12 → (wY_search_80 postF (wY_search_27 postF (nI (K + 1)) N') (nI (K + 1)) 2 f_rules_50 f_top_51 f_trailed_52 f_found_72 f_called_54 f_ending_55 a_goals_56 a_sizes_57 a_taken_58 a_callerOf_59 a_goalOf_60 a_nextRule_61 a_marks_62 a_terms_63 a_skips_64 a_owners_65 a_bound_66 a_trail_67 a_term_68 a_place_69 a_owner_70)) ∧ (¬ f_found_72 = 12 → (wY_search_80 postF (wY_search_27 postF (nI (K + 1)) N') (nI (K + 1)) 0 f_rules_50 f_top_51 f_trailed_52 f_found_72 f_called_54 f_ending_55 a_goals_56 a_sizes_57 a_taken_58 a_callerOf_59 a_goalOf_60 a_nextRule_61 a_marks_62 a_terms_63 a_skips_64 a_owners_65 a_bound_66 a_trail_67 a_term_68 a_place_69 a_owner_70))))))))) ∧ (¬ r_49 = 0 → (wY_search_85 postF (wY_search_27 postF (nI (K + 1)) N') (nI (K + 1)) 1 f_rules_50 f_top_51 f_trailed_52 f_found_53 f_called_54 f_ending_55 a_goals_56 a_sizes_57 a_taken_58 a_callerOf_59 a_goalOf_60 a_nextRule_61 a_marks_62 a_terms_63 a_skips_64 a_owners_65 a_bound_66 a_trail_67 a_term_68 a_place_69 a_owner_70))))) (nI c') (nI (nx' + cm_b c')) (nI Q.1) (nI T) (nI S.1) (nI (((fo, ca, 0)).1)) (nI (((fo, ca, 0)).2.1)) (nI (((fo, ca, 0)).2.2)) (cm_A Q.2.1) (cm_A Q.2.2) (cm_A (fun i => (cl i).1)) (cm_A (fun i => (cl i).2.1)) (cm_A (fun i => (cl i).2.2.1)) (cm_A (fun i => (cl i).2.2.2.1)) (cm_A (fun i => (cl i).2.2.2.2)) (cm_A S.2.1) (cm_A S.2.2.1) (cm_A S.2.2.2.1) (cm_A S.2.2.2.2.1) (cm_A S.2.2.2.2.2) (cm_A rt) (cm_A rp) (cm_A ro)) → YP postF := by
    intro postF HP
    refine hYA postF fun N' hN' => ?_
    obtain ⟨N', rfl⟩ : ∃ q, N' = q + 1 := ⟨N' - 1, by omega⟩
    refine br_t rfl (br_f (by decide) ?_)
    show wpY_callNext _ (cm_Y Q T cl ((fo, ca, 0)) S rt rp ro)
    exact cm_y_callNext (by omega) yL _ (HP N' (by omega))
  have hvi : vp_in (nI c') 84 := vp_in_nI (by omega) (by decide)
  have e1 : cm_A (fun i => (fr i).1) (nI c').toNatClampNeg = nI (fr c').1 := cm_rd (by omega)
  have e2 : cm_A R.2.1 (nI (fr c').1).toNatClampNeg = nI (R.2.1 (fr c').1) := cm_rd (by omega)
  refine br_f (nI_ge (b := 1500) (by omega) (by decide)) (br_f (by decide) ?_)
  show wpX_leave _ (cm_X R (T + 1) fr nc ch ((T, 0, A, B, ca, fo, 0, 0)) D H)
  unfold wpX_leave cm_X
  dsimp only
  refine ⟨T + 1, xL _ (T + 1) 0 (Nat.lt_succ_self T) (by omega) ?_⟩
  refine br_t rfl ⟨hvi, by show vp_in (cm_A (fun i => (fr i).1) (nI c').toNatClampNeg) 9; rw [e1]; exact vp_in_nI (by omega) (by decide), ?_⟩
  refine pk_le (R.2.1 (fr c').1) nx' (fun hle => nm_r (nI_1 fo) ?_) (fun hlt => ?_) (by show cm_A R.2.1 (cm_A (fun i => (fr i).1) (nI c').toNatClampNeg).toNatClampNeg = _; rw [e1, e2]) rfl (by omega) (by omega)
  · -- a solution
    have hc0 : c' = 0 := by omega
    subst hc0
    have hfin1 : ∀ en, fo = K → (K = 12 → en = 0) → postX (cm_X R (T + 1) fr nc ch ((0, nx', A, B, ca, fo + 1, en, 1)) D H) := by
      intro en hfoK hen
      refine hfin 1 _ (cm_Y Q T cl ((fo + 1, ca, 0)) S rt rp ro) ⟨T + 1, fr, nc, ch, _, D, H, T, cl, (fo + 1, ca, 0), S, rt, rp, ro, rfl, rfl, rfl, rfl, hen, by dsimp only; omega, hca, by dsimp only; omega, hE0, by omega, Or.inl ⟨rfl, by dsimp only; omega, T, wX, wY, f, g, hSm, by omega, hFb.2.1, by omega, by omega⟩⟩ ?_
      intro postF HP
      refine ystart postF fun N' _ => cm_y_cn0 hRQ hFb (by omega) a1 hle (by omega) _ ?_
      exact br_t rfl (nm_r (nI_1 fo) (br_t (by rw [hfoK]) HP))
    by_cases hfK2 : fo = K
    · by_cases h12 : fo + 1 = 12
      · refine br_t (by rw [h12]; rfl) ?_
        unfold wX_search_115
        exact br_t (by show nI (fo + 1) = 12; rw [h12]; rfl) (nm_r (nI_1 round) (exit _ (0, nx', A, B, ca, fo + 1, 2, 1) (hfin1 2 hfK2 (fun z => by omega))))
      · have hne : ¬ nI (fo + 1) = 12 := fun z => h12 ((nI_eq (b := 12) (by omega) (by omega)).mp z)
        refine br_f hne ?_
        unfold wX_search_115
        exact br_f hne (br_t (nI_lt (by omega) (by omega)) (nm_r (nI_1 round) (exit _ (0, nx', A, B, ca, fo + 1, 0, 1) (hfin1 0 hfK2 (fun _ => rfl)))))
    · have hneY : ¬ nI (fo + 1) = nI (K + 1) := fun z => hfK2 (by have := (nI_eq (by omega) (by omega)).mp z; omega)
      by_cases h12 : fo + 1 = 12
      · refine br_t (by rw [h12]; rfl) ?_
        unfold wX_search_115
        refine br_t (by show nI (fo + 1) = 12; rw [h12]; rfl) (nm_r (nI_1 round) (exit _ (0, nx', A, B, ca, fo + 1, 2, 1) ?_))
        refine hfin 0 _ (cm_Y Q T cl ((fo + 1, ca, 2)) S rt rp ro) ⟨T + 1, fr, nc, ch, _, D, H, T, cl, (fo + 1, ca, 2), S, rt, rp, ro, rfl, rfl, rfl, rfl, fun _ => rfl, by dsimp only; omega, hca, by dsimp only; omega, hE0, by omega, Or.inr ⟨rfl, by dsimp only; omega⟩⟩ ?_
        intro postF HP
        refine ystart postF fun N' hN' => cm_y_cn0 hRQ hFb (by omega) a1 hle (by omega) _ ?_
        refine br_t rfl (nm_r (nI_1 fo) (br_f hneY (br_t (by rw [h12]; rfl) ?_)))
        unfold wY_search_80 wY_search_85
        obtain ⟨N', rfl⟩ : ∃ q, N' = q + 1 := ⟨N' - 1, by omega⟩
        exact br_f (by decide) (br_f (by decide) HP)
      · have hne : ¬ nI (fo + 1) = 12 := fun z => h12 ((nI_eq (b := 12) (by omega) (by omega)).mp z)
        refine br_f hne ?_
        unfold wX_search_115
        refine br_f hne (br_f (nI_nlt (by omega) (by omega)) (nm_r (nI_1 round) ?_))
        have y85 : ∀ postF : Int32 → SY → Prop, (∀ N', (80 - ca) * 10 + 1 + cm_mu cl T ≤ N' → wY_search_85 postF (wY_search_27 postF (nI (K + 1)) N') (nI (K + 1)) 0 (nI Q.1) (nI T) (nI S.1) (nI (((fo + 1, ca, 0)).1)) (nI (((fo + 1, ca, 0)).2.1)) (nI (((fo + 1, ca, 0)).2.2)) (cm_A Q.2.1) (cm_A Q.2.2) (cm_A (fun i => (cl i).1)) (cm_A (fun i => (cl i).2.1)) (cm_A (fun i => (cl i).2.2.1)) (cm_A (fun i => (cl i).2.2.2.1)) (cm_A (fun i => (cl i).2.2.2.2)) (cm_A S.2.1) (cm_A S.2.2.1) (cm_A S.2.2.2.1) (cm_A S.2.2.2.2.1) (cm_A S.2.2.2.2.2) (cm_A rt) (cm_A rp) (cm_A ro)) → YP postF := by
          intro postF HP
          refine ystart postF fun N' hN' => cm_y_cn0 hRQ hFb (by omega) a1 hle (by omega) _ ?_
          refine br_t rfl (nm_r (nI_1 fo) (br_f hneY (br_f hne ?_)))
          unfold wY_search_80
          exact HP N' hN'
        refine ihB YP postX R Q (T + 1) fr nc ch 0 nx' A B ca (fo + 1) D T (cl T).2.2.2.1 cl H S rt rp ro hRQ ⟨cm_Fb_le hFb (by omega), by omega, by omega, by omega, hE0, hStk⟩ hTc hca (by omega) (by omega) (by omega) hfr (by omega) (by omega) (Or.inl rfl) ?_ ?_ hfin n (round + 1) (by omega) (by omega)
        · intro hT0 postF HP
          subst hT0
          refine y85 postF fun N' _ => ?_
          unfold wY_search_85
          exact br_t rfl (br_t rfl HP)
        · intro d hd
          subst hd
          have hmd : cm_mu cl (d + 1) = cm_mu cl d + (9 - (cl (d + 1)).2.2.2.1) := rfl
          refine ⟨by omega, fun postF HP => y85 postF fun N' hN' => ?_⟩
          have hr8 : (cl (d + 1)).2.2.2.1 ≤ R.1 := hStk.1
          unfold wY_search_85
          refine br_t rfl (br_f (nI_ne0 (by omega) (by omega)) ?_)
          show wpY_takeRule (cm_K postF (nI (K + 1)) N') (cm_Y Q (d + 1) cl ((fo + 1, ca, 0)) S rt rp ro)
          unfold wpY_takeRule cm_Y
          dsimp only
          refine ⟨vp_in_nI (by omega) (by decide), nm_r (cm_rd (by omega)) ⟨9, ?_⟩⟩
          exact HP N' 9 (by omega) (by omega)
  · -- a goal
    by_cases h80 : ca = 80
    · refine br_t (by show nI ca = 80; rw [h80]; rfl) (nm_r (nI_1 round) (exit _ (c', nx', A, B, ca, fo, 1, 0) ?_))
      refine hfin 0 _ (cm_Y Q T cl ((fo, ca, 1)) S rt rp ro) ⟨T + 1, fr, nc, ch, _, D, H, T, cl, (fo, ca, 1), S, rt, rp, ro, rfl, rfl, rfl, rfl, fun _ => rfl, by dsimp only; omega, hca, by dsimp only; omega, hE0, by omega, Or.inr ⟨rfl, by dsimp only; omega⟩⟩ ?_
      intro postF HP
      refine ystart postF fun N' hN' => cm_y_cn80 (N := (fo, ca, 0)) hRQ hFb (by omega) a1 hlt h80 _ ?_
      refine br_f (by decide) ?_
      unfold wY_search_85
      obtain ⟨N', rfl⟩ : ∃ q, N' = q + 1 := ⟨N' - 1, by omega⟩
      exact br_f (show ¬ nI 1 = 0 by decide) (br_f (show ¬ nI 1 = 0 by decide) HP)
    · refine br_f (fun z => h80 ((nI_eq (b := 80) (by omega) (by omega)).mp z)) ?_
      -- the call's record
      have hcs : cm_s cl (T + 1) ((cl (T + 1)).1, c', nx' + cm_b c', 0, S.1) (T + 1) = ((cl (T + 1)).1, c', nx' + cm_b c', 0, S.1) := cm_ss
      have hmuE : cm_mu (cm_s cl (T + 1) ((cl (T + 1)).1, c', nx' + cm_b c', 0, S.1)) T = cm_mu cl T := cm_mu_congr T (fun c hc => cm_sn (by omega))
      have hFb' : cm_Fb T R fr (cm_s cl (T + 1) ((cl (T + 1)).1, c', nx' + cm_b c', 0, S.1)) := cm_Fb_congr hFb (fun _ _ => rfl) (fun c hc => cm_sn (by omega))
      have hStk' : cm_Stk R fr ch (cm_s cl (T + 1) ((cl (T + 1)).1, c', nx' + cm_b c', 0, S.1)) T (cm_s cl (T + 1) ((cl (T + 1)).1, c', nx' + cm_b c', 0, S.1) T).2.2.2.1 nc H S := by
        rw [cm_sn (by omega)]
        exact cm_Stk_congr T _ _ hStk (fun _ _ => rfl) (fun c hc => cm_sn (by omega)) (by rw [cm_sn (by omega)]; exact ⟨rfl, rfl, rfl⟩) (fun _ _ => rfl)
      have hL : cm_Lv R fr (cm_s cl (T + 1) ((cl (T + 1)).1, c', nx' + cm_b c', 0, S.1)) T S nx' wY := by
        unfold cm_Lv
        rw [hcs]
        exact ⟨hSm.2.1, hE0, b4, rfl, a1, hlt, rfl⟩
      have hY : cm_YB YP K Q (cm_s cl (T + 1) ((cl (T + 1)).1, c', nx' + cm_b c', 0, S.1)) (fo, ca + 1, 0) ((80 - ca) * 10 + cm_mu cl T) (T + 1) 0 S rt rp ro := by
        intro postF HP
        refine ystart postF fun N' hN' => cm_y_cn1 (N := (fo, ca, 0)) hRQ hFb (by omega) a1 hlt (by dsimp only; omega) _ ?_
        refine br_f (by decide) ?_
        unfold wY_search_85
        refine br_t rfl (br_f (nI_ne0 (by omega) (by omega)) ?_)
        show wpY_takeRule (cm_K postF (nI (K + 1)) N') (cm_Y Q (T + 1) (cm_s cl (T + 1) ((cl (T + 1)).1, c', nx' + cm_b c', 0, S.1)) ((fo, ca + 1, 0)) S rt rp ro)
        unfold wpY_takeRule cm_Y
        dsimp only
        refine ⟨vp_in_nI (by omega) (by decide), nm_r (e' := nI 0) (by rw [cm_rd (by omega), cm_ss]) ⟨9, ?_⟩⟩
        exact HP N' 9 (by omega) (by omega)
      generalize hcl : cm_s cl (T + 1) ((cl (T + 1)).1, c', nx' + cm_b c', 0, S.1) = cl' at *
      have hco' : (cl' (T + 1)).2.1 = c' := by rw [hcs]
      have main : wpX_call (fun u => match u with | (f_rules, f_top, f_trail, f_frames, f_choices, f_frame, f_next, f_callA, f_callB, f_called, f_found, f_ended, f_digitCount, f_failed, a_goals, a_predicate, a_termA, a_termB, a_kind, a_mark, a_link, a_trailCell, a_frameRule, a_frameVars, a_caller, a_callerNext, a_choiceRule, a_choicePredicate, a_choiceA, a_choiceB, a_choiceFrame, a_choiceNext, a_choiceTop, a_choiceTrail, a_choiceFrames, a_digits) => (∀ x3_126 : Int32, x3_126 = nI round + 1 → (wX_search_8 postX (nI K) n 1 x3_126 f_rules f_top f_trail f_frames f_choices f_frame f_next f_callA f_callB f_called f_found f_ended f_digitCount f_failed a_goals a_predicate a_termA a_termB a_kind a_mark a_link a_trailCell a_frameRule a_frameVars a_caller a_callerNext a_choiceRule a_choicePredicate a_choiceA a_choiceB a_choiceFrame a_choiceNext a_choiceTop a_choiceTrail a_choiceFrames a_digits))) (cm_X R (T + 1) fr nc ch (((cl' (T + 1)).2.1, nx', A, B, ca, fo, 0, 0)) D H) := by
        refine cm_call (N := (fo, ca + 1, 0)) (rt := rt) (rp := rp) (ro := ro) hRQ hFb' (by omega) hL hSm b1 b2 b3 hStk' _ ?_ ?_
        · intro nf' fr' nc' ch' A' B' D' r1 H' S' rt' rp' ro' hRB hfr' kY hr1
          refine nm_r (nI_1 round) ?_
          rw [hco']
          refine ihB YP postX R Q nf' fr' nc' ch' c' nx' A' B' (ca + 1) fo D' (T + 1) r1 cl' H' S' rt' rp' ro' hRQ hRB (by omega) (by omega) hfo hfK (by omega) (by rw [hfr' c' a1]; exact hfr) (by rw [hfr' c' a1]; omega) (by omega) (Or.inr (by rw [hfr' c' a1]; omega)) (fun z => by omega) (fun d hd => ?_) hfin n (round + 1) (by omega) (by omega)
          have ed : d = T := by omega
          subst ed
          refine ⟨by omega, fun postF HP => hY postF fun N' n' hN' hn' => ?_⟩
          obtain ⟨n'', rfl⟩ : ∃ q, n' = q + r1 := ⟨n' - r1, by omega⟩
          exact kY _ n'' (HP N' n'' (by omega) (by omega))
        · intro fr' nc' ch' A' B' D' r0 H' S' rt' rp' ro' hRA' kY hr0
          refine nm_r (nI_1 round) ?_
          have hmuE2 : cm_mu (cm_s cl' (T + 1) (r0, (cl' (T + 1)).2.1, (cl' (T + 1)).2.2.1, r0 + 1, (cl' (T + 1)).2.2.2.2)) (T + 1) = cm_mu cl' T + (9 - (r0 + 1)) := by
            show cm_mu _ T + (9 - (cm_s cl' (T + 1) _ (T + 1)).2.2.2.1) = _
            rw [cm_ss, cm_mu_congr T (fun c hc => cm_sn (by omega))]
          refine ihA YP postX R Q fr' nc' ch' A' B' (ca + 1) fo D' (T + 1) _ H' S' rt' rp' ro' hRQ hRA' (by omega) (by omega) hfo hfK (by omega) ?_ hfin n (round + 1) (by omega) (by omega)
          intro postF HP
          refine hY postF fun N' n' hN' hn' => ?_
          obtain ⟨n'', rfl⟩ : ∃ q, n' = q + (r0 + 1) := ⟨n' - (r0 + 1), by omega⟩
          exact kY _ n'' (HP N' (by omega))
      rw [hco'] at main
      exact main
theorem cm_main {K : Nat} (hK : K ≤ 12) : ∀ m, cm_MA K m ∧ cm_MB K m := by
  have key : ∀ q m, m < q → cm_MA K m ∧ cm_MB K m := by
    intro q
    induction q with
    | zero => intro m hm; omega
    | succ q ih =>
      intro m hm
      have ih' : ∀ m', m' < m → cm_MA K m' ∧ cm_MB K m' := fun m' hm' => ih m' (by omega)
      exact ⟨cm_stepA hK ih', cm_stepB hK ih'⟩
  exact fun m => key (m + 1) m (Nat.lt_succ_self m)
end
section
/-! a whole search -/
section cmZ1
variable {R : cm_RT} {nf : Nat} {fr : cm_FT} {nc : Nat} {ch : cm_CT} {M : cm_MT} {D : cm_DT} {H : cm_HT} {Q : cm_QT} {tp : Nat} {cl : cm_LT} {N : cm_NT} {S : cm_ST} {rt rp ro : Nat → Nat} {K : Nat}
theorem cm_search (hK : K ≤ 12) (hRQ : cm_RQ R Q) (hE : cm_EY cm_S0 S) (hS : S.1 ≤ 328) (postX : SX → Prop)
    (F : ∀ r u v, cm_Fin K R Q r u v → (∀ (postF : Int32 → SY → Prop) (y : Int32), y = nI (K + 1) → postF (nI r) v → wpY_search postF (cm_Y Q tp cl N S rt rp ro) y) → postX u) {x : Int32} (ex : x = nI K) : wpX_search postX (cm_X R nf fr nc ch M D H) x := by
  subst ex
  obtain ⟨trailed, tm, sk, ow, bd, tr⟩ := S
  obtain ⟨top, trail, k, m, l, tc⟩ := H
  dsimp only at hS
  -- Y's undo
  have hE4 := hE.2.2.2.1
  obtain ⟨bd', hu, kY⟩ := cm_y_undo (Q := Q) (tp := tp) (cl := cl) (N := N) (tm := tm) (sk := sk) (ow := ow) (bd := bd) (rt := rt) (rp := rp) (ro := ro) (trailed := trailed) (tr := tr) (to := 0) (Nat.zero_le _) (fun i i1 i2 => (hE4 i i1 i2).1) hS
  obtain ⟨u1, u2⟩ := cm_UnY_EY hE hu
  subst u1
  have hYS : cm_YS (4 * 0 + 4) tm sk ow cm_S0.2.2.2.2.1 (fun v => ([], 3 + v)) (fun _ => 0) := fun v => ⟨fun _ => Or.inl ⟨rfl, rfl⟩, fun _ => rfl⟩
  have ystart : ∀ (postF : Int32 → SY → Prop) (y : Int32), y = nI (K + 1) → (∀ N', (80 - 0) * 10 + 1 + cm_mu cl 0 < N' → wY_search_27 postF (nI (K + 1)) N' 1 (nI Q.1) (nI 0) (nI (((0, tm, sk, ow, cm_S0.2.2.2.2.1, tr)).1)) (nI (((0, 0, 0)).1)) (nI (((0, 0, 0)).2.1)) (nI (((0, 0, 0)).2.2)) (cm_A Q.2.1) (cm_A Q.2.2) (cm_A (fun i => (cl i).1)) (cm_A (fun i => (cl i).2.1)) (cm_A (fun i => (cl i).2.2.1)) (cm_A (fun i => (cl i).2.2.2.1)) (cm_A (fun i => (cl i).2.2.2.2)) (cm_A (((0, tm, sk, ow, cm_S0.2.2.2.2.1, tr)).2.1)) (cm_A (((0, tm, sk, ow, cm_S0.2.2.2.2.1, tr)).2.2.1)) (cm_A (((0, tm, sk, ow, cm_S0.2.2.2.2.1, tr)).2.2.2.1)) (cm_A (((0, tm, sk, ow, cm_S0.2.2.2.2.1, tr)).2.2.2.2.1)) (cm_A (((0, tm, sk, ow, cm_S0.2.2.2.2.1, tr)).2.2.2.2.2)) (cm_A rt) (cm_A rp) (cm_A ro)) → wpY_search postF (cm_Y Q tp cl N (trailed, tm, sk, ow, bd, tr) rt rp ro) y := by
    intro postF y ey HP
    subst ey
    unfold wpY_search cm_Y
    dsimp only
    show wpY_undo _ (cm_Y Q tp cl N (trailed, tm, sk, ow, bd, tr) rt rp ro) (nI 0)
    refine kY _ _ rfl ⟨(80 - 0) * 10 + 1 + cm_mu cl 0 + 1, ?_⟩
    exact HP _ (Nat.lt_succ_self _)
  unfold wpX_search cm_X
  dsimp only
  show wpX_start _ (cm_X R nf fr nc ch M D (top, trail, k, m, l, tc))
  unfold wpX_start cm_X
  dsimp only
  show wpX_newFrame _ (cm_X R 0 fr 0 ch ((M.1, M.2.1, M.2.2.1, M.2.2.2.1, 0, 0, 0, 0)) D (0, 0, k, m, l, tc)) (nI 8) (nI 0) (nI 0)
  refine cm_x_newFrame (w := fun _ => ([], 0)) (ρ := fun _ => 0) (r := 8) (c := 0) (nx := 0) (by decide) (fun c hc => absurd hc (Nat.not_lt_zero c)) (by decide) rfl rfl rfl fun H' w' hN ht hw => ?_
  obtain ⟨p1, p2, p3, p4, p5, ⟨ρ1, hX1⟩⟩ := id hN
  obtain ⟨top1, trail1, k1, m1, l1, tc1⟩ := H'
  dsimp only at p2 p3 p5 ht hX1
  refine ⟨1000, ?_⟩
  refine (cm_main hK 850).1 (fun postF => wpY_search postF (cm_Y Q tp cl N (trailed, tm, sk, ow, bd, tr) rt rp ro) (nI (K + 1))) postX R Q (cm_s fr 0 (8, 0, 0, 0)) 0 ch M.2.2.1 M.2.2.2.1 0 0 D 0 cl (top1, trail1, k1, m1, l1, tc1) (0, tm, sk, ow, cm_S0.2.2.2.2.1, tr) rt rp ro hRQ ⟨⟨?_, ?_, ?_⟩, ⟨w', fun v => ([], 3 + v), fun e => e, fun e => e, ⟨ρ1, hX1⟩, ⟨_, hYS⟩, cm_FG_id, ?_⟩, ?_, ?_, ?_, ?_, u2, rfl⟩ (Nat.le_refl _) (by decide) (by decide) (Nat.zero_le _) ?_ ?_ ?_ 1000 0 (by decide) (by decide)
  · rw [cm_ss]
  · rw [cm_ss]
  · intro c h1 h2; omega
  · intro c v hc hv
    have e : c = 0 := by omega
    subst e
    rw [cm_ss]
    dsimp only
    refine ⟨by omega, ?_⟩
    rw [hw v hv]
    exact cm_Cor_mk rfl (by dsimp only) rfl
  · dsimp only; omega
  · dsimp only; omega
  · dsimp only
    have : cm_nl k 0 = 0 := rfl
    omega
  · exact Nat.le_refl _
  · show (80 - 0) * 10 + 1 + 0 + (12 - 0) ≤ 850
    decide
  · intro postF HP
    exact ystart postF _ rfl HP
  · intro r u v hF hYF
    refine F r u v hF fun postF y ey HP => ?_
    subst ey
    exact hYF postF HP
end cmZ1
/-- the relation between the two objects -/
def i_Rel (k : Nat) (u : SX) (v : SY) : Prop :=
  ∃ R nf fr nc ch M D H Q tp cl N S rt rp ro, u = cm_X R nf fr nc ch M D H ∧ v = cm_Y Q tp cl N S rt rp ro ∧ cm_RQ R Q ∧ cm_EY cm_S0 S ∧ S.1 ≤ 328
theorem cm_Fin_Rel {K r k : Nat} {R : cm_RT} {Q : cm_QT} {u : SX} {v : SY} (hRQ : cm_RQ R Q) (h : cm_Fin K R Q r u v) : i_Rel k u v := by
  obtain ⟨nf, fr, nc, ch, M, D, H, tp, cl, N, S, rt, rp, ro, h1, h2, _, _, _, _, _, _, h9, h10, _⟩ := h
  exact ⟨R, nf, fr, nc, ch, M, D, H, Q, tp, cl, N, S, rt, rp, ro, h1, h2, hRQ, h9, h10⟩
theorem i_up {k : Nat} {u : SX} {v : SY} (h : i_Rel k u v) : i_Rel (k + 4) u v := h
theorem i_vc_solutions {k : Nat} {u : SX} {v : SY} (I : i_Rel k u v) (hk : k + 4 ≤ 2048) : wpX_solutions (fun r u' => wpY_solutions (fun r' v' => r' = r ∧ i_Rel (k + 4) u' v') v) u := by
  obtain ⟨R, nf, fr, nc, ch, M, D, H, Q, tp, cl, N, S, rt, rp, ro, rfl, rfl, hRQ, hE, hS⟩ := I
  unfold wpX_solutions cm_X
  dsimp only
  show wpX_search _ (cm_X R nf fr nc ch M D H) (nI 12)
  refine cm_search (tp := tp) (cl := cl) (N := N) (rt := rt) (rp := rp) (ro := ro) (Nat.le_refl 12) hRQ hE hS _ (fun r u v hF hY => ?_) rfl
  have hR := cm_Fin_Rel (k := k + 4) hRQ hF
  obtain ⟨nf', fr', nc', ch', M', D', H', tp', cl', N', S', rt', rp', ro', rfl, rfl, e1, e2, e3, _⟩ := hF
  unfold wpY_solutions cm_Y
  dsimp only
  refine hY _ _ rfl ⟨?_, hR⟩
  show nI N'.1 = nI M'.2.2.2.2.2.1
  rw [e1]
theorem i_vc_ending {k : Nat} {u : SX} {v : SY} (I : i_Rel k u v) (hk : k + 4 ≤ 2048) : wpX_ending (fun r u' => wpY_ending (fun r' v' => r' = r ∧ i_Rel (k + 4) u' v') v) u := by
  obtain ⟨R, nf, fr, nc, ch, M, D, H, Q, tp, cl, N, S, rt, rp, ro, rfl, rfl, hRQ, hE, hS⟩ := I
  unfold wpX_ending cm_X
  dsimp only
  show wpX_search _ (cm_X R nf fr nc ch M D H) (nI 12)
  refine cm_search (tp := tp) (cl := cl) (N := N) (rt := rt) (rp := rp) (ro := ro) (Nat.le_refl 12) hRQ hE hS _ (fun r u v hF hY => ?_) rfl
  have hR := cm_Fin_Rel (k := k + 4) hRQ hF
  obtain ⟨nf', fr', nc', ch', M', D', H', tp', cl', N', S', rt', rp', ro', rfl, rfl, e1, e2, e3, _⟩ := hF
  unfold wpY_ending cm_Y
  dsimp only
  refine hY _ _ rfl ⟨?_, hR⟩
  show nI N'.2.2 = nI M'.2.2.2.2.2.2.1
  rw [e3 rfl]
theorem i_vc_calls {k : Nat} {u : SX} {v : SY} (I : i_Rel k u v) (hk : k + 4 ≤ 2048) : wpX_calls (fun r u' => wpY_calls (fun r' v' => r' = r ∧ i_Rel (k + 4) u' v') v) u := by
  obtain ⟨R, nf, fr, nc, ch, M, D, H, Q, tp, cl, N, S, rt, rp, ro, rfl, rfl, hRQ, hE, hS⟩ := I
  unfold wpX_calls cm_X
  dsimp only
  show wpX_search _ (cm_X R nf fr nc ch M D H) (nI 12)
  refine cm_search (tp := tp) (cl := cl) (N := N) (rt := rt) (rp := rp) (ro := ro) (Nat.le_refl 12) hRQ hE hS _ (fun r u v hF hY => ?_) rfl
  have hR := cm_Fin_Rel (k := k + 4) hRQ hF
  obtain ⟨nf', fr', nc', ch', M', D', H', tp', cl', N', S', rt', rp', ro', rfl, rfl, e1, e2, e3, _⟩ := hF
  unfold wpY_calls cm_Y
  dsimp only
  refine hY _ _ rfl ⟨?_, hR⟩
  show nI N'.2.1 = nI M'.2.2.2.2.1
  rw [e2]
end
section
/-! questions about a solution -/
section cmQ1
variable {R : cm_RT} {nf : Nat} {fr : cm_FT} {nc : Nat} {ch : cm_CT} {M : cm_MT} {D : cm_DT} {top trail : Nat} {k m l tc : Nat → Nat} {w : Nat → cm_W} {ρ : Nat → Nat}
theorem cm_x_lengthOf_l {post : Int32 → Prop} (hH : cm_HX top k m l w ρ) (ht : top ≤ 2700) : ∀ n x i, x < top → (k x = 0 → l x = x) → (w x).1.length < n → i + (w x).1.length < 1000 → post (nI (i + (w x).1.length)) → wX_lengthOf_18 post (nI R.1) (nI top) (nI trail) (nI nf) (nI nc) (nI M.1) (nI M.2.1) (nI M.2.2.1) (nI M.2.2.2.1) (nI M.2.2.2.2.1) (nI M.2.2.2.2.2.1) (nI M.2.2.2.2.2.2.1) (nI D.1) (nI M.2.2.2.2.2.2.2) (cm_A R.2.1) (cm_A R.2.2.1) (cm_A R.2.2.2.1) (cm_A R.2.2.2.2) (cm_A k) (cm_A m) (cm_A l) (cm_A tc) (cm_A (fun i => (fr i).1)) (cm_A (fun i => (fr i).2.1)) (cm_A (fun i => (fr i).2.2.1)) (cm_A (fun i => (fr i).2.2.2)) (cm_A (fun i => (ch i).1)) (cm_A (fun i => (ch i).2.1)) (cm_A (fun i => (ch i).2.2.1)) (cm_A (fun i => (ch i).2.2.2.1)) (cm_A (fun i => (ch i).2.2.2.2.1)) (cm_A (fun i => (ch i).2.2.2.2.2.1)) (cm_A (fun i => (ch i).2.2.2.2.2.2.1)) (cm_A (fun i => (ch i).2.2.2.2.2.2.2.1)) (cm_A (fun i => (ch i).2.2.2.2.2.2.2.2)) (cm_A D.2) n (nI x) (nI i) (nI i) := by
  intro n
  induction n with
  | zero => intro x i _ _ hn; omega
  | succ n ih =>
    intro x i hx hs hn hi P
    have hkx := cm_HX_k hH hx
    have hv : vp_in (nI x) 2700 := vp_in_nI (by omega) (by decide)
    refine br_f (nI_ge (b := 1000) (by omega) (by decide)) ⟨hv, ?_⟩
    refine pk_eq (k x) 2 (fun h2 => nm_r (nI_1 i) ⟨hv, ?_⟩) (fun h2 => ?_) (cm_rd (by omega)) rfl (by omega) (by omega)
    · obtain ⟨b1, b2⟩ := cm_HX_let hH hx h2
      rw [b2] at hn hi P
      dsimp only [List.length_cons] at hn hi P
      refine cm_x_deref (M := M) hH ht b1 (cm_rd (by omega)) fun d hd hsd hwd => nm_r (nI_1 i) ?_
      refine ih d (i + 1) hd hsd (by rw [hwd]; omega) (by rw [hwd]; omega) ?_
      rw [hwd, show i + 1 + (w (l x)).1.length = i + ((w (l x)).1.length + 1) by omega]
      exact P
    · have e : (w x).1 = [] := by
        rcases hH x hx with a | a | a | a
        · rw [a.2.2]
        · exact absurd (hs a.1) a.2.1
        · rw [a.2.2]
        · omega
      rw [e] at P
      exact P
theorem cm_x_lengthOf {post : Int32 → Prop} {v : Nat} (hH : cm_HX top k m l w ρ) (ht : top ≤ 2700) (hn : cm_nl k top < 1000) (hf : (fr 0).2.1 = 0) (hv : v < top) (P : post (nI (w v).1.length)) : wpX_lengthOf post (cm_X R nf fr nc ch M D (top, trail, k, m, l, tc)) (nI v) := by
  have hlen := cm_HX_len hH hv
  have e : cm_A (fun i => (fr i).2.1) 0 + nI v = nI v := by
    show nI (fr 0).2.1 + nI v = nI v
    rw [hf, nI_add, Nat.zero_add]
  unfold wpX_lengthOf cm_X
  dsimp only
  show wpX_deref _ (cm_X R nf fr nc ch M D (top, trail, k, m, l, tc)) _
  refine cm_x_deref hH ht hv e fun d hd hs hw => ⟨1001, ?_⟩
  refine cm_x_lengthOf_l (M := M) hH ht 1001 d 0 hd hs (by rw [hw]; omega) (by rw [hw]; omega) ?_
  rw [hw, Nat.zero_add]
  exact P
theorem cm_x_endOf_l {post : Int32 → Prop} (hH : cm_HX top k m l w ρ) (ht : top ≤ 2700) : ∀ n x i, x < top → (k x = 0 → l x = x) → (w x).1.length < n → i + (w x).1.length < 1000 → (∀ d, d < top → (k d = 0 → l d = d) → k d ≠ 2 → w d = ([], (w x).2) → post (nI d)) → wX_endOf_15 post (nI R.1) (nI top) (nI trail) (nI nf) (nI nc) (nI M.1) (nI M.2.1) (nI M.2.2.1) (nI M.2.2.2.1) (nI M.2.2.2.2.1) (nI M.2.2.2.2.2.1) (nI M.2.2.2.2.2.2.1) (nI D.1) (nI M.2.2.2.2.2.2.2) (cm_A R.2.1) (cm_A R.2.2.1) (cm_A R.2.2.2.1) (cm_A R.2.2.2.2) (cm_A k) (cm_A m) (cm_A l) (cm_A tc) (cm_A (fun i => (fr i).1)) (cm_A (fun i => (fr i).2.1)) (cm_A (fun i => (fr i).2.2.1)) (cm_A (fun i => (fr i).2.2.2)) (cm_A (fun i => (ch i).1)) (cm_A (fun i => (ch i).2.1)) (cm_A (fun i => (ch i).2.2.1)) (cm_A (fun i => (ch i).2.2.2.1)) (cm_A (fun i => (ch i).2.2.2.2.1)) (cm_A (fun i => (ch i).2.2.2.2.2.1)) (cm_A (fun i => (ch i).2.2.2.2.2.2.1)) (cm_A (fun i => (ch i).2.2.2.2.2.2.2.1)) (cm_A (fun i => (ch i).2.2.2.2.2.2.2.2)) (cm_A D.2) n (nI x) (nI i) := by
  intro n
  induction n with
  | zero => intro x i _ _ hn; omega
  | succ n ih =>
    intro x i hx hs hn hi P
    have hkx := cm_HX_k hH hx
    have hv : vp_in (nI x) 2700 := vp_in_nI (by omega) (by decide)
    refine br_f (nI_ge (b := 1000) (by omega) (by decide)) ⟨hv, ?_⟩
    refine pk_eq (k x) 2 (fun h2 => ⟨hv, ?_⟩) (fun h2 => P x hx hs h2 ?_) (cm_rd (by omega)) rfl (by omega) (by omega)
    · obtain ⟨b1, b2⟩ := cm_HX_let hH hx h2
      rw [b2] at hn hi P
      dsimp only [List.length_cons] at hn hi P
      refine cm_x_deref (M := M) hH ht b1 (cm_rd (by omega)) fun d hd hsd hwd => nm_r (nI_1 i) ?_
      exact ih d (i + 1) hd hsd (by rw [hwd]; omega) (by rw [hwd]; omega) (by rw [hwd]; exact P)
    · rcases hH x hx with a | a | a | a
      · rw [a.2.2]
      · exact absurd (hs a.1) a.2.1
      · rw [a.2.2]
      · omega
theorem cm_x_endOf {post : Int32 → Prop} {v : Nat} (hH : cm_HX top k m l w ρ) (ht : top ≤ 2700) (hn : cm_nl k top < 1000) (hf : (fr 0).2.1 = 0) (hv : v < top) (P : ∀ d, d < top → (k d = 0 → l d = d) → k d ≠ 2 → w d = ([], (w v).2) → post (nI d)) : wpX_endOf post (cm_X R nf fr nc ch M D (top, trail, k, m, l, tc)) (nI v) := by
  have hlen := cm_HX_len hH hv
  have e : cm_A (fun i => (fr i).2.1) 0 + nI v = nI v := by
    show nI (fr 0).2.1 + nI v = nI v
    rw [hf, nI_add, Nat.zero_add]
  unfold wpX_endOf cm_X
  dsimp only
  show wpX_deref _ (cm_X R nf fr nc ch M D (top, trail, k, m, l, tc)) _
  refine cm_x_deref hH ht hv e fun d hd hs hw => ⟨1001, ?_⟩
  exact cm_x_endOf_l (M := M) hH ht 1001 d 0 hd hs (by rw [hw]; omega) (by rw [hw]; omega) (by rw [hw]; exact P)
theorem cm_x_letter_l {post : Int32 → SX → Prop} (hH : cm_HX top k m l w ρ) (ht : top ≤ 2700) : ∀ j n i x, j < n → x < top → (k x = 0 → l x = x) → (hj : j < (w x).1.length) → i + j < 2 ^ 31 → post (nI ((w x).1.getD j 0)) (cm_X R nf fr nc ch M D (top, trail, k, m, l, tc)) → wX_letter_46 post (nI (i + j)) (nI R.1) (nI top) (nI trail) (nI nf) (nI nc) (nI M.1) (nI M.2.1) (nI M.2.2.1) (nI M.2.2.2.1) (nI M.2.2.2.2.1) (nI M.2.2.2.2.2.1) (nI M.2.2.2.2.2.2.1) (nI D.1) (nI M.2.2.2.2.2.2.2) (cm_A R.2.1) (cm_A R.2.2.1) (cm_A R.2.2.2.1) (cm_A R.2.2.2.2) (cm_A k) (cm_A m) (cm_A l) (cm_A tc) (cm_A (fun i => (fr i).1)) (cm_A (fun i => (fr i).2.1)) (cm_A (fun i => (fr i).2.2.1)) (cm_A (fun i => (fr i).2.2.2)) (cm_A (fun i => (ch i).1)) (cm_A (fun i => (ch i).2.1)) (cm_A (fun i => (ch i).2.2.1)) (cm_A (fun i => (ch i).2.2.2.1)) (cm_A (fun i => (ch i).2.2.2.2.1)) (cm_A (fun i => (ch i).2.2.2.2.2.1)) (cm_A (fun i => (ch i).2.2.2.2.2.2.1)) (cm_A (fun i => (ch i).2.2.2.2.2.2.2.1)) (cm_A (fun i => (ch i).2.2.2.2.2.2.2.2)) (cm_A D.2) n (nI x) (nI i) := by
  intro j
  induction j with
  | zero =>
    intro n i x hn hx hs hj hi P
    obtain ⟨n, rfl⟩ : ∃ q, n = q + 1 := ⟨n - 1, by omega⟩
    have h2 : k x = 2 := by
      rcases hH x hx with a | a | a | a
      · rw [a.2.2] at hj; exact absurd hj (Nat.not_lt_zero _)
      · exact absurd (hs a.1) a.2.1
      · rw [a.2.2] at hj; exact absurd hj (Nat.not_lt_zero _)
      · exact a.1
    obtain ⟨b1, b2⟩ := cm_HX_let hH hx h2
    rw [b2] at P
    refine br_t (nI_le (by omega) (by omega)) ⟨vp_in_nI (by omega) (by decide), ?_⟩
    rw [cm_rd (by omega)]
    exact P
  | succ j ih =>
    intro n i x hn hx hs hj hi P
    obtain ⟨n, rfl⟩ : ∃ q, n = q + 1 := ⟨n - 1, by omega⟩
    have h2 : k x = 2 := by
      rcases hH x hx with a | a | a | a
      · rw [a.2.2] at hj; exact absurd hj (Nat.not_lt_zero _)
      · exact absurd (hs a.1) a.2.1
      · rw [a.2.2] at hj; exact absurd hj (Nat.not_lt_zero _)
      · exact a.1
    obtain ⟨b1, b2⟩ := cm_HX_let hH hx h2
    rw [b2] at P hj
    dsimp only [List.length_cons] at hj
    refine br_f (nI_ge (by omega) (by omega)) ⟨vp_in_nI (by omega) (by decide), ?_⟩
    refine cm_x_deref (M := M) hH ht b1 (cm_rd (by omega)) fun d hd hsd hwd => nm_r (nI_1 i) ?_
    rw [show i + (j + 1) = i + 1 + j by omega]
    refine ih n (i + 1) d (by omega) hd hsd (by rw [hwd]; omega) (by omega) ?_
    rw [hwd]
    exact P
end cmQ1
section cmQ2
variable {Q : cm_QT} {tp : Nat} {cl : cm_LT} {N : cm_NT} {trailed : Nat} {tm sk ow bd tr rt rp ro : Nat → Nat} {w : Nat → cm_W} {ρ : Nat → Nat} {nv : Nat}
theorem cm_y_length_l {post : Int32 → SY → Prop} {e : Nat} (hY : cm_YS nv tm sk ow bd w ρ) (hnv : nv ≤ 328) : ∀ ls n c rt rp ro, ls.length < n → cm_RD nv bd w rt rp ro 0 (ls, e) → (∀ rt' rp' ro', post (nI (c + ls.length)) (cm_Y Q tp cl N (trailed, tm, sk, ow, bd, tr) rt' rp' ro')) → wY_length_14 post n (nI c) (nI Q.1) (nI tp) (nI trailed) (nI N.1) (nI N.2.1) (nI N.2.2) (cm_A Q.2.1) (cm_A Q.2.2) (cm_A (fun i => (cl i).1)) (cm_A (fun i => (cl i).2.1)) (cm_A (fun i => (cl i).2.2.1)) (cm_A (fun i => (cl i).2.2.2.1)) (cm_A (fun i => (cl i).2.2.2.2)) (cm_A tm) (cm_A sk) (cm_A ow) (cm_A bd) (cm_A tr) (cm_A rt) (cm_A rp) (cm_A ro) := by
  intro ls
  induction ls with
  | nil =>
    intro n c rt rp ro hn hR P
    obtain ⟨n, rfl⟩ : ∃ q, n = q + 1 := ⟨n - 1, by omega⟩
    rw [wY_length_14]
    show wpY_isAtLetter _ (cm_Y Q tp cl N (trailed, tm, sk, ow, bd, tr) rt rp ro) (nI 0)
    exact cm_y_at hY (by decide) hR (fun a as z => by cases z) (fun _ => br_t rfl (P rt rp ro))
  | cons a as ih =>
    intro n c rt rp ro hn hR P
    obtain ⟨n, rfl⟩ : ∃ q, n = q + 1 := ⟨n - 1, by omega⟩
    obtain ⟨rt1, rp1, ro1, hR1, _, c1⟩ := cm_y_step (Q := Q) (tp := tp) (cl := cl) (N := N) (trailed := trailed) (tr := tr) hY hnv (by decide) hR (cm_RD_let hY hR).1
    rw [wY_length_14]
    show wpY_isAtLetter _ (cm_Y Q tp cl N (trailed, tm, sk, ow, bd, tr) rt rp ro) (nI 0)
    refine cm_y_at hY (by decide) hR (fun _ _ _ => br_f (by decide) ?_) (fun z => by cases z)
    show wpY_step _ (cm_Y Q tp cl N (trailed, tm, sk, ow, bd, tr) rt rp ro) (nI 0)
    refine c1 _ (nm_r (nI_1 c) (ih n (c + 1) rt1 rp1 ro1 (by rw [List.length_cons] at hn; omega) hR1 ?_))
    rw [List.length_cons] at P
    rw [show c + 1 + as.length = c + (as.length + 1) by omega]
    exact P
theorem cm_y_end_l {post : Int32 → SY → Prop} {e : Nat} (hY : cm_YS nv tm sk ow bd w ρ) (hnv : nv ≤ 328) : ∀ ls n rt rp ro, ls.length < n → cm_RD nv bd w rt rp ro 0 (ls, e) → (∀ rt' rp' ro', post (nI (if e < 3 then e else 3)) (cm_Y Q tp cl N (trailed, tm, sk, ow, bd, tr) rt' rp' ro')) → wY_end_12 post n (nI Q.1) (nI tp) (nI trailed) (nI N.1) (nI N.2.1) (nI N.2.2) (cm_A Q.2.1) (cm_A Q.2.2) (cm_A (fun i => (cl i).1)) (cm_A (fun i => (cl i).2.1)) (cm_A (fun i => (cl i).2.2.1)) (cm_A (fun i => (cl i).2.2.2.1)) (cm_A (fun i => (cl i).2.2.2.2)) (cm_A tm) (cm_A sk) (cm_A ow) (cm_A bd) (cm_A tr) (cm_A rt) (cm_A rp) (cm_A ro) := by
  intro ls
  induction ls with
  | nil =>
    intro n rt rp ro hn hR P
    obtain ⟨n, rfl⟩ : ∃ q, n = q + 1 := ⟨n - 1, by omega⟩
    rw [wY_end_12]
    show wpY_isAtLetter _ (cm_Y Q tp cl N (trailed, tm, sk, ow, bd, tr) rt rp ro) (nI 0)
    refine cm_y_at hY (by decide) hR (fun a as z => by cases z) (fun _ => br_t rfl ⟨by decide, ?_⟩)
    have q0 := cm_VT_t hR.1.1
    have r0 : cm_A rt 0 - cm_A rt 0 / 7 * 7 = nI (rt 0 % 7) := pk_rem (d := 7) (by omega) (by decide) (by decide)
    rw [r0]
    have d0 := cm_RD_end hY hR
    refine pk_le 3 (rt 0 % 7) (fun z => ?_) (fun z => ⟨by decide, ?_⟩) rfl rfl (by omega) (by omega)
    · have := P rt rp ro
      rw [if_neg (by omega)] at this
      exact this
    · have := P rt rp ro
      rw [if_pos (by omega), show e = rt 0 % 7 by omega] at this
      exact this
  | cons a as ih =>
    intro n rt rp ro hn hR P
    obtain ⟨n, rfl⟩ : ∃ q, n = q + 1 := ⟨n - 1, by omega⟩
    obtain ⟨rt1, rp1, ro1, hR1, _, c1⟩ := cm_y_step (Q := Q) (tp := tp) (cl := cl) (N := N) (trailed := trailed) (tr := tr) hY hnv (by decide) hR (cm_RD_let hY hR).1
    rw [wY_end_12]
    show wpY_isAtLetter _ (cm_Y Q tp cl N (trailed, tm, sk, ow, bd, tr) rt rp ro) (nI 0)
    refine cm_y_at hY (by decide) hR (fun _ _ _ => br_f (by decide) ?_) (fun z => by cases z)
    show wpY_step _ (cm_Y Q tp cl N (trailed, tm, sk, ow, bd, tr) rt rp ro) (nI 0)
    exact c1 _ (ih n rt1 rp1 ro1 (by rw [List.length_cons] at hn; omega) hR1 P)
/-- letter i: i ≥ 0 -/
theorem cm_y_letter_l {post : Int32 → SY → Prop} {e : Nat} (hY : cm_YS nv tm sk ow bd w ρ) (hnv : nv ≤ 328) : ∀ ls n i j rt rp ro, ls.length < n → cm_RD nv bd w rt rp ro 0 (ls, e) → i + j < 2 ^ 31 → (∀ rt' rp' ro', (j < ls.length → post (nI (ls.getD j 0)) (cm_Y Q tp cl N (trailed, tm, sk, ow, bd, tr) rt' rp' ro')) ∧ (ls.length ≤ j → post (-4) (cm_Y Q tp cl N (trailed, tm, sk, ow, bd, tr) rt' rp' ro'))) → wY_letter_15 post (nI (i + j)) n (nI i) (nI Q.1) (nI tp) (nI trailed) (nI N.1) (nI N.2.1) (nI N.2.2) (cm_A Q.2.1) (cm_A Q.2.2) (cm_A (fun i => (cl i).1)) (cm_A (fun i => (cl i).2.1)) (cm_A (fun i => (cl i).2.2.1)) (cm_A (fun i => (cl i).2.2.2.1)) (cm_A (fun i => (cl i).2.2.2.2)) (cm_A tm) (cm_A sk) (cm_A ow) (cm_A bd) (cm_A tr) (cm_A rt) (cm_A rp) (cm_A ro) := by
  intro ls
  induction ls with
  | nil =>
    intro n i j rt rp ro hn hR hi P
    obtain ⟨n, rfl⟩ : ∃ q, n = q + 1 := ⟨n - 1, by omega⟩
    have h40 : wY_letter_40 post (nI (i + j)) (nI Q.1) (nI tp) (nI trailed) (nI N.1) (nI N.2.1) (nI N.2.2) (cm_A Q.2.1) (cm_A Q.2.2) (cm_A (fun i => (cl i).1)) (cm_A (fun i => (cl i).2.1)) (cm_A (fun i => (cl i).2.2.1)) (cm_A (fun i => (cl i).2.2.2.1)) (cm_A (fun i => (cl i).2.2.2.2)) (cm_A tm) (cm_A sk) (cm_A ow) (cm_A bd) (cm_A tr) (cm_A rt) (cm_A rp) (cm_A ro) := by
      unfold wY_letter_40
      refine br_f (nI_pos hi) ?_
      show wpY_isAtLetter _ (cm_Y Q tp cl N (trailed, tm, sk, ow, bd, tr) rt rp ro) (nI 0)
      exact cm_y_at hY (by decide) hR (fun a as z => by cases z) (fun _ => br_t rfl ((P rt rp ro).2 (Nat.zero_le _)))
    refine br_c (fun _ => h40) (fun _ => ?_)
    show wpY_isAtLetter _ (cm_Y Q tp cl N (trailed, tm, sk, ow, bd, tr) rt rp ro) (nI 0)
    exact cm_y_at hY (by decide) hR (fun a as z => by cases z) (fun _ => br_t rfl h40)
  | cons a as ih =>
    intro n i j rt rp ro hn hR hi P
    obtain ⟨n, rfl⟩ : ∃ q, n = q + 1 := ⟨n - 1, by omega⟩
    obtain ⟨s0, c0⟩ := cm_RD_let hY hR
    by_cases hj : j = 0
    · subst hj
      refine br_t (nI_le (by omega) hi) ?_
      unfold wY_letter_40
      refine br_f (nI_pos hi) ?_
      show wpY_isAtLetter _ (cm_Y Q tp cl N (trailed, tm, sk, ow, bd, tr) rt rp ro) (nI 0)
      refine cm_y_at hY (by decide) hR (fun _ _ _ => br_f (by decide) ?_) (fun z => by cases z)
      show wpY_letterAt _ (cm_Y Q tp cl N (trailed, tm, sk, ow, bd, tr) rt rp ro) _ _
      refine cm_y_letterAt hR.1.1 s0 rfl rfl ?_
      rw [c0]
      exact (P rt rp ro).1 (by rw [List.length_cons]; omega)
    · obtain ⟨j, rfl⟩ : ∃ q, j = q + 1 := ⟨j - 1, by omega⟩
      obtain ⟨rt1, rp1, ro1, hR1, _, c1⟩ := cm_y_step (Q := Q) (tp := tp) (cl := cl) (N := N) (trailed := trailed) (tr := tr) hY hnv (by decide) hR s0
      refine br_f (nI_ge (by omega) hi) ?_
      show wpY_isAtLetter _ (cm_Y Q tp cl N (trailed, tm, sk, ow, bd, tr) rt rp ro) (nI 0)
      refine cm_y_at hY (by decide) hR (fun _ _ _ => br_f (by decide) ?_) (fun z => by cases z)
      show wpY_step _ (cm_Y Q tp cl N (trailed, tm, sk, ow, bd, tr) rt rp ro) (nI 0)
      refine c1 _ (nm_r (nI_1 i) ?_)
      rw [show i + (j + 1) = i + 1 + j by omega]
      refine ih n (i + 1) j rt1 rp1 ro1 (by rw [List.length_cons] at hn; omega) hR1 (by omega) ?_
      intro rt' rp' ro'
      have := P rt' rp' ro'
      rw [List.length_cons] at this
      exact ⟨fun z => this.1 (by omega), fun z => this.2 (by omega)⟩
theorem cm_y_linked2_l {post : Int32 → SY → Prop} {e0 e1 : Nat} (hY : cm_YS nv tm sk ow bd w ρ) (hnv : nv ≤ 328) : ∀ ls n rt rp ro, ls.length < n → cm_RD nv bd w rt rp ro 0 ([], e0) → cm_RD nv bd w rt rp ro 1 (ls, e1) → (∀ rt' rp' ro', (3 ≤ e0 ∧ e0 = e1 → post 1 (cm_Y Q tp cl N (trailed, tm, sk, ow, bd, tr) rt' rp' ro')) ∧ (¬ (3 ≤ e0 ∧ e0 = e1) → post 0 (cm_Y Q tp cl N (trailed, tm, sk, ow, bd, tr) rt' rp' ro'))) → wY_linked_46 post n (nI Q.1) (nI tp) (nI trailed) (nI N.1) (nI N.2.1) (nI N.2.2) (cm_A Q.2.1) (cm_A Q.2.2) (cm_A (fun i => (cl i).1)) (cm_A (fun i => (cl i).2.1)) (cm_A (fun i => (cl i).2.2.1)) (cm_A (fun i => (cl i).2.2.2.1)) (cm_A (fun i => (cl i).2.2.2.2)) (cm_A tm) (cm_A sk) (cm_A ow) (cm_A bd) (cm_A tr) (cm_A rt) (cm_A rp) (cm_A ro) := by
  intro ls
  induction ls with
  | nil =>
    intro n rt rp ro hn hR0 hR1 P
    obtain ⟨n, rfl⟩ : ∃ q, n = q + 1 := ⟨n - 1, by omega⟩
    have P' := P rt rp ro
    rw [wY_linked_46]
    show wpY_isAtLetter _ (cm_Y Q tp cl N (trailed, tm, sk, ow, bd, tr) rt rp ro) (nI 1)
    refine cm_y_at hY (by decide) hR1 (fun a as z => by cases z) (fun _ => br_t rfl ?_)
    show wpY_variableAt _ (cm_Y Q tp cl N (trailed, tm, sk, ow, bd, tr) rt rp ro) (nI 0)
    refine cm_y_var hY hnv (by decide) hR0 (fun a => br_t (by decide) (P'.2 ?_)) (fun _ a2 _ _ => br_f (nI_pos (by omega)) ?_)
    · intro z
      rcases a with a | a
      · exact absurd rfl a
      · omega
    · show wpY_variableAt _ (cm_Y Q tp cl N (trailed, tm, sk, ow, bd, tr) rt rp ro) (nI 0)
      refine cm_y_var hY hnv (by decide) hR0 (fun a => ?_) (fun _ _ _ _ => ?_)
      · exfalso
        rcases a with a | a
        · exact absurd rfl a
        · omega
      · show wpY_variableAt _ (cm_Y Q tp cl N (trailed, tm, sk, ow, bd, tr) rt rp ro) (nI 1)
        refine cm_y_var hY hnv (by decide) hR1 (fun a => br_f ?_ (P'.2 ?_)) (fun _ _ _ _ => pk_eq (e0 - 3) (e1 - 3) (fun z => P'.1 ⟨a2, by omega⟩) (fun z => P'.2 (fun y => z (by omega))) rfl rfl (by omega) (by omega))
        · intro z
          have := nI_pos (n := e0 - 3) (by omega)
          rw [z] at this
          exact this (by decide)
        · intro z
          rcases a with a | a
          · exact absurd rfl a
          · omega
  | cons a as ih =>
    intro n rt rp ro hn hR0 hR1 P
    obtain ⟨n, rfl⟩ : ∃ q, n = q + 1 := ⟨n - 1, by omega⟩
    obtain ⟨rt1, rp1, ro1, hR1', hO, c1⟩ := cm_y_step (Q := Q) (tp := tp) (cl := cl) (N := N) (trailed := trailed) (tr := tr) hY hnv (by decide) hR1 (cm_RD_let hY hR1).1
    rw [wY_linked_46]
    show wpY_isAtLetter _ (cm_Y Q tp cl N (trailed, tm, sk, ow, bd, tr) rt rp ro) (nI 1)
    refine cm_y_at hY (by decide) hR1 (fun _ _ _ => br_f (by decide) ?_) (fun z => by cases z)
    show wpY_step _ (cm_Y Q tp cl N (trailed, tm, sk, ow, bd, tr) rt rp ro) (nI 1)
    exact c1 _ (ih n rt1 rp1 ro1 (by rw [List.length_cons] at hn; omega) (cm_RD_other hR0 (by decide) hO) hR1' P)
theorem cm_y_linked1_l {post : Int32 → SY → Prop} {e0 v : Nat} (hY : cm_YS nv tm sk ow bd w ρ) (hnv : nv ≤ 328) (hv : v < 4) (hv2 : 4 ≤ nv) : ∀ ls n rt rp ro, ls.length < n → cm_RD nv bd w rt rp ro 0 (ls, e0) → (∀ rt' rp' ro', (3 ≤ e0 ∧ e0 = (w v).2 → post 1 (cm_Y Q tp cl N (trailed, tm, sk, ow, bd, tr) rt' rp' ro')) ∧ (¬ (3 ≤ e0 ∧ e0 = (w v).2) → post 0 (cm_Y Q tp cl N (trailed, tm, sk, ow, bd, tr) rt' rp' ro'))) → wY_linked_20 post (nI v) n (nI Q.1) (nI tp) (nI trailed) (nI N.1) (nI N.2.1) (nI N.2.2) (cm_A Q.2.1) (cm_A Q.2.2) (cm_A (fun i => (cl i).1)) (cm_A (fun i => (cl i).2.1)) (cm_A (fun i => (cl i).2.2.1)) (cm_A (fun i => (cl i).2.2.2.1)) (cm_A (fun i => (cl i).2.2.2.2)) (cm_A tm) (cm_A sk) (cm_A ow) (cm_A bd) (cm_A tr) (cm_A rt) (cm_A rp) (cm_A ro) := by
  intro ls
  induction ls with
  | nil =>
    intro n rt rp ro hn hR0 P
    obtain ⟨n, rfl⟩ : ∃ q, n = q + 1 := ⟨n - 1, by omega⟩
    have hVT : cm_VT (3 + v) := by
      unfold cm_VT
      rw [Nat.div_eq_of_lt (by omega)]
      rfl
    obtain ⟨rt1, rp1, ro1, hR1, hO, c1⟩ := cm_y_startReading (Q := Q) (tp := tp) (cl := cl) (N := N) (trailed := trailed) (tr := tr) (rt := rt) (rp := rp) (ro := ro) (rd := 1) (t := 3 + v) (s := 0) (o := 0) hY hnv (by decide) ⟨hVT, Nat.zero_le _, by omega⟩
    have epw : cm_pw w (3 + v) 0 0 = w v := by
      have e1 : cm_lt (3 + v) = [] := by
        unfold cm_lt
        rw [Nat.div_eq_of_lt (by omega)]
        rfl
      unfold cm_pw
      rw [e1, Nat.mod_eq_of_lt (by omega), if_neg (by omega)]
      rw [show 4 * 0 + (3 + v - 3) = v by omega]
      rfl
    rw [epw] at hR1
    rw [wY_linked_20]
    show wpY_isAtLetter _ (cm_Y Q tp cl N (trailed, tm, sk, ow, bd, tr) rt rp ro) (nI 0)
    refine cm_y_at hY (by decide) hR0 (fun a as z => by cases z) (fun _ => br_t rfl ?_)
    show wpY_startReading _ (cm_Y Q tp cl N (trailed, tm, sk, ow, bd, tr) rt rp ro) (nI 1) _ _ _
    refine c1 _ _ _ _ (nI_add 3 v) rfl rfl ⟨(w v).1.length + 1, ?_⟩
    exact cm_y_linked2_l (Q := Q) (tp := tp) (cl := cl) (N := N) hY hnv (w v).1 _ rt1 rp1 ro1 (Nat.lt_succ_self _) (cm_RD_other hR0 (by decide) hO) hR1 P
  | cons a as ih =>
    intro n rt rp ro hn hR0 P
    obtain ⟨n, rfl⟩ : ∃ q, n = q + 1 := ⟨n - 1, by omega⟩
    obtain ⟨rt1, rp1, ro1, hR1', hO, c1⟩ := cm_y_step (Q := Q) (tp := tp) (cl := cl) (N := N) (trailed := trailed) (tr := tr) hY hnv (by decide) hR0 (cm_RD_let hY hR0).1
    rw [wY_linked_20]
    show wpY_isAtLetter _ (cm_Y Q tp cl N (trailed, tm, sk, ow, bd, tr) rt rp ro) (nI 0)
    refine cm_y_at hY (by decide) hR0 (fun _ _ _ => br_f (by decide) ?_) (fun z => by cases z)
    show wpY_step _ (cm_Y Q tp cl N (trailed, tm, sk, ow, bd, tr) rt rp ro) (nI 0)
    exact c1 _ (ih n rt1 rp1 ro1 (by rw [List.length_cons] at hn; omega) hR1' P)
end cmQ2
end
section
/-! a solution reached, and what is asked of it -/
section cmR1
variable {R : cm_RT} {nf : Nat} {fr : cm_FT} {nc : Nat} {ch : cm_CT} {M : cm_MT} {D : cm_DT} {H : cm_HT} {Q : cm_QT} {tp : Nat} {cl : cm_LT} {N : cm_NT} {S : cm_ST} {rt rp ro : Nat → Nat} {k : Nat}
theorem cm_y_bad {v1 v2 : Int32} {post : Int32 → SY → Prop} (h : v1 < 0 ∨ 11 < v1 ∨ v2 < 0 ∨ 3 < v2) (P : post 0 (cm_Y Q tp cl N S rt rp ro)) : wpY_readSolution post (cm_Y Q tp cl N S rt rp ro) v1 v2 := by
  unfold wpY_readSolution cm_Y
  dsimp only
  refine br_c (fun _ => P) (fun h1 => br_c (fun _ => P) (fun h2 => br_c (fun _ => P) (fun h3 => br_c (fun _ => P) (fun h4 => ?_))))
  rcases h with h | h | h | h
  · exact absurd h h3
  · exact absurd h h4
  · exact absurd h h1
  · exact absurd h h2
theorem cm_reach (hRQ : cm_RQ R Q) (hE : cm_EY cm_S0 S) (hS : S.1 ≤ 328) (v1 v2 : Int32) (postX : Int32 → SX → Prop)
    (F0 : ∀ u v, i_Rel k u v → i_Rel k u (cm_Y Q tp cl N S rt rp ro) → (∀ postF : Int32 → SY → Prop, postF 0 v → wpY_readSolution postF (cm_Y Q tp cl N S rt rp ro) v1 v2) → postX 0 u)
    (F1 : ∀ vv nf2 fr2 nc2 ch2 M2 D2 H2 tp2 cl2 N2 S' rt' rp' ro' T wX wY f g, v2 = nI vv → vv < 4 → cm_Sm T fr2 H2 S' wX wY f g → T ≤ 80 → (fr2 0).2.1 = 0 → H2.1 ≤ 2700 → cm_nl H2.2.2.1 H2.1 < 1000 → cm_EY cm_S0 S' → S'.1 ≤ 328 → cm_RD (4 * T + 4) S'.2.2.2.2.1 wY rt' rp' ro' 0 (wY vv) →
      (∀ postF : Int32 → SY → Prop, postF 1 (cm_Y Q tp2 cl2 N2 S' rt' rp' ro') → wpY_readSolution postF (cm_Y Q tp cl N S rt rp ro) v1 v2) → postX 1 (cm_X R nf2 fr2 nc2 ch2 M2 D2 H2)) : wpX_reach postX (cm_X R nf fr nc ch M D H) v1 v2 := by
  have hrel : i_Rel k (cm_X R nf fr nc ch M D H) (cm_Y Q tp cl N S rt rp ro) := ⟨R, nf, fr, nc, ch, M, D, H, Q, tp, cl, N, S, rt, rp, ro, rfl, rfl, hRQ, hE, hS⟩
  have bad : (v1 < 0 ∨ 11 < v1 ∨ v2 < 0 ∨ 3 < v2) → postX 0 (cm_X R nf fr nc ch M D H) := fun h => F0 _ _ hrel hrel (fun postF P => cm_y_bad h P)
  unfold wpX_reach cm_X
  dsimp only
  refine br_c (fun h => bad (Or.inl h)) (fun h1 => ?_)
  obtain ⟨kk, hkk, rfl⟩ := nI_of h1
  refine pk_le 12 kk (fun h => bad (Or.inr (Or.inl (nI_lt (a := 11) (by omega) hkk)))) (fun h2 => ?_) rfl rfl (by omega) hkk
  refine br_c (fun h => bad (Or.inr (Or.inr (Or.inl h)))) (fun h3 => ?_)
  obtain ⟨vv, hvv, rfl⟩ := nI_of h3
  refine pk_le vv 3 (fun h4 => ?_) (fun h4 => bad (Or.inr (Or.inr (Or.inr (nI_lt (a := 3) (by omega) hvv))))) rfl rfl hvv (by omega)
  show wpX_search _ (cm_X R nf fr nc ch M D H) (nI kk)
  refine cm_search (tp := tp) (cl := cl) (N := N) (rt := rt) (rp := rp) (ro := ro) (by omega) hRQ hE hS _ (fun r u v hF hY => ?_) rfl
  have hR := cm_Fin_Rel (k := k) hRQ hF
  have ystart : ∀ (postF : Int32 → SY → Prop), (wpY_search (fun r_5 u => match u with | (f_rules, f_top, f_trailed, f_found, f_called, f_ending, a_goals, a_sizes, a_taken, a_callerOf, a_goalOf, a_nextRule, a_marks, a_terms, a_skips, a_owners, a_bound, a_trail, a_term, a_place, a_owner) => (((r_5 = 0 → (postF 0 (f_rules, f_top, f_trailed, f_found, f_called, f_ending, a_goals, a_sizes, a_taken, a_callerOf, a_goalOf, a_nextRule, a_marks, a_terms, a_skips, a_owners, a_bound, a_trail, a_term, a_place, a_owner))) ∧ (¬ r_5 = 0 → (wpY_startReading (fun u => match u with | (f_rules, f_top, f_trailed, f_found, f_called, f_ending, a_goals, a_sizes, a_taken, a_callerOf, a_goalOf, a_nextRule, a_marks, a_terms, a_skips, a_owners, a_bound, a_trail, a_term, a_place, a_owner) => (postF 1 (f_rules, f_top, f_trailed, f_found, f_called, f_ending, a_goals, a_sizes, a_taken, a_callerOf, a_goalOf, a_nextRule, a_marks, a_terms, a_skips, a_owners, a_bound, a_trail, a_term, a_place, a_owner))) (f_rules, f_top, f_trailed, f_found, f_called, f_ending, a_goals, a_sizes, a_taken, a_callerOf, a_goalOf, a_nextRule, a_marks, a_terms, a_skips, a_owners, a_bound, a_trail, a_term, a_place, a_owner) 0 (3 + nI vv) 0 0))))) (cm_Y Q tp cl N S rt rp ro) (nI kk + 1)) → wpY_readSolution postF (cm_Y Q tp cl N S rt rp ro) (nI kk) (nI vv) := by
    intro postF P
    unfold wpY_readSolution cm_Y
    dsimp only
    exact br_f (nI_pos hvv) (br_f (nI_nlt (a := 3) h4 (by decide)) (br_f (nI_pos hkk) (br_f (nI_nlt (a := 11) (by omega) (by decide)) P)))
  obtain ⟨nf', fr', nc', ch', M', D', H', tp', cl', N', S', rt', rp', ro', rfl, rfl, e1, e2, e3, b1, _, _, hE', hS', hr⟩ := hF
  rcases hr with ⟨rfl, hN, T, wX, wY, f, g, hSm, hT, hf0, hH', hnl⟩ | ⟨rfl, hN⟩
  · refine br_t (by show nI M'.2.2.2.2.2.1 = nI kk + 1; rw [e1, hN, nI_1]) ?_
    obtain ⟨trailed, tm, sk, ow, bd, tr⟩ := S'
    obtain ⟨_, ⟨ρY, hYS⟩, _, _⟩ := id hSm
    dsimp only at hYS
    have hVT : cm_VT (3 + vv) := by
      unfold cm_VT
      rw [Nat.div_eq_of_lt (by omega)]
      rfl
    obtain ⟨rt1, rp1, ro1, hR1, hO, c1⟩ := cm_y_startReading (Q := Q) (tp := tp') (cl := cl') (N := N') (trailed := trailed) (tr := tr) (rt := rt') (rp := rp') (ro := ro') (rd := 0) (t := 3 + vv) (s := 0) (o := 0) hYS (by omega) (by decide) ⟨hVT, Nat.zero_le _, by omega⟩
    have epw : cm_pw wY (3 + vv) 0 0 = wY vv := by
      have e1 : cm_lt (3 + vv) = [] := by
        unfold cm_lt
        rw [Nat.div_eq_of_lt (by omega)]
        rfl
      unfold cm_pw
      rw [e1, Nat.mod_eq_of_lt (by omega), if_neg (by omega)]
      rw [show 4 * 0 + (3 + vv - 3) = vv by omega]
      rfl
    rw [epw] at hR1
    refine F1 vv nf' fr' nc' ch' M' D' H' tp' cl' N' (trailed, tm, sk, ow, bd, tr) rt1 rp1 ro1 T wX wY f g rfl (by omega) hSm hT hf0 hH' hnl hE' hS' hR1 fun postF P => ystart postF (hY _ _ (nI_1 kk) (br_f (by decide) ?_))
    show wpY_startReading _ (cm_Y Q tp' cl' N' (trailed, tm, sk, ow, bd, tr) rt' rp' ro') (nI 0) _ _ _
    exact c1 _ _ _ _ (nI_add 3 vv) rfl rfl P
  · refine br_f ?_ (F0 _ _ hR ⟨R, nf', fr', nc', ch', M', D', H', Q, tp, cl, N, S, rt, rp, ro, rfl, rfl, hRQ, hE, hS⟩ fun postF P => ystart postF (hY _ _ (nI_1 kk) (br_t rfl P)))
    show ¬ nI M'.2.2.2.2.2.1 = nI kk + 1
    rw [e1, nI_1]
    exact fun z => hN ((nI_eq (by omega) (by omega)).mp z)
end cmR1
theorem i_vc_length {k : Nat} {u : SX} {v : SY} (I : i_Rel k u v) (hk : k + 4 ≤ 2048) (v1 : Int32) (v2 : Int32) : wpX_length (fun r u' => wpY_length (fun r' v' => r' = r ∧ i_Rel (k + 4) u' v') v v1 v2) u v1 v2 := by
  obtain ⟨R, nf, fr, nc, ch, M, D, H, Q, tp, cl, N, S, rt, rp, ro, rfl, rfl, hRQ, hE, hS⟩ := I
  unfold wpX_length cm_X
  dsimp only
  show wpX_reach _ (cm_X R nf fr nc ch M D H) v1 v2
  refine cm_reach (k := k + 4) (tp := tp) (cl := cl) (N := N) (rt := rt) (rp := rp) (ro := ro) hRQ hE hS v1 v2 _ (fun u v hR hR2 hY => br_t rfl ?_) ?_
  · unfold wpY_length cm_Y
    dsimp only
    exact hY _ (br_t rfl ⟨rfl, hR⟩)
  · intro vv nf' fr' nc' ch' M' D' H' tp' cl' N' S' rt' rp' ro' T wX wY f g e2 hvv hSm hT hf0 hH' hnl hE' hS' hR hY
    subst e2
    obtain ⟨⟨ρX, hX⟩, ⟨ρY, hYS⟩, _, hC⟩ := id hSm
    obtain ⟨top, trail, k', m, l, tc⟩ := H'
    obtain ⟨trailed, tm, sk, ow, bd, tr⟩ := S'
    dsimp only at hX hYS hH' hnl hR hS'
    obtain ⟨c1, c2⟩ := hC 0 vv (Nat.zero_le _) hvv
    rw [hf0, Nat.zero_add] at c2
    rw [hf0] at c1
    dsimp only at c1
    refine br_f (by decide) ?_
    show wpX_lengthOf _ (cm_X R nf' fr' nc' ch' M' D' (top, trail, k', m, l, tc)) (nI vv)
    refine cm_x_lengthOf hX hH' hnl hf0 (by omega) ?_
    unfold wpY_length cm_Y
    dsimp only
    refine hY _ (br_f (by decide) ⟨(wY vv).1.length + 1, ?_⟩)
    refine cm_y_length_l (Q := Q) (tp := tp') (cl := cl') (N := N') hYS (by omega) (wY vv).1 _ 0 rt' rp' ro' (Nat.lt_succ_self _) hR fun rt2 rp2 ro2 => ⟨?_, R, nf', fr', nc', ch', M', D', _, Q, tp', cl', N', (trailed, tm, sk, ow, bd, tr), rt2, rp2, ro2, rfl, rfl, hRQ, hE', hS'⟩
    rw [Nat.zero_add, (cm_Cor_1 c2).1]
theorem i_vc_letter {k : Nat} {u : SX} {v : SY} (I : i_Rel k u v) (hk : k + 4 ≤ 2048) (v1 : Int32) (v2 : Int32) (v3 : Int32) : wpX_letter (fun r u' => wpY_letter (fun r' v' => r' = r ∧ i_Rel (k + 4) u' v') v v1 v2 v3) u v1 v2 v3 := by
  obtain ⟨R, nf, fr, nc, ch, M, D, H, Q, tp, cl, N, S, rt, rp, ro, rfl, rfl, hRQ, hE, hS⟩ := I
  unfold wpX_letter cm_X
  dsimp only
  show wpX_reach _ (cm_X R nf fr nc ch M D H) v1 v2
  refine cm_reach (k := k + 4) (tp := tp) (cl := cl) (N := N) (rt := rt) (rp := rp) (ro := ro) hRQ hE hS v1 v2 _ (fun u v hR hR2 hY => br_t rfl ?_) ?_
  · unfold wpY_letter cm_Y
    dsimp only
    exact hY _ (br_t rfl ⟨rfl, hR⟩)
  · intro vv nf' fr' nc' ch' M' D' H' tp' cl' N' S' rt' rp' ro' T wX wY f g e2 hvv hSm hT hf0 hH' hnl hE' hS' hR hY
    subst e2
    obtain ⟨⟨ρX, hX⟩, ⟨ρY, hYS⟩, _, hC⟩ := id hSm
    obtain ⟨top, trail, k', m, l, tc⟩ := H'
    obtain ⟨trailed, tm, sk, ow, bd, tr⟩ := S'
    dsimp only at hX hYS hH' hnl hR hS'
    obtain ⟨c1, c2⟩ := hC 0 vv (Nat.zero_le _) hvv
    rw [hf0, Nat.zero_add] at c2
    rw [hf0] at c1
    dsimp only at c1
    have hlen := cm_HX_len hX (show vv < top by omega)
    have rel : ∀ rt2 rp2 ro2, i_Rel (k + 4) (cm_X R nf' fr' nc' ch' M' D' (top, trail, k', m, l, tc)) (cm_Y Q tp' cl' N' (trailed, tm, sk, ow, bd, tr) rt2 rp2 ro2) := fun rt2 rp2 ro2 => ⟨R, nf', fr', nc', ch', M', D', _, Q, tp', cl', N', (trailed, tm, sk, ow, bd, tr), rt2, rp2, ro2, rfl, rfl, hRQ, hE', hS'⟩
    refine br_f (by decide) (br_c (fun hneg => ?_) (fun hpos => ?_))
    · unfold wpY_letter cm_Y
      dsimp only
      refine hY _ (br_f (by decide) ⟨1, br_t ?_ ?_⟩)
      · exact Int32.le_of_lt hneg
      · unfold wY_letter_40
        exact br_t hneg ⟨rfl, rel rt' rp' ro'⟩
    · obtain ⟨i, hi, rfl⟩ := nI_of hpos
      have ylet : ∀ (post : Int32 → SY → Prop), (∀ rt2 rp2 ro2, (i < (wX vv).1.length → post (nI ((wX vv).1.getD i 0)) (cm_Y Q tp' cl' N' (trailed, tm, sk, ow, bd, tr) rt2 rp2 ro2)) ∧ ((wX vv).1.length ≤ i → post (-4) (cm_Y Q tp' cl' N' (trailed, tm, sk, ow, bd, tr) rt2 rp2 ro2))) → wpY_letter post (cm_Y Q tp cl N S rt rp ro) v1 (nI vv) (nI i) := by
        intro post P
        unfold wpY_letter cm_Y
        dsimp only
        refine hY _ (br_f (by decide) ⟨(wY vv).1.length + 1, ?_⟩)
        have e0 : nI i = nI (0 + i) := by rw [Nat.zero_add]
        rw [e0]
        refine cm_y_letter_l (Q := Q) (tp := tp') (cl := cl') (N := N') hYS (by omega) (wY vv).1 _ 0 i rt' rp' ro' (Nat.lt_succ_self _) hR (by omega) ?_
        rw [(cm_Cor_1 c2).1]
        exact P
      show wpX_lengthOf _ (cm_X R nf' fr' nc' ch' M' D' (top, trail, k', m, l, tc)) (nI vv)
      refine cm_x_lengthOf hX hH' hnl hf0 (by omega) ?_
      refine pk_lt i (wX vv).1.length (fun hlt => ?_) (fun hge => ?_) rfl rfl hi (by omega)
      · have e : cm_A (fun i => (fr' i).2.1) 0 + nI vv = nI vv := by
          show nI (fr' 0).2.1 + nI vv = nI vv
          rw [hf0, nI_add, Nat.zero_add]
        show wpX_deref _ (cm_X R nf' fr' nc' ch' M' D' (top, trail, k', m, l, tc)) _
        refine cm_x_deref hX hH' (show vv < top by omega) e fun d hd hs hw => ⟨i + 1, ?_⟩
        have e0 : nI i = nI (0 + i) := by rw [Nat.zero_add]
        rw [e0]
        refine cm_x_letter_l (M := M') hX hH' i (i + 1) 0 d (Nat.lt_succ_self _) hd hs (by rw [hw]; exact hlt) (by omega) ?_
        rw [hw, ← e0]
        exact ylet _ (fun rt2 rp2 ro2 => ⟨fun _ => ⟨rfl, rel rt2 rp2 ro2⟩, fun z => by omega⟩)
      · exact ylet _ (fun rt2 rp2 ro2 => ⟨fun z => by omega, fun _ => ⟨rfl, rel rt2 rp2 ro2⟩⟩)
theorem i_vc_end {k : Nat} {u : SX} {v : SY} (I : i_Rel k u v) (hk : k + 4 ≤ 2048) (v1 : Int32) (v2 : Int32) : wpX_end (fun r u' => wpY_end (fun r' v' => r' = r ∧ i_Rel (k + 4) u' v') v v1 v2) u v1 v2 := by
  obtain ⟨R, nf, fr, nc, ch, M, D, H, Q, tp, cl, N, S, rt, rp, ro, rfl, rfl, hRQ, hE, hS⟩ := I
  unfold wpX_end cm_X
  dsimp only
  show wpX_reach _ (cm_X R nf fr nc ch M D H) v1 v2
  refine cm_reach (k := k + 4) (tp := tp) (cl := cl) (N := N) (rt := rt) (rp := rp) (ro := ro) hRQ hE hS v1 v2 _ (fun u v hR hR2 hY => br_t rfl ?_) ?_
  · unfold wpY_end cm_Y
    dsimp only
    exact hY _ (br_t rfl ⟨rfl, hR⟩)
  · intro vv nf' fr' nc' ch' M' D' H' tp' cl' N' S' rt' rp' ro' T wX wY f g e2 hvv hSm hT hf0 hH' hnl hE' hS' hR hY
    subst e2
    obtain ⟨⟨ρX, hX⟩, ⟨ρY, hYS⟩, hFG, hC⟩ := id hSm
    obtain ⟨top, trail, k', m, l, tc⟩ := H'
    obtain ⟨trailed, tm, sk, ow, bd, tr⟩ := S'
    dsimp only at hX hYS hH' hnl hR hS'
    obtain ⟨c1, c2⟩ := hC 0 vv (Nat.zero_le _) hvv
    rw [hf0, Nat.zero_add] at c2
    rw [hf0] at c1
    dsimp only at c1
    have rel : ∀ rt2 rp2 ro2, i_Rel (k + 4) (cm_X R nf' fr' nc' ch' M' D' (top, trail, k', m, l, tc)) (cm_Y Q tp' cl' N' (trailed, tm, sk, ow, bd, tr) rt2 rp2 ro2) := fun rt2 rp2 ro2 => ⟨R, nf', fr', nc', ch', M', D', _, Q, tp', cl', N', (trailed, tm, sk, ow, bd, tr), rt2, rp2, ro2, rfl, rfl, hRQ, hE', hS'⟩
    refine br_f (by decide) ?_
    show wpX_endOf _ (cm_X R nf' fr' nc' ch' M' D' (top, trail, k', m, l, tc)) (nI vv)
    refine cm_x_endOf hX hH' hnl hf0 (by omega) fun d hd hs hk2 hw => ?_
    have yend : ∀ (post : Int32 → SY → Prop), (∀ rt2 rp2 ro2, post (nI (if (wX vv).2 < 3 then (wX vv).2 else 3)) (cm_Y Q tp' cl' N' (trailed, tm, sk, ow, bd, tr) rt2 rp2 ro2)) → wpY_end post (cm_Y Q tp cl N S rt rp ro) v1 (nI vv) := by
      intro post P
      unfold wpY_end cm_Y
      dsimp only
      refine hY _ (br_f (by decide) ⟨(wY vv).1.length + 1, ?_⟩)
      refine cm_y_end_l (Q := Q) (tp := tp') (cl := cl') (N := N') hYS (by omega) (wY vv).1 _ rt' rp' ro' (Nat.lt_succ_self _) hR ?_
      have ee : (if (wY vv).2 < 3 then (wY vv).2 else 3) = (if (wX vv).2 < 3 then (wX vv).2 else 3) := by
        rw [(cm_Cor_1 c2).2.1]
        have := cm_FG_ge hFG (wX vv).2
        by_cases z : (wX vv).2 < 3
        · rw [((hFG _).1 z).1]
        · rw [if_neg z, if_neg (by omega)]
      rw [ee]
      exact P
    have hv : vp_in (nI d) 2700 := vp_in_nI (by omega) (by decide)
    have hkd := cm_HX_k hX hd
    refine ⟨hv, ?_⟩
    refine pk_eq (k' d) 1 (fun h1 => ⟨hv, ?_⟩) (fun h1 => ?_) (by show cm_A k' (nI d).toNatClampNeg = nI (k' d); exact cm_rd (by omega)) rfl (by omega) (by omega)
    · have e := cm_HX_con hX hd h1
      have hm := cm_HX_m hX hd (by omega)
      rw [hw] at e
      injection e with _ e
      refine yend _ (fun rt2 rp2 ro2 => ⟨?_, rel rt2 rp2 ro2⟩)
      rw [if_pos (by omega), e]
      exact (cm_rd (f := m) (show d < 2 ^ 31 by omega)).symm
    · have h0 : k' d = 0 := by omega
      have e := cm_HX_free hX hd h0 (hs h0)
      rw [hw] at e
      injection e with _ e
      refine yend _ (fun rt2 rp2 ro2 => ⟨?_, rel rt2 rp2 ro2⟩)
      rw [if_neg (by omega)]
      rfl
theorem i_vc_linked {k : Nat} {u : SX} {v : SY} (I : i_Rel k u v) (hk : k + 4 ≤ 2048) (v1 : Int32) (v2 : Int32) (v3 : Int32) : wpX_linked (fun r u' => wpY_linked (fun r' v' => r' = r ∧ i_Rel (k + 4) u' v') v v1 v2 v3) u v1 v2 v3 := by
  obtain ⟨R, nf, fr, nc, ch, M, D, H, Q, tp, cl, N, S, rt, rp, ro, rfl, rfl, hRQ, hE, hS⟩ := I
  unfold wpX_linked cm_X
  dsimp only
  show wpX_reach _ (cm_X R nf fr nc ch M D H) v1 v2
  -- Y asks for its third argument first
  have ybad : ∀ u, i_Rel (k + 4) u (cm_Y Q tp cl N S rt rp ro) → (v3 < 0 ∨ 3 < v3) → wpY_linked (fun r' v' => r' = 0 ∧ i_Rel (k + 4) u v') (cm_Y Q tp cl N S rt rp ro) v1 v2 v3 := by
    intro u hR h
    unfold wpY_linked cm_Y
    dsimp only
    refine br_c (fun _ => ⟨rfl, hR⟩) (fun h1 => br_c (fun _ => ⟨rfl, hR⟩) (fun h2 => ?_))
    rcases h with h | h
    · exact absurd h h1
    · exact absurd h h2
  refine cm_reach (k := k + 4) (tp := tp) (cl := cl) (N := N) (rt := rt) (rp := rp) (ro := ro) hRQ hE hS v1 v2 _ (fun u v hR hR2 hY => br_t rfl ?_) ?_
  · by_cases h : v3 < 0 ∨ 3 < v3
    · exact ybad u hR2 h
    · unfold wpY_linked cm_Y
      dsimp only
      exact br_f (fun z => h (Or.inl z)) (br_f (fun z => h (Or.inr z)) (hY _ (br_t rfl ⟨rfl, hR⟩)))
  · intro vv nf' fr' nc' ch' M' D' H' tp' cl' N' S' rt' rp' ro' T wX wY f g e2 hvv hSm hT hf0 hH' hnl hE' hS' hR hY
    subst e2
    obtain ⟨⟨ρX, hX⟩, ⟨ρY, hYS⟩, hFG, hC⟩ := id hSm
    have relS : i_Rel (k + 4) (cm_X R nf' fr' nc' ch' M' D' H') (cm_Y Q tp cl N S rt rp ro) := ⟨R, nf', fr', nc', ch', M', D', H', Q, tp, cl, N, S, rt, rp, ro, rfl, rfl, hRQ, hE, hS⟩
    obtain ⟨top, trail, k', m, l, tc⟩ := H'
    obtain ⟨trailed, tm, sk, ow, bd, tr⟩ := S'
    dsimp only at hX hYS hH' hnl hR hS'
    obtain ⟨c1, c2⟩ := hC 0 vv (Nat.zero_le _) hvv
    rw [hf0, Nat.zero_add] at c2
    rw [hf0] at c1
    dsimp only at c1
    have rel : ∀ rt2 rp2 ro2, i_Rel (k + 4) (cm_X R nf' fr' nc' ch' M' D' (top, trail, k', m, l, tc)) (cm_Y Q tp' cl' N' (trailed, tm, sk, ow, bd, tr) rt2 rp2 ro2) := fun rt2 rp2 ro2 => ⟨R, nf', fr', nc', ch', M', D', _, Q, tp', cl', N', (trailed, tm, sk, ow, bd, tr), rt2, rp2, ro2, rfl, rfl, hRQ, hE', hS'⟩
    refine br_f (by decide) (br_c (fun h => ybad _ relS (Or.inl h)) (fun h3 => ?_))
    obtain ⟨ww, hww, rfl⟩ := nI_of h3
    refine pk_le ww 3 (fun h4 => ?_) (fun h4 => ybad _ relS (Or.inr (nI_lt (a := 3) (by omega) hww))) rfl rfl hww (by omega)
    have c3 := (hC 0 ww (Nat.zero_le _) (by omega)).2
    rw [hf0, Nat.zero_add] at c3
    have hcode : (3 ≤ (wY vv).2 ∧ (wY vv).2 = (wY ww).2) ↔ (3 ≤ (wX vv).2 ∧ (wX vv).2 = (wX ww).2) := by
      obtain ⟨_, z2, z3⟩ := cm_Cor_1 c2
      obtain ⟨_, y2, y3⟩ := cm_Cor_1 c3
      rw [z2, y2, cm_FG_ge hFG]
      constructor
      · intro q
        exact ⟨q.1, by rw [← z3, ← y3, q.2]⟩
      · intro q
        exact ⟨q.1, by rw [q.2]⟩
    have ylin : ∀ (post : Int32 → SY → Prop), (∀ rt2 rp2 ro2, ((3 ≤ (wX vv).2 ∧ (wX vv).2 = (wX ww).2) → post 1 (cm_Y Q tp' cl' N' (trailed, tm, sk, ow, bd, tr) rt2 rp2 ro2)) ∧ (¬ (3 ≤ (wX vv).2 ∧ (wX vv).2 = (wX ww).2) → post 0 (cm_Y Q tp' cl' N' (trailed, tm, sk, ow, bd, tr) rt2 rp2 ro2))) → wpY_linked post (cm_Y Q tp cl N S rt rp ro) v1 (nI vv) (nI ww) := by
      intro post P
      unfold wpY_linked cm_Y
      dsimp only
      refine br_f h3 (br_f (nI_nlt (a := 3) h4 (by decide)) (hY _ (br_f (by decide) ⟨(wY vv).1.length + 1, ?_⟩)))
      refine cm_y_linked1_l (Q := Q) (tp := tp') (cl := cl') (N := N') hYS (by omega) (by omega) (by omega) (wY vv).1 _ rt' rp' ro' (Nat.lt_succ_self _) hR ?_
      rw [hcode]
      exact P
    show wpX_endOf _ (cm_X R nf' fr' nc' ch' M' D' (top, trail, k', m, l, tc)) (nI vv)
    refine cm_x_endOf hX hH' hnl hf0 (by omega) fun d hd hs hk2 hw => ?_
    show wpX_endOf _ (cm_X R nf' fr' nc' ch' M' D' (top, trail, k', m, l, tc)) (nI ww)
    refine cm_x_endOf hX hH' hnl hf0 (by omega) fun d' hd' hs' hk2' hw' => ?_
    refine pk_eq d d' (fun e => ?_) (fun e => ylin _ (fun rt2 rp2 ro2 => ⟨fun z => ?_, fun _ => ⟨rfl, rel rt2 rp2 ro2⟩⟩)) rfl rfl (by omega) (by omega)
    · subst e
      have ew : (wX vv).2 = (wX ww).2 := by
        rw [hw] at hw'
        injection hw'
      have hA : k' d = 0 → l d = d → 3 ≤ (wX vv).2 := by
        intro fk fl
        have := cm_HX_free hX hd fk fl
        rw [hw] at this
        injection this with _ this
        omega
      have hB : ¬ (k' d = 0 ∧ l d = d) → ¬ 3 ≤ (wX vv).2 := by
        intro nfx
        have hkd := cm_HX_k hX hd
        have hk1 : k' d = 1 := by
          have : k' d ≠ 0 := fun y => nfx ⟨y, hs y⟩
          omega
        have := cm_HX_con hX hd hk1
        have hm := cm_HX_m hX hd (by omega)
        rw [hw] at this
        injection this with _ this
        omega
      show wpX_isFree _ (cm_X R nf' fr' nc' ch' M' D' (top, trail, k', m, l, tc)) (nI d)
      exact cm_x_isFree hX hH' hd (fun fk fl => br_f (by decide) (ylin _ (fun rt2 rp2 ro2 => ⟨fun _ => ⟨rfl, rel rt2 rp2 ro2⟩, fun z => absurd ⟨hA fk fl, ew⟩ z⟩))) (fun nfx => br_t rfl (ylin _ (fun rt2 rp2 ro2 => ⟨fun z => absurd z.1 (hB nfx), fun _ => ⟨rfl, rel rt2 rp2 ro2⟩⟩)))
    · exfalso
      have hkd := cm_HX_k hX hd
      have hkd' := cm_HX_k hX hd'
      have f1 : (wX vv).2 = 3 + d := by
        rcases hX d hd with a | a | a | a
        · rw [a.2.2] at hw; injection hw with _ q; exact q.symm
        · exact absurd (hs a.1) a.2.1
        · rw [a.2.2] at hw; injection hw with _ q; omega
        · exact absurd a.1 hk2
      have f2 : (wX ww).2 = 3 + d' := by
        rcases hX d' hd' with a | a | a | a
        · rw [a.2.2] at hw'; injection hw' with _ q; exact q.symm
        · exact absurd (hs' a.1) a.2.1
        · rw [a.2.2] at hw'; injection hw' with _ q; omega
        · exact absurd a.1 hk2'
      omega
end
section
/-! rules and question -/
section cmB1
variable {R : cm_RT} {nf : Nat} {fr : cm_FT} {nc : Nat} {ch : cm_CT} {M : cm_MT} {D : cm_DT} {H : cm_HT} {Q : cm_QT} {tp : Nat} {cl : cm_LT} {N : cm_NT} {S : cm_ST} {rt rp ro : Nat → Nat}
theorem cm_x_bt_l {post : Int32 → Prop} : ∀ r w j n, j + r = 5 → r < n → w < 2 ^ 31 → post (nI (cm_bt r w)) → wX_badTerm_16 post (nI R.1) (nI H.1) (nI H.2.1) (nI nf) (nI nc) (nI M.1) (nI M.2.1) (nI M.2.2.1) (nI M.2.2.2.1) (nI M.2.2.2.2.1) (nI M.2.2.2.2.2.1) (nI M.2.2.2.2.2.2.1) (nI D.1) (nI M.2.2.2.2.2.2.2) (cm_A R.2.1) (cm_A R.2.2.1) (cm_A R.2.2.2.1) (cm_A R.2.2.2.2) (cm_A H.2.2.1) (cm_A H.2.2.2.1) (cm_A H.2.2.2.2.1) (cm_A H.2.2.2.2.2) (cm_A (fun i => (fr i).1)) (cm_A (fun i => (fr i).2.1)) (cm_A (fun i => (fr i).2.2.1)) (cm_A (fun i => (fr i).2.2.2)) (cm_A (fun i => (ch i).1)) (cm_A (fun i => (ch i).2.1)) (cm_A (fun i => (ch i).2.2.1)) (cm_A (fun i => (ch i).2.2.2.1)) (cm_A (fun i => (ch i).2.2.2.2.1)) (cm_A (fun i => (ch i).2.2.2.2.2.1)) (cm_A (fun i => (ch i).2.2.2.2.2.2.1)) (cm_A (fun i => (ch i).2.2.2.2.2.2.2.1)) (cm_A (fun i => (ch i).2.2.2.2.2.2.2.2)) (cm_A D.2) n (nI w) (nI j) (nI j) := by
  intro r
  induction r with
  | zero =>
    intro w j n hj hn hw P
    obtain ⟨n, rfl⟩ : ∃ q, n = q + 1 := ⟨n - 1, by omega⟩
    have e : j = 5 := by omega
    subst e
    refine br_t (by decide) ?_
    unfold wX_badTerm_47
    exact br_t (by decide) P
  | succ r ih =>
    intro w j n hj hn hw P
    obtain ⟨n, rfl⟩ : ∃ q, n = q + 1 := ⟨n - 1, by omega⟩
    rw [cm_bt_s] at P
    refine br_f (nI_ge (b := 5) (by omega) (by decide)) (pk_le w 0 (fun h0 => ?_) (fun h0 => ?_) rfl rfl hw (by omega))
    · unfold wX_badTerm_47
      have e : w = 0 := by omega
      subst e
      exact br_f (nI_nlt (a := 4) (by omega) (by decide)) (br_t (by decide) P)
    · rw [if_neg (by omega)] at P
      have ea : nI w &&& 3 = nI (w % 4) := pk_andN (n := w) (m := 3) (by omega) 2 (by decide)
      rw [ea]
      refine pk_eq (w % 4) 0 (fun h4 => ?_) (fun h4 => ?_) rfl rfl (by omega) (by omega)
      · rw [if_pos h4] at P
        exact P
      · rw [if_neg h4] at P
        exact nm_r (pk_shrN (n := w) hw ((2 : Int32) &&& 31) 2 (by decide)) (nm_r (nI_1 j) (nm_r (nI_1 j) (ih (w / 4) (j + 1) n (by omega) (by omega) (by omega) P)))
theorem cm_y_it_l {post : Int32 → Prop} : ∀ r w n, r < n → w < 4 ^ r → w < 2 ^ 31 → post (nI (1 - cm_bt (r + 1) w)) → wY_isTerm_21 post (nI Q.1) (nI tp) (nI S.1) (nI N.1) (nI N.2.1) (nI N.2.2) (cm_A Q.2.1) (cm_A Q.2.2) (cm_A (fun i => (cl i).1)) (cm_A (fun i => (cl i).2.1)) (cm_A (fun i => (cl i).2.2.1)) (cm_A (fun i => (cl i).2.2.2.1)) (cm_A (fun i => (cl i).2.2.2.2)) (cm_A S.2.1) (cm_A S.2.2.1) (cm_A S.2.2.2.1) (cm_A S.2.2.2.2.1) (cm_A S.2.2.2.2.2) (cm_A rt) (cm_A rp) (cm_A ro) n (nI w) := by
  intro r
  induction r with
  | zero =>
    intro w n hn hw _ P
    obtain ⟨n, rfl⟩ : ∃ q, n = q + 1 := ⟨n - 1, by omega⟩
    have e : w = 0 := by rw [Nat.pow_zero] at hw; omega
    subst e
    exact br_t (by decide) P
  | succ r ih =>
    intro w n hn hw hw2 P
    obtain ⟨n, rfl⟩ : ∃ q, n = q + 1 := ⟨n - 1, by omega⟩
    rw [cm_bt_s] at P
    refine pk_le w 0 (fun h0 => ?_) (fun h0 => ⟨by decide, ?_⟩) rfl rfl hw2 (by omega)
    · rw [if_pos (by omega)] at P
      exact P
    · rw [if_neg (by omega)] at P
      have ea : nI w - nI w / 4 * 4 = nI (w % 4) := pk_rem (d := 4) hw2 (by decide) (by decide)
      rw [ea]
      refine pk_eq (w % 4) 0 (fun h4 => ?_) (fun h4 => ⟨by decide, ?_⟩) rfl rfl (by omega) (by omega)
      · rw [if_pos h4] at P
        exact P
      · rw [if_neg h4] at P
        refine nm_r (pk_div (d := 4) hw2 (by decide) (by decide)) (ih (w / 4) n (by omega) ?_ (by omega) P)
        rw [Nat.pow_succ] at hw
        omega
/-- a term or none, on both sides -/
theorem cm_term (x : Int32) : (∃ t, x = nI t ∧ cm_VT t ∧ (∀ post : Int32 → Prop, post 0 → wpX_badTerm post (cm_X R nf fr nc ch M D H) x) ∧ (∀ post : Int32 → Prop, post 1 → wpY_isTerm post (cm_Y Q tp cl N S rt rp ro) x)) ∨ ((∀ post : Int32 → Prop, post 1 → wpX_badTerm post (cm_X R nf fr nc ch M D H) x) ∧ (∀ post : Int32 → Prop, post 0 → wpY_isTerm post (cm_Y Q tp cl N S rt rp ro) x)) := by
  by_cases hx : x < 0
  · refine Or.inr ⟨fun post P => ?_, fun post P => ?_⟩
    · unfold wpX_badTerm cm_X
      dsimp only
      exact br_f (Int32.not_le.mpr hx) P
    · unfold wpY_isTerm cm_Y
      dsimp only
      exact br_t hx P
  · obtain ⟨t, ht, rfl⟩ := nI_of hx
    have X : ∀ post : Int32 → Prop, post (nI (cm_bt 5 (t / 7))) → wpX_badTerm post (cm_X R nf fr nc ch M D H) (nI t) := by
      intro post P
      unfold wpX_badTerm cm_X
      dsimp only
      refine br_t (nI_pos' ht) ⟨by decide, nm_r (pk_div (d := 7) ht (by decide) (by decide)) ⟨6, ?_⟩⟩
      exact cm_x_bt_l (nf := nf) (M := M) (H := H) 5 (t / 7) 0 6 (by omega) (by omega) (by omega) P
    have Y : ∀ post : Int32 → Prop, post (nI (1 - cm_bt 5 (t / 7))) → wpY_isTerm post (cm_Y Q tp cl N S rt rp ro) (nI t) := by
      intro post P
      unfold wpY_isTerm cm_Y
      dsimp only
      have e7 : nI t / 7 = nI (t / 7) := pk_div (d := 7) ht (by decide) (by decide)
      refine br_f hx ⟨by decide, ?_⟩
      rw [e7]
      refine pk_le (t / 7) 255 (fun h => ⟨by decide, nm_e ⟨5, ?_⟩⟩) (fun h => ?_) rfl rfl (by omega) (by omega)
      · exact cm_y_it_l (Q := Q) (tp := tp) (S := S) 4 (t / 7) 5 (by omega) (show t / 7 < 256 by omega) (by omega) P
      · have : cm_bt 5 (t / 7) = 1 := by
          rcases cm_bt_01 5 (t / 7) with z | z
          · have : t / 7 < 256 := cm_bt_lt 4 _ z
            omega
          · exact z
        rw [this] at P
        exact P
    rcases cm_bt_01 5 (t / 7) with z | z
    · rw [z] at X Y
      exact Or.inl ⟨t, rfl, z, X, Y⟩
    · rw [z] at X Y
      exact Or.inr ⟨X, Y⟩
/-- a goal or none, on both sides -/
theorem cm_goalv (p a b : Int32) : (∃ pp ta tb, p = nI pp ∧ a = nI ta ∧ b = nI tb ∧ pp ≤ 3 ∧ cm_VT ta ∧ cm_VT tb ∧ (∀ post : Int32 → Prop, post 0 → wpX_badGoal post (cm_X R nf fr nc ch M D H) p a b) ∧ (∀ post : Int32 → Prop, post 1 → wpY_isGoal post (cm_Y Q tp cl N S rt rp ro) p a b)) ∨ ((∀ post : Int32 → Prop, post 1 → wpX_badGoal post (cm_X R nf fr nc ch M D H) p a b) ∧ (∀ post : Int32 → Prop, post 0 → wpY_isGoal post (cm_Y Q tp cl N S rt rp ro) p a b)) := by
  by_cases h0 : p < 0
  · refine Or.inr ⟨fun post P => ?_, fun post P => ?_⟩
    · unfold wpX_badGoal cm_X
      dsimp only
      exact br_t h0 P
    · unfold wpY_isGoal cm_Y
      dsimp only
      exact br_t h0 P
  by_cases h3 : 3 < p
  · refine Or.inr ⟨fun post P => ?_, fun post P => ?_⟩
    · unfold wpX_badGoal cm_X
      dsimp only
      exact br_f h0 (br_t h3 P)
    · unfold wpY_isGoal cm_Y
      dsimp only
      exact br_f h0 (br_t h3 P)
  obtain ⟨pp, hpp, rfl⟩ := nI_of h0
  have hp3 : pp ≤ 3 := by
    by_cases z : pp ≤ 3
    · exact z
    · exact absurd (nI_lt (a := 3) (by omega) hpp) h3
  rcases cm_term (R := R) (nf := nf) (fr := fr) (nc := nc) (ch := ch) (M := M) (D := D) (H := H) (Q := Q) (tp := tp) (cl := cl) (N := N) (S := S) (rt := rt) (rp := rp) (ro := ro) a with ⟨ta, rfl, va, xa, ya⟩ | ⟨xa, ya⟩
  · rcases cm_term (R := R) (nf := nf) (fr := fr) (nc := nc) (ch := ch) (M := M) (D := D) (H := H) (Q := Q) (tp := tp) (cl := cl) (N := N) (S := S) (rt := rt) (rp := rp) (ro := ro) b with ⟨tb, rfl, vb, xb, yb⟩ | ⟨xb, yb⟩
    · refine Or.inl ⟨pp, ta, tb, rfl, rfl, rfl, hp3, va, vb, fun post P => ?_, fun post P => ?_⟩
      · unfold wpX_badGoal cm_X
        dsimp only
        exact br_f h0 (br_f h3 (xa _ (br_t rfl (xb _ (br_t rfl P)))))
      · unfold wpY_isGoal cm_Y
        dsimp only
        exact br_f h0 (br_f h3 (ya _ (br_f (by decide) (yb _ (br_f (by decide) P)))))
    · refine Or.inr ⟨fun post P => ?_, fun post P => ?_⟩
      · unfold wpX_badGoal cm_X
        dsimp only
        exact br_f h0 (br_f h3 (xa _ (br_t rfl (xb _ (br_f (by decide) P)))))
      · unfold wpY_isGoal cm_Y
        dsimp only
        exact br_f h0 (br_f h3 (ya _ (br_f (by decide) (yb _ (br_t rfl P)))))
  · refine Or.inr ⟨fun post P => ?_, fun post P => ?_⟩
    · unfold wpX_badGoal cm_X
      dsimp only
      exact br_f h0 (br_f h3 (xa _ (br_f (by decide) P)))
    · unfold wpY_isGoal cm_Y
      dsimp only
      exact br_f h0 (br_f h3 (ya _ (br_t rfl P)))
theorem cm_x_put {post : SX → Prop} {at' p a b : Nat} {x : Int32} (h : at' < 36) (ex : x = nI at') (P : post (cm_X (R.1, R.2.1, cm_s R.2.2.1 at' p, cm_s R.2.2.2.1 at' a, cm_s R.2.2.2.2 at' b) nf fr nc ch M D H)) : wpX_put post (cm_X R nf fr nc ch M D H) x (nI p) (nI a) (nI b) := by
  subst ex
  have vi : vp_in (nI at') 36 := vp_in_nI h (by decide)
  unfold wpX_put cm_X
  dsimp only
  exact ⟨vi, nm_r (cm_wr (by omega)) ⟨vi, nm_r (cm_wr (by omega)) ⟨vi, nm_r (cm_wr (by omega)) P⟩⟩⟩
theorem cm_y_put {post : SY → Prop} {r p a b : Nat} {x : Int32} (hr : r < 9) (h : 9 * r + 3 * Q.2.2 r + 2 < 81) (ex : x = nI r) (P : post (cm_Y (Q.1, cm_s (cm_s (cm_s Q.2.1 (9 * r + 3 * Q.2.2 r) p) (9 * r + 3 * Q.2.2 r + 1) a) (9 * r + 3 * Q.2.2 r + 2) b, cm_s Q.2.2 r (Q.2.2 r + 1)) tp cl N S rt rp ro)) : wpY_put post (cm_Y Q tp cl N S rt rp ro) x (nI p) (nI a) (nI b) := by
  subst ex
  have vi : vp_in (nI r) 9 := vp_in_nI hr (by decide)
  unfold wpY_put cm_Y
  dsimp only
  have e1 : (9 : Int32) * nI r + 3 * nI (Q.2.2 r) = nI (9 * r + 3 * Q.2.2 r) := by
    have e2 : (9 : Int32) * nI r = nI (9 * r) := pk_mul 9 r
    have e3 : (3 : Int32) * nI (Q.2.2 r) = nI (3 * Q.2.2 r) := pk_mul 3 _
    rw [e2, e3, nI_add]
  have ea : nI (9 * r + 3 * Q.2.2 r) + 1 = nI (9 * r + 3 * Q.2.2 r + 1) := nI_1 _
  have eb : nI (9 * r + 3 * Q.2.2 r) + 2 = nI (9 * r + 3 * Q.2.2 r + 2) := nI_add _ 2
  refine ⟨vi, nm_r (e' := nI (9 * r + 3 * Q.2.2 r)) (by rw [cm_rd (by omega), e1]) ⟨vp_in_nI (by omega) (by decide), nm_r (cm_wr (by omega)) ?_⟩⟩
  rw [ea, eb]
  refine ⟨vp_in_nI (by omega) (by decide), nm_r (cm_wr (by omega)) ⟨vp_in_nI (by omega) (by decide), nm_r (cm_wr (by omega)) ⟨vi, vi, ?_⟩⟩⟩
  rw [cm_rd (by omega), nI_1]
  exact nm_r (cm_wr (by omega)) P
end cmB1
theorem cm_G_keep {R : cm_RT} {Q : cm_QT} {A B a b p ta tb r' q' : Nat} {g' z' : Nat → Nat} (h : cm_G R Q a b) (hx : b ≠ B) (hy : a + 2 < A ∨ A + 2 < a) : cm_G (r', g', cm_s R.2.2.1 B p, cm_s R.2.2.2.1 B ta, cm_s R.2.2.2.2 B tb) (q', cm_s (cm_s (cm_s Q.2.1 A p) (A + 1) ta) (A + 2) tb, z') a b := by
  unfold cm_G at h ⊢
  dsimp only
  rw [cm_sn hx, cm_sn hx, cm_sn hx]
  rw [cm_sn (show a ≠ A + 2 by omega), cm_sn (show a ≠ A + 1 by omega), cm_sn (show a ≠ A by omega)]
  rw [cm_sn (show a + 1 ≠ A + 2 by omega), cm_sn (show a + 1 ≠ A + 1 by omega), cm_sn (show a + 1 ≠ A by omega)]
  rw [cm_sn (show a + 2 ≠ A + 2 by omega), cm_sn (show a + 2 ≠ A + 1 by omega), cm_sn (show a + 2 ≠ A by omega)]
  exact h
theorem cm_G_put {R : cm_RT} {Q : cm_QT} {A B p ta tb r' q' : Nat} {g' z' : Nat → Nat} (hp : p ≤ 3) (ha : cm_VT ta) (hb : cm_VT tb) : cm_G (r', g', cm_s R.2.2.1 B p, cm_s R.2.2.2.1 B ta, cm_s R.2.2.2.2 B tb) (q', cm_s (cm_s (cm_s Q.2.1 A p) (A + 1) ta) (A + 2) tb, z') A B := by
  unfold cm_G
  dsimp only
  rw [cm_ss, cm_ss, cm_ss]
  rw [cm_sn (show A ≠ A + 2 by omega), cm_sn (show A ≠ A + 1 by omega), cm_ss]
  rw [cm_sn (show A + 1 ≠ A + 2 by omega), cm_ss, cm_ss]
  exact ⟨rfl, rfl, rfl, hp, ha, hb⟩
theorem cm_RQ_rule {R : cm_RT} {Q : cm_QT} {p ta tb : Nat} (h : cm_RQ R Q) (hr : R.1 < 8) (hp : p ≤ 3) (ha : cm_VT ta) (hb : cm_VT tb) :
    cm_RQ (R.1 + 1, cm_s R.2.1 R.1 0, cm_s R.2.2.1 (R.1 * 4) p, cm_s R.2.2.2.1 (R.1 * 4) ta, cm_s R.2.2.2.2 (R.1 * 4) tb) (Q.1 + 1, cm_s (cm_s (cm_s Q.2.1 (9 * R.1) p) (9 * R.1 + 1) ta) (9 * R.1 + 2) tb, cm_s Q.2.2 R.1 1) := by
  obtain ⟨q1, q2, q3, q4, q5, q6⟩ := h
  refine ⟨by dsimp only; omega, by dsimp only; omega, fun r hr' => ?_, ?_, ?_, fun j hj => ?_⟩
  · dsimp only at hr' ⊢
    by_cases e : r = R.1
    · subst e
      rw [cm_ss, cm_ss]
      refine ⟨by omega, rfl, fun j hj => ?_⟩
      have e : j = 0 := by omega
      subst e
      exact cm_G_put hp ha hb
    · rw [cm_sn e, cm_sn e]
      obtain ⟨z1, z2, z3⟩ := q3 r (by omega)
      exact ⟨z1, z2, fun j hj => cm_G_keep (z3 j hj) (by omega) (Or.inl (by omega))⟩
  · dsimp only
    rw [cm_sn (by omega)]
    exact q4
  · dsimp only
    rw [cm_sn (by omega), cm_sn (by omega)]
    exact q5
  · dsimp only at hj
    rw [cm_sn (by omega)] at hj
    exact cm_G_keep (q6 j hj) (by omega) (Or.inr (by omega))
theorem cm_RQ_body {R : cm_RT} {Q : cm_QT} {r p ta tb : Nat} (h : cm_RQ R Q) (hr : r < R.1) (hg : R.2.1 r < 2) (hp : p ≤ 3) (ha : cm_VT ta) (hb : cm_VT tb) :
    cm_RQ (R.1, cm_s R.2.1 r (R.2.1 r + 1), cm_s R.2.2.1 (r * 4 + (R.2.1 r + 1)) p, cm_s R.2.2.2.1 (r * 4 + (R.2.1 r + 1)) ta, cm_s R.2.2.2.2 (r * 4 + (R.2.1 r + 1)) tb) (Q.1, cm_s (cm_s (cm_s Q.2.1 (9 * r + 3 * (R.2.1 r + 1)) p) (9 * r + 3 * (R.2.1 r + 1) + 1) ta) (9 * r + 3 * (R.2.1 r + 1) + 2) tb, cm_s Q.2.2 r (R.2.1 r + 1 + 1)) := by
  obtain ⟨q1, q2, q3, q4, q5, q6⟩ := h
  refine ⟨q1, q2, fun r' hr' => ?_, ?_, ?_, fun j hj => ?_⟩
  · dsimp only at hr' ⊢
    by_cases e : r' = r
    · subst e
      rw [cm_ss, cm_ss]
      refine ⟨by omega, rfl, fun j hj => ?_⟩
      by_cases e : j = R.2.1 r' + 1
      · subst e
        exact cm_G_put hp ha hb
      · exact cm_G_keep ((q3 r' hr).2.2 j (by omega)) (by omega) (Or.inl (by omega))
    · rw [cm_sn e, cm_sn e]
      obtain ⟨z1, z2, z3⟩ := q3 r' (by omega)
      refine ⟨z1, z2, fun j hj => cm_G_keep (z3 j hj) (by omega) ?_⟩
      by_cases z : r' < r
      · exact Or.inl (by omega)
      · exact Or.inr (by omega)
  · dsimp only
    rw [cm_sn (by omega)]
    exact q4
  · dsimp only
    rw [cm_sn (by omega), cm_sn (by omega)]
    exact q5
  · dsimp only at hj
    rw [cm_sn (by omega)] at hj
    exact cm_G_keep (q6 j hj) (by omega) (Or.inr (by omega))
theorem cm_RQ_ask {R : cm_RT} {Q : cm_QT} {p ta tb : Nat} (h : cm_RQ R Q) (hg : R.2.1 8 < 3) (hp : p ≤ 3) (ha : cm_VT ta) (hb : cm_VT tb) :
    cm_RQ (R.1, cm_s R.2.1 8 (R.2.1 8 + 1), cm_s R.2.2.1 (8 * 4 + R.2.1 8 + 1) p, cm_s R.2.2.2.1 (8 * 4 + R.2.1 8 + 1) ta, cm_s R.2.2.2.2 (8 * 4 + R.2.1 8 + 1) tb) (Q.1, cm_s (cm_s (cm_s Q.2.1 (72 + 3 * R.2.1 8) p) (72 + 3 * R.2.1 8 + 1) ta) (72 + 3 * R.2.1 8 + 2) tb, cm_s Q.2.2 8 (R.2.1 8 + 1)) := by
  obtain ⟨q1, q2, q3, q4, q5, q6⟩ := h
  refine ⟨q1, q2, fun r' hr' => ?_, ?_, ?_, fun j hj => ?_⟩
  · dsimp only at hr' ⊢
    rw [cm_sn (by omega), cm_sn (by omega)]
    obtain ⟨z1, z2, z3⟩ := q3 r' (by omega)
    exact ⟨z1, z2, fun j hj => cm_G_keep (z3 j hj) (by omega) (Or.inl (by omega))⟩
  · dsimp only
    rw [cm_ss]
    omega
  · dsimp only
    rw [cm_ss, cm_ss]
  · dsimp only at hj
    rw [cm_ss] at hj
    by_cases e : j = R.2.1 8
    · subst e
      exact cm_G_put hp ha hb
    · exact cm_G_keep (q6 j (by omega)) (by omega) (Or.inl (by omega))
end
section
/-! the calls that change rules and question -/
theorem i_vc0 : wpX_init (fun u => wpY_init (fun v => i_Rel 0 u v)) := by
  unfold wpX_init wpY_init
  refine ⟨(0, fun _ => 0, fun _ => 0, fun _ => 0, fun _ => 0), 0, fun _ => (0, 0, 0, 0), 0, fun _ => (0, 0, 0, 0, 0, 0, 0, 0, 0), (0, 0, 0, 0, 0, 0, 0, 0), (0, fun _ => 0), (0, 0, fun _ => 0, fun _ => 0, fun _ => 0, fun _ => 0), (0, fun _ => 0, fun _ => 0), 0, fun _ => (0, 0, 0, 0, 0), (0, 0, 0), cm_S0, fun _ => 0, fun _ => 0, fun _ => 0, rfl, rfl, ⟨rfl, by decide, fun r hr => ?_, by decide, rfl, fun j hj => ?_⟩, cm_EY_refl _, by decide⟩
  · exact absurd hr (Nat.not_lt_zero r)
  · exact absurd hj (Nat.not_lt_zero j)
theorem i_vc_rules {k : Nat} {u : SX} {v : SY} (I : i_Rel k u v) (hk : k + 4 ≤ 2048) : wpX_rules (fun r => wpY_rules (fun r' => r' = r ∧ i_Rel (k + 4) u v) v) u := by
  have I2 : i_Rel (k + 4) u v := I
  obtain ⟨R, nf, fr, nc, ch, M, D, H, Q, tp, cl, N, S, rt, rp, ro, rfl, rfl, hRQ, hE, hS⟩ := I
  refine And.intro ?_ I2
  show nI Q.1 = nI R.1
  rw [hRQ.1]
theorem i_vc_forget {k : Nat} {u : SX} {v : SY} (I : i_Rel k u v) (hk : k + 4 ≤ 2048) : wpX_forget (fun u' => wpY_forget (fun v' => i_Rel (k + 4) u' v') v) u := by
  obtain ⟨R, nf, fr, nc, ch, M, D, H, Q, tp, cl, N, S, rt, rp, ro, rfl, rfl, hRQ, hE, hS⟩ := I
  unfold wpX_forget cm_X
  dsimp only
  refine nm_r (cm_up R.2.1 8 0) ?_
  unfold wpY_forget cm_Y
  dsimp only
  refine nm_r (cm_up Q.2.2 8 0) ?_
  refine ⟨(R.1, cm_s R.2.1 8 0, R.2.2.1, R.2.2.2.1, R.2.2.2.2), nf, fr, nc, ch, M, D, H, (Q.1, Q.2.1, cm_s Q.2.2 8 0), tp, cl, N, S, rt, rp, ro, rfl, rfl, ?_, hE, hS⟩
  obtain ⟨q1, q2, q3, q4, q5, q6⟩ := hRQ
  refine ⟨q1, q2, fun r hr => ?_, ?_, ?_, fun j hj => ?_⟩
  · dsimp only at hr ⊢
    rw [cm_sn (by omega), cm_sn (by omega)]
    exact q3 r hr
  · dsimp only
    rw [cm_ss]
    omega
  · dsimp only
    rw [cm_ss, cm_ss]
  · dsimp only at hj
    rw [cm_ss] at hj
    omega
theorem i_vc_unrule {k : Nat} {u : SX} {v : SY} (I : i_Rel k u v) (hk : k + 4 ≤ 2048) : wpX_unrule (fun r u' => wpY_unrule (fun r' v' => r' = r ∧ i_Rel (k + 4) u' v') v) u := by
  have I2 : i_Rel (k + 4) u v := I
  obtain ⟨R, nf, fr, nc, ch, M, D, H, Q, tp, cl, N, S, rt, rp, ro, rfl, rfl, hRQ, hE, hS⟩ := I
  obtain ⟨q1, q2, q3, q4, q5, q6⟩ := hRQ
  have X0 : wpX_unrule (fun r u' => wpY_unrule (fun r' v' => r' = r ∧ i_Rel (k + 4) u' v') (cm_Y Q tp cl N S rt rp ro)) (cm_X R nf fr nc ch M D H) := by
    by_cases h0 : R.1 = 0
    · unfold wpX_unrule cm_X
      dsimp only
      refine br_t (by rw [h0]; rfl) ?_
      unfold wpY_unrule cm_Y
      dsimp only
      exact br_t (by rw [q1, h0]; rfl) ⟨rfl, I2⟩
    · unfold wpX_unrule cm_X
      dsimp only
      refine br_f (nI_ne0 (by omega) (by omega)) (nm_r (cm_sub1 (by omega)) ?_)
      unfold wpY_unrule cm_Y
      dsimp only
      rw [q1]
      refine br_f (nI_ne0 (by omega) (by omega)) (nm_r (cm_sub1 (by omega)) ⟨rfl, ?_⟩)
      refine ⟨(R.1 - 1, R.2.1, R.2.2.1, R.2.2.2.1, R.2.2.2.2), nf, fr, nc, ch, M, D, H, (R.1 - 1, Q.2.1, Q.2.2), tp, cl, N, S, rt, rp, ro, rfl, rfl, ⟨rfl, by dsimp only; omega, fun r hr => ?_, q4, q5, q6⟩, hE, hS⟩
      dsimp only at hr
      exact q3 r (by omega)
  exact X0
theorem i_vc_rule {k : Nat} {u : SX} {v : SY} (I : i_Rel k u v) (hk : k + 4 ≤ 2048) (v1 : Int32) (v2 : Int32) (v3 : Int32) : wpX_rule (fun r u' => wpY_rule (fun r' v' => r' = r ∧ i_Rel (k + 4) u' v') v v1 v2 v3) u v1 v2 v3 := by
  have I2 : i_Rel (k + 4) u v := I
  obtain ⟨R, nf, fr, nc, ch, M, D, H, Q, tp, cl, N, S, rt, rp, ro, rfl, rfl, hRQ, hE, hS⟩ := I
  have q1 := hRQ.1
  have q2 := hRQ.2.1
  unfold wpX_rule cm_X
  dsimp only
  rcases cm_goalv (R := R) (nf := nf) (fr := fr) (nc := nc) (ch := ch) (M := M) (D := D) (H := H) (Q := Q) (tp := tp) (cl := cl) (N := N) (S := S) (rt := rt) (rp := rp) (ro := ro) v1 v2 v3 with ⟨pp, ta, tb, rfl, rfl, rfl, hp, va, vb, gx, gy⟩ | ⟨gx, gy⟩
  · refine gx _ (br_t rfl (pk_eq R.1 8 (fun h8 => ?_) (fun h8 => ?_) rfl rfl (by omega) (by omega)))
    · unfold wpY_rule cm_Y
      dsimp only
      exact gy _ (br_f (by decide) (br_t (by rw [q1, h8]; rfl) ⟨rfl, I2⟩))
    · have e4 : nI R.1 * 4 = nI (R.1 * 4) := pk_mul R.1 4
      rw [e4]
      show wpX_put _ (cm_X R nf fr nc ch M D H) _ _ _ _
      refine cm_x_put (at' := R.1 * 4) (by omega) rfl ⟨vp_in_nI (by omega) (by decide), nm_r (cm_wr (v := 0) (by omega)) (nm_r (nI_1 R.1) ?_)⟩
      rw [nI_pred]
      unfold wpY_rule cm_Y
      dsimp only
      refine gy _ (br_f (by decide) (br_f ?_ ?_))
      · rw [q1]; exact fun z => h8 ((nI_eq (b := 8) (by omega) (by omega)).mp z)
      · rw [q1]
        refine ⟨vp_in_nI (by omega) (by decide), nm_r (cm_wr (v := 0) (by omega)) ?_⟩
        have e0 : cm_s Q.2.2 R.1 0 R.1 = 0 := cm_ss
        show wpY_put _ (cm_Y ((R.1, Q.2.1, cm_s Q.2.2 R.1 0)) tp cl N S rt rp ro) _ _ _ _
        refine cm_y_put (r := R.1) (by omega) (by show 9 * R.1 + 3 * cm_s Q.2.2 R.1 0 R.1 + 2 < 81; rw [e0]; omega) rfl (nm_r (nI_1 R.1) ⟨nI_pred R.1, ?_⟩)
        refine ⟨(R.1 + 1, cm_s R.2.1 R.1 0, cm_s R.2.2.1 (R.1 * 4) pp, cm_s R.2.2.2.1 (R.1 * 4) ta, cm_s R.2.2.2.2 (R.1 * 4) tb), nf, fr, nc, ch, M, D, H, (R.1 + 1, cm_s (cm_s (cm_s Q.2.1 (9 * R.1 + 3 * cm_s Q.2.2 R.1 0 R.1) pp) (9 * R.1 + 3 * cm_s Q.2.2 R.1 0 R.1 + 1) ta) (9 * R.1 + 3 * cm_s Q.2.2 R.1 0 R.1 + 2) tb, cm_s (cm_s Q.2.2 R.1 0) R.1 (cm_s Q.2.2 R.1 0 R.1 + 1)), tp, cl, N, S, rt, rp, ro, rfl, rfl, ?_, hE, hS⟩
        rw [e0, cm_s2]
        have := cm_RQ_rule hRQ (by omega) hp va vb
        rw [q1] at this
        exact this
  · refine gx _ (br_f (by decide) ?_)
    unfold wpY_rule cm_Y
    dsimp only
    exact gy _ (br_t rfl ⟨rfl, I2⟩)
theorem i_vc_body {k : Nat} {u : SX} {v : SY} (I : i_Rel k u v) (hk : k + 4 ≤ 2048) (v1 : Int32) (v2 : Int32) (v3 : Int32) : wpX_body (fun r u' => wpY_body (fun r' v' => r' = r ∧ i_Rel (k + 4) u' v') v v1 v2 v3) u v1 v2 v3 := by
  have I2 : i_Rel (k + 4) u v := I
  obtain ⟨R, nf, fr, nc, ch, M, D, H, Q, tp, cl, N, S, rt, rp, ro, rfl, rfl, hRQ, hE, hS⟩ := I
  have q1 := hRQ.1
  have q2 := hRQ.2.1
  unfold wpX_body cm_X
  dsimp only
  rcases cm_goalv (R := R) (nf := nf) (fr := fr) (nc := nc) (ch := ch) (M := M) (D := D) (H := H) (Q := Q) (tp := tp) (cl := cl) (N := N) (S := S) (rt := rt) (rp := rp) (ro := ro) v1 v2 v3 with ⟨pp, ta, tb, rfl, rfl, rfl, hp, va, vb, gx, gy⟩ | ⟨gx, gy⟩
  · refine gx _ (br_t rfl (pk_eq R.1 0 (fun h0 => ?_) (fun h0 => ?_) rfl rfl (by omega) (by omega)))
    · unfold wpY_body cm_Y
      dsimp only
      exact gy _ (br_f (by decide) (br_t (by rw [q1, h0]; rfl) ⟨rfl, I2⟩))
    · obtain ⟨z1, z2, z3⟩ := hRQ.2.2.1 (R.1 - 1) (by omega)
      have vi : vp_in (nI (R.1 - 1)) 9 := vp_in_nI (by omega) (by decide)
      refine nm_r (cm_sub1 (by omega)) ⟨vi, ?_⟩
      rw [cm_rd (by omega)]
      refine pk_eq (R.2.1 (R.1 - 1)) 2 (fun h2 => ?_) (fun h2 => ⟨vi, vi, ?_⟩) rfl rfl (by omega) (by omega)
      · unfold wpY_body cm_Y
        dsimp only
        refine gy _ (br_f (by decide) (br_f (by rw [q1]; exact nI_ne0 (by omega) (by omega)) ?_))
        rw [q1, cm_sub1 (by omega)]
        refine ⟨vi, ?_⟩
        rw [cm_rd (by omega), z2, h2]
        exact br_t rfl ⟨rfl, R, nf, fr, nc, ch, M, D, H, (R.1, Q.2.1, Q.2.2), tp, cl, N, S, rt, rp, ro, rfl, rfl, ⟨rfl, hRQ.2⟩, hE, hS⟩
      · rw [nI_1]
        refine nm_r (cm_wr (by omega)) ⟨vi, ?_⟩
        have e4 : nI (R.1 - 1) * 4 + cm_A (cm_s R.2.1 (R.1 - 1) (R.2.1 (R.1 - 1) + 1)) (nI (R.1 - 1)).toNatClampNeg = nI ((R.1 - 1) * 4 + (R.2.1 (R.1 - 1) + 1)) := by
          have e5 : nI (R.1 - 1) * 4 = nI ((R.1 - 1) * 4) := pk_mul _ 4
          rw [cm_rd (by omega), cm_ss, e5, nI_add]
        rw [e4]
        show wpX_put _ (cm_X (R.1, cm_s R.2.1 (R.1 - 1) (R.2.1 (R.1 - 1) + 1), R.2.2.1, R.2.2.2.1, R.2.2.2.2) nf fr nc ch M D H) _ _ _ _
        refine cm_x_put (R := (R.1, cm_s R.2.1 (R.1 - 1) (R.2.1 (R.1 - 1) + 1), R.2.2.1, R.2.2.2.1, R.2.2.2.2)) (at' := (R.1 - 1) * 4 + (R.2.1 (R.1 - 1) + 1)) (by omega) rfl ⟨vi, ?_⟩
        have er : cm_A (cm_s R.2.1 (R.1 - 1) (R.2.1 (R.1 - 1) + 1)) (nI (R.1 - 1)).toNatClampNeg = nI (R.2.1 (R.1 - 1) + 1) := by rw [cm_rd (by omega), cm_ss]
        show wpY_body (fun r' v' => r' = cm_A (cm_s R.2.1 (R.1 - 1) (R.2.1 (R.1 - 1) + 1)) (nI (R.1 - 1)).toNatClampNeg ∧ i_Rel (k + 4) _ v') (cm_Y Q tp cl N S rt rp ro) _ _ _
        rw [er]
        unfold wpY_body cm_Y
        dsimp only
        refine gy _ (br_f (by decide) (br_f (by rw [q1]; exact nI_ne0 (by omega) (by omega)) ?_))
        rw [q1, cm_sub1 (by omega)]
        refine ⟨vi, ?_⟩
        rw [cm_rd (by omega)]
        refine br_f (fun z => h2 ?_) ?_
        · have := (nI_eq (b := 3) (by omega) (by omega)).mp z
          omega
        · show wpY_put _ (cm_Y ((R.1, Q.2.1, Q.2.2)) tp cl N S rt rp ro) _ _ _ _
          refine cm_y_put (Q := (R.1, Q.2.1, Q.2.2)) (r := R.1 - 1) (by omega) (by show 9 * (R.1 - 1) + 3 * Q.2.2 (R.1 - 1) + 2 < 81; omega) rfl ?_
          have ev : nI R.1 - 1 = nI (R.1 - 1) := cm_sub1 (by omega)
          have es : cm_A (cm_s Q.2.2 (R.1 - 1) (Q.2.2 (R.1 - 1) + 1)) (nI R.1 - 1).toNatClampNeg - 1 = nI (R.2.1 (R.1 - 1) + 1) := by
            rw [ev, cm_rd (by omega), cm_ss, nI_pred, z2]
          refine ⟨by show vp_in (nI R.1 - 1) 9; rw [ev]; exact vi, es, ?_⟩
          refine ⟨(R.1, cm_s R.2.1 (R.1 - 1) (R.2.1 (R.1 - 1) + 1), cm_s R.2.2.1 ((R.1 - 1) * 4 + (R.2.1 (R.1 - 1) + 1)) pp, cm_s R.2.2.2.1 ((R.1 - 1) * 4 + (R.2.1 (R.1 - 1) + 1)) ta, cm_s R.2.2.2.2 ((R.1 - 1) * 4 + (R.2.1 (R.1 - 1) + 1)) tb), nf, fr, nc, ch, M, D, H, (R.1, cm_s (cm_s (cm_s Q.2.1 (9 * (R.1 - 1) + 3 * Q.2.2 (R.1 - 1)) pp) (9 * (R.1 - 1) + 3 * Q.2.2 (R.1 - 1) + 1) ta) (9 * (R.1 - 1) + 3 * Q.2.2 (R.1 - 1) + 2) tb, cm_s Q.2.2 (R.1 - 1) (Q.2.2 (R.1 - 1) + 1)), tp, cl, N, S, rt, rp, ro, rfl, rfl, ?_, hE, hS⟩
          rw [z2]
          have := cm_RQ_body (r := R.1 - 1) hRQ (by omega) (by omega) hp va vb
          rw [q1] at this
          exact this
  · refine gx _ (br_f (by decide) ?_)
    unfold wpY_body cm_Y
    dsimp only
    exact gy _ (br_t rfl ⟨rfl, I2⟩)
theorem i_vc_ask {k : Nat} {u : SX} {v : SY} (I : i_Rel k u v) (hk : k + 4 ≤ 2048) (v1 : Int32) (v2 : Int32) (v3 : Int32) : wpX_ask (fun r u' => wpY_ask (fun r' v' => r' = r ∧ i_Rel (k + 4) u' v') v v1 v2 v3) u v1 v2 v3 := by
  have I2 : i_Rel (k + 4) u v := I
  obtain ⟨R, nf, fr, nc, ch, M, D, H, Q, tp, cl, N, S, rt, rp, ro, rfl, rfl, hRQ, hE, hS⟩ := I
  have q4 := hRQ.2.2.2.1
  have q5 := hRQ.2.2.2.2.1
  unfold wpX_ask cm_X
  dsimp only
  rcases cm_goalv (R := R) (nf := nf) (fr := fr) (nc := nc) (ch := ch) (M := M) (D := D) (H := H) (Q := Q) (tp := tp) (cl := cl) (N := N) (S := S) (rt := rt) (rp := rp) (ro := ro) v1 v2 v3 with ⟨pp, ta, tb, rfl, rfl, rfl, hp, va, vb, gx, gy⟩ | ⟨gx, gy⟩
  · refine gx _ (br_t rfl (pk_eq (R.2.1 8) 3 (fun h3 => ?_) (fun h3 => ?_) rfl rfl (by omega) (by omega)))
    · unfold wpY_ask cm_Y
      dsimp only
      exact gy _ (br_f (by decide) (br_t (by show nI (Q.2.2 8) = 3; rw [q5, h3]; rfl) ⟨rfl, I2⟩))
    · have e4 : 32 + cm_A R.2.1 8 + 1 = nI (8 * 4 + R.2.1 8 + 1) := by
        show 32 + nI (R.2.1 8) + 1 = _
        have e5 : 32 + nI (R.2.1 8) = nI (32 + R.2.1 8) := nI_add 32 _
        rw [e5, nI_1]
      rw [e4]
      show wpX_put _ (cm_X R nf fr nc ch M D H) _ _ _ _
      refine cm_x_put (at' := 8 * 4 + R.2.1 8 + 1) (by omega) rfl ?_
      have e6 : cm_A R.2.1 8 + 1 = nI (R.2.1 8 + 1) := nI_1 _
      refine nm_r (e' := cm_A (cm_s R.2.1 8 (R.2.1 8 + 1))) (by
        show upd (cm_A R.2.1) 8 (cm_A R.2.1 8 + 1) = _
        rw [e6, cm_up]) ?_
      unfold wpY_ask cm_Y
      dsimp only
      refine gy _ (br_f (by decide) (br_f (fun z => h3 ?_) ?_))
      · have := (nI_eq (a := Q.2.2 8) (b := 3) (by omega) (by omega)).mp z
        omega
      · show wpY_put _ (cm_Y Q tp cl N S rt rp ro) (nI 8) _ _ _
        refine cm_y_put (r := 8) (by decide) (by omega) rfl ⟨?_, ?_⟩
        · show nI (cm_s Q.2.2 8 (Q.2.2 8 + 1) 8) = nI (cm_s R.2.1 8 (R.2.1 8 + 1) 8)
          rw [cm_ss, cm_ss, q5]
        · refine ⟨(R.1, cm_s R.2.1 8 (R.2.1 8 + 1), cm_s R.2.2.1 (8 * 4 + R.2.1 8 + 1) pp, cm_s R.2.2.2.1 (8 * 4 + R.2.1 8 + 1) ta, cm_s R.2.2.2.2 (8 * 4 + R.2.1 8 + 1) tb), nf, fr, nc, ch, M, D, H, (Q.1, cm_s (cm_s (cm_s Q.2.1 (9 * 8 + 3 * Q.2.2 8) pp) (9 * 8 + 3 * Q.2.2 8 + 1) ta) (9 * 8 + 3 * Q.2.2 8 + 2) tb, cm_s Q.2.2 8 (Q.2.2 8 + 1)), tp, cl, N, S, rt, rp, ro, rfl, rfl, ?_, hE, hS⟩
          rw [q5]
          exact cm_RQ_ask hRQ (by omega) hp va vb
  · refine gx _ (br_f (by decide) ?_)
    unfold wpY_ask cm_Y
    dsimp only
    exact gy _ (br_t rfl ⟨rfl, I2⟩)
end
section
/-! two rules change places -/
def cm_w4 (f : Nat → Nat) (i j n : Nat) : Nat → Nat := fun x => if x / 4 = i ∧ x % 4 < n then f (j * 4 + x % 4) else if x / 4 = j ∧ x % 4 < n then f (i * 4 + x % 4) else f x
def cm_w9 (f : Nat → Nat) (i j n : Nat) : Nat → Nat := fun x => if x / 9 = i ∧ x % 9 < n then f (9 * j + x % 9) else if x / 9 = j ∧ x % 9 < n then f (9 * i + x % 9) else f x
theorem cm_w4_0 (f : Nat → Nat) (i j : Nat) : cm_w4 f i j 0 = f := by
  funext x
  unfold cm_w4
  rw [if_neg (by omega), if_neg (by omega)]
theorem cm_w9_0 (f : Nat → Nat) (i j : Nat) : cm_w9 f i j 0 = f := by
  funext x
  unfold cm_w9
  rw [if_neg (by omega), if_neg (by omega)]
theorem cm_w4_at (f : Nat → Nat) (i j n r : Nat) (hn : n < 4) : cm_w4 f i j n (r * 4 + n) = f (r * 4 + n) := by
  unfold cm_w4
  rw [if_neg (by omega), if_neg (by omega)]
theorem cm_w9_at (f : Nat → Nat) (i j n r : Nat) (hn : n < 9) : cm_w9 f i j n (9 * r + n) = f (9 * r + n) := by
  unfold cm_w9
  rw [if_neg (by omega), if_neg (by omega)]
theorem cm_w4_s (f : Nat → Nat) (i j n : Nat) (hn : n < 4) : cm_s (cm_s (cm_w4 f i j n) (i * 4 + n) (f (j * 4 + n))) (j * 4 + n) (f (i * 4 + n)) = cm_w4 f i j (n + 1) := by
  funext x
  by_cases e1 : x = j * 4 + n
  · subst e1
    rw [cm_ss]
    unfold cm_w4
    have h1 : (j * 4 + n) / 4 = j := by omega
    have h2 : (j * 4 + n) % 4 = n := by omega
    rw [h1, h2]
    by_cases e : j = i
    · rw [if_pos ⟨e, by omega⟩, e]
    · rw [if_neg (fun z => e z.1), if_pos ⟨rfl, by omega⟩]
  · rw [cm_sn e1]
    by_cases e2 : x = i * 4 + n
    · subst e2
      rw [cm_ss]
      unfold cm_w4
      rw [if_pos (by omega), show (i * 4 + n) % 4 = n by omega]
    · rw [cm_sn e2]
      unfold cm_w4
      by_cases c1 : x / 4 = i ∧ x % 4 < n
      · rw [if_pos c1, if_pos (by omega)]
      · rw [if_neg c1, if_neg (show ¬ (x / 4 = i ∧ x % 4 < n + 1) by omega)]
        by_cases c2 : x / 4 = j ∧ x % 4 < n
        · rw [if_pos c2, if_pos (by omega)]
        · rw [if_neg c2, if_neg (by omega)]
theorem cm_w9_s (f : Nat → Nat) (i j n : Nat) (hn : n < 9) : cm_s (cm_s (cm_w9 f i j n) (9 * i + n) (f (9 * j + n))) (9 * j + n) (f (9 * i + n)) = cm_w9 f i j (n + 1) := by
  funext x
  by_cases e1 : x = 9 * j + n
  · subst e1
    rw [cm_ss]
    unfold cm_w9
    have h1 : (9 * j + n) / 9 = j := by omega
    have h2 : (9 * j + n) % 9 = n := by omega
    rw [h1, h2]
    by_cases e : j = i
    · rw [if_pos ⟨e, by omega⟩, e]
    · rw [if_neg (fun z => e z.1), if_pos ⟨rfl, by omega⟩]
  · rw [cm_sn e1]
    by_cases e2 : x = 9 * i + n
    · subst e2
      rw [cm_ss]
      unfold cm_w9
      rw [if_pos (by omega), show (9 * i + n) % 9 = n by omega]
    · rw [cm_sn e2]
      unfold cm_w9
      by_cases c1 : x / 9 = i ∧ x % 9 < n
      · rw [if_pos c1, if_pos (by omega)]
      · rw [if_neg c1, if_neg (show ¬ (x / 9 = i ∧ x % 9 < n + 1) by omega)]
        by_cases c2 : x / 9 = j ∧ x % 9 < n
        · rw [if_pos c2, if_pos (by omega)]
        · rw [if_neg c2, if_neg (by omega)]
/-- where a rule comes from -/
def cm_sg (i j r : Nat) : Nat := if r = i then j else if r = j then i else r
theorem cm_w4_4 (f : Nat → Nat) (i j r y : Nat) (hy : y < 4) : cm_w4 f i j 4 (r * 4 + y) = f (cm_sg i j r * 4 + y) := by
  unfold cm_w4 cm_sg
  have h1 : (r * 4 + y) / 4 = r := by omega
  have h2 : (r * 4 + y) % 4 = y := by omega
  rw [h1, h2]
  by_cases e1 : r = i
  · rw [if_pos ⟨e1, hy⟩, if_pos e1]
  · rw [if_neg (fun z => e1 z.1), if_neg e1]
    by_cases e2 : r = j
    · rw [if_pos ⟨e2, hy⟩, if_pos e2]
    · rw [if_neg (fun z => e2 z.1), if_neg e2]
theorem cm_w9_9 (f : Nat → Nat) (i j r y : Nat) (hy : y < 9) : cm_w9 f i j 9 (9 * r + y) = f (9 * cm_sg i j r + y) := by
  unfold cm_w9 cm_sg
  have h1 : (9 * r + y) / 9 = r := by omega
  have h2 : (9 * r + y) % 9 = y := by omega
  rw [h1, h2]
  by_cases e1 : r = i
  · rw [if_pos ⟨e1, hy⟩, if_pos e1]
  · rw [if_neg (fun z => e1 z.1), if_neg e1]
    by_cases e2 : r = j
    · rw [if_pos ⟨e2, hy⟩, if_pos e2]
    · rw [if_neg (fun z => e2 z.1), if_neg e2]
theorem cm_sg_s (f : Nat → Nat) (i j r : Nat) : cm_s (cm_s f i (f j)) j (f i) r = f (cm_sg i j r) := by
  unfold cm_sg
  by_cases e2 : r = j
  · subst e2
    rw [cm_ss]
    by_cases e1 : r = i
    · rw [if_pos e1, e1]
    · rw [if_neg e1, if_pos rfl]
  · rw [cm_sn e2]
    by_cases e1 : r = i
    · subst e1
      rw [cm_ss, if_pos rfl]
    · rw [cm_sn e1, if_neg e1, if_neg e2]
theorem cm_RQ_swap {R : cm_RT} {Q : cm_QT} {i j : Nat} (h : cm_RQ R Q) (hi : i < R.1) (hj : j < R.1) :
    cm_RQ (R.1, cm_s (cm_s R.2.1 i (R.2.1 j)) j (R.2.1 i), cm_w4 R.2.2.1 i j 4, cm_w4 R.2.2.2.1 i j 4, cm_w4 R.2.2.2.2 i j 4) (Q.1, cm_w9 Q.2.1 i j 9, cm_s (cm_s Q.2.2 i (Q.2.2 j)) j (Q.2.2 i)) := by
  obtain ⟨q1, q2, q3, q4, q5, q6⟩ := h
  refine ⟨q1, q2, fun r hr => ?_, ?_, ?_, fun y hy => ?_⟩
  · dsimp only at hr ⊢
    have hs : cm_sg i j r < R.1 := by
      unfold cm_sg
      split
      · exact hj
      · split
        · exact hi
        · exact hr
    obtain ⟨z1, z2, z3⟩ := q3 _ hs
    rw [cm_sg_s, cm_sg_s]
    refine ⟨z1, z2, fun y hy => ?_⟩
    have g := z3 y hy
    unfold cm_G at g ⊢
    dsimp only
    rw [cm_w4_4 _ _ _ _ _ (by omega), cm_w4_4 _ _ _ _ _ (by omega), cm_w4_4 _ _ _ _ _ (by omega)]
    rw [cm_w9_9 _ _ _ _ _ (by omega)]
    rw [show 9 * r + 3 * y + 1 = 9 * r + (3 * y + 1) by omega, cm_w9_9 _ _ _ _ _ (by omega)]
    rw [show 9 * r + 3 * y + 2 = 9 * r + (3 * y + 2) by omega, cm_w9_9 _ _ _ _ _ (by omega)]
    exact g
  · dsimp only
    rw [cm_sn (by omega), cm_sn (by omega)]
    exact q4
  · dsimp only
    rw [cm_sn (by omega), cm_sn (by omega), cm_sn (by omega), cm_sn (by omega)]
    exact q5
  · dsimp only at hy
    rw [cm_sn (by omega), cm_sn (by omega)] at hy
    have g := q6 y hy
    have s8 : cm_sg i j 8 = 8 := by
      unfold cm_sg
      rw [if_neg (by omega), if_neg (by omega)]
    unfold cm_G at g ⊢
    dsimp only
    rw [show 8 * 4 + y + 1 = 8 * 4 + (y + 1) by omega, cm_w4_4 _ _ _ _ _ (by omega), cm_w4_4 _ _ _ _ _ (by omega), cm_w4_4 _ _ _ _ _ (by omega)]
    rw [show 72 + 3 * y = 9 * 8 + 3 * y by omega, cm_w9_9 _ _ _ _ _ (by omega)]
    rw [show 9 * 8 + 3 * y + 1 = 9 * 8 + (3 * y + 1) by omega, cm_w9_9 _ _ _ _ _ (by omega)]
    rw [show 9 * 8 + 3 * y + 2 = 9 * 8 + (3 * y + 2) by omega, cm_w9_9 _ _ _ _ _ (by omega)]
    rw [s8]
    exact g
section cmW1
variable {R : cm_RT} {nf : Nat} {fr : cm_FT} {nc : Nat} {ch : cm_CT} {M : cm_MT} {D : cm_DT} {H : cm_HT} {Q : cm_QT} {tp : Nat} {cl : cm_LT} {N : cm_NT} {S : cm_ST} {rt rp ro : Nat → Nat}
theorem cm_x_swap_l {post : Int32 → SX → Prop} {i j : Nat} (hi : i < 8) (hj : j < 8) (P : post 0 (cm_X (R.1, cm_s (cm_s R.2.1 i (R.2.1 j)) j (R.2.1 i), cm_w4 R.2.2.1 i j 4, cm_w4 R.2.2.2.1 i j 4, cm_w4 R.2.2.2.2 i j 4) nf fr nc ch M D H)) : ∀ q n y, y + q = 4 → q < n → wX_swap_21 post (nI i) (nI j) n (nI y) (nI R.1) (nI H.1) (nI H.2.1) (nI nf) (nI nc) (nI M.1) (nI M.2.1) (nI M.2.2.1) (nI M.2.2.2.1) (nI M.2.2.2.2.1) (nI M.2.2.2.2.2.1) (nI M.2.2.2.2.2.2.1) (nI D.1) (nI M.2.2.2.2.2.2.2) (cm_A R.2.1) (cm_A (cm_w4 R.2.2.1 i j y)) (cm_A (cm_w4 R.2.2.2.1 i j y)) (cm_A (cm_w4 R.2.2.2.2 i j y)) (cm_A H.2.2.1) (cm_A H.2.2.2.1) (cm_A H.2.2.2.2.1) (cm_A H.2.2.2.2.2) (cm_A (fun i => (fr i).1)) (cm_A (fun i => (fr i).2.1)) (cm_A (fun i => (fr i).2.2.1)) (cm_A (fun i => (fr i).2.2.2)) (cm_A (fun i => (ch i).1)) (cm_A (fun i => (ch i).2.1)) (cm_A (fun i => (ch i).2.2.1)) (cm_A (fun i => (ch i).2.2.2.1)) (cm_A (fun i => (ch i).2.2.2.2.1)) (cm_A (fun i => (ch i).2.2.2.2.2.1)) (cm_A (fun i => (ch i).2.2.2.2.2.2.1)) (cm_A (fun i => (ch i).2.2.2.2.2.2.2.1)) (cm_A (fun i => (ch i).2.2.2.2.2.2.2.2)) (cm_A D.2) := by
  intro q
  induction q with
  | zero =>
    intro n y hy hn
    obtain ⟨n, rfl⟩ : ∃ q, n = q + 1 := ⟨n - 1, by omega⟩
    have e : y = 4 := by omega
    subst e
    have vi : vp_in (nI i) 9 := vp_in_nI (by omega) (by decide)
    have vj : vp_in (nI j) 9 := vp_in_nI (by omega) (by decide)
    refine br_t (by decide) ⟨vi, nm_r (cm_rd (by omega)) ⟨vj, vi, ?_⟩⟩
    rw [cm_rd (by omega)]
    exact nm_r (cm_wr (by omega)) ⟨vj, nm_r (cm_wr (by omega)) P⟩
  | succ q ih =>
    intro n y hy hn
    obtain ⟨n, rfl⟩ : ∃ q, n = q + 1 := ⟨n - 1, by omega⟩
    have ei : nI i * 4 + nI y = nI (i * 4 + y) := by
      have : nI i * 4 = nI (i * 4) := pk_mul i 4
      rw [this, nI_add]
    have ej : nI j * 4 + nI y = nI (j * 4 + y) := by
      have : nI j * 4 = nI (j * 4) := pk_mul j 4
      rw [this, nI_add]
    have vi : vp_in (nI (i * 4 + y)) 36 := vp_in_nI (by omega) (by decide)
    have vj : vp_in (nI (j * 4 + y)) 36 := vp_in_nI (by omega) (by decide)
    refine br_f (nI_ge (b := 4) (by omega) (by decide)) ?_
    rw [ei, ej]
    have r1 : ∀ f : Nat → Nat, cm_A (cm_w4 f i j y) (nI (i * 4 + y)).toNatClampNeg = nI (f (i * 4 + y)) := fun f => by rw [cm_rd (by omega), cm_w4_at _ _ _ _ _ (by omega)]
    have r2 : ∀ f : Nat → Nat, cm_A (cm_w4 f i j y) (nI (j * 4 + y)).toNatClampNeg = nI (f (j * 4 + y)) := fun f => by rw [cm_rd (by omega), cm_w4_at _ _ _ _ _ (by omega)]
    refine ⟨vi, nm_r (r1 _) ⟨vi, nm_r (r1 _) ⟨vi, nm_r (r1 _) ⟨vj, vj, vj, ?_⟩⟩⟩⟩
    rw [r2, r2, r2]
    show wpX_put _ (cm_X (R.1, R.2.1, cm_w4 R.2.2.1 i j y, cm_w4 R.2.2.2.1 i j y, cm_w4 R.2.2.2.2 i j y) nf fr nc ch M D H) _ _ _ _
    refine cm_x_put (at' := i * 4 + y) (by omega) rfl ?_
    show wpX_put _ (cm_X (R.1, R.2.1, cm_s (cm_w4 R.2.2.1 i j y) (i * 4 + y) (R.2.2.1 (j * 4 + y)), cm_s (cm_w4 R.2.2.2.1 i j y) (i * 4 + y) (R.2.2.2.1 (j * 4 + y)), cm_s (cm_w4 R.2.2.2.2 i j y) (i * 4 + y) (R.2.2.2.2 (j * 4 + y))) nf fr nc ch M D H) _ _ _ _
    refine cm_x_put (at' := j * 4 + y) (by omega) rfl (nm_r (nI_1 y) ?_)
    have := ih n (y + 1) (by omega) (by omega)
    rw [← cm_w4_s _ _ _ _ (show y < 4 by omega), ← cm_w4_s _ _ _ _ (show y < 4 by omega), ← cm_w4_s _ _ _ _ (show y < 4 by omega)] at this
    exact this
theorem cm_y_swap_l {post : Int32 → SY → Prop} {i j : Nat} (hi : i < 8) (hj : j < 8) (P : post 0 (cm_Y (Q.1, cm_w9 Q.2.1 i j 9, cm_s (cm_s Q.2.2 i (Q.2.2 j)) j (Q.2.2 i)) tp cl N S rt rp ro)) : ∀ q n y, y + q = 9 → q < n → wY_swap_29 post (nI i) (nI j) (nI Q.1) (nI tp) (nI S.1) (nI N.1) (nI N.2.1) (nI N.2.2) n (nI y) (cm_A (cm_w9 Q.2.1 i j y)) (cm_A Q.2.2) (cm_A (fun i => (cl i).1)) (cm_A (fun i => (cl i).2.1)) (cm_A (fun i => (cl i).2.2.1)) (cm_A (fun i => (cl i).2.2.2.1)) (cm_A (fun i => (cl i).2.2.2.2)) (cm_A S.2.1) (cm_A S.2.2.1) (cm_A S.2.2.2.1) (cm_A S.2.2.2.2.1) (cm_A S.2.2.2.2.2) (cm_A rt) (cm_A rp) (cm_A ro) := by
  intro q
  induction q with
  | zero =>
    intro n y hy hn
    obtain ⟨n, rfl⟩ : ∃ q, n = q + 1 := ⟨n - 1, by omega⟩
    have e : y = 9 := by omega
    subst e
    have vi : vp_in (nI i) 9 := vp_in_nI (by omega) (by decide)
    have vj : vp_in (nI j) 9 := vp_in_nI (by omega) (by decide)
    refine br_t (by decide) ⟨vi, nm_r (cm_rd (by omega)) ⟨vj, vi, ?_⟩⟩
    rw [cm_rd (by omega)]
    exact nm_r (cm_wr (by omega)) ⟨vj, nm_r (cm_wr (by omega)) P⟩
  | succ q ih =>
    intro n y hy hn
    obtain ⟨n, rfl⟩ : ∃ q, n = q + 1 := ⟨n - 1, by omega⟩
    have ei : 9 * nI i + nI y = nI (9 * i + y) := by
      have : 9 * nI i = nI (9 * i) := pk_mul 9 i
      rw [this, nI_add]
    have ej : 9 * nI j + nI y = nI (9 * j + y) := by
      have : 9 * nI j = nI (9 * j) := pk_mul 9 j
      rw [this, nI_add]
    have vi : vp_in (nI (9 * i + y)) 81 := vp_in_nI (by omega) (by decide)
    have vj : vp_in (nI (9 * j + y)) 81 := vp_in_nI (by omega) (by decide)
    refine br_f (nI_ge (b := 9) (by omega) (by decide)) ?_
    rw [ei, ej]
    have r1 : cm_A (cm_w9 Q.2.1 i j y) (nI (9 * i + y)).toNatClampNeg = nI (Q.2.1 (9 * i + y)) := by rw [cm_rd (by omega), cm_w9_at _ _ _ _ _ (by omega)]
    have r2 : cm_A (cm_w9 Q.2.1 i j y) (nI (9 * j + y)).toNatClampNeg = nI (Q.2.1 (9 * j + y)) := by rw [cm_rd (by omega), cm_w9_at _ _ _ _ _ (by omega)]
    refine ⟨vi, nm_r r1 ⟨vj, vi, ?_⟩⟩
    rw [r2]
    refine nm_r (cm_wr (by omega)) ⟨vj, nm_r (cm_wr (by omega)) (nm_r (nI_1 y) ?_)⟩
    have := ih n (y + 1) (by omega) (by omega)
    rw [← cm_w9_s _ _ _ _ (show y < 9 by omega)] at this
    exact this
end cmW1
theorem i_vc_swap {k : Nat} {u : SX} {v : SY} (I : i_Rel k u v) (hk : k + 4 ≤ 2048) (v1 : Int32) (v2 : Int32) : wpX_swap (fun r u' => wpY_swap (fun r' v' => r' = r ∧ i_Rel (k + 4) u' v') v v1 v2) u v1 v2 := by
  have I2 : i_Rel (k + 4) u v := I
  obtain ⟨R, nf, fr, nc, ch, M, D, H, Q, tp, cl, N, S, rt, rp, ro, rfl, rfl, hRQ, hE, hS⟩ := I
  have q1 := hRQ.1
  have q2 := hRQ.2.1
  -- a rule that isn't there
  have nr : ∀ (x : Int32), (∃ i, i < R.1 ∧ x = nI i ∧ ∀ post : Int32 → Prop, post 0 → wpX_noRule post (cm_X R nf fr nc ch M D H) x) ∨ ((x < 0 ∨ nI Q.1 ≤ x) ∧ ∀ post : Int32 → Prop, post 1 → wpX_noRule post (cm_X R nf fr nc ch M D H) x) := by
    intro x
    by_cases h0 : x < 0
    · refine Or.inr ⟨Or.inl h0, fun post P => ?_⟩
      unfold wpX_noRule cm_X
      dsimp only
      exact br_t h0 P
    · obtain ⟨i, hi, rfl⟩ := nI_of h0
      by_cases hlt : i < R.1
      · refine Or.inl ⟨i, hlt, rfl, fun post P => ?_⟩
        unfold wpX_noRule cm_X
        dsimp only
        exact br_f h0 (br_t (nI_lt hlt (by omega)) P)
      · refine Or.inr ⟨Or.inr (by rw [q1]; exact nI_le (by omega) hi), fun post P => ?_⟩
        unfold wpX_noRule cm_X
        dsimp only
        exact br_f h0 (br_f (nI_nlt (by omega) hi) P)
  have ybad : ((v1 < 0 ∨ nI Q.1 ≤ v1) ∨ (v2 < 0 ∨ nI Q.1 ≤ v2)) → wpY_swap (fun r' v' => r' = -4 ∧ i_Rel (k + 4) (cm_X R nf fr nc ch M D H) v') (cm_Y Q tp cl N S rt rp ro) v1 v2 := by
    intro h
    unfold wpY_swap cm_Y
    dsimp only
    refine br_c (fun _ => ⟨rfl, I2⟩) (fun h1 => br_c (fun _ => ⟨rfl, I2⟩) (fun h2 => br_c (fun _ => ⟨rfl, I2⟩) (fun h3 => br_c (fun h4 => ?_) (fun _ => ⟨rfl, I2⟩))))
    exfalso
    rcases h with (h | h) | (h | h)
    · exact h1 h
    · exact h2 h
    · exact h3 h
    · exact Int32.not_le.mpr h4 h
  unfold wpX_swap cm_X
  dsimp only
  rcases nr v1 with ⟨i, hi, rfl, xi⟩ | ⟨hb, xi⟩
  · rcases nr v2 with ⟨j, hj, rfl, xj⟩ | ⟨hb, xj⟩
    · refine xi _ (br_t rfl (xj _ (br_t rfl ⟨5, ?_⟩)))
      have e1 := cm_w4_0 R.2.2.1 i j
      have e2 := cm_w4_0 R.2.2.2.1 i j
      have e3 := cm_w4_0 R.2.2.2.2 i j
      have := cm_x_swap_l (R := R) (nf := nf) (fr := fr) (nc := nc) (ch := ch) (M := M) (D := D) (H := H) (post := fun r u' => wpY_swap (fun r' v' => r' = r ∧ i_Rel (k + 4) u' v') (cm_Y Q tp cl N S rt rp ro) (nI i) (nI j)) (i := i) (j := j) (by omega) (by omega) ?_ 4 5 0 (by omega) (by omega)
      · rw [e1, e2, e3] at this
        exact this
      · unfold wpY_swap cm_Y
        dsimp only
        rw [q1]
        refine br_f (nI_pos (by omega)) (br_f (nI_ge hi (by omega)) (br_f (nI_pos (by omega)) (br_t (nI_lt hj (by omega)) ⟨10, ?_⟩)))
        have := cm_y_swap_l (Q := (R.1, Q.2.1, Q.2.2)) (tp := tp) (cl := cl) (N := N) (S := S) (rt := rt) (rp := rp) (ro := ro) (post := fun r' v' => r' = 0 ∧ i_Rel (k + 4) (cm_X (R.1, cm_s (cm_s R.2.1 i (R.2.1 j)) j (R.2.1 i), cm_w4 R.2.2.1 i j 4, cm_w4 R.2.2.2.1 i j 4, cm_w4 R.2.2.2.2 i j 4) nf fr nc ch M D H) v') (i := i) (j := j) (by omega) (by omega) ?_ 9 10 0 (by omega) (by omega)
        · rw [cm_w9_0] at this
          exact this
        · refine ⟨rfl, _, nf, fr, nc, ch, M, D, H, _, tp, cl, N, S, rt, rp, ro, rfl, rfl, ?_, hE, hS⟩
          have := cm_RQ_swap hRQ hi hj
          rw [q1] at this
          exact this
    · exact xi _ (br_t rfl (xj _ (br_f (by decide) (ybad (Or.inr hb)))))
  · exact xi _ (br_f (by decide) (ybad (Or.inl hb)))
end
