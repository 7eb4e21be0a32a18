section
theorem pk_us {f : Nat → Int32} {k : Nat} {x : Int32} : upd f k x k = x := if_pos rfl
theorem pk_un {f : Nat → Int32} {k j : Nat} {x : Int32} (h : j ≠ k) : upd f k x j = f j := if_neg h
theorem pk_sub {a b : Nat} (h : b ≤ a) : nI a - nI b = nI (a - b) := by
  obtain ⟨c, rfl⟩ : ∃ c, a = c + b := ⟨a - b, by omega⟩
  rw [← nI_add, Int32.add_sub_cancel, Nat.add_sub_cancel]
theorem pk_m1 (n : Nat) : nI (n + 1) + (-1) = nI n := by
  rw [← nI_1, Int32.add_assoc, show (1 : Int32) + (-1) = 0 from rfl, Int32.add_zero]
theorem pk_mul (a b : Nat) : nI a * nI b = nI (a * b) := (Int32.ofNat_mul a b).symm
theorem pk_div {a d : Nat} (ha : a < 2 ^ 31) (h0 : 0 < d) (hd : d < 2 ^ 31) : nI a / nI d = nI (a / d) := by
  apply Int32.toInt_inj.mp
  rw [lg_idiv_nonneg (by rw [nI_toInt ha]; omega) (by rw [nI_toInt hd]; omega), nI_toInt ha, nI_toInt hd, nI_toInt (Nat.lt_of_le_of_lt (Nat.div_le_self a d) ha)]
  first | rfl | exact (Int.natCast_ediv _ _).symm
theorem pk_rem {a d : Nat} (ha : a < 2 ^ 31) (h0 : 0 < d) (hd : d < 2 ^ 31) : nI a - nI a / nI d * nI d = nI (a % d) := by
  rw [pk_div ha h0 hd, pk_mul, pk_sub (Nat.div_mul_le_self a d)]
  exact congrArg nI (by have := Nat.div_add_mod' a d; omega)
theorem pk_sub_toInt {a b : Nat} (ha : a < 2 ^ 30) (hb : b < 2 ^ 30) : (nI a - nI b).toInt = (a : Int) - b := by
  rw [Int32.toInt_sub, nI_toInt (by omega), nI_toInt (by omega)]
  exact Int.bmod_eq_of_le (by omega) (by omega)
theorem pk_sneg {a b : Nat} (hb : b < 2 ^ 30) (h : a < b) : nI a - nI b < 0 := by
  rw [Int32.lt_iff_toInt_lt, pk_sub_toInt (by omega) hb, show (0 : Int32).toInt = 0 from by decide]
  omega
theorem pk_ix (x : Int32) {n : Nat} (hn : n < 2 ^ 31) : x < 0 ∨ nI n ≤ x ∨ ∃ j : Nat, j < n ∧ x = nI j := by
  by_cases h : x < 0
  · exact Or.inl h
  · obtain ⟨j, hj, rfl⟩ := nI_of h
    by_cases h2 : j < n
    · exact Or.inr (Or.inr ⟨j, h2, rfl⟩)
    · exact Or.inr (Or.inl (nI_le (by omega) hj))
theorem pk_le {x y : Int32} {A B : Prop} (a b : Nat) (f : a ≤ b → A) (g : b < a → B) (hx : x = nI a := by rfl) (hy : y = nI b := by rfl) (ha : a < 2 ^ 31 := by omega) (hb : b < 2 ^ 31 := by omega) : (x ≤ y → A) ∧ (¬ x ≤ y → B) := by
  subst hx hy
  rw [nI_leI ha hb]
  exact ⟨f, fun z => g (by omega)⟩
theorem pk_lt {x y : Int32} {A B : Prop} (a b : Nat) (f : a < b → A) (g : b ≤ a → B) (hx : x = nI a := by rfl) (hy : y = nI b := by rfl) (ha : a < 2 ^ 31 := by omega) (hb : b < 2 ^ 31 := by omega) : (x < y → A) ∧ (¬ x < y → B) := by
  subst hx hy
  rw [nI_ltI ha hb]
  exact ⟨f, fun z => g (by omega)⟩
theorem pk_eq {x y : Int32} {A B : Prop} (a b : Nat) (f : a = b → A) (g : a ≠ b → B) (hx : x = nI a := by rfl) (hy : y = nI b := by rfl) (ha : a < 2 ^ 31 := by omega) (hb : b < 2 ^ 31 := by omega) : (x = y → A) ∧ (¬ x = y → B) := by
  subst hx hy
  rw [nI_eq ha hb]
  exact ⟨f, g⟩
theorem pk_in {x : Int32} (n N : Nat) (h : n < N) (hx : x = nI n := by rfl) (hN : N < 2 ^ 31 := by omega) : vp_in x N := by
  subst hx
  exact vp_in_nI h hN
theorem pk_cl {x : Int32} (n : Nat) (hx : x = nI n := by rfl) (h : n < 2 ^ 31 := by omega) : x.toNatClampNeg = n := by
  subst hx
  exact nI_clamp h
theorem pk_tn {n : Nat} (h : n < 2 ^ 32) : (nI n).toBitVec.toNat = n := Nat.mod_eq_of_lt h
theorem pk_and (x : Int32) {m : Int32} (k : Nat) (hm : m.toBitVec.toNat = 2 ^ k - 1) : x &&& m = nI (x.toBitVec.toNat % 2 ^ k) := by
  apply Int32.toBitVec_inj.mp
  apply BitVec.eq_of_toNat_eq
  rw [Int32.toBitVec_and, BitVec.toNat_and, hm, Nat.and_two_pow_sub_one_eq_mod]
  show _ = (BitVec.ofNat 32 _).toNat
  rw [BitVec.toNat_ofNat]
  exact (Nat.mod_eq_of_lt (Nat.lt_of_le_of_lt (Nat.mod_le _ _) x.toBitVec.isLt)).symm
theorem pk_andN {n : Nat} (h : n < 2 ^ 32) {m : Int32} (k : Nat) (hm : m.toBitVec.toNat = 2 ^ k - 1) : nI n &&& m = nI (n % 2 ^ k) := by
  rw [pk_and _ k hm, pk_tn h]
theorem pk_shl (a s : Int32) (k : Nat) (hs : (s.toBitVec.smod 32).toNat = k) : (a <<< s).toBitVec.toNat = a.toBitVec.toNat * 2 ^ k % 2 ^ 32 := by
  show (a.toBitVec <<< (s.toBitVec.smod 32).toNat).toNat = _
  rw [hs, BitVec.toNat_shiftLeft, Nat.shiftLeft_eq]
theorem pk_shlN {n : Nat} (s : Int32) (k : Nat) (hs : (s.toBitVec.smod 32).toNat = k) (h : n * 2 ^ k < 2 ^ 32) : nI n <<< s = nI (n * 2 ^ k) := by
  apply Int32.toBitVec_inj.mp
  apply BitVec.eq_of_toNat_eq
  have hn : n < 2 ^ 32 := Nat.lt_of_le_of_lt (Nat.le_mul_of_pos_right n (Nat.two_pow_pos k)) h
  rw [pk_shl _ _ k hs, pk_tn hn, pk_tn h, Nat.mod_eq_of_lt h]
theorem pk_shr (a s : Int32) (k : Nat) (hs : (s.toBitVec.smod 32).toNat = k) : (a >>> s).toInt = a.toInt >>> k := by
  show (a.toBitVec.sshiftRight (s.toBitVec.smod 32).toNat).toInt = _
  rw [hs, BitVec.toInt_sshiftRight]
  rfl
theorem pk_shrN {n : Nat} (h : n < 2 ^ 31) (s : Int32) (k : Nat) (hs : (s.toBitVec.smod 32).toNat = k) : nI n >>> s = nI (n / 2 ^ k) := by
  apply Int32.toInt_inj.mp
  have h2 : n / 2 ^ k ≤ n := Nat.div_le_self _ _
  rw [pk_shr _ _ k hs, nI_toInt h, nI_toInt (by omega), Int.shiftRight_eq_div_pow]
  rfl
theorem pk_least (P : Nat → Prop) (h : ∃ k, P k) : ∃ k, P k ∧ ∀ j, j < k → ¬ P j := by
  obtain ⟨k, hk⟩ := h
  induction k using Nat.strongRecOn with
  | ind k ih =>
    by_cases e : ∃ j, j < k ∧ P j
    · obtain ⟨j, hj, pj⟩ := e
      exact ih j hj pj
    · exact ⟨k, hk, fun j hj pj => e ⟨j, hj, pj⟩⟩
theorem sb_cl0 : (0 : Int32).toNatClampNeg = 0 := by decide
theorem sb_m1 {p : Nat} (h : 0 < p) : nI p + (-1) = nI (p - 1) := by
  obtain ⟨q, rfl⟩ : ∃ q, p = q + 1 := ⟨p - 1, by omega⟩
  exact pk_m1 q
theorem s_l : ∀ n, n < 32 → ((nI n &&& 31).toBitVec.smod 32).toNat = n := by decide +kernel
theorem nx_and (a b : Nat) : nI a &&& nI b = nI (a &&& b) := by
  apply Int32.toBitVec_inj.1
  show BitVec.ofNat 32 a &&& BitVec.ofNat 32 b = BitVec.ofNat 32 (a &&& b)
  apply BitVec.eq_of_getLsbD_eq
  intro i hi
  simp [hi]
theorem nx_xor (a b : Nat) : nI a ^^^ nI b = nI (a ^^^ b) := by
  apply Int32.toBitVec_inj.1
  show BitVec.ofNat 32 a ^^^ BitVec.ofNat 32 b = BitVec.ofNat 32 (a ^^^ b)
  apply BitVec.eq_of_getLsbD_eq
  intro i hi
  simp [hi]
end
section
/-! own basics: natural arrays, the stack of groups not yet closed -/
def fs_F (f : Nat → Nat) : Nat → Int32 := fun j => nI (f j)
def fs_u (f : Nat → Nat) (k x : Nat) : Nat → Nat := fun j => if j = k then x else f j
theorem fs_Fa (f : Nat → Nat) (i : Nat) : fs_F f i = nI (f i) := rfl
theorem fs_Fat {f : Nat → Nat} {i : Nat} (h : i < 2 ^ 31) : fs_F f (nI i).toNatClampNeg = nI (f i) := by rw [nI_clamp h]; rfl
theorem fs_us {f : Nat → Nat} {k x : Nat} : fs_u f k x k = x := if_pos rfl
theorem fs_un {f : Nat → Nat} {k x j : Nat} (h : j ≠ k) : fs_u f k x j = f j := if_neg h
theorem fs_Fu (f : Nat → Nat) (k x : Nat) : upd (fs_F f) k (nI x) = fs_F (fs_u f k x) := by
  funext j
  show (if j = k then nI x else nI (f j)) = nI (if j = k then x else f j)
  split <;> rfl
theorem fs_F0 : (fun _ => 0 : Nat → Int32) = fs_F (fun _ => 0) := by
  funext j
  exact nI_0.symm
def fs_oI : Option Nat → Int32
  | none => -1
  | some g => nI g
theorem fs_oIs (g : Nat) : fs_oI (some g) = nI g := rfl
def fs_stk (K : Nat → Nat) : Nat → List Nat
  | 0 => []
  | i + 1 => if K i = 11 then (fs_stk K i).tail else if 5 ≤ K i then i :: fs_stk K i else fs_stk K i
theorem fs_sE {K : Nat → Nat} {i : Nat} (h : K i = 11) : fs_stk K (i + 1) = (fs_stk K i).tail := by
  rw [fs_stk, if_pos h]
theorem fs_sO {K : Nat → Nat} {i : Nat} (h : K i ≠ 11) (h5 : 5 ≤ K i) : fs_stk K (i + 1) = i :: fs_stk K i := by
  rw [fs_stk, if_neg h, if_pos h5]
theorem fs_sP {K : Nat → Nat} {i : Nat} (h5 : K i < 5) : fs_stk K (i + 1) = fs_stk K i := by
  rw [fs_stk, if_neg (by omega), if_neg (by omega)]
theorem fs_sub {K : Nat → Nat} {i a : Nat} (h : a ∈ fs_stk K (i + 1)) : a = i ∨ a ∈ fs_stk K i := by
  by_cases h1 : K i = 11
  · rw [fs_sE h1] at h
    exact Or.inr (List.mem_of_mem_tail h)
  · by_cases h5 : 5 ≤ K i
    · rw [fs_sO h1 h5] at h
      exact List.mem_cons.mp h
    · rw [fs_sP (by omega)] at h
      exact Or.inr h
theorem fs_lt {K : Nat → Nat} : ∀ {i a : Nat}, a ∈ fs_stk K i → a < i := by
  intro i
  induction i with
  | zero => intro a h; exact absurd h List.not_mem_nil
  | succ i ih =>
    intro a h
    rcases fs_sub h with h | h
    · omega
    · have := ih h; omega
theorem fs_op {K : Nat → Nat} : ∀ {i a : Nat}, a ∈ fs_stk K i → 5 ≤ K a ∧ K a ≠ 11 := by
  intro i
  induction i with
  | zero => intro a h; exact absurd h List.not_mem_nil
  | succ i ih =>
    intro a h
    by_cases h1 : K i = 11
    · rw [fs_sE h1] at h
      exact ih (List.mem_of_mem_tail h)
    · by_cases h5 : 5 ≤ K i
      · rw [fs_sO h1 h5] at h
        rcases List.mem_cons.mp h with h | h
        · subst h; exact ⟨h5, h1⟩
        · exact ih h
      · rw [fs_sP (by omega)] at h
        exact ih h
theorem fs_suf {K : Nat → Nat} : ∀ {i g : Nat} {l r : List Nat}, fs_stk K i = l ++ g :: r → r = fs_stk K g := by
  intro i
  induction i with
  | zero =>
    intro g l r h
    have h0 : ([] : List Nat) = l ++ g :: r := h
    cases l <;> cases h0
  | succ i ih =>
    intro g l r h
    by_cases h1 : K i = 11
    · rw [fs_sE h1] at h
      cases hs : fs_stk K i with
      | nil =>
        rw [hs] at h
        have h0 : ([] : List Nat) = l ++ g :: r := h
        cases l <;> cases h0
      | cons a t =>
        rw [hs] at h
        have h0 : t = l ++ g :: r := h
        exact ih (l := a :: l) (by rw [hs, h0]; rfl)
    · by_cases h5 : 5 ≤ K i
      · rw [fs_sO h1 h5] at h
        cases l with
        | nil =>
          have h0 : i :: fs_stk K i = g :: r := h
          injection h0 with e1 e2
          subst e1
          exact e2.symm
        | cons a t =>
          have h0 : i :: fs_stk K i = a :: (t ++ g :: r) := h
          injection h0 with e1 e2
          exact ih e2
      · rw [fs_sP (by omega)] at h
        exact ih h
theorem fs_hd {K : Nat → Nat} {i g : Nat} {r : List Nat} (h : fs_stk K i = g :: r) : fs_stk K i = g :: fs_stk K g := by
  have e : r = fs_stk K g := fs_suf (l := []) h
  rw [h, e]
theorem fs_ms {K : Nat → Nat} {i g : Nat} (h : g ∈ fs_stk K i) : ∃ l, fs_stk K i = l ++ g :: fs_stk K g := by
  obtain ⟨l, r, e⟩ := List.append_of_mem h
  have := fs_suf e
  exact ⟨l, by rw [← this]; exact e⟩
theorem fs_tr {K : Nat → Nat} {i g a : Nat} (h : g ∈ fs_stk K i) (ha : a ∈ fs_stk K g) : a ∈ fs_stk K i := by
  obtain ⟨l, e⟩ := fs_ms h
  rw [e]
  exact List.mem_append_right l (List.mem_cons_of_mem g ha)
theorem fs_cv {K : Nat → Nat} {a j : Nat} (hj : a < j) : ∀ {i : Nat}, a ∈ fs_stk K i → j ≤ i → a ∈ fs_stk K j := by
  intro i
  induction i with
  | zero => intro h _; exact absurd h List.not_mem_nil
  | succ i ih =>
    intro h hi
    by_cases e : j = i + 1
    · rw [e]; exact h
    · rcases fs_sub h with h | h
      · omega
      · exact ih h (by omega)
theorem fs_cl {K : Nat → Nat} {e o : Nat} (he : K e = 11) (hs : fs_stk K e = o :: fs_stk K o) : ∀ {j : Nat}, e < j → o ∉ fs_stk K j := by
  have ho : o < e := fs_lt (by rw [hs]; exact List.mem_cons_self)
  intro j
  induction j with
  | zero => intro h; omega
  | succ j ih =>
    intro h hm
    by_cases e1 : j = e
    · subst e1
      rw [fs_sE he, hs] at hm
      have : o < o := fs_lt hm
      omega
    · rcases fs_sub hm with h2 | h2
      · omega
      · exact ih (by omega) h2
/-- the stack behind an END -/
theorem fs_sE' {K : Nat → Nat} {i o : Nat} (h : K i = 11) (hs : fs_stk K i = o :: fs_stk K o) : fs_stk K (i + 1) = fs_stk K o := by
  rw [fs_sE h, hs]; rfl
theorem fs_cg {K K' : Nat → Nat} {n : Nat} (h : ∀ j, j < n → K' j = K j) : ∀ {i : Nat}, i ≤ n → fs_stk K' i = fs_stk K i := by
  intro i
  induction i with
  | zero => intro _; rfl
  | succ i ih =>
    intro hi
    rw [fs_stk, fs_stk, h i (by omega), ih (by omega)]
theorem fs_len {K : Nat → Nat} : ∀ i : Nat, (fs_stk K i).length ≤ i := by
  intro i
  induction i with
  | zero => exact Nat.le_refl 0
  | succ i ih =>
    by_cases h1 : K i = 11
    · rw [fs_sE h1, List.length_tail]; omega
    · by_cases h5 : 5 ≤ K i
      · rw [fs_sO h1 h5, List.length_cons]; omega
      · rw [fs_sP (by omega)]; omega
/-! regions -/
def fs_R (k : Nat) : Prop := k = 7 ∨ k = 8 ∨ k = 10
def fs_nam (k : Nat) : Prop := k = 5 ∨ k = 6 ∨ k = 7 ∨ k = 9
def fs_rgo (K : Nat → Nat) : List Nat → Option Nat
  | [] => none
  | g :: r => if K g = 7 ∨ K g = 8 ∨ K g = 10 then some g else fs_rgo K r
theorem fs_rg_mem {K : Nat → Nat} : ∀ {l : List Nat} {g : Nat}, fs_rgo K l = some g → g ∈ l ∧ fs_R (K g) := by
  intro l
  induction l with
  | nil => intro g h; cases h
  | cons a l ih =>
    intro g h
    rw [fs_rgo] at h
    split at h
    · next hc =>
      injection h with h
      subst h
      exact ⟨List.mem_cons_self, hc⟩
    · exact ⟨List.mem_cons_of_mem a (ih h).1, (ih h).2⟩
/-- a region-kind group of a stack is the region or lies around it -/
theorem fs_rg_in {K : Nat → Nat} {i h : Nat} (hm : h ∈ fs_stk K i) (hR : fs_R (K h)) : ∃ g, fs_rgo K (fs_stk K i) = some g ∧ (h = g ∨ h ∈ fs_stk K g) := by
  have key : ∀ (l p : List Nat), fs_stk K i = p ++ l → h ∈ l → ∃ g, fs_rgo K l = some g ∧ (h = g ∨ h ∈ fs_stk K g) := by
    intro l
    induction l with
    | nil => intro p _ hm; exact absurd hm List.not_mem_nil
    | cons a l ih =>
      intro p e hm
      by_cases hc : K a = 7 ∨ K a = 8 ∨ K a = 10
      · refine ⟨a, by rw [fs_rgo, if_pos hc], ?_⟩
        have e2 : l = fs_stk K a := fs_suf e
        rcases List.mem_cons.mp hm with h1 | h1
        · exact Or.inl h1
        · exact Or.inr (e2 ▸ h1)
      · rw [fs_rgo, if_neg hc]
        rcases List.mem_cons.mp hm with h1 | h1
        · subst h1; exact absurd hR hc
        · exact ih (p ++ [a]) (by rw [e, List.append_assoc]; rfl) h1
  exact key (fs_stk K i) [] rfl hm
def fs_same (K : Nat → Nat) (s g : Nat) : Prop := ∀ h, fs_R (K h) → (h ∈ fs_stk K s ↔ h ∈ fs_stk K g)
theorem fs_same1 {K : Nat → Nat} {s g : Nat} (e : fs_rgo K (fs_stk K s) = fs_rgo K (fs_stk K g)) (h : Nat) (hR : fs_R (K h)) (hm : h ∈ fs_stk K s) : h ∈ fs_stk K g := by
  obtain ⟨r, e1, h1⟩ := fs_rg_in hm hR
  have h2 := (fs_rg_mem (e.symm.trans e1)).1
  rcases h1 with h1 | h1
  · subst h1; exact h2
  · exact fs_tr h2 h1
theorem fs_same_of {K : Nat → Nat} {s g : Nat} (e : fs_rgo K (fs_stk K s) = fs_rgo K (fs_stk K g)) : fs_same K s g :=
  fun h hR => ⟨fs_same1 e h hR, fs_same1 e.symm h hR⟩
/-! what add guarantees -/
def fs_wf1 (K A B : Nat → Nat) (i : Nat) : Prop :=
  (1 ≤ K i ∧ K i ≤ 11) ∧ (K i ≤ 3 → 1 ≤ A i ∧ A i ≤ 16) ∧ (K i = 2 → B i < 2 ^ (A i)) ∧ (K i = 4 → 2 ≤ A i ∧ A i ≤ 16)
  ∧ (fs_nam (K i) → A i < i ∧ K (A i) = 3 ∧ fs_same K (A i) i ∧ ∀ j, j < i → fs_nam (K j) → A j ≠ A i)
  ∧ (K i = 6 → B i < 2 ^ (A (A i)))
  ∧ (K i = 8 → ∃ l, fs_stk K i = l :: fs_stk K l ∧ K l = 5)
  ∧ (K i = 10 → ∃ u, fs_stk K i = u :: fs_stk K u ∧ K u = 9)
  ∧ (K i = 11 → fs_stk K i = A i :: fs_stk K (A i))
  ∧ (∀ u, fs_stk K i = u :: fs_stk K u → K u = 9 → K i = 10 ∨ K i = 11)
  ∧ (∀ j, i = j + 1 → K j = 7 ∨ K j = 8 → K i ≤ 3)
  ∧ (∀ j, i = j + 1 → K j = 11 → K (A j) = 8 → K i = 11)
  ∧ (A i < 65536 ∧ B i < 65536)
def fs_WF (K A B : Nat → Nat) (n : Nat) : Prop := ∀ i, i < n → fs_wf1 K A B i
end
section
/-! control flow: ST, pending slots -/
section
variable {K A B : Nat → Nat} {n : Nat}
theorem fs_k (W : fs_WF K A B n) {i : Nat} (hi : i < n) : 1 ≤ K i ∧ K i ≤ 11 := (W i hi).1
theorem fs_wd (W : fs_WF K A B n) {i : Nat} (hi : i < n) (h : K i ≤ 3) : 1 ≤ A i ∧ A i ≤ 16 := (W i hi).2.1 h
theorem fs_cB (W : fs_WF K A B n) {i : Nat} (hi : i < n) (h : K i = 2) : B i < 2 ^ (A i) := (W i hi).2.2.1 h
theorem fs_al (W : fs_WF K A B n) {i : Nat} (hi : i < n) (h : K i = 4) : 2 ≤ A i ∧ A i ≤ 16 := (W i hi).2.2.2.1 h
theorem fs_nm (W : fs_WF K A B n) {i : Nat} (hi : i < n) (h : fs_nam (K i)) : A i < i ∧ K (A i) = 3 ∧ fs_same K (A i) i ∧ ∀ j, j < i → fs_nam (K j) → A j ≠ A i := (W i hi).2.2.2.2.1 h
theorem fs_sB (W : fs_WF K A B n) {i : Nat} (hi : i < n) (h : K i = 6) : B i < 2 ^ (A (A i)) := (W i hi).2.2.2.2.2.1 h
theorem fs_fl (W : fs_WF K A B n) {i : Nat} (hi : i < n) (h : K i = 8) : ∃ l, fs_stk K i = l :: fs_stk K l ∧ K l = 5 := (W i hi).2.2.2.2.2.2.1 h
theorem fs_cs (W : fs_WF K A B n) {i : Nat} (hi : i < n) (h : K i = 10) : ∃ u, fs_stk K i = u :: fs_stk K u ∧ K u = 9 := (W i hi).2.2.2.2.2.2.2.1 h
theorem fs_en (W : fs_WF K A B n) {i : Nat} (hi : i < n) (h : K i = 11) : fs_stk K i = A i :: fs_stk K (A i) := (W i hi).2.2.2.2.2.2.2.2.1 h
theorem fs_un9 (W : fs_WF K A B n) {i : Nat} (hi : i < n) : ∀ u, fs_stk K i = u :: fs_stk K u → K u = 9 → K i = 10 ∨ K i = 11 := (W i hi).2.2.2.2.2.2.2.2.2.1
theorem fs_lo (W : fs_WF K A B n) {j : Nat} (hi : j + 1 < n) (h : K j = 7 ∨ K j = 8) : K (j + 1) ≤ 3 := (W (j + 1) hi).2.2.2.2.2.2.2.2.2.2.1 j rfl h
theorem fs_fe (W : fs_WF K A B n) {j : Nat} (hi : j + 1 < n) (h : K j = 11) (h8 : K (A j) = 8) : K (j + 1) = 11 := (W (j + 1) hi).2.2.2.2.2.2.2.2.2.2.2.1 j rfl h h8
theorem fs_bd (W : fs_WF K A B n) {i : Nat} (hi : i < n) : A i < 65536 ∧ B i < 65536 := (W i hi).2.2.2.2.2.2.2.2.2.2.2.2
theorem fs_eo (W : fs_WF K A B n) {i : Nat} (hi : i < n) (h : K i = 11) : A i ∈ fs_stk K i := by
  rw [fs_en W hi h]; exact List.mem_cons_self
theorem fs_elt (W : fs_WF K A B n) {i : Nat} (hi : i < n) (h : K i = 11) : A i < i := fs_lt (fs_eo W hi h)
/-- an END's group has one END -/
theorem fs_e1 (W : fs_WF K A B n) {i j : Nat} (hi : i < n) (hj : j < n) (h : K i = 11) (h' : K j = 11) (e : A i = A j) : i = j := by
  rcases Nat.lt_trichotomy i j with c | c | c
  · exact absurd (e ▸ fs_eo W hj h') (fs_cl h (fs_en W hi h) c)
  · exact c
  · exact absurd (e ▸ fs_eo W hi h) (fs_cl h' (fs_en W hj h') c)
/-- a UNION on a stack: on top, or below one of its CASEs -/
theorem fs_U (W : fs_WF K A B n) {u j : Nat} (hj : j ≤ n) (hm : u ∈ fs_stk K j) (hu : K u = 9) : fs_stk K j = u :: fs_stk K u ∨ ∃ c, c ∈ fs_stk K j ∧ K c = 10 ∧ fs_stk K c = u :: fs_stk K u := by
  obtain ⟨l, e⟩ := fs_ms hm
  rcases List.eq_nil_or_concat l with h | ⟨l', c, h⟩
  · left; rw [e, h]; rfl
  · right
    have e2 : fs_stk K j = l' ++ c :: (u :: fs_stk K u) := by rw [e, h, List.concat_eq_append, List.append_assoc]; rfl
    have e3 := fs_suf e2
    have hc : c ∈ fs_stk K j := by rw [e2]; exact List.mem_append_right l' List.mem_cons_self
    have hcj := fs_lt hc
    have := fs_un9 W (i := c) (by omega) u e3.symm hu
    have ho := fs_op hc
    exact ⟨c, hc, by omega, e3.symm⟩
def fs_ST (K A : Nat → Nat) (n i i' : Nat) : Prop :=
  (i' = i + 1 ∧ K i ≤ 8) ∨ (i' = i + 1 ∧ K i = 11 ∧ K (A i) ≠ 10)
  ∨ (∃ e, i' = e + 1 ∧ (K i = 7 ∨ K i = 8) ∧ e < n ∧ K e = 11 ∧ A e = i)
  ∨ (K i = 11 ∧ (K (A i) = 7 ∨ K (A i) = 8) ∧ i' = A i + 1)
  ∨ (∃ c, i' = c + 1 ∧ K i = 9 ∧ c < n ∧ K c = 10 ∧ fs_stk K c = i :: fs_stk K i)
  ∨ (∃ u e, K i = 11 ∧ K (A i) = 10 ∧ fs_stk K (A i) = u :: fs_stk K u ∧ K u = 9 ∧ e < n ∧ K e = 11 ∧ A e = u ∧ i' = e)
/-- the slot of the naming group g is laid, its group not finished -/
def fs_pd (K A : Nat → Nat) (g i : Nat) : Prop := A g < i ∧ (i ≤ g ∨ (g ∈ fs_stk K i ∧ (K g = 5 ∨ K g = 6)))
def fs_fin (K A : Nat → Nat) (g i : Nat) : Prop := (i = g ∧ (K g = 7 ∨ K g = 9)) ∨ (K i = 11 ∧ A i = g ∧ (K g = 5 ∨ K g = 6))
theorem fs_c6 (W : fs_WF K A B n) {i u e : Nat} (hi : i < n) (h : K i = 11) (h10 : K (A i) = 10) (hs : fs_stk K (A i) = u :: fs_stk K u) (hu : K u = 9) (he : e < n) (hk : K e = 11) (hA : A e = u) : i < e := by
  have hm : u ∈ fs_stk K i := by
    rw [fs_en W hi h, hs]; exact List.mem_cons_of_mem _ List.mem_cons_self
  rcases Nat.lt_trichotomy e i with c | c | c
  · exact absurd hm (fs_cl hk (by rw [← hA]; exact fs_en W he hk) c)
  · subst c; rw [hA] at h10; omega
  · exact c
theorem fs_L1 (W : fs_WF K A B n) {i i' g : Nat} (hi : i < n) (h : fs_ST K A n i i') (hg : g ∈ fs_stk K i') (h10 : K g ≠ 10) : (g = i ∧ K i ≠ 11) ∨ g ∈ fs_stk K i := by
  have hgo := fs_op hg
  rcases h with ⟨h1, h2⟩ | ⟨h1, h2, h3⟩ | ⟨e, h1, h2, h3, h4, h5⟩ | ⟨h1, h2, h3⟩ | ⟨c, h1, h2, h3, h4, h5⟩ | ⟨u, e, h1, h2, h3, h4, h5, h6, h7, h8⟩
  · subst h1
    rcases fs_sub hg with h | h
    · exact Or.inl ⟨h, by omega⟩
    · exact Or.inr h
  · subst h1
    rw [fs_sE' h2 (fs_en W hi h2)] at hg
    exact Or.inr (by rw [fs_en W hi h2]; exact List.mem_cons_of_mem _ hg)
  · subst h1
    rw [fs_sE' h4 (fs_en W h3 h4), h5] at hg
    exact Or.inr hg
  · subst h3
    rw [fs_sO (by omega) (by omega)] at hg
    exact Or.inr (by rw [fs_en W hi h1]; exact hg)
  · subst h1
    rw [fs_sO (by omega) (by omega), h5] at hg
    rcases List.mem_cons.mp hg with h | h
    · subst h; exact absurd h4 h10
    · rcases List.mem_cons.mp h with h | h
      · exact Or.inl ⟨h, by omega⟩
      · exact Or.inr h
  · subst h8
    rw [fs_en W h5 h6, h7, ← h3] at hg
    exact Or.inr (by rw [fs_en W hi h1]; exact List.mem_cons_of_mem _ hg)
theorem fs_L2 (W : fs_WF K A B n) {i i' g : Nat} (hi : i < n) (h : fs_ST K A n i i') (hg : g ∈ fs_stk K i) (hn : K i = 11 → g ≠ A i) : g ∈ fs_stk K i' := by
  rcases h with ⟨h1, h2⟩ | ⟨h1, h2, h3⟩ | ⟨e, h1, h2, h3, h4, h5⟩ | ⟨h1, h2, h3⟩ | ⟨c, h1, h2, h3, h4, h5⟩ | ⟨u, e, h1, h2, h3, h4, h5, h6, h7, h8⟩
  · subst h1
    by_cases h5 : 5 ≤ K i
    · rw [fs_sO (by omega) h5]; exact List.mem_cons_of_mem _ hg
    · rw [fs_sP (by omega)]; exact hg
  · subst h1
    rw [fs_sE' h2 (fs_en W hi h2)]
    rw [fs_en W hi h2] at hg
    rcases List.mem_cons.mp hg with h | h
    · exact absurd h (hn h2)
    · exact h
  · subst h1
    rw [fs_sE' h4 (fs_en W h3 h4), h5]
    exact hg
  · subst h3
    rw [fs_sO (by omega) (by omega), ← fs_en W hi h1]
    exact hg
  · subst h1
    rw [fs_sO (by omega) (by omega), h5]
    exact List.mem_cons_of_mem _ (List.mem_cons_of_mem _ hg)
  · subst h8
    rw [fs_en W h5 h6, h7, ← h3]
    rw [fs_en W hi h1] at hg
    rcases List.mem_cons.mp hg with h | h
    · exact absurd h (hn h1)
    · exact h
theorem fs_L3 (W : fs_WF K A B n) {i i' g : Nat} (hi : i < n) (hg : g < n) (hna : fs_nam (K g)) (h : fs_ST K A n i i') (hp : fs_pd K A g i') : i = A g ∨ fs_pd K A g i := by
  obtain ⟨hsg, hs3, hsame, -⟩ := fs_nm W hg hna
  have hgk : K g = 5 ∨ K g = 6 ∨ K g = 7 ∨ K g = 9 := hna
  obtain ⟨hp1, hp2⟩ := hp
  generalize hsd : A g = s at *
  have hsn : s < n := by omega
  rcases h with ⟨h1, h2⟩ | ⟨h1, h2, h3⟩ | ⟨e, h1, h2, h3, h4, h5⟩ | ⟨h1, h2, h3⟩ | ⟨c, h1, h2, h3, h4, h5⟩ | ⟨u, e, h1, h2, h3, h4, h5, h6, h7, h8⟩
  · subst h1
    by_cases e1 : i = s
    · exact Or.inl e1
    · refine Or.inr ⟨by omega, ?_⟩
      rcases hp2 with h | ⟨h, h'⟩
      · exact Or.inl (by omega)
      · rcases fs_sub h with h | h
        · exact Or.inl (by omega)
        · exact Or.inr ⟨h, h'⟩
  · subst h1
    by_cases e1 : i = s
    · exact Or.inl e1
    · refine Or.inr ⟨by omega, ?_⟩
      rcases hp2 with h | ⟨h, h'⟩
      · exact Or.inl (by omega)
      · rcases fs_sub h with h | h
        · exact Or.inl (by omega)
        · exact Or.inr ⟨h, h'⟩
  · subst h1
    have hse := fs_en W h3 h4
    rw [h5] at hse
    have hie : i ∈ fs_stk K e := by rw [hse]; exact List.mem_cons_self
    have hlt := fs_lt hie
    have hst := fs_sE' h4 hse
    have hne : s ≠ e := by intro e1; subst e1; omega
    have hni : s ≠ i := by intro e1; subst e1; omega
    by_cases c1 : s < i
    · refine Or.inr ⟨by omega, ?_⟩
      rcases hp2 with h | ⟨h, h'⟩
      · exact Or.inl (by omega)
      · exact Or.inr ⟨by rw [hst] at h; exact h, h'⟩
    · have hm : i ∈ fs_stk K s := fs_cv (by omega) hie (by omega)
      have hm2 : i ∈ fs_stk K g := (hsame i (by rcases h2 with h | h <;> simp [fs_R, h])).mp hm
      rcases hp2 with h | ⟨h, h'⟩
      · exact absurd hm2 (fs_cl h4 hse (by omega))
      · rw [hst] at h
        have := fs_lt h
        omega
  · subst h3
    have hse := fs_en W hi h1
    have hoi := fs_elt W hi h1
    generalize A i = o at *
    have hno : s ≠ o := by intro e1; subst e1; omega
    refine Or.inr ⟨by omega, ?_⟩
    rcases hp2 with h | ⟨h, h'⟩
    · by_cases c1 : i ≤ g
      · exact Or.inl c1
      · exfalso
        have hm : o ∈ fs_stk K g := fs_cv (by omega) (by rw [hse]; exact List.mem_cons_self : o ∈ fs_stk K i) (by omega)
        have hm2 : o ∈ fs_stk K s := (hsame o (by rcases h2 with h | h <;> simp [fs_R, h])).mpr hm
        have := fs_lt hm2
        omega
    · rw [fs_sO (by omega) (by omega), ← hse] at h
      exact Or.inr ⟨h, h'⟩
  · subst h1
    have hic : i ∈ fs_stk K c := by rw [h5]; exact List.mem_cons_self
    have hlt := fs_lt hic
    have hne : s ≠ c := by intro e1; subst e1; omega
    have hni : s ≠ i := by intro e1; subst e1; omega
    have hst := fs_sO (K := K) (i := c) (by omega) (by omega)
    by_cases c1 : s < i
    · refine Or.inr ⟨by omega, ?_⟩
      rcases hp2 with h | ⟨h, h'⟩
      · exact Or.inl (by omega)
      · rw [hst, h5] at h
        rcases List.mem_cons.mp h with h | h
        · subst h; omega
        · rcases List.mem_cons.mp h with h | h
          · subst h; omega
          · exact Or.inr ⟨h, h'⟩
    · exfalso
      have hm : i ∈ fs_stk K s := fs_cv (by omega) hic (by omega)
      rcases fs_U W (by omega) hm h2 with h | ⟨c', hc1, hc2, hc3⟩
      · have := fs_un9 W hsn i h h2
        omega
      · have hm2 : c' ∈ fs_stk K g := (hsame c' (by simp [fs_R, hc2])).mp hc1
        have hcs := fs_lt hc1
        have hic' : i < c' := fs_lt (by rw [hc3]; exact List.mem_cons_self)
        rcases hp2 with h | ⟨h, h'⟩
        · have hm3 : c' ∈ fs_stk K c := fs_cv (by omega) hm2 (by omega)
          rw [h5] at hm3
          rcases List.mem_cons.mp hm3 with h | h
          · omega
          · have := fs_lt h; omega
        · rw [hst, h5] at h
          rcases List.mem_cons.mp h with h | h
          · subst h; omega
          · rcases List.mem_cons.mp h with h | h
            · subst h; omega
            · have := fs_lt h; omega
  · subst h8
    have hlt := fs_c6 W hi h1 h2 h3 h4 h5 h6 h7
    have hse := fs_en W h5 h6
    rw [h7] at hse
    have hsi := fs_en W hi h1
    rw [h3] at hsi
    have hni : s ≠ i := by intro e1; subst e1; omega
    by_cases c1 : s < i
    · refine Or.inr ⟨by omega, ?_⟩
      rcases hp2 with h | ⟨h, h'⟩
      · exact Or.inl (by omega)
      · rw [hse] at h
        exact Or.inr ⟨by rw [hsi]; exact List.mem_cons_of_mem _ h, h'⟩
    · exfalso
      have hm : u ∈ fs_stk K s := fs_cv (by have : u < i := fs_lt (by rw [hsi]; exact List.mem_cons_of_mem _ List.mem_cons_self); omega) (by rw [hse]; exact List.mem_cons_self : u ∈ fs_stk K i') (by omega)
      rcases fs_U W (by omega) hm h4 with h | ⟨c', hc1, hc2, hc3⟩
      · have := fs_un9 W hsn u h h4
        omega
      · have hm2 : c' ∈ fs_stk K g := (hsame c' (by simp [fs_R, hc2])).mp hc1
        have hcs := fs_lt hc1
        have huc' : u < c' := fs_lt (by rw [hc3]; exact List.mem_cons_self)
        rcases hp2 with h | ⟨h, h'⟩
        · have hm3 : c' ∈ fs_stk K i' := fs_cv (by omega) hm2 (by omega)
          rw [hse] at hm3
          rcases List.mem_cons.mp hm3 with h | h
          · omega
          · have := fs_lt h; omega
        · rw [hse] at h
          rcases List.mem_cons.mp h with h | h
          · subst h; omega
          · have := fs_lt h; omega
theorem fs_L4 (W : fs_WF K A B n) {i i' g : Nat} (hi : i < n) (hg : g < n) (hna : fs_nam (K g)) (h : fs_ST K A n i i') (hp : i = A g ∨ fs_pd K A g i) (hf : ¬ fs_fin K A g i) : fs_pd K A g i' := by
  obtain ⟨hsg, hs3, hsame, -⟩ := fs_nm W hg hna
  have hgk : K g = 5 ∨ K g = 6 ∨ K g = 7 ∨ K g = 9 := hna
  have hp' : A g ≤ i ∧ (i ≤ g ∨ (g ∈ fs_stk K i ∧ (K g = 5 ∨ K g = 6))) := by
    rcases hp with h | ⟨h1, h2⟩
    · exact ⟨by omega, Or.inl (by omega)⟩
    · exact ⟨by omega, h2⟩
  have hf1 : ¬ (i = g ∧ (K g = 7 ∨ K g = 9)) := fun z => hf (Or.inl z)
  have hf2 : ¬ (K i = 11 ∧ A i = g ∧ (K g = 5 ∨ K g = 6)) := fun z => hf (Or.inr z)
  clear hp hf
  obtain ⟨hp1, hp2⟩ := hp'
  unfold fs_pd
  generalize hsd : A g = s at *
  have hsn : s < n := by omega
  rcases h with ⟨h1, h2⟩ | ⟨h1, h2, h3⟩ | ⟨e, h1, h2, h3, h4, h5⟩ | ⟨h1, h2, h3⟩ | ⟨c, h1, h2, h3, h4, h5⟩ | ⟨u, e, h1, h2, h3, h4, h5, h6, h7, h8⟩
  · subst h1
    refine ⟨by omega, ?_⟩
    rcases hp2 with h | ⟨h, h'⟩
    · by_cases e1 : i = g
      · subst e1
        exact Or.inr ⟨by rw [fs_sO (by omega) (by omega)]; exact List.mem_cons_self, by omega⟩
      · exact Or.inl (by omega)
    · refine Or.inr ⟨?_, h'⟩
      by_cases h5 : 5 ≤ K i
      · rw [fs_sO (by omega) h5]; exact List.mem_cons_of_mem _ h
      · rw [fs_sP (by omega)]; exact h
  · subst h1
    refine ⟨by omega, ?_⟩
    rcases hp2 with h | ⟨h, h'⟩
    · by_cases e1 : i = g
      · subst e1; omega
      · exact Or.inl (by omega)
    · refine Or.inr ⟨?_, h'⟩
      rw [fs_sE' h2 (fs_en W hi h2)]
      rw [fs_en W hi h2] at h
      rcases List.mem_cons.mp h with h | h
      · exact absurd ⟨h2, h.symm, h'⟩ hf2
      · exact h
  · subst h1
    have hse := fs_en W h3 h4
    rw [h5] at hse
    have hie : i ∈ fs_stk K e := by rw [hse]; exact List.mem_cons_self
    have hlt := fs_lt hie
    have hst := fs_sE' h4 hse
    refine ⟨by omega, ?_⟩
    rcases hp2 with h | ⟨h, h'⟩
    · by_cases c1 : e + 1 ≤ g
      · exact Or.inl c1
      · exfalso
        have e1 : i ≠ g := by intro e1; subst e1; omega
        have e2 : g ≠ e := by intro e2; subst e2; omega
        have hm : i ∈ fs_stk K g := fs_cv (by omega) hie (by omega)
        have hm2 := (hsame i (by rcases h2 with h | h <;> simp [fs_R, h])).mpr hm
        have := fs_lt hm2
        omega
    · exact Or.inr ⟨by rw [hst]; exact h, h'⟩
  · subst h3
    have hse := fs_en W hi h1
    have hoi := fs_elt W hi h1
    generalize A i = o at *
    have hno : s ≠ o := by intro e1; subst e1; omega
    have hsi : s ≠ i := by intro e1; subst e1; omega
    have hoR : fs_R (K o) := by rcases h2 with h | h <;> simp [fs_R, h]
    have hlt : s < o := by
      by_cases c1 : s < o
      · exact c1
      · exfalso
        have hm : o ∈ fs_stk K s := fs_cv (by omega) (by rw [hse]; exact List.mem_cons_self : o ∈ fs_stk K i) (by omega)
        have hm2 := (hsame o hoR).mp hm
        rcases hp2 with h | ⟨h, h'⟩
        · have e1 : i ≠ g := by intro e1; subst e1; omega
          exact absurd hm2 (fs_cl h1 hse (by omega))
        · rw [hse] at h
          rcases List.mem_cons.mp h with h | h
          · subst h; omega
          · have := fs_lt h; omega
    refine ⟨by omega, ?_⟩
    rcases hp2 with h | ⟨h, h'⟩
    · exact Or.inl (by omega)
    · exact Or.inr ⟨by rw [fs_sO (by omega) (by omega), ← hse]; exact h, h'⟩
  · subst h1
    have hic : i ∈ fs_stk K c := by rw [h5]; exact List.mem_cons_self
    have hlt := fs_lt hic
    have hst := fs_sO (K := K) (i := c) (by omega) (by omega)
    refine ⟨by omega, ?_⟩
    rcases hp2 with h | ⟨h, h'⟩
    · by_cases c1 : c + 1 ≤ g
      · exact Or.inl c1
      · exfalso
        have e1 : i ≠ g := by intro e1; subst e1; omega
        have e2 : g ≠ c := by intro e2; subst e2; omega
        have hm : i ∈ fs_stk K g := fs_cv (by omega) hic (by omega)
        rcases fs_U W (by omega) hm h2 with h | ⟨c', hc1, hc2, hc3⟩
        · have := fs_un9 W hg i h h2
          omega
        · have hm2 := (hsame c' (by simp [fs_R, hc2])).mpr hc1
          have := fs_lt hm2
          have hic' : i < c' := fs_lt (by rw [hc3]; exact List.mem_cons_self)
          omega
    · exact Or.inr ⟨by rw [hst, h5]; exact List.mem_cons_of_mem _ (List.mem_cons_of_mem _ h), h'⟩
  · subst h8
    have hlt := fs_c6 W hi h1 h2 h3 h4 h5 h6 h7
    have hse := fs_en W h5 h6
    rw [h7] at hse
    have hsi := fs_en W hi h1
    have hsi' := hsi
    rw [h3] at hsi'
    refine ⟨by omega, ?_⟩
    rcases hp2 with h | ⟨h, h'⟩
    · by_cases c1 : i' ≤ g
      · exact Or.inl c1
      · exfalso
        have e1 : i ≠ g := by intro e1; subst e1; omega
        have hu : u < i := fs_lt (by rw [hsi']; exact List.mem_cons_of_mem _ List.mem_cons_self)
        have hm : u ∈ fs_stk K g := fs_cv (by omega) (by rw [hse]; exact List.mem_cons_self : u ∈ fs_stk K i') (by omega)
        rcases fs_U W (by omega) hm h4 with h | ⟨c', hc1, hc2, hc3⟩
        · have := fs_un9 W hg u h h4
          omega
        · have hm2 := (hsame c' (by simp [fs_R, hc2])).mpr hc1
          have hcs := fs_lt hm2
          have huc' : u < c' := fs_lt (by rw [hc3]; exact List.mem_cons_self)
          have hm3 : c' ∈ fs_stk K i := fs_cv (by omega) hc1 (by omega)
          rw [hsi'] at hm3
          rcases List.mem_cons.mp hm3 with h | h
          · subst h
            exact absurd hc1 (fs_cl h1 hsi (by omega))
          · rcases List.mem_cons.mp h with h | h
            · omega
            · have := fs_lt h; omega
    · rw [hsi] at h
      rcases List.mem_cons.mp h with h | h
      · subst h; omega
      · exact Or.inr ⟨by rw [hse, ← h3]; exact h, h'⟩
theorem fs_L5 (W : fs_WF K A B n) {i i' g : Nat} (hi : i < n) (h : fs_ST K A n i i') (hf : fs_fin K A g i) : ¬ fs_pd K A g i' := by
  intro hp
  obtain ⟨hp1, hp2⟩ := hp
  rcases hf with ⟨hf1, hf2⟩ | ⟨hf1, hf2, hf3⟩
  · subst hf1
    rcases hp2 with hp2 | ⟨-, hp2⟩
    · rcases h with ⟨h1, h2⟩ | ⟨h1, h2, h3⟩ | ⟨e, h1, h2, h3, h4, h5⟩ | ⟨h1, h2, h3⟩ | ⟨c, h1, h2, h3, h4, h5⟩ | ⟨u, e, h1, h2, h3, h4, h5, h6, h7, h8⟩
      · omega
      · omega
      · have := fs_elt W h3 h4; omega
      · omega
      · have : i < c := fs_lt (by rw [h5]; exact List.mem_cons_self)
        omega
      · omega
    · omega
  · subst hf2
    have hlt := fs_elt W hi hf1
    have hcl := fun {j} => fs_cl hf1 (fs_en W hi hf1) (j := j)
    rcases h with ⟨h1, h2⟩ | ⟨h1, h2, h3⟩ | ⟨e, h1, h2, h3, h4, h5⟩ | ⟨h1, h2, h3⟩ | ⟨c, h1, h2, h3, h4, h5⟩ | ⟨u, e, h1, h2, h3, h4, h5, h6, h7, h8⟩
    · omega
    · subst h1
      rcases hp2 with hp2 | ⟨hp2, -⟩
      · omega
      · exact hcl (by omega) hp2
    · omega
    · omega
    · omega
    · omega
/-! the measure -/
def fs_b (K : Nat → Nat) : Nat → Nat
  | 0 => 0
  | i + 1 => if K i = 7 ∨ K i = 8 then 1 else 0
def fs_m (K : Nat → Nat) (i p : Nat) : Nat := 32 * (129 - p - fs_b K i) + (32 - i)
theorem fs_b1 (i : Nat) : fs_b K i ≤ 1 := by
  cases i with
  | zero => exact Nat.zero_le 1
  | succ i => rw [fs_b]; split <;> omega
theorem fs_b0 {i : Nat} (h : ¬ (K i = 7 ∨ K i = 8)) : fs_b K (i + 1) = 0 := by rw [fs_b, if_neg h]
theorem fs_bs {i : Nat} (h : K i = 7 ∨ K i = 8) : fs_b K (i + 1) = 1 := by rw [fs_b, if_pos h]
theorem fs_bk (W : fs_WF K A B n) {i : Nat} (hi : i < n) (h : 3 < K i) : fs_b K i = 0 := by
  cases i with
  | zero => rfl
  | succ j =>
    by_cases c : K j = 7 ∨ K j = 8
    · have := fs_lo W hi c; omega
    · exact fs_b0 c
theorem fs_md (W : fs_WF K A B n) (hn : n ≤ 32) {i i' p p' : Nat} (hi : i < n) (h : fs_ST K A n i i') (hp : p ≤ p') (hp1 : K i ≤ 3 → p + 1 ≤ p') (h128 : p' ≤ 128) : fs_m K i' p' < fs_m K i p := by
  have hb := fs_b1 (K := K) i
  have hb' := fs_b1 (K := K) i'
  unfold fs_m
  rcases h with ⟨h1, h2⟩ | ⟨h1, h2, h3⟩ | ⟨e, h1, h2, h3, h4, h5⟩ | ⟨h1, h2, h3⟩ | ⟨c, h1, h2, h3, h4, h5⟩ | ⟨u, e, h1, h2, h3, h4, h5, h6, h7, h8⟩
  · subst h1
    by_cases c : K i ≤ 3
    · have := hp1 c
      have := fs_b0 (K := K) (i := i) (by omega)
      omega
    · have := fs_bk W hi (by omega)
      omega
  · subst h1
    have := fs_bk W hi (by omega)
    omega
  · subst h1
    have := fs_bk W hi (by omega)
    have := fs_elt W h3 h4
    omega
  · subst h3
    have := fs_bk W hi (by omega)
    have := fs_bs h2
    have := fs_elt W hi h1
    omega
  · subst h1
    have := fs_bk W hi (by omega)
    have : i < c := fs_lt (by rw [h5]; exact List.mem_cons_self)
    omega
  · subst h8
    have := fs_bk W hi (by omega)
    have := fs_c6 W hi h1 h2 h3 h4 h5 h6 h7
    omega
/-- in a sealed description every group has its END -/
theorem fs_ex (W : fs_WF K A B n) (hs : fs_stk K n = []) {g : Nat} (hg : g < n) (h5 : 5 ≤ K g) (h11 : K g ≠ 11) : ∃ e, e < n ∧ K e = 11 ∧ A e = g := by
  have key : ∀ d j, g < j → j + d = n → g ∈ fs_stk K j → ∃ e, e < n ∧ K e = 11 ∧ A e = g := by
    intro d
    induction d with
    | zero =>
      intro j hj hd hm
      have : j = n := by omega
      subst this
      rw [hs] at hm
      exact absurd hm List.not_mem_nil
    | succ d ih =>
      intro j hj hd hm
      by_cases c : K j = 11 ∧ A j = g
      · exact ⟨j, by omega, c.1, c.2⟩
      · refine ih (j + 1) (by omega) (by omega) ?_
        by_cases h1 : K j = 11
        · rw [fs_sE' h1 (fs_en W (by omega) h1)]
          rw [fs_en W (by omega) h1] at hm
          rcases List.mem_cons.mp hm with h | h
          · exact absurd ⟨h1, h.symm⟩ c
          · exact h
        · by_cases h5' : 5 ≤ K j
          · rw [fs_sO h1 h5']; exact List.mem_cons_of_mem _ hm
          · rw [fs_sP (by omega)]; exact hm
  exact key (n - (g + 1)) (g + 1) (by omega) (by omega) (by rw [fs_sO h11 h5]; exact List.mem_cons_self)
theorem fs_pd_end (hs : fs_stk K n = []) {g : Nat} (hg : g < n) : ¬ fs_pd K A g n := by
  intro h
  rcases h.2 with h | h
  · omega
  · rw [hs] at h
    exact absurd h.1 List.not_mem_nil
/-- control never stands on a CASE -/
theorem fs_nc (W : fs_WF K A B n) {i i' : Nat} (hi : i < n) (h : fs_ST K A n i i') (hi' : i' < n) : K i' ≠ 10 := by
  intro h10
  obtain ⟨u, hu, hu9⟩ := fs_cs W hi' h10
  rcases h with ⟨h1, h2⟩ | ⟨h1, h2, h3⟩ | ⟨e, h1, h2, h3, h4, h5⟩ | ⟨h1, h2, h3⟩ | ⟨c, h1, h2, h3, h4, h5⟩ | ⟨u, e, h1, h2, h3, h4, h5, h6, h7, h8⟩
  · subst h1
    by_cases c : 5 ≤ K i
    · rw [fs_sO (by omega) c] at hu
      injection hu with e1 e2
      subst e1; omega
    · rw [fs_sP (by omega)] at hu
      have := fs_un9 W hi u hu hu9
      omega
  · subst h1
    rw [fs_sE' h2 (fs_en W hi h2)] at hu
    have hlt := fs_elt W hi h2
    have := fs_un9 W (i := A i) (by omega) u hu hu9
    have := fs_op (fs_eo W hi h2)
    omega
  · subst h1
    rw [fs_sE' h4 (fs_en W h3 h4), h5] at hu
    have := fs_un9 W hi u hu hu9
    omega
  · subst h3
    rw [fs_sO (by omega) (by omega)] at hu
    injection hu with e1 e2
    subst e1; omega
  · subst h1
    rw [fs_sO (by omega) (by omega)] at hu
    injection hu with e1 e2
    subst e1; omega
  · subst h8; omega
theorem fs_nc0 (W : fs_WF K A B n) (h : 0 < n) : K 0 ≠ 10 := by
  intro h10
  obtain ⟨u, hu, hu9⟩ := fs_cs W h h10
  have h0 : ([] : List Nat) = u :: fs_stk K u := hu
  cases h0
theorem fs_le (W : fs_WF K A B n) {i i' : Nat} (hi : i < n) (h : fs_ST K A n i i') : i' ≤ n := by
  rcases h with ⟨h1, h2⟩ | ⟨h1, h2, h3⟩ | ⟨e, h1, h2, h3, h4, h5⟩ | ⟨h1, h2, h3⟩ | ⟨c, h1, h2, h3, h4, h5⟩ | ⟨u, e, h1, h2, h3, h4, h5, h6, h7, h8⟩
  · omega
  · omega
  · omega
  · have := fs_elt W hi h1; omega
  · omega
  · omega
end
end
section
/-! numbers in bits -/
theorem fs_lit (a : Nat) : ∀ (_ : a < 2 ^ 31), (nI a).toInt = a := fun h => nI_toInt h
/-- a with x's w bits written at p, the first k of them -/
def fs_w3 (a : Nat → Int32) (p w x k : Nat) : Nat → Int32 := fun q => if p ≤ q ∧ q < p + k then nI (x / 2 ^ (p + w - 1 - q) % 2) else a q
def fs_w (a : Nat → Int32) (p w x : Nat) : Nat → Int32 := fs_w3 a p w x w
def fs_wN (a : Nat → Nat) (p w x : Nat) : Nat → Nat := fun q => if p ≤ q ∧ q < p + w then x / 2 ^ (p + w - 1 - q) % 2 else a q
theorem fs_w0 (a : Nat → Int32) (p w x : Nat) : fs_w3 a p w x 0 = a := by
  funext q
  exact if_neg (by omega)
theorem fs_ws (a : Nat → Int32) {p w x k : Nat} (hk : k < w) : upd (fs_w3 a p w x k) (p + k) (nI (x / 2 ^ (w - 1 - k) % 2)) = fs_w3 a p w x (k + 1) := by
  funext q
  unfold upd fs_w3
  by_cases h : q = p + k
  · rw [if_pos h, if_pos (by omega), h, show p + w - 1 - (p + k) = w - 1 - k by omega]
  · rw [if_neg h]
    by_cases h2 : p ≤ q ∧ q < p + k
    · rw [if_pos h2, if_pos (by omega)]
    · rw [if_neg h2, if_neg (by omega)]
theorem fs_wF (a : Nat → Nat) (p w x : Nat) : fs_w (fs_F a) p w x = fs_F (fs_wN a p w x) := by
  funext q
  unfold fs_w fs_w3 fs_wN
  show _ = nI (if _ then _ else _)
  split <;> rfl
theorem fs_win {a : Nat → Int32} {p w x q : Nat} (h : p ≤ q) (h' : q < p + w) : fs_w a p w x q = nI (x / 2 ^ (p + w - 1 - q) % 2) := if_pos ⟨h, h'⟩
theorem fs_wout {a : Nat → Int32} {p w x q : Nat} (h : q < p ∨ p + w ≤ q) : fs_w a p w x q = a q := if_neg (by omega)
/-- the printed bit -/
theorem fs_bit {w k x : Nat} (hk : k < w) (hw : w ≤ 16) (hx : x < 2 ^ 31) : ((nI x >>> (((nI w - 1) - nI k) &&& 31)) &&& 1) = nI (x / 2 ^ (w - 1 - k) % 2) := by
  obtain ⟨v, rfl⟩ : ∃ v, w = v + 1 := ⟨w - 1, by omega⟩
  rw [nI_pred, pk_sub (by omega), pk_shrN hx _ (v - k) (s_l _ (by omega))]
  have h2 : x / 2 ^ (v - k) ≤ x := Nat.div_le_self _ _
  rw [pk_andN (by omega) 1 (by decide), Nat.pow_one, show v + 1 - 1 - k = v - k by omega]
def fs_nb (M : Nat → Nat) (p : Nat) : Nat → Nat
  | 0 => 0
  | w + 1 => 2 * fs_nb M p w + M (p + w)
theorem fs_nb_cg {M M' : Nat → Nat} {p w : Nat} (h : ∀ j, j < w → M (p + j) = M' (p + j)) : fs_nb M p w = fs_nb M' p w := by
  induction w with
  | zero => rfl
  | succ w ih => rw [fs_nb, fs_nb, ih (fun j hj => h j (by omega)), h w (by omega)]
theorem fs_nb_lt {M : Nat → Nat} {p w : Nat} (h : ∀ j, j < w → M (p + j) ≤ 1) : fs_nb M p w < 2 ^ w := by
  induction w with
  | zero => exact Nat.one_pos
  | succ w ih =>
    have := ih (fun j hj => h j (by omega))
    have := h w (by omega)
    rw [fs_nb, Nat.pow_succ]
    omega
theorem fs_nb_of {M : Nat → Nat} {p : Nat} : ∀ {w x : Nat}, (∀ j, j < w → M (p + j) = x / 2 ^ (w - 1 - j) % 2) → fs_nb M p w = x % 2 ^ w := by
  intro w
  induction w with
  | zero => intro x _; rw [fs_nb, Nat.pow_zero, Nat.mod_one]
  | succ w ih =>
    intro x h
    have h0 := h w (by omega)
    rw [show w + 1 - 1 - w = 0 by omega, Nat.pow_zero, Nat.div_one] at h0
    have h1 := ih (x := x / 2) (fun j hj => by
      rw [h j (by omega), show w + 1 - 1 - j = (w - 1 - j) + 1 by omega, Nat.pow_succ, Nat.mul_comm, ← Nat.div_div_eq_div_mul])
    rw [fs_nb, h1, h0, Nat.pow_succ, Nat.mul_comm (2 ^ w) 2, Nat.mod_mul]
    omega
theorem fs_nb_bit {M : Nat → Nat} {p : Nat} : ∀ {w : Nat}, (∀ j, j < w → M (p + j) ≤ 1) → ∀ j, j < w → fs_nb M p w / 2 ^ (w - 1 - j) % 2 = M (p + j) := by
  intro w
  induction w with
  | zero => intro _ j hj; omega
  | succ w ih =>
    intro h j hj
    have hw := h w (by omega)
    by_cases e : j = w
    · subst e
      rw [show j + 1 - 1 - j = 0 by omega, Nat.pow_zero, Nat.div_one, fs_nb]
      omega
    · have h1 := ih (fun j hj => h j (by omega)) j (by omega)
      rw [← h1, show w + 1 - 1 - j = (w - 1 - j) + 1 by omega, Nat.pow_succ, Nat.mul_comm, ← Nat.div_div_eq_div_mul, fs_nb]
      rw [show (2 * fs_nb M p w + M (p + w)) / 2 = fs_nb M p w by omega]
theorem fs_or1 {x b : Nat} (hb : b ≤ 1) : (2 * x) ||| b = 2 * x + b := by
  have h := Nat.two_pow_add_eq_or_of_lt (i := 1) (b := b) (by omega) x
  rw [Nat.pow_one] at h
  exact h.symm
theorem fs_nxor (a b : Nat) : nI a ||| nI b = nI (a ||| b) := by
  apply Int32.toBitVec_inj.1
  show BitVec.ofNat 32 a ||| BitVec.ofNat 32 b = BitVec.ofNat 32 (a ||| b)
  apply BitVec.eq_of_getLsbD_eq
  intro i hi
  simp [hi]
/-- X's and Y's next number -/
theorem fs_nX {x b : Nat} (hx : x < 2 ^ 30) (hb : b ≤ 1) : ((nI x <<< ((1 : Int32) &&& 31)) ||| nI b) = nI (2 * x + b) := by
  rw [pk_shlN _ 1 (by decide) (by omega), Nat.pow_one, Nat.mul_comm x 2, fs_nxor, fs_or1 hb]
theorem fs_nY (x b : Nat) : (2 * nI x) + nI b = nI (2 * x + b) := by
  rw [show (2 : Int32) = nI 2 by rfl, pk_mul, nI_add]
theorem fs_p16 {w : Nat} (h : w ≤ 16) : 2 ^ w ≤ 65536 := by
  have := Nat.pow_le_pow_right (n := 2) (by decide) h
  exact Nat.le_trans this (by decide)
/-- 1 << w -/
theorem fs_1l {w : Nat} (h : w ≤ 16) : ((1 : Int32) <<< (nI w &&& 31)) = nI (2 ^ w) := by
  have := fs_p16 h
  have e := pk_shlN (n := 1) (nI w &&& 31) w (s_l _ (by omega)) (by omega)
  rw [Nat.one_mul] at e
  exact e
theorem fs_mask {w : Nat} (h : w ≤ 16) : ((1 : Int32) <<< (nI w &&& 31)) - 1 = nI (2 ^ w - 1) := by
  have h0 := Nat.two_pow_pos w
  rw [fs_1l h, show (1 : Int32) = nI 1 by rfl, pk_sub (by omega)]
/-- x >> w = 0 -/
theorem fs_sh0 {w : Nat} (h : w ≤ 16) (x : Int32) : (x >>> (nI w &&& 31)) = 0 ↔ ∃ a : Nat, a < 2 ^ w ∧ x = nI a := by
  have hp := fs_p16 h
  have h0 := Nat.two_pow_pos w
  have e := pk_shr x (nI w &&& 31) w (s_l _ (by omega))
  constructor
  · intro hz
    rw [hz, show (0 : Int32).toInt = 0 by decide, Int.shiftRight_eq_div_pow] at e
    have hx : 0 ≤ x.toInt ∧ x.toInt < (2 ^ w : Nat) := by
      have h1 := Int.emod_nonneg x.toInt (b := ((2 ^ w : Nat) : Int)) (by omega)
      have h2 := Int.emod_lt_of_pos x.toInt (b := ((2 ^ w : Nat) : Int)) (by omega)
      have h3 := Int.mul_ediv_add_emod x.toInt ((2 ^ w : Nat) : Int)
      rw [← e, Int.mul_zero] at h3
      omega
    obtain ⟨a, ha, rfl⟩ := nI_of (x := x) (by rw [Int32.lt_iff_toInt_lt, show (0 : Int32).toInt = 0 by decide]; omega)
    rw [nI_toInt ha] at hx
    exact ⟨a, by omega, rfl⟩
  · rintro ⟨a, ha, rfl⟩
    rw [pk_shrN (by omega) _ w (s_l _ (by omega)), Nat.div_eq_of_lt ha]
    rfl
/-- 0 ≤ x < 1 << w -/
theorem fs_lt1 {w : Nat} (h : w ≤ 16) (x : Int32) : (¬ x < 0 ∧ x < ((1 : Int32) <<< (nI w &&& 31))) ↔ ∃ a : Nat, a < 2 ^ w ∧ x = nI a := by
  have hp := fs_p16 h
  rw [fs_1l h]
  constructor
  · rintro ⟨h1, h2⟩
    obtain ⟨a, ha, rfl⟩ := nI_of h1
    rw [nI_ltI ha (by omega)] at h2
    exact ⟨a, h2, rfl⟩
  · rintro ⟨a, ha, rfl⟩
    exact ⟨nI_pos (by omega), nI_lt ha (by omega)⟩
/-! the checksum -/
def fs_c1 (w y : Nat) (b : Int32) (c : Nat) : Nat := if nI (c / 2 ^ (w - 1) % 2) = b then 2 * c % 2 ^ w else (2 * c % 2 ^ w) ^^^ y
def fs_ck (w y : Nat) (a : Nat → Int32) : Nat → Nat → Nat → Nat
  | _, 0, c => c
  | k, d + 1, c => fs_ck w y a (k + 1) d (fs_c1 w y (a k) c)
theorem fs_c1_lt {w y c : Nat} {b : Int32} (hy : y < 2 ^ w) : fs_c1 w y b c < 2 ^ w := by
  have h0 := Nat.mod_lt (2 * c) (Nat.two_pow_pos w)
  unfold fs_c1
  split
  · exact h0
  · exact Nat.xor_lt_two_pow h0 hy
theorem fs_ck_lt {w y : Nat} {a : Nat → Int32} (hy : y < 2 ^ w) : ∀ {d k c : Nat}, c < 2 ^ w → fs_ck w y a k d c < 2 ^ w := by
  intro d
  induction d with
  | zero => intro k c h; exact h
  | succ d ih => intro k c h; exact ih (fs_c1_lt hy)
theorem fs_ck_cg {w y : Nat} {a a' : Nat → Int32} : ∀ {d k c : Nat}, (∀ q, k ≤ q → q < k + d → a q = a' q) → fs_ck w y a k d c = fs_ck w y a' k d c := by
  intro d
  induction d with
  | zero => intro k c _; rfl
  | succ d ih =>
    intro k c h
    rw [fs_ck, fs_ck, h k (Nat.le_refl k) (by omega)]
    exact ih (fun q h1 h2 => h q (by omega) (by omega))
/-- the checksum of the bits from p to q - 1 -/
def fs_cs0 (w y : Nat) (a : Nat → Int32) (p q : Nat) : Nat := fs_ck w y a p (q - p) (2 ^ w - 1)
theorem fs_cs0_lt {w y : Nat} {a : Nat → Int32} (hy : y < 2 ^ w) (p q : Nat) : fs_cs0 w y a p q < 2 ^ w :=
  fs_ck_lt hy (by have := Nat.two_pow_pos w; omega)
theorem fs_cs0_cg {w y : Nat} {a a' : Nat → Int32} {p q : Nat} (h : ∀ j, p ≤ j → j < q → a j = a' j) : fs_cs0 w y a p q = fs_cs0 w y a' p q :=
  fs_ck_cg (fun j h1 h2 => h j h1 (by omega))
theorem fs_h1 {w c : Nat} (hw : 1 ≤ w) (hw2 : w ≤ 16) (hc : c < 2 ^ w) : ((nI c >>> ((nI w - 1) &&& 31)) &&& 1) = nI (c / 2 ^ (w - 1) % 2) := by
  have hp := fs_p16 hw2
  obtain ⟨v, rfl⟩ : ∃ v, w = v + 1 := ⟨w - 1, by omega⟩
  rw [nI_pred, pk_shrN (by omega) _ v (s_l _ (by omega))]
  have h2 : c / 2 ^ v ≤ c := Nat.div_le_self _ _
  rw [pk_andN (by omega) 1 (by decide), Nat.pow_one]
  rfl
theorem fs_tn {w : Nat} (hw2 : w ≤ 16) : (nI (2 ^ w - 1)).toBitVec.toNat = 2 ^ w - 1 := by
  have hp := fs_p16 hw2
  exact pk_tn (by omega)
theorem fs_hX {w c : Nat} (hw2 : w ≤ 16) (hc : c < 2 ^ w) : ((nI c <<< ((1 : Int32) &&& 31)) &&& nI (2 ^ w - 1)) = nI (2 * c % 2 ^ w) := by
  have hp := fs_p16 hw2
  rw [pk_shlN _ 1 (by decide) (by omega), Nat.pow_one, Nat.mul_comm c 2, pk_andN (by omega) w (fs_tn hw2)]
theorem fs_hY {w c : Nat} (hw2 : w ≤ 16) (hc : c < 2 ^ w) : ((2 * nI c) &&& nI (2 ^ w - 1)) = nI (2 * c % 2 ^ w) := by
  have hp := fs_p16 hw2
  rw [show (2 : Int32) = nI 2 by rfl, pk_mul, pk_andN (by omega) w (fs_tn hw2)]
end
section
/-! the component's small methods -/
def fs_bdd (K A B : Nat → Nat) : Prop := ∀ j, K j ≤ 11 ∧ A j < 65536 ∧ B j < 65536
def fs_open (op : Nat → Int32) : List Nat → Prop
  | [] => True
  | g :: r => op r.length = nI g ∧ fs_open op r
theorem fs_open_cg {op op' : Nat → Int32} : ∀ {l : List Nat}, (∀ k, k < l.length → op' k = op k) → fs_open op l → fs_open op' l := by
  intro l
  induction l with
  | nil => intro _ _; trivial
  | cons g r ih =>
    intro h ho
    exact ⟨(h _ (by rw [List.length_cons]; omega)).trans ho.1, ih (fun k hk => h k (by rw [List.length_cons]; omega)) ho.2⟩
def fs_lst (P : Nat → Prop) (n : Nat) : Option Nat → Prop
  | none => ∀ j, j < n → ¬ P j
  | some c => c < n ∧ P c ∧ ∀ j, j < c → ¬ P j
theorem fs_lst_ex (P : Nat → Prop) (n : Nat) : ∃ o, fs_lst P n o := by
  by_cases h : ∃ k, k < n ∧ P k
  · obtain ⟨k, hk, hl⟩ := pk_least (fun k => k < n ∧ P k) h
    exact ⟨some k, hk.1, hk.2, fun j hj hp => hl j hj ⟨by omega, hp⟩⟩
  · exact ⟨none, fun j hj hp => h ⟨j, hj, hp⟩⟩
theorem fs_oI_some {o : Option Nat} {u : Nat} (ho : ∀ g, o = some g → g < 2 ^ 31) (hu : u < 2 ^ 31) : fs_oI o = nI u ↔ o = some u := by
  cases o with
  | none =>
    constructor
    · intro h
      have h1 : (-1 : Int32) = nI u := h
      have h2 : ¬ nI u < 0 := nI_pos hu
      rw [← h1] at h2
      exact absurd (by decide) h2
    · intro h; cases h
  | some g =>
    constructor
    · intro h
      have h1 : nI g = nI u := h
      rw [nI_eq (ho g rfl) hu] at h1
      rw [h1]
    · intro h
      injection h with h
      rw [h]; rfl
theorem fs_m1 (x : Int32) : x + (-1) = x - 1 := (Int32.sub_eq_add_neg x 1).symm
section
variable {mi mb mv n vc bc : Nat} {oc sl pc ps tk fl : Int32} {K A B V M : Nat → Nat} {pa rg eo nm op wb wv sa st lf cp si sf so : Nat → Int32}
theorem xs_inn {post : Int32 → Prop} {aA aB : Nat → Int32} {l : List Nat} (hl : l.length ≤ 32) (hop : fs_open op l) (h : post (fs_oI l.head?)) : wpX_innermost post (nI mi, nI mb, nI mv, nI n, nI l.length, sl, nI vc, nI bc, pc, ps, tk, fl, fs_F K, aA, aB, pa, rg, eo, nm, op, fs_F V, fs_F M, wb, wv, sa, st, lf, cp, si, sf, so) := by
  cases l with
  | nil => exact br_t (by decide) h
  | cons g r =>
    rw [List.length_cons] at hl ⊢
    refine br_f (nI_nle (by omega) (by omega)) ?_
    rw [nI_pred]
    refine And.intro (vp_in_nI (by omega) (by decide)) ?_
    rw [nI_clamp (by omega), hop.1]
    exact h
theorem xs_reg7 {post : Int32 → Prop} {aA aB : Nat → Int32} (hb : ∀ j, K j ≤ 11) : ∀ {l : List Nat}, l.length ≤ 32 → fs_open op l → (∀ g, g ∈ l → g < 32) → post (fs_oI (fs_rgo K l)) → wX_currentRegion_7 post (nI mi) (nI mb) (nI mv) (nI n) oc sl (nI vc) (nI bc) pc ps tk fl (fs_F K) aA aB pa rg eo nm op (fs_F V) (fs_F M) wb wv sa st lf cp si sf so (l.length + 1) (nI l.length - 1) := by
  intro l
  induction l with
  | nil => intro _ _ _ h; exact br_t (by decide) h
  | cons g r ih =>
    intro hl hop hm h
    rw [List.length_cons] at hl ⊢
    rw [nI_pred]
    have hg : g < 32 := hm g List.mem_cons_self
    have hkg := hb g
    have hv : vp_in (nI r.length) 32 := vp_in_nI (by omega) (by decide)
    have e1 : op (nI r.length).toNatClampNeg = nI g := by rw [nI_clamp (by omega)]; exact hop.1
    refine br_f (nI_pos (by omega)) (And.intro hv ?_)
    rw [e1]
    rw [fs_rgo] at h
    refine And.intro (vp_in_nI hg (by decide)) (nm_r (fs_Fat (by omega)) ?_)
    refine pk_eq (K g) 7 (fun e => ⟨hv, by rw [if_pos (Or.inl e)] at h; exact h⟩) (fun e7 => ?_)
    refine pk_eq (K g) 8 (fun e => ⟨hv, by rw [if_pos (Or.inr (Or.inl e))] at h; exact h⟩) (fun e8 => ?_)
    refine pk_eq (K g) 10 (fun e => ⟨hv, by rw [if_pos (Or.inr (Or.inr e))] at h; exact h⟩) (fun e10 => ?_)
    rw [if_neg (by omega)] at h
    refine nm_r (fs_m1 _) ?_
    exact ih (by omega) hop.2 (fun x hx => hm x (List.mem_cons_of_mem g hx)) h
theorem xs_reg {post : Int32 → Prop} {aA aB : Nat → Int32} (hb : ∀ j, K j ≤ 11) {l : List Nat} (hl : l.length ≤ 32) (hop : fs_open op l) (hm : ∀ g, g ∈ l → g < 32) (h : post (fs_oI (fs_rgo K l))) : wpX_currentRegion post (nI mi, nI mb, nI mv, nI n, nI l.length, sl, nI vc, nI bc, pc, ps, tk, fl, fs_F K, aA, aB, pa, rg, eo, nm, op, fs_F V, fs_F M, wb, wv, sa, st, lf, cp, si, sf, so) := by
  unfold wpX_currentRegion
  exact nm_e ⟨_, xs_reg7 hb hl hop hm h⟩
theorem xs_names {post : Int32 → Prop} {aA aB : Nat → Int32} {k : Nat} (hk : k ≤ 11) (h1 : fs_nam k → post 1) (h0 : ¬ fs_nam k → post 0) : wpX_namesSlot post (nI mi, nI mb, nI mv, nI n, oc, sl, nI vc, nI bc, pc, ps, tk, fl, fs_F K, aA, aB, pa, rg, eo, nm, op, fs_F V, fs_F M, wb, wv, sa, st, lf, cp, si, sf, so) (nI k) := by
  unfold wpX_namesSlot
  refine pk_eq k 5 (fun e => h1 (Or.inl e)) (fun e5 => ?_)
  refine pk_eq k 6 (fun e => h1 (Or.inr (Or.inl e))) (fun e6 => ?_)
  refine pk_eq k 7 (fun e => h1 (Or.inr (Or.inr (Or.inl e)))) (fun e7 => ?_)
  refine pk_eq k 9 (fun e => h1 (Or.inr (Or.inr (Or.inr e)))) (fun e9 => h0 ?_)
  unfold fs_nam
  omega
/-- the CASE with tag x in UNION w -/
def fs_isC (K A : Nat → Nat) (w : Nat) (x : Int32) (j : Nat) : Prop := K j = 10 ∧ nI (A j) = x ∧ (fs_stk K j).head? = some w
theorem fs_hdlt {K : Nat → Nat} {j g : Nat} (h : (fs_stk K j).head? = some g) : g < j := by
  cases e : fs_stk K j with
  | nil => rw [e] at h; cases h
  | cons a r =>
    rw [e] at h
    injection h with h
    subst h
    exact fs_lt (by rw [e]; exact List.mem_cons_self)
theorem xs_cof {post : Int32 → Prop} {w : Nat} {x : Int32} {o : Option Nat} (hn : n ≤ 32) (hb : fs_bdd K A B) (hpa : ∀ j, j < n → pa j = fs_oI (fs_stk K j).head?) (hw : w < n) (ho : fs_lst (fs_isC K A w x) n o) (h : post (fs_oI o)) : wpX_caseOf post (nI mi, nI mb, nI mv, nI n, oc, sl, nI vc, nI bc, pc, ps, tk, fl, fs_F K, fs_F A, fs_F B, pa, rg, eo, nm, op, fs_F V, fs_F M, wb, wv, sa, st, lf, cp, si, sf, so) (nI w) x := by
  have key : ∀ d j, j + d = n → (∀ i, i < j → ¬ fs_isC K A w x i) → wX_caseOf_4 post (nI w) x (nI mi) (nI mb) (nI mv) (nI n) oc sl (nI vc) (nI bc) pc ps tk fl (fs_F K) (fs_F A) (fs_F B) pa rg eo nm op (fs_F V) (fs_F M) wb wv sa st lf cp si sf so (d + 1) (nI j) := by
    intro d
    induction d with
    | zero =>
      intro j hj hi
      refine br_t (nI_le (by omega) (by omega)) ?_
      cases o with
      | none => exact h
      | some c => exact absurd ho.2.1 (hi c (by have := ho.1; omega))
    | succ d ih =>
      intro j hj hi
      have hv : vp_in (nI j) 32 := vp_in_nI (by omega) (by decide)
      have hkj := (hb j).1
      refine br_f (nI_ge (by omega) (by omega)) (And.intro hv ?_)
      have go : ¬ fs_isC K A w x j → ∀ y : Int32, y = nI j + 1 → wX_caseOf_4 post (nI w) x (nI mi) (nI mb) (nI mv) (nI n) oc sl (nI vc) (nI bc) pc ps tk fl (fs_F K) (fs_F A) (fs_F B) pa rg eo nm op (fs_F V) (fs_F M) wb wv sa st lf cp si sf so (d + 1) y := by
        intro hc y hy
        rw [hy, nI_1]
        refine ih (j + 1) (by omega) (fun i hij => ?_)
        by_cases e : i = j
        · subst e; exact hc
        · exact hi i (by omega)
      rw [fs_Fat (f := K) (by omega)]
      refine pk_eq (K j) 10 (fun e => And.intro hv ?_) (fun e => go (fun z => e z.1))
      have ep : pa (nI j).toNatClampNeg = fs_oI (fs_stk K j).head? := by rw [nI_clamp (by omega)]; exact hpa j (by omega)
      have ei : pa (nI j).toNatClampNeg = nI w ↔ (fs_stk K j).head? = some w := by
        rw [ep]
        exact fs_oI_some (fun g hg => by have := fs_hdlt hg; omega) (by omega)
      refine br_c (fun e2 => And.intro hv ?_) (fun e2 => go (fun z => e2 (ei.mpr z.2.2)))
      have e3 := ei.mp e2
      rw [fs_Fat (f := A) (by omega)]
      refine br_c (fun e4 => ?_) (fun e4 => go (fun z => e4 z.2.1))
      have hc : fs_isC K A w x j := ⟨e, e4, e3⟩
      cases o with
      | none => exact absurd hc (ho j (by omega))
      | some c =>
        have : c = j := by
          rcases Nat.lt_trichotomy c j with q | q | q
          · exact absurd ho.2.1 (hi c q)
          · exact q
          · exact absurd hc (ho.2.2 j q)
        rw [← this]
        exact h
  unfold wpX_caseOf
  refine nm_r (nI_1 w) ⟨_, key (n - (w + 1)) (w + 1) (by omega) (fun i hi hc => ?_)⟩
  have := fs_hdlt hc.2.2
  omega
theorem xs_wn {post : SX → Prop} {p w x : Nat} (hp : p + w ≤ 128) (hw : w ≤ 16) (hx : x < 2 ^ 31) (h : post (nI mi, nI mb, nI mv, nI n, oc, sl, nI vc, nI bc, pc, ps, tk, fl, fs_F K, fs_F A, fs_F B, pa, rg, eo, nm, op, fs_F V, fs_F M, fs_w wb p w x, wv, sa, st, lf, cp, si, sf, so)) : wpX_writeNumber__workBits post (nI mi, nI mb, nI mv, nI n, oc, sl, nI vc, nI bc, pc, ps, tk, fl, fs_F K, fs_F A, fs_F B, pa, rg, eo, nm, op, fs_F V, fs_F M, wb, wv, sa, st, lf, cp, si, sf, so) (nI p) (nI w) (nI x) := by
  have key : ∀ d k, k + d = w → wX_writeNumber__workBits_3 post (nI p) (nI w) (nI x) (nI mi) (nI mb) (nI mv) (nI n) oc sl (nI vc) (nI bc) pc ps tk fl (d + 1) (nI k) (fs_F K) (fs_F A) (fs_F B) pa rg eo nm op (fs_F V) (fs_F M) (fs_w3 wb p w x k) wv sa st lf cp si sf so := by
    intro d
    induction d with
    | zero =>
      intro k hk
      refine br_t (nI_le (by omega) (by omega)) ?_
      have : k = w := by omega
      rw [this]
      exact h
    | succ d ih =>
      intro k hk
      refine br_f (nI_ge (by omega) (by omega)) ?_
      rw [nI_add, nI_clamp (n := p + k) (by omega), fs_bit (by omega) hw hx, fs_ws wb (by omega)]
      exact And.intro (vp_in_nI (by omega) (by decide)) (nm_e (nm_r (nI_1 k) (ih (k + 1) (by omega))))
  have h0 := key w 0 (by omega)
  rw [fs_w0] at h0
  exact ⟨_, h0⟩
theorem xs_wm {post : SX → Prop} {p w x : Nat} (hp : p + w ≤ 128) (hw : w ≤ 16) (hx : x < 2 ^ 31) (h : post (nI mi, nI mb, nI mv, nI n, oc, sl, nI vc, nI bc, pc, ps, tk, fl, fs_F K, fs_F A, fs_F B, pa, rg, eo, nm, op, fs_F V, fs_F (fs_wN M p w x), wb, wv, sa, st, lf, cp, si, sf, so)) : wpX_writeNumber__message post (nI mi, nI mb, nI mv, nI n, oc, sl, nI vc, nI bc, pc, ps, tk, fl, fs_F K, fs_F A, fs_F B, pa, rg, eo, nm, op, fs_F V, fs_F M, wb, wv, sa, st, lf, cp, si, sf, so) (nI p) (nI w) (nI x) := by
  have key : ∀ d k, k + d = w → wX_writeNumber__message_3 post (nI p) (nI w) (nI x) (nI mi) (nI mb) (nI mv) (nI n) oc sl (nI vc) (nI bc) pc ps tk fl (d + 1) (nI k) (fs_F K) (fs_F A) (fs_F B) pa rg eo nm op (fs_F V) (fs_w3 (fs_F M) p w x k) wb wv sa st lf cp si sf so := by
    intro d
    induction d with
    | zero =>
      intro k hk
      refine br_t (nI_le (by omega) (by omega)) ?_
      have : k = w := by omega
      rw [this]
      have e := fs_wF M p w x
      unfold fs_w at e
      rw [e]
      exact h
    | succ d ih =>
      intro k hk
      refine br_f (nI_ge (by omega) (by omega)) ?_
      rw [nI_add, nI_clamp (n := p + k) (by omega), fs_bit (by omega) hw hx, fs_ws (fs_F M) (by omega)]
      exact And.intro (vp_in_nI (by omega) (by decide)) (nm_e (nm_r (nI_1 k) (ih (k + 1) (by omega))))
  have h0 := key w 0 (by omega)
  rw [fs_w0] at h0
  exact ⟨_, h0⟩
theorem xs_num {post : Int32 → Prop} {p w : Nat} (hM : ∀ j, M j ≤ 1) (hp : p + w ≤ 128) (hw : w ≤ 16) (h : post (nI (fs_nb M p w))) : wpX_numberAt post (nI mi, nI mb, nI mv, nI n, oc, sl, nI vc, nI bc, pc, ps, tk, fl, fs_F K, fs_F A, fs_F B, pa, rg, eo, nm, op, fs_F V, fs_F M, wb, wv, sa, st, lf, cp, si, sf, so) (nI p) (nI w) := by
  have key : ∀ d k, k + d = w → wX_numberAt_5 post (nI p) (nI w) (nI mi) (nI mb) (nI mv) (nI n) oc sl (nI vc) (nI bc) pc ps tk fl (fs_F K) (fs_F A) (fs_F B) pa rg eo nm op (fs_F V) (fs_F M) wb wv sa st lf cp si sf so (d + 1) (nI (fs_nb M p k)) (nI k) := by
    intro d
    induction d with
    | zero =>
      intro k hk
      have : k = w := by omega
      subst this
      exact br_t (nI_le (by omega) (by omega)) h
    | succ d ih =>
      intro k hk
      have hlt : fs_nb M p k < 2 ^ k := fs_nb_lt (fun j _ => hM _)
      have hp2 := fs_p16 (w := k) (by omega)
      refine br_f (nI_ge (by omega) (by omega)) ?_
      rw [nI_add, fs_Fat (f := M) (i := p + k) (by omega), fs_nX (by omega) (hM _)]
      exact And.intro (vp_in_nI (by omega) (by decide)) (nm_e (nm_r (nI_1 k) (ih (k + 1) (by omega))))
  exact ⟨_, key w 0 (by omega)⟩
end
end
section
/-! the component's checksums -/
section
variable {mi mb mv n vc bc : Nat} {oc sl pc ps tk fl : Int32} {K A B V M : Nat → Nat} {pa rg eo nm op wb wv sa st lf cp si sf so : Nat → Int32}
theorem xs_ckW {post : Int32 → Prop} {g p q : Nat} (hb : fs_bdd K A B) (hg : g < 32) (hs : A g < 32) (hw1 : 1 ≤ A (A g)) (hw : A (A g) ≤ 16) (hB : B g < 2 ^ A (A g)) (hpq : p ≤ q) (hq : q ≤ 128) (h : post (nI (fs_cs0 (A (A g)) (B g) wb p q))) : wpX_checksum__workBits post (nI mi, nI mb, nI mv, nI n, oc, sl, nI vc, nI bc, pc, ps, tk, fl, fs_F K, fs_F A, fs_F B, pa, rg, eo, nm, op, fs_F V, fs_F M, wb, wv, sa, st, lf, cp, si, sf, so) (nI p) (nI q) (nI g) := by
  generalize hwd : A (A g) = w at *
  have hp16 := fs_p16 hw
  have key : ∀ d k c, k + d = q → c < 2 ^ w → post (nI (fs_ck w (B g) wb k d c)) → wX_checksum__workBits_29 post (nI q) (nI g) (nI w) (nI (2 ^ w - 1)) (nI mi) (nI mb) (nI mv) (nI n) oc sl (nI vc) (nI bc) pc ps tk fl (fs_F K) (fs_F A) (fs_F B) pa rg eo nm op (fs_F V) (fs_F M) wb wv sa st lf cp si sf so (d + 1) (nI c) (nI k) := by
    intro d
    induction d with
    | zero =>
      intro k c hk hc hp
      exact br_t (nI_le (by omega) (by omega)) hp
    | succ d ih =>
      intro k c hk hc hp
      rw [fs_ck] at hp
      refine br_f (nI_ge (by omega) (by omega)) (nm_r (fs_h1 hw1 hw hc) (nm_r (fs_hX hw hc) (And.intro (vp_in_nI (by omega) (by decide)) ?_)))
      have es : wb (nI k).toNatClampNeg = wb k := by rw [nI_clamp (by omega)]
      have hc1 : fs_c1 w (B g) (wb k) c < 2 ^ w := fs_c1_lt hB
      refine br_c (fun e => nm_r (nI_1 k) ?_) (fun e => ?_)
      · have e1 : fs_c1 w (B g) (wb k) c = 2 * c % 2 ^ w := if_pos (e.trans es)
        rw [← e1]
        exact ih (k + 1) _ (by omega) hc1 hp
      · have e1 : fs_c1 w (B g) (wb k) c = (2 * c % 2 ^ w) ^^^ B g := if_neg (fun z => e (z.trans es.symm))
        refine And.intro (vp_in_nI hg (by decide)) ?_
        rw [fs_Fat (f := B) (by omega), nx_xor, ← e1]
        exact nm_e (nm_r (nI_1 k) (ih (k + 1) _ (by omega) hc1 hp))
  have h0 := Nat.two_pow_pos w
  unfold wpX_checksum__workBits
  refine And.intro (vp_in_nI hg (by decide)) ?_
  rw [fs_Fat (f := A) (i := g) (by omega), fs_Fat (f := A) (i := A g) (by omega), hwd]
  exact And.intro (vp_in_nI hs (by decide)) (nm_e (nm_r (fs_mask hw) ⟨_, key (q - p) p (2 ^ w - 1) (by omega) (by omega) h⟩))
theorem xs_ckM {post : Int32 → Prop} {g p q : Nat} (hb : fs_bdd K A B) (hg : g < 32) (hs : A g < 32) (hw1 : 1 ≤ A (A g)) (hw : A (A g) ≤ 16) (hB : B g < 2 ^ A (A g)) (hpq : p ≤ q) (hq : q ≤ 128) (h : post (nI (fs_cs0 (A (A g)) (B g) (fs_F M) p q))) : wpX_checksum__message post (nI mi, nI mb, nI mv, nI n, oc, sl, nI vc, nI bc, pc, ps, tk, fl, fs_F K, fs_F A, fs_F B, pa, rg, eo, nm, op, fs_F V, fs_F M, wb, wv, sa, st, lf, cp, si, sf, so) (nI p) (nI q) (nI g) := by
  generalize hwd : A (A g) = w at *
  have hp16 := fs_p16 hw
  have key : ∀ d k c, k + d = q → c < 2 ^ w → post (nI (fs_ck w (B g) (fs_F M) k d c)) → wX_checksum__message_29 post (nI q) (nI g) (nI w) (nI (2 ^ w - 1)) (nI mi) (nI mb) (nI mv) (nI n) oc sl (nI vc) (nI bc) pc ps tk fl (fs_F K) (fs_F A) (fs_F B) pa rg eo nm op (fs_F V) (fs_F M) wb wv sa st lf cp si sf so (d + 1) (nI c) (nI k) := by
    intro d
    induction d with
    | zero =>
      intro k c hk hc hp
      exact br_t (nI_le (by omega) (by omega)) hp
    | succ d ih =>
      intro k c hk hc hp
      rw [fs_ck] at hp
      refine br_f (nI_ge (by omega) (by omega)) (nm_r (fs_h1 hw1 hw hc) (nm_r (fs_hX hw hc) (And.intro (vp_in_nI (by omega) (by decide)) ?_)))
      have es : (fs_F M) (nI k).toNatClampNeg = (fs_F M) k := by rw [nI_clamp (by omega)]
      have hc1 : fs_c1 w (B g) ((fs_F M) k) c < 2 ^ w := fs_c1_lt hB
      refine br_c (fun e => nm_r (nI_1 k) ?_) (fun e => ?_)
      · have e1 : fs_c1 w (B g) ((fs_F M) k) c = 2 * c % 2 ^ w := if_pos (e.trans es)
        rw [← e1]
        exact ih (k + 1) _ (by omega) hc1 hp
      · have e1 : fs_c1 w (B g) ((fs_F M) k) c = (2 * c % 2 ^ w) ^^^ B g := if_neg (fun z => e (z.trans es.symm))
        refine And.intro (vp_in_nI hg (by decide)) ?_
        rw [fs_Fat (f := B) (by omega), nx_xor, ← e1]
        exact nm_e (nm_r (nI_1 k) (ih (k + 1) _ (by omega) hc1 hp))
  have h0 := Nat.two_pow_pos w
  unfold wpX_checksum__message
  refine And.intro (vp_in_nI hg (by decide)) ?_
  rw [fs_Fat (f := A) (i := g) (by omega), fs_Fat (f := A) (i := A g) (by omega), hwd]
  exact And.intro (vp_in_nI hs (by decide)) (nm_e (nm_r (fs_mask hw) ⟨_, key (q - p) p (2 ^ w - 1) (by omega) (by omega) h⟩))
end
end
section
/-! the reference's small methods -/
section
variable {mi mb mv n vc bc : Nat} {sl ot tt wc : Int32} {K A B V M : Nat → Nat} {bf wk sr lt mk sm sF sT : Nat → Int32}
theorem ys_ins6 {post : Int32 → Prop} (hb : fs_bdd K A B) : ∀ {i c : Nat}, i ≤ 32 → c + i < 2 ^ 30 → post (fs_oI (fs_stk K i)[c]?) → wY_inside_6 post (nI mi) (nI mb) (nI mv) sl (nI n) (nI vc) (nI bc) ot tt wc (fs_F K) (fs_F A) (fs_F B) (fs_F V) (fs_F M) bf wk sr lt mk sm sF sT (i + 1) (nI c) (nI i - 1) := by
  intro i
  induction i with
  | zero =>
    intro c _ _ h
    exact br_t (by decide) h
  | succ i ih =>
    intro c hi hc h
    rw [nI_pred]
    have hv : vp_in (nI i) 32 := vp_in_nI (by omega) (by decide)
    have hki := (hb i).1
    refine br_f (nI_pos (by omega)) (And.intro hv ?_)
    rw [fs_Fat (f := K) (by omega)]
    refine pk_eq (K i) 11 (fun e => ?_) (fun e => And.intro hv ?_)
    · refine nm_r (nI_1 c) (nm_r (fs_m1 _) (ih (by omega) (by omega) ?_))
      rw [fs_sE e, List.getElem?_tail] at h
      exact h
    · refine pk_lt (K i) 5 (fun h5 => ?_) (fun h5 => ?_)
      · unfold wY_inside_43
        rw [fs_Fat (f := K) (by omega)]
        refine And.intro hv (br_t (nI_lt (b := 5) h5 (by decide)) (nm_r (fs_m1 _) (ih (by omega) (by omega) ?_)))
        rw [fs_sP h5] at h
        exact h
      · rw [fs_sO e h5] at h
        refine pk_eq c 0 (fun c0 => ?_) (fun c0 => ?_)
        · subst c0
          exact h
        · obtain ⟨c', rfl⟩ : ∃ c', c = c' + 1 := ⟨c - 1, by omega⟩
          unfold wY_inside_43
          rw [fs_Fat (f := K) (by omega)]
          refine And.intro hv (br_f (nI_nlt (b := 5) h5 (by omega)) (nm_r (pk_m1 c') (nm_r (fs_m1 _) (ih (by omega) (by omega) ?_))))
          rw [List.getElem?_cons_succ] at h
          exact h
theorem ys_ins {post : Int32 → Prop} (hb : fs_bdd K A B) {i : Nat} (hi : i ≤ 32) (h : post (fs_oI (fs_stk K i).head?)) : wpY_inside post (nI mi, nI mb, nI mv, sl, nI n, nI vc, nI bc, ot, tt, wc, fs_F K, fs_F A, fs_F B, fs_F V, fs_F M, bf, wk, sr, lt, mk, sm, sF, sT) (nI i) := by
  unfold wpY_inside
  rw [List.head?_eq_getElem?] at h
  exact nm_e ⟨_, ys_ins6 hb (c := 0) hi (by omega) h⟩
theorem ys_reg8 {post : Int32 → Prop} (hb : fs_bdd K A B) : ∀ {l : List Nat} {j t : Nat}, fs_stk K j = l → j ≤ 32 → t + l.length ≤ 32 → post (fs_oI (fs_rgo K l)) → wY_region_8 post (nI mi) (nI mb) (nI mv) sl (nI n) (nI vc) (nI bc) ot tt wc (fs_F K) (fs_F A) (fs_F B) (fs_F V) (fs_F M) bf wk sr lt mk sm sF sT (l.length + 1) (fs_oI l.head?) (nI t) := by
  intro l
  induction l with
  | nil =>
    intro j t _ _ _ h
    exact br_c (fun _ => h) (fun _ => br_t (by decide) h)
  | cons g r ih =>
    intro j t e hj ht h
    rw [List.length_cons] at ht ⊢
    have hg : g < j := fs_lt (by rw [e]; exact List.mem_cons_self)
    have hv : vp_in (nI g) 32 := vp_in_nI (by omega) (by decide)
    have hkg := (hb g).1
    have er : r = fs_stk K g := fs_suf (l := []) e
    rw [fs_rgo] at h
    rw [List.head?_cons, fs_oIs]
    refine br_f (nI_ge (b := 32) (by omega) (by decide)) ?_
    refine br_f (nI_pos (n := g) (by omega)) ?_
    rw [fs_Fat (f := K) (by omega)]
    refine And.intro hv (pk_eq (K g) 7 (fun c => by rw [if_pos (Or.inl c)] at h; exact h) (fun e7 => And.intro hv ?_))
    refine pk_eq (K g) 8 (fun c => by rw [if_pos (Or.inr (Or.inl c))] at h; exact h) (fun e8 => And.intro hv ?_)
    refine pk_eq (K g) 10 (fun c => by rw [if_pos (Or.inr (Or.inr c))] at h; exact h) (fun e10 => ?_)
    rw [if_neg (by omega)] at h
    refine ys_ins hb (by omega) ?_
    refine nm_r (nI_1 t) ?_
    rw [← er]
    exact ih er.symm (by omega) (by omega) h
theorem ys_reg {post : Int32 → Prop} (hb : fs_bdd K A B) {i : Nat} (hi : i ≤ 32) (h : post (fs_oI (fs_rgo K (fs_stk K i)))) : wpY_region post (nI mi, nI mb, nI mv, sl, nI n, nI vc, nI bc, ot, tt, wc, fs_F K, fs_F A, fs_F B, fs_F V, fs_F M, bf, wk, sr, lt, mk, sm, sF, sT) (nI i) := by
  unfold wpY_region
  refine ys_ins hb hi ⟨_, ys_reg8 hb (t := 0) rfl hi ?_ h⟩
  have := fs_len (K := K) i
  omega
theorem ys_names {post : Int32 → Prop} {k : Nat} (hk : k ≤ 11) (h1 : fs_nam k → post 1) (h0 : ¬ fs_nam k → post 0) : wpY_names post (nI mi, nI mb, nI mv, sl, nI n, nI vc, nI bc, ot, tt, wc, fs_F K, fs_F A, fs_F B, fs_F V, fs_F M, bf, wk, sr, lt, mk, sm, sF, sT) (nI k) := by
  unfold wpY_names
  refine pk_eq k 5 (fun e => h1 (Or.inl e)) (fun e5 => ?_)
  refine pk_eq k 6 (fun e => h1 (Or.inr (Or.inl e))) (fun e6 => ?_)
  refine pk_eq k 7 (fun e => h1 (Or.inr (Or.inr (Or.inl e)))) (fun e7 => ?_)
  refine pk_eq k 9 (fun e => h1 (Or.inr (Or.inr (Or.inr e)))) (fun e9 => h0 ?_)
  unfold fs_nam
  omega
def fs_isN (K A : Nat → Nat) (n s : Nat) : Prop := ∃ j, j < n ∧ fs_nam (K j) ∧ A j = s
theorem ys_named {post : Int32 → Prop} (hb : fs_bdd K A B) (hn : n ≤ 32) {s : Nat} (hs : s < 2 ^ 31) (h1 : fs_isN K A n s → post 1) (h0 : ¬ fs_isN K A n s → post 0) : wpY_named post (nI mi, nI mb, nI mv, sl, nI n, nI vc, nI bc, ot, tt, wc, fs_F K, fs_F A, fs_F B, fs_F V, fs_F M, bf, wk, sr, lt, mk, sm, sF, sT) (nI s) := by
  have key : ∀ d j, j + d = n → (∀ i, i < j → ¬ (fs_nam (K i) ∧ A i = s)) → wY_named_2 post (nI s) (nI mi) (nI mb) (nI mv) sl (nI n) (nI vc) (nI bc) ot tt wc (fs_F K) (fs_F A) (fs_F B) (fs_F V) (fs_F M) bf wk sr lt mk sm sF sT (d + 1) (nI j) := by
    intro d
    induction d with
    | zero =>
      intro j hj hi
      refine br_t (nI_le (by omega) (by omega)) (h0 ?_)
      rintro ⟨i, hi1, hi2⟩
      exact hi i (by omega) hi2
    | succ d ih =>
      intro j hj hi
      have hv : vp_in (nI j) 32 := vp_in_nI (by omega) (by decide)
      have hkj := (hb j).1
      have haj := (hb j).2.1
      have go : ¬ (fs_nam (K j) ∧ A j = s) → wY_named_2 post (nI s) (nI mi) (nI mb) (nI mv) sl (nI n) (nI vc) (nI bc) ot tt wc (fs_F K) (fs_F A) (fs_F B) (fs_F V) (fs_F M) bf wk sr lt mk sm sF sT (d + 1) (nI (j + 1)) := by
        intro hc
        refine ih (j + 1) (by omega) (fun i hij => ?_)
        by_cases e : i = j
        · subst e; exact hc
        · exact hi i (by omega)
      refine br_f (nI_ge (by omega) (by omega)) (And.intro hv ?_)
      rw [fs_Fat (f := K) (by omega)]
      refine ys_names hkj (fun hna => br_f (by decide) (And.intro hv ?_)) (fun hna => br_t rfl (nm_r (nI_1 j) (go (fun z => hna z.1))))
      rw [fs_Fat (f := A) (by omega)]
      exact pk_eq (A j) s (fun e => h1 ⟨j, by omega, hna, e⟩) (fun e => nm_r (nI_1 j) (go (fun z => e z.2)))
  exact ⟨_, key n 0 (by omega) (fun i hi => absurd hi (Nat.not_lt_zero i))⟩
theorem ys_cof {post : Int32 → Prop} {w : Nat} {x : Int32} {o : Option Nat} (hn : n ≤ 32) (hb : fs_bdd K A B) (hw : w < 32) (ho : fs_lst (fs_isC K A w x) n o) (h : post (fs_oI o)) : wpY_caseOf post (nI mi, nI mb, nI mv, sl, nI n, nI vc, nI bc, ot, tt, wc, fs_F K, fs_F A, fs_F B, fs_F V, fs_F M, bf, wk, sr, lt, mk, sm, sF, sT) (nI w) x := by
  have key : ∀ d j, j + d = n → (∀ i, i < j → ¬ fs_isC K A w x i) → wY_caseOf_2 post (nI w) x (nI mi) (nI mb) (nI mv) sl (nI n) (nI vc) (nI bc) ot tt wc (fs_F K) (fs_F A) (fs_F B) (fs_F V) (fs_F M) bf wk sr lt mk sm sF sT (d + 1) (nI j) := by
    intro d
    induction d with
    | zero =>
      intro j hj hi
      refine br_t (nI_le (by omega) (by omega)) ?_
      cases o with
      | none => exact h
      | some c => exact absurd ho.2.1 (hi c (by have := ho.1; omega))
    | succ d ih =>
      intro j hj hi
      have hv : vp_in (nI j) 32 := vp_in_nI (by omega) (by decide)
      have hkj := (hb j).1
      refine br_f (nI_ge (by omega) (by omega)) (And.intro hv ?_)
      have go : ¬ fs_isC K A w x j → ∀ y : Int32, y = nI j + 1 → wY_caseOf_2 post (nI w) x (nI mi) (nI mb) (nI mv) sl (nI n) (nI vc) (nI bc) ot tt wc (fs_F K) (fs_F A) (fs_F B) (fs_F V) (fs_F M) bf wk sr lt mk sm sF sT (d + 1) y := by
        intro hc y hy
        rw [hy, nI_1]
        refine ih (j + 1) (by omega) (fun i hij => ?_)
        by_cases e : i = j
        · subst e; exact hc
        · exact hi i (by omega)
      rw [fs_Fat (f := K) (by omega)]
      refine pk_eq (K j) 10 (fun e => And.intro hv ?_) (fun e => go (fun z => e z.1))
      rw [fs_Fat (f := A) (by omega)]
      refine br_c (fun e4 => ?_) (fun e4 => go (fun z => e4 z.2.1))
      refine ys_ins hb (by omega) ?_
      have ei : fs_oI (fs_stk K j).head? = nI w ↔ (fs_stk K j).head? = some w :=
        fs_oI_some (fun g hg => by have := fs_hdlt hg; omega) (by omega)
      refine br_c (fun e2 => ?_) (fun e2 => go (fun z => e2 (ei.mpr z.2.2)))
      have hc : fs_isC K A w x j := ⟨e, e4, ei.mp e2⟩
      cases o with
      | none => exact absurd hc (ho j (by omega))
      | some c =>
        have : c = j := by
          rcases Nat.lt_trichotomy c j with q | q | q
          · exact absurd ho.2.1 (hi c q)
          · exact q
          · exact absurd hc (ho.2.2 j q)
        rw [← this]
        exact h
  exact ⟨_, key n 0 (by omega) (fun i hi => absurd hi (Nat.not_lt_zero i))⟩
theorem ys_end {post : Int32 → Prop} (W : fs_WF K A B n) (hn : n ≤ 32) (hb : fs_bdd K A B) {e : Nat} (he : e < n) (hk : K e = 11) (h : post (nI e)) : wpY_endOf post (nI mi, nI mb, nI mv, sl, nI n, nI vc, nI bc, ot, tt, wc, fs_F K, fs_F A, fs_F B, fs_F V, fs_F M, bf, wk, sr, lt, mk, sm, sF, sT) (nI (A e)) := by
  have key : ∀ d j, j + d = n → j ≤ e → wY_endOf_2 post (nI (A e)) (nI mi) (nI mb) (nI mv) sl (nI n) (nI vc) (nI bc) ot tt wc (fs_F K) (fs_F A) (fs_F B) (fs_F V) (fs_F M) bf wk sr lt mk sm sF sT (d + 1) (nI j) := by
    intro d
    induction d with
    | zero => intro j hj hi; omega
    | succ d ih =>
      intro j hj hi
      have hv : vp_in (nI j) 32 := vp_in_nI (by omega) (by decide)
      have hkj := (hb j).1
      have haj := (hb j).2.1
      have hae := (hb e).2.1
      refine br_f (nI_ge (by omega) (by omega)) (And.intro hv ?_)
      have go : ¬ (K j = 11 ∧ A j = A e) → ∀ y : Int32, y = nI j + 1 → wY_endOf_2 post (nI (A e)) (nI mi) (nI mb) (nI mv) sl (nI n) (nI vc) (nI bc) ot tt wc (fs_F K) (fs_F A) (fs_F B) (fs_F V) (fs_F M) bf wk sr lt mk sm sF sT (d + 1) y := by
        intro hc y hy
        rw [hy, nI_1]
        refine ih (j + 1) (by omega) ?_
        have : j ≠ e := by intro z; subst z; exact hc ⟨hk, rfl⟩
        omega
      rw [fs_Fat (f := K) (by omega)]
      refine pk_eq (K j) 11 (fun c => And.intro hv ?_) (fun c => go (fun z => c z.1))
      rw [fs_Fat (f := A) (by omega)]
      refine pk_eq (A j) (A e) (fun c2 => ?_) (fun c2 => go (fun z => c2 z.2))
      rw [fs_e1 W (by omega) he c hk c2]
      exact h
  exact ⟨_, key n 0 (by omega) (by omega)⟩
theorem fs_le_sub {a b w : Nat} (ha : a < 2 ^ 31) (hb : b < 2 ^ 30) (hw : w < 2 ^ 30) : nI a ≤ nI b - nI w ↔ a + w ≤ b := by
  rw [Int32.le_iff_toInt_le, pk_sub_toInt hb hw, nI_toInt ha]
  omega
theorem ys_bits {post : Int32 → Prop} {p w : Nat} (hM : ∀ j, M j ≤ 1) (hbc : bc ≤ 128) (hp : p < 2 ^ 31) (hw1 : 1 ≤ w) (hw : w ≤ 16) (h1 : p + w ≤ bc → post (nI (fs_nb M p w))) (h0 : bc < p + w → post (-1)) : wpY_bitsAt post (nI mi, nI mb, nI mv, sl, nI n, nI vc, nI bc, ot, tt, wc, fs_F K, fs_F A, fs_F B, fs_F V, fs_F M, bf, wk, sr, lt, mk, sm, sF, sT) (nI p) (nI w) := by
  unfold wpY_bitsAt
  refine br_f (nI_nlt (b := 1) hw1 (by omega)) (br_f (nI_nlt (a := 16) hw (by decide)) (br_f (nI_pos hp) ?_))
  refine br_c (fun c => ?_) (fun c => h0 ?_)
  · rw [fs_le_sub hp (by omega) (by omega)] at c
    have key : ∀ d k, k + d = w → wY_bitsAt_32 post (nI p) (nI w) (nI mi) (nI mb) (nI mv) sl (nI n) (nI vc) (nI bc) ot tt wc (fs_F K) (fs_F A) (fs_F B) (fs_F V) (fs_F M) bf wk sr lt mk sm sF sT (d + 1) (nI (fs_nb M p k)) (nI k) := by
      intro d
      induction d with
      | zero =>
        intro k hk
        have : k = w := by omega
        subst this
        exact br_t (nI_le (by omega) (by omega)) (h1 c)
      | succ d ih =>
        intro k hk
        refine br_f (nI_ge (by omega) (by omega)) ?_
        rw [nI_add, fs_Fat (f := M) (i := p + k) (by omega), fs_nY]
        exact And.intro (vp_in_nI (by omega) (by decide)) (nm_e (nm_r (nI_1 k) (ih (k + 1) (by omega))))
    exact ⟨_, key w 0 (by omega)⟩
  · rw [fs_le_sub hp (by omega) (by omega)] at c
    omega
theorem ys_put {post : SY → Prop} {p w x : Nat} (hp : p + w ≤ 128) (hw : w ≤ 16) (hx : x < 2 ^ 31) (h : post (nI mi, nI mb, nI mv, sl, nI n, nI vc, nI bc, ot, tt, wc, fs_F K, fs_F A, fs_F B, fs_F V, fs_F M, fs_w bf p w x, wk, sr, lt, mk, sm, sF, sT)) : wpY_put post (nI mi, nI mb, nI mv, sl, nI n, nI vc, nI bc, ot, tt, wc, fs_F K, fs_F A, fs_F B, fs_F V, fs_F M, bf, wk, sr, lt, mk, sm, sF, sT) (nI p) (nI w) (nI x) := by
  have key : ∀ d k, k + d = w → wY_put_3 post (nI p) (nI w) (nI x) (nI mi) (nI mb) (nI mv) sl (nI n) (nI vc) (nI bc) ot tt wc (d + 1) (nI k) (fs_F K) (fs_F A) (fs_F B) (fs_F V) (fs_F M) (fs_w3 bf p w x k) wk sr lt mk sm sF sT := by
    intro d
    induction d with
    | zero =>
      intro k hk
      refine br_t (nI_le (by omega) (by omega)) ?_
      have : k = w := by omega
      rw [this]
      exact h
    | succ d ih =>
      intro k hk
      refine br_f (nI_ge (by omega) (by omega)) ?_
      rw [nI_add, nI_clamp (n := p + k) (by omega), fs_bit (by omega) hw hx, fs_ws bf (by omega)]
      refine br_f (nI_ge (b := 128) (by omega) (by decide)) ?_
      exact And.intro (vp_in_nI (by omega) (by decide)) (nm_e (nm_r (nI_1 k) (ih (k + 1) (by omega))))
  have h0 := key w 0 (by omega)
  rw [fs_w0] at h0
  exact ⟨_, h0⟩
/-- append: w bits of x, if there is room -/
theorem ys_app {post : Int32 → SY → Prop} {p w x : Nat} (hmb : mb ≤ 128) (hw : w ≤ 16) (hx : x < 2 ^ 31) (hp : p ≤ 128) (h1 : p + w ≤ mb → post 1 (nI mi, nI mb, nI mv, sl, nI n, nI vc, nI bc, nI (p + w), tt, wc, fs_F K, fs_F A, fs_F B, fs_F V, fs_F M, fs_w bf p w x, wk, sr, lt, mk, sm, sF, sT)) (h0 : mb < p + w → post 0 (nI mi, nI mb, nI mv, sl, nI n, nI vc, nI bc, nI p, tt, wc, fs_F K, fs_F A, fs_F B, fs_F V, fs_F M, bf, wk, sr, lt, mk, sm, sF, sT)) : wpY_append post (nI mi, nI mb, nI mv, sl, nI n, nI vc, nI bc, nI p, tt, wc, fs_F K, fs_F A, fs_F B, fs_F V, fs_F M, bf, wk, sr, lt, mk, sm, sF, sT) (nI w) (nI x) := by
  unfold wpY_append
  dsimp only
  rw [nI_add]
  refine pk_le (p + w) mb (fun c => ?_) (fun c => h0 c)
  refine ys_put (by omega) hw hx ?_
  dsimp only
  exact nm_r (nI_add p w) (h1 c)
/-- setSlot: number x into slot s laid at q -/
theorem ys_set {post : Int32 → SY → Prop} {s q x : Nat} (hs : s < 32) (hq : sr s = nI q) (hw : A s ≤ 16) (hqw : q + A s ≤ 128) (hx : x < 2 ^ 31) (h1 : x < 2 ^ A s → post 1 (nI mi, nI mb, nI mv, sl, nI n, nI vc, nI bc, ot, tt, wc, fs_F K, fs_F A, fs_F B, fs_F V, fs_F M, fs_w bf q (A s) x, wk, sr, lt, mk, sm, sF, sT)) (h0 : 2 ^ A s ≤ x → post 0 (nI mi, nI mb, nI mv, sl, nI n, nI vc, nI bc, ot, tt, wc, fs_F K, fs_F A, fs_F B, fs_F V, fs_F M, bf, wk, sr, lt, mk, sm, sF, sT)) : wpY_setSlot post (nI mi, nI mb, nI mv, sl, nI n, nI vc, nI bc, ot, tt, wc, fs_F K, fs_F A, fs_F B, fs_F V, fs_F M, bf, wk, sr, lt, mk, sm, sF, sT) (nI s) (nI x) := by
  have hp16 := fs_p16 hw
  have hv : vp_in (nI s) 32 := vp_in_nI hs (by decide)
  unfold wpY_setSlot
  dsimp only
  rw [fs_Fat (f := A) (by omega), fs_1l hw, nI_clamp (n := s) (by omega), hq]
  refine And.intro hv (pk_lt x (2 ^ A s) (fun c => And.intro hv (And.intro hv (ys_put hqw hw hx (h1 c)))) (fun c => h0 c))
/-- room in a FILL f directly in LENGTH g, whose slot s was laid at q and whose contents begin at a -/
def fs_room (M : Nat → Nat) (bc q w a p : Nat) : Prop := q + w ≤ bc ∧ p < a + fs_nb M q w
theorem ys_room {post : Int32 → Prop} {f g q a p : Nat} (hM : ∀ j, M j ≤ 1) (hb : fs_bdd K A B) (hbc : bc ≤ 128) (hf : f < 32) (hg : (fs_stk K f).head? = some g) (hs : A g < 32) (hq : sr (A g) = nI q) (hq1 : q ≤ 128) (ha : sr g = nI a) (ha1 : a ≤ p) (hp1 : p ≤ 128) (hw1 : 1 ≤ A (A g)) (hw : A (A g) ≤ 16) (h1 : fs_room M bc q (A (A g)) a p → post 1) (h0 : ¬ fs_room M bc q (A (A g)) a p → post 0) : wpY_room post (nI mi, nI mb, nI mv, sl, nI n, nI vc, nI bc, nI p, tt, wc, fs_F K, fs_F A, fs_F B, fs_F V, fs_F M, bf, wk, sr, lt, mk, sm, sF, sT) (nI f) := by
  have hgf := fs_hdlt hg
  have hv : vp_in (nI g) 32 := vp_in_nI (by omega) (by decide)
  have hv2 : vp_in (nI (A g)) 32 := vp_in_nI hs (by decide)
  have hnb : fs_nb M q (A (A g)) < 2 ^ A (A g) := fs_nb_lt (fun j _ => hM _)
  have hp16 := fs_p16 hw
  unfold wpY_room
  dsimp only
  refine ys_ins hb (by omega) ?_
  rw [hg, fs_oIs]
  refine br_t (nI_pos' (by omega)) (And.intro hv ?_)
  refine nm_r (fs_Fat (by omega)) (And.intro hv2 (And.intro hv2 ?_))
  show wpY_bitsAt (fun r_30 => (vp_in (nI g) 32 ∧ _)) (nI mi, nI mb, nI mv, sl, nI n, nI vc, nI bc, nI p, tt, wc, fs_F K, fs_F A, fs_F B, fs_F V, fs_F M, bf, wk, sr, lt, mk, sm, sF, sT) (sr (nI (A g)).toNatClampNeg) (fs_F A (nI (A g)).toNatClampNeg)
  rw [nI_clamp (n := A g) (by omega), hq, fs_Fa]
  refine ys_bits hM hbc (by omega) hw1 hw (fun c => And.intro hv ?_) (fun c => And.intro hv ?_)
  · rw [nI_clamp (n := g) (by omega), ha, nI_add]
    refine pk_le (a + fs_nb M q (A (A g))) p (fun c2 => h0 (fun z => ?_)) (fun c2 => h1 ⟨c, c2⟩)
    have := z.2
    omega
  · rw [nI_clamp (n := g) (by omega), ha]
    have hle : nI a + (-1) ≤ nI p := by
      cases a with
      | zero =>
        rw [Int32.le_iff_toInt_le, nI_toInt (by omega), show (nI 0 + (-1)).toInt = -1 by decide]
        omega
      | succ a =>
        rw [pk_m1]
        exact nI_le (by omega) (by omega)
    refine br_t hle (h0 (fun z => ?_))
    have := z.1
    omega
end
end
section
/-! the noted sums and the loops that fill them -/
def fs_nt (K A : Nat → Nat) (n : Nat) (sm sF sT : Nat → Int32) (p q g a b : Nat) : Prop :=
  q < 128 ∧ sm q = nI g ∧ sF q = nI a ∧ sT q = nI b ∧ g < n ∧ K g = 6 ∧ q + A (A g) ≤ a ∧ a ≤ b ∧ b ≤ p
/-- every entry is empty or a noted sum; their slots are apart -/
def fs_NT (K A : Nat → Nat) (n : Nat) (sm sF sT : Nat → Int32) (p : Nat) : Prop :=
  (∀ q, q < 128 → sm q = -1 ∨ ∃ g a b, fs_nt K A n sm sF sT p q g a b)
  ∧ (∀ q g a b q' g' a' b', q < q' → fs_nt K A n sm sF sT p q g a b → fs_nt K A n sm sF sT p q' g' a' b' → q + A (A g) ≤ q')
def fs_inv (K A B : Nat → Nat) (n : Nat) (sm sF sT : Nat → Int32) (p : Nat) (bf : Nat → Int32) (t : Nat) (f : Nat → Int32) : Prop :=
  (∀ r, (∀ q g a b, t ≤ q → fs_nt K A n sm sF sT p q g a b → r < q ∨ q + A (A g) ≤ r) → f r = bf r)
  ∧ (∀ q g a b, t ≤ q → fs_nt K A n sm sF sT p q g a b → ∀ j, j < A (A g) → f (q + j) = nI (fs_cs0 (A (A g)) (B g) f a b / 2 ^ (A (A g) - 1 - j) % 2))
section
variable {K A B : Nat → Nat} {n p : Nat} {sm sF sT bf : Nat → Int32}
theorem fs_neg1 (g : Nat) (h : g < 2 ^ 31) : nI g ≠ -1 := by
  intro e
  have h2 := nI_pos h
  rw [e] at h2
  exact h2 (by decide)
theorem fs_nt_u {q g a b g' a' b' : Nat} (hn : n ≤ 32) (hp : p ≤ 128) (h : fs_nt K A n sm sF sT p q g a b) (h' : fs_nt K A n sm sF sT p q g' a' b') : g' = g ∧ a' = a ∧ b' = b := by
  obtain ⟨_, h1, h2, h3, h4, h5, h6, h7, h8⟩ := h
  obtain ⟨_, i1, i2, i3, i4, i5, i6, i7, i8⟩ := h'
  refine ⟨?_, ?_, ?_⟩
  · exact (nI_eq (by omega) (by omega)).mp (i1.symm.trans h1)
  · exact (nI_eq (by omega) (by omega)).mp (i2.symm.trans h2)
  · exact (nI_eq (by omega) (by omega)).mp (i3.symm.trans h3)
theorem fs_inv_top (W : fs_WF K A B n) (hn : n ≤ 32) {t : Nat} (ht : p ≤ t) : fs_inv K A B n sm sF sT p bf t bf := by
  have no : ∀ q g a b, t ≤ q → ¬ fs_nt K A n sm sF sT p q g a b := by
    rintro q g a b hq ⟨h0, h1, h2, h3, h4, h5, h6, h7, h8⟩
    have := fs_nm W h4 (Or.inr (Or.inl h5))
    have := fs_wd W (i := A g) (by omega) (by omega)
    omega
  exact ⟨fun r _ => rfl, fun q g a b hq h => absurd h (no q g a b hq)⟩
theorem fs_inv_skip {t : Nat} {f : Nat → Int32} (hn : n ≤ 32) (h : fs_inv K A B n sm sF sT p bf (t + 1) f) (hs : sm t = -1) : fs_inv K A B n sm sF sT p bf t f := by
  have no : ∀ g a b, ¬ fs_nt K A n sm sF sT p t g a b := by
    rintro g a b ⟨h0, h1, h2, h3, h4, h5, h6, h7, h8⟩
    exact fs_neg1 g (by omega) (h1.symm.trans hs)
  refine ⟨fun r hr => h.1 r (fun q g a b hq hh => hr q g a b (by omega) hh), fun q g a b hq hh => ?_⟩
  by_cases e : q = t
  · subst e; exact absurd hh (no g a b)
  · exact h.2 q g a b (by omega) hh
theorem fs_inv_put {t g a b : Nat} {f : Nat → Int32} (hn : n ≤ 32) (hp : p ≤ 128) (hN : fs_NT K A n sm sF sT p) (h : fs_inv K A B n sm sF sT p bf (t + 1) f) (hs : fs_nt K A n sm sF sT p t g a b) : fs_inv K A B n sm sF sT p bf t (fs_w f t (A (A g)) (fs_cs0 (A (A g)) (B g) f a b)) := by
  have hab := hs.2.2.2.2.2.2
  refine ⟨fun r hr => ?_, fun q g' a' b' hq hh => ?_⟩
  · rw [fs_wout (hr t g a b (Nat.le_refl t) hs)]
    exact h.1 r (fun q g a b hq hh => hr q g a b (by omega) hh)
  · by_cases e : q = t
    · subst e
      obtain ⟨rfl, rfl, rfl⟩ := fs_nt_u hn hp hs hh
      intro j hj
      rw [fs_win (by omega) (by omega)]
      rw [fs_cs0_cg (a := fs_w f q (A (A g')) (fs_cs0 (A (A g')) (B g') f a' b')) (a' := f) (fun i h1 h2 => fs_wout (Or.inr (by omega)))]
      rw [show q + A (A g') - 1 - (q + j) = A (A g') - 1 - j by omega]
    · have hd := hN.2 t g a b q g' a' b' (by omega) hs hh
      have hab' := hh.2.2.2.2.2.2
      intro j hj
      rw [fs_wout (Or.inr (by omega))]
      rw [fs_cs0_cg (a := fs_w f t (A (A g)) (fs_cs0 (A (A g)) (B g) f a b)) (a' := f) (fun i h1 h2 => fs_wout (Or.inr (by omega)))]
      exact h.2 q g' a' b' (by omega) hh j hj
end
section
variable {mi mb mv n vc bc : Nat} {oc sl pc ps tk fl : Int32} {K A B V M : Nat → Nat} {pa rg eo nm op wb wv sa st lf cp si sf so : Nat → Int32}
theorem xs_sums7 {post : SX → Prop} {p : Nat} {bf : Nat → Int32} (W : fs_WF K A B n) (hn : n ≤ 32) (hb : fs_bdd K A B) (hp : p ≤ 128) (hN : fs_NT K A n si sf so p) (h : ∀ f, fs_inv K A B n si sf so p bf 0 f → post (nI mi, nI mb, nI mv, nI n, oc, sl, nI vc, nI bc, pc, ps, tk, fl, fs_F K, fs_F A, fs_F B, pa, rg, eo, nm, op, fs_F V, fs_F M, f, wv, sa, st, lf, cp, si, sf, so)) : ∀ {t : Nat} {f : Nat → Int32}, t ≤ 128 → fs_inv K A B n si sf so p bf t f → wX_fillSums_7 post (t + 1) (nI t - 1) (nI mi) (nI mb) (nI mv) (nI n) oc sl (nI vc) (nI bc) pc ps tk fl (fs_F K) (fs_F A) (fs_F B) pa rg eo nm op (fs_F V) (fs_F M) f wv sa st lf cp si sf so := by
  intro t
  induction t with
  | zero =>
    intro f _ hi
    exact br_t (by decide) (h f hi)
  | succ t ih =>
    intro f ht hi
    rw [nI_pred]
    have hv : vp_in (nI t) 128 := vp_in_nI (by omega) (by decide)
    refine br_f (nI_pos (by omega)) (And.intro hv ?_)
    rcases hN.1 t (by omega) with hs | ⟨g, a, b, hs⟩
    · refine nm_r (e' := -1) (by rw [nI_clamp (by omega)]; exact hs) ?_
      exact br_t (by decide) (nm_r (fs_m1 _) (ih (by omega) (fs_inv_skip hn hi hs)))
    · have hs' := hs
      obtain ⟨h0, h1, h2, h3, h4, h5, h6, h7, h8⟩ := hs
      have hna := fs_nm W h4 (Or.inr (Or.inl h5))
      have hwd := fs_wd W (i := A g) (by omega) (by omega)
      have hB := fs_sB W h4 h5
      have hp16 := fs_p16 hwd.2
      have hcl := fs_cs0_lt (a := f) hB a b
      refine nm_r (e' := nI g) (by rw [nI_clamp (by omega)]; exact h1) ?_
      refine br_f (nI_pos (by omega)) (And.intro hv (And.intro hv ?_))
      rw [nI_clamp (n := t) (by omega), h2, h3]
      refine xs_ckW hb (by omega) (by omega) hwd.1 hwd.2 hB h7 (by omega) ?_
      refine And.intro (vp_in_nI (by omega) (by decide)) ?_
      rw [fs_Fat (f := A) (i := g) (by omega), fs_Fat (f := A) (i := A g) (by omega)]
      refine And.intro (vp_in_nI (by omega) (by decide)) ?_
      refine xs_wn (by omega) hwd.2 (by omega) ?_
      exact nm_r (fs_m1 _) (ih (by omega) (fs_inv_put hn hp hN hi hs'))
theorem xs_sums {post : SX → Prop} {p : Nat} (W : fs_WF K A B n) (hn : n ≤ 32) (hb : fs_bdd K A B) (hp : p ≤ 128) (hN : fs_NT K A n si sf so p) (h : ∀ f, fs_inv K A B n si sf so p wb 0 f → post (nI mi, nI mb, nI mv, nI n, oc, sl, nI vc, nI bc, pc, nI p, tk, fl, fs_F K, fs_F A, fs_F B, pa, rg, eo, nm, op, fs_F V, fs_F M, f, wv, sa, st, lf, cp, si, sf, so)) : wpX_fillSums post (nI mi, nI mb, nI mv, nI n, oc, sl, nI vc, nI bc, pc, nI p, tk, fl, fs_F K, fs_F A, fs_F B, pa, rg, eo, nm, op, fs_F V, fs_F M, wb, wv, sa, st, lf, cp, si, sf, so) := by
  unfold wpX_fillSums
  exact nm_e ⟨_, xs_sums7 W hn hb hp hN h hp (fs_inv_top W hn (Nat.le_refl p))⟩
end
section
variable {mi mb mv n vc bc : Nat} {sl ot tt wc : Int32} {K A B V M : Nat → Nat} {bf wk sr lt mk sm sF sT : Nat → Int32}
theorem ys_psum {post : SY → Prop} {t g a b : Nat} (hb : fs_bdd K A B) (ht : t < 128) (hg : g < 32) (hs : A g < 32) (hw1 : 1 ≤ A (A g)) (hw : A (A g) ≤ 16) (htw : t + A (A g) ≤ 128) (hB : B g < 2 ^ A (A g)) (h1 : sm t = nI g) (h2 : sF t = nI a) (h3 : sT t = nI b) (hab : a ≤ b) (hb1 : b ≤ 128) (h : post (nI mi, nI mb, nI mv, sl, nI n, nI vc, nI bc, ot, tt, wc, fs_F K, fs_F A, fs_F B, fs_F V, fs_F M, fs_w bf t (A (A g)) (fs_cs0 (A (A g)) (B g) bf a b), wk, sr, lt, mk, sm, sF, sT)) : wpY_putSum post (nI mi, nI mb, nI mv, sl, nI n, nI vc, nI bc, ot, tt, wc, fs_F K, fs_F A, fs_F B, fs_F V, fs_F M, bf, wk, sr, lt, mk, sm, sF, sT) (nI t) := by
  unfold fs_cs0 at h
  generalize hwd : A (A g) = w at *
  have hp16 := fs_p16 hw
  have hv : vp_in (nI t) 128 := vp_in_nI ht (by decide)
  have hc0 : (nI t).toNatClampNeg = t := nI_clamp (by omega)
  have key : ∀ d k c, k + d = b → c < 2 ^ w → post (nI mi, nI mb, nI mv, sl, nI n, nI vc, nI bc, ot, tt, wc, fs_F K, fs_F A, fs_F B, fs_F V, fs_F M, fs_w bf t w (fs_ck w (B g) bf k d c), wk, sr, lt, mk, sm, sF, sT) → wY_putSum_31 post (nI t) (nI w) (nI mi) (nI mb) (nI mv) sl (nI n) (nI vc) (nI bc) ot tt wc (fs_F K) (fs_F A) (fs_F B) (fs_F V) (fs_F M) bf wk sr lt mk sm sF sT (d + 1) (nI c) (nI k) := by
    intro d
    induction d with
    | zero =>
      intro k c hk hc hp
      refine And.intro hv ?_
      rw [hc0, h3]
      exact br_t (nI_le (by omega) (by omega)) (ys_put htw hw (by omega) hp)
    | succ d ih =>
      intro k c hk hc hp
      rw [fs_ck] at hp
      refine And.intro hv ?_
      rw [hc0, h3, fs_mask hw]
      refine br_f (nI_ge (by omega) (by omega)) (nm_r (fs_h1 hw1 hw hc) (nm_r (fs_hY hw hc) (And.intro (vp_in_nI (by omega) (by decide)) ?_)))
      have es : bf (nI k).toNatClampNeg = bf k := by rw [nI_clamp (by omega)]
      have hc1 : fs_c1 w (B g) (bf k) c < 2 ^ w := fs_c1_lt hB
      refine br_c (fun e => nm_r (nI_1 k) ?_) (fun e => ?_)
      · have e1 : fs_c1 w (B g) (bf k) c = 2 * c % 2 ^ w := if_pos (e.trans es)
        rw [← e1]
        exact ih (k + 1) _ (by omega) hc1 hp
      · have e1 : fs_c1 w (B g) (bf k) c = (2 * c % 2 ^ w) ^^^ B g := if_neg (fun z => e (z.trans es.symm))
        refine And.intro hv ?_
        rw [h1, fs_Fat (f := B) (by omega), nx_xor, ← e1]
        exact And.intro (vp_in_nI hg (by decide)) (nm_e (nm_r (nI_1 k) (ih (k + 1) _ (by omega) hc1 hp)))
  have h0 := Nat.two_pow_pos w
  unfold wpY_putSum
  dsimp only
  rw [hc0, h1, h2, fs_Fat (f := A) (i := g) (by omega), fs_Fat (f := A) (i := A g) (by omega), hwd]
  exact And.intro hv (And.intro (vp_in_nI hg (by decide)) (And.intro (vp_in_nI hs (by decide)) (nm_e (nm_r (fs_mask hw) (And.intro hv (nm_e ⟨_, key (b - a) a (2 ^ w - 1) (by omega) (by omega) h⟩))))))
theorem ys_sums {post : Int32 → SY → Prop} {p : Nat} {bf0 : Nat → Int32} (W : fs_WF K A B n) (hn : n ≤ 32) (hb : fs_bdd K A B) (hp : p ≤ 128) (hN : fs_NT K A n sm sF sT p) (h : ∀ f, fs_inv K A B n sm sF sT p bf0 0 f → post 1 (nI mi, nI mb, nI mv, sl, nI n, nI vc, nI bc, ot, tt, wc, fs_F K, fs_F A, fs_F B, fs_F V, fs_F M, f, wk, sr, lt, mk, sm, sF, sT)) : ∀ {t : Nat} {f : Nat → Int32}, t ≤ 128 → fs_inv K A B n sm sF sT p bf0 t f → wY_lay_138 post (t + 1) (nI t - 1) (nI mi) (nI mb) (nI mv) sl (nI n) (nI vc) (nI bc) ot tt wc (fs_F K) (fs_F A) (fs_F B) (fs_F V) (fs_F M) f wk sr lt mk sm sF sT := by
  intro t
  induction t with
  | zero =>
    intro f _ hi
    exact br_t (by decide) (h f hi)
  | succ t ih =>
    intro f ht hi
    rw [nI_pred]
    have hv : vp_in (nI t) 128 := vp_in_nI (by omega) (by decide)
    refine br_f (nI_pos (by omega)) (And.intro hv ?_)
    rw [nI_clamp (n := t) (by omega)]
    rcases hN.1 t (by omega) with hs | ⟨g, a, b, hs⟩
    · rw [hs]
      exact br_t (by decide) (nm_r (fs_m1 _) (ih (by omega) (fs_inv_skip hn hi hs)))
    · have hs' := hs
      obtain ⟨h0, h1, h2, h3, h4, h5, h6, h7, h8⟩ := hs
      have hna := fs_nm W h4 (Or.inr (Or.inl h5))
      have hwd := fs_wd W (i := A g) (by omega) (by omega)
      have hB := fs_sB W h4 h5
      rw [h1]
      refine br_f (nI_pos (by omega)) ?_
      refine ys_psum hb (by omega) (by omega) (by omega) hwd.1 hwd.2 (by omega) hB h1 h2 h3 h7 (by omega) ?_
      exact nm_r (fs_m1 _) (ih (by omega) (fs_inv_put hn hp hN hi hs'))
end
end
section
/-! the relation -/
def fs_Rel (mi mb mv n vc bc : Nat) (sl : Int32) (K A B V M : Nat → Nat) (oc : Int32) (pa rg eo nm op : Nat → Int32) : Prop :=
  (mi ≤ 32 ∧ mb ≤ 128 ∧ mv ≤ 64 ∧ n ≤ mi ∧ vc ≤ mv ∧ bc ≤ mb) ∧ (sl = 0 ∨ sl = 1) ∧ fs_bdd K A B ∧ (∀ j, V j < 2 ^ 30) ∧ (∀ j, M j ≤ 1)
  ∧ fs_WF K A B n ∧ oc = nI (fs_stk K n).length ∧ fs_open op (fs_stk K n)
  ∧ (∀ j, j < n → pa j = fs_oI (fs_stk K j).head?) ∧ (∀ j, j < n → rg j = fs_oI (fs_rgo K (fs_stk K j)))
  ∧ (∀ e, e < n → K e = 11 → eo (A e) = nI e)
  ∧ (∀ s, s < n → (nm s = 0 ∧ ¬ fs_isN K A n s) ∨ (nm s = 1 ∧ fs_isN K A n s))
  ∧ (sl = 1 → fs_stk K n = [] ∧ ∀ s, s < n → K s = 3 → fs_isN K A n s)
/-- both objects hold the same description, values and message; what a run leaves in the scratch fields is free -/
def i_Rel (k : Nat) (u : SX) (v : SY) : Prop := ∃ (mi mb mv n vc bc : Nat) (sl : Int32) (K A B V M : Nat → Nat) (oc : Int32) (pa rg eo nm op : Nat → Int32) (pc ps tk fl : Int32) (wb wv sa st lf cp si sf so : Nat → Int32) (ot tt wc : Int32) (bf wk sr lt mk sm sF sT : Nat → Int32), fs_Rel mi mb mv n vc bc sl K A B V M oc pa rg eo nm op ∧ u = (nI mi, nI mb, nI mv, nI n, oc, sl, nI vc, nI bc, pc, ps, tk, fl, fs_F K, fs_F A, fs_F B, pa, rg, eo, nm, op, fs_F V, fs_F M, wb, wv, sa, st, lf, cp, si, sf, so) ∧ v = (nI mi, nI mb, nI mv, sl, nI n, nI vc, nI bc, ot, tt, wc, fs_F K, fs_F A, fs_F B, fs_F V, fs_F M, bf, wk, sr, lt, mk, sm, sF, sT)
theorem i_up {k : Nat} {u : SX} {v : SY} (h : i_Rel k u v) : i_Rel (k + 4) u v := h
theorem zz_el {P : SX → SY → Prop} {k : Nat} {u : SX} {v : SY} (I : i_Rel k u v) (h : ∀ (mi mb mv n vc bc : Nat) (sl : Int32) (K A B V M : Nat → Nat) (oc : Int32) (pa rg eo nm op : Nat → Int32) (pc ps tk fl : Int32) (wb wv sa st lf cp si sf so : Nat → Int32) (ot tt wc : Int32) (bf wk sr lt mk sm sF sT : Nat → Int32), fs_Rel mi mb mv n vc bc sl K A B V M oc pa rg eo nm op → P (nI mi, nI mb, nI mv, nI n, oc, sl, nI vc, nI bc, pc, ps, tk, fl, fs_F K, fs_F A, fs_F B, pa, rg, eo, nm, op, fs_F V, fs_F M, wb, wv, sa, st, lf, cp, si, sf, so) (nI mi, nI mb, nI mv, sl, nI n, nI vc, nI bc, ot, tt, wc, fs_F K, fs_F A, fs_F B, fs_F V, fs_F M, bf, wk, sr, lt, mk, sm, sF, sT)) : P u v :=
  Exists.elim I fun mi h_0 =>
  Exists.elim h_0 fun mb h_1 =>
  Exists.elim h_1 fun mv h_2 =>
  Exists.elim h_2 fun n h_3 =>
  Exists.elim h_3 fun vc h_4 =>
  Exists.elim h_4 fun bc h_5 =>
  Exists.elim h_5 fun sl h_6 =>
  Exists.elim h_6 fun K h_7 =>
  Exists.elim h_7 fun A h_8 =>
  Exists.elim h_8 fun B h_9 =>
  Exists.elim h_9 fun V h_10 =>
  Exists.elim h_10 fun M h_11 =>
  Exists.elim h_11 fun oc h_12 =>
  Exists.elim h_12 fun pa h_13 =>
  Exists.elim h_13 fun rg h_14 =>
  Exists.elim h_14 fun eo h_15 =>
  Exists.elim h_15 fun nm h_16 =>
  Exists.elim h_16 fun op h_17 =>
  Exists.elim h_17 fun pc h_18 =>
  Exists.elim h_18 fun ps h_19 =>
  Exists.elim h_19 fun tk h_20 =>
  Exists.elim h_20 fun fl h_21 =>
  Exists.elim h_21 fun wb h_22 =>
  Exists.elim h_22 fun wv h_23 =>
  Exists.elim h_23 fun sa h_24 =>
  Exists.elim h_24 fun st h_25 =>
  Exists.elim h_25 fun lf h_26 =>
  Exists.elim h_26 fun cp h_27 =>
  Exists.elim h_27 fun si h_28 =>
  Exists.elim h_28 fun sf h_29 =>
  Exists.elim h_29 fun so h_30 =>
  Exists.elim h_30 fun ot h_31 =>
  Exists.elim h_31 fun tt h_32 =>
  Exists.elim h_32 fun wc h_33 =>
  Exists.elim h_33 fun bf h_34 =>
  Exists.elim h_34 fun wk h_35 =>
  Exists.elim h_35 fun sr h_36 =>
  Exists.elim h_36 fun lt h_37 =>
  Exists.elim h_37 fun mk h_38 =>
  Exists.elim h_38 fun sm h_39 =>
  Exists.elim h_39 fun sF h_40 =>
  Exists.elim h_40 fun sT h_41 =>
  Eq.mpr (congrFun (congrArg P h_41.2.1) v) (Eq.mpr (congrArg (P (nI mi, nI mb, nI mv, nI n, oc, sl, nI vc, nI bc, pc, ps, tk, fl, fs_F K, fs_F A, fs_F B, pa, rg, eo, nm, op, fs_F V, fs_F M, wb, wv, sa, st, lf, cp, si, sf, so)) h_41.2.2) (h mi mb mv n vc bc sl K A B V M oc pa rg eo nm op pc ps tk fl wb wv sa st lf cp si sf so ot tt wc bf wk sr lt mk sm sF sT h_41.1))
theorem zz_in {k : Nat} (mi mb mv n vc bc : Nat) (sl : Int32) (K A B V M : Nat → Nat) (oc : Int32) (pa rg eo nm op : Nat → Int32) (pc ps tk fl : Int32) (wb wv sa st lf cp si sf so : Nat → Int32) (ot tt wc : Int32) (bf wk sr lt mk sm sF sT : Nat → Int32) (h : fs_Rel mi mb mv n vc bc sl K A B V M oc pa rg eo nm op) : i_Rel k (nI mi, nI mb, nI mv, nI n, oc, sl, nI vc, nI bc, pc, ps, tk, fl, fs_F K, fs_F A, fs_F B, pa, rg, eo, nm, op, fs_F V, fs_F M, wb, wv, sa, st, lf, cp, si, sf, so) (nI mi, nI mb, nI mv, sl, nI n, nI vc, nI bc, ot, tt, wc, fs_F K, fs_F A, fs_F B, fs_F V, fs_F M, bf, wk, sr, lt, mk, sm, sF, sT) :=
  Exists.intro mi (Exists.intro mb (Exists.intro mv (Exists.intro n (Exists.intro vc (Exists.intro bc (Exists.intro sl (Exists.intro K (Exists.intro A (Exists.intro B (Exists.intro V (Exists.intro M (Exists.intro oc (Exists.intro pa (Exists.intro rg (Exists.intro eo (Exists.intro nm (Exists.intro op (Exists.intro pc (Exists.intro ps (Exists.intro tk (Exists.intro fl (Exists.intro wb (Exists.intro wv (Exists.intro sa (Exists.intro st (Exists.intro lf (Exists.intro cp (Exists.intro si (Exists.intro sf (Exists.intro so (Exists.intro ot (Exists.intro tt (Exists.intro wc (Exists.intro bf (Exists.intro wk (Exists.intro sr (Exists.intro lt (Exists.intro mk (Exists.intro sm (Exists.intro sF (Exists.intro sT (And.intro h (And.intro rfl rfl)))))))))))))))))))))))))))))))))))))))))))
end
section
/-! the constructors and the simple methods -/
theorem fs_clamp (x : Int32) (lo hi : Nat) (h : lo ≤ hi) (hh : hi < 2 ^ 30) : ∃ m : Nat, lo ≤ m ∧ m ≤ hi ∧ ∀ Q : Int32 → Prop, Q (nI m) → ((nI lo ≤ x → ((x ≤ nI hi → Q x) ∧ (¬ x ≤ nI hi → Q (nI hi)))) ∧ (¬ nI lo ≤ x → Q (nI lo))) := by
  by_cases h1 : nI lo ≤ x
  · by_cases h2 : x ≤ nI hi
    · have h0 : ¬ x < 0 := by
        intro z
        have := Int32.le_trans (nI_pos' (n := lo) (by omega)) h1
        exact absurd (Int32.lt_of_lt_of_le z this) (Int32.lt_irrefl)
      obtain ⟨j, hj, rfl⟩ := nI_of h0
      rw [nI_leI (by omega) hj] at h1
      rw [nI_leI hj (by omega)] at h2
      exact ⟨j, h1, h2, fun Q hq => br_t (nI_le h1 hj) (br_t (nI_le h2 (by omega)) hq)⟩
    · exact ⟨hi, h, Nat.le_refl hi, fun Q hq => br_t h1 (br_f h2 hq)⟩
  · exact ⟨lo, Nat.le_refl lo, h, fun Q hq => br_f h1 hq⟩
theorem xs_clamp {post : Int32 → Prop} {x lo hi : Int32} {m : Nat} (u : SX) (h : ∀ Q : Int32 → Prop, Q (nI m) → ((lo ≤ x → ((x ≤ hi → Q x) ∧ (¬ x ≤ hi → Q hi))) ∧ (¬ lo ≤ x → Q lo))) (hp : post (nI m)) : wpX_clamp post u x lo hi := by
  unfold wpX_clamp
  split
  exact h post hp
theorem i_vc0 (k0 : Int32) (k1 : Int32) (k2 : Int32) : wpX_init (fun u => wpY_init (fun v => i_Rel 3 u v) k0 k1 k2) k0 k1 k2 := by
  obtain ⟨mi, hi1, hi2, hi⟩ := fs_clamp k0 8 32 (by omega) (by omega)
  obtain ⟨mb, hb1, hb2, hb⟩ := fs_clamp k1 16 128 (by omega) (by omega)
  obtain ⟨mv, hv1, hv2, hv⟩ := fs_clamp k2 8 64 (by omega) (by omega)
  unfold wpX_init
  refine xs_clamp _ hi ?_
  refine xs_clamp _ hb ?_
  refine xs_clamp _ hv ?_
  refine hi (fun r => wY_init_137 _ k1 k2 r _ _ _ _ _ _ _ _ _ _ _ _ _ _ _ _ _ _ _ _ _ _ _) ?_
  refine hb (fun r => wY_init_166 _ k2 r _ _ _ _ _ _ _ _ _ _ _ _ _ _ _ _ _ _ _ _ _ _ _) ?_
  refine hv (fun r => i_Rel 3 _ (nI mi, nI mb, r, 0, 0, 0, 0, 0, 0, 0, _, _, _, _, _, _, _, _, _, _, _, _, _)) ?_
  rw [fs_F0, ← nI_0]
  refine zz_in mi mb mv 0 0 0 (nI 0) (fun _ => 0) (fun _ => 0) (fun _ => 0) (fun _ => 0) (fun _ => 0) _ _ _ _ _ _ _ _ _ _ _ _ _ _ _ _ _ _ _ _ _ _ _ _ _ _ _ _ _ _ ?_
  refine ⟨⟨by omega, by omega, by omega, by omega, by omega, by omega⟩, Or.inl nI_0, fun j => ⟨Nat.zero_le _, Nat.zero_lt_succ _, Nat.zero_lt_succ _⟩, fun j => Nat.two_pow_pos 30, fun j => Nat.zero_le _, ?_, rfl, trivial, ?_, ?_, ?_, ?_, ?_⟩
  · intro i hi; omega
  · intro j hj; omega
  · intro j hj; omega
  · intro j hj; omega
  · intro j hj; omega
  · intro h
    exact absurd h (by decide)
theorem fs_nb01 {x : Int32} (h : x = 0 ∨ x = 1) : narrow .boolean (.int x) = .int x := by
  rcases h with rfl | rfl
  · exact narrow_b0
  · exact narrow_b1
theorem i_vc_sealed {k : Nat} {u : SX} {v : SY} (I : i_Rel k u v) (hk : k + 4 ≤ 2051) : wpX_sealed (fun r => wpY_sealed (fun r' => r' = r ∧ i_Rel (k + 4) u v) v) u := by
  refine zz_el (P := fun u v => wpX_sealed (fun r => wpY_sealed (fun r' => r' = r ∧ i_Rel (k + 4) u v) v) u) I ?_
  intro mi mb mv n vc bc sl K A B V M oc pa rg eo nm op pc ps tk fl wb wv sa st lf cp si sf so ot tt wc bf wk sr lt mk sm sF sT R
  have h1 := fs_nb01 R.2.1
  exact And.intro h1 (And.intro h1 ⟨rfl, zz_in mi mb mv n vc bc sl K A B V M oc pa rg eo nm op pc ps tk fl wb wv sa st lf cp si sf so ot tt wc bf wk sr lt mk sm sF sT R⟩)
theorem i_vc_items {k : Nat} {u : SX} {v : SY} (I : i_Rel k u v) (hk : k + 4 ≤ 2051) : wpX_items (fun r => wpY_items (fun r' => r' = r ∧ i_Rel (k + 4) u v) v) u := by
  refine zz_el (P := fun u v => wpX_items (fun r => wpY_items (fun r' => r' = r ∧ i_Rel (k + 4) u v) v) u) I ?_
  intro mi mb mv n vc bc sl K A B V M oc pa rg eo nm op pc ps tk fl wb wv sa st lf cp si sf so ot tt wc bf wk sr lt mk sm sF sT R
  exact And.intro rfl (zz_in mi mb mv n vc bc sl K A B V M oc pa rg eo nm op pc ps tk fl wb wv sa st lf cp si sf so ot tt wc bf wk sr lt mk sm sF sT R)
theorem i_vc_values {k : Nat} {u : SX} {v : SY} (I : i_Rel k u v) (hk : k + 4 ≤ 2051) : wpX_values (fun r => wpY_values (fun r' => r' = r ∧ i_Rel (k + 4) u v) v) u := by
  refine zz_el (P := fun u v => wpX_values (fun r => wpY_values (fun r' => r' = r ∧ i_Rel (k + 4) u v) v) u) I ?_
  intro mi mb mv n vc bc sl K A B V M oc pa rg eo nm op pc ps tk fl wb wv sa st lf cp si sf so ot tt wc bf wk sr lt mk sm sF sT R
  exact And.intro rfl (zz_in mi mb mv n vc bc sl K A B V M oc pa rg eo nm op pc ps tk fl wb wv sa st lf cp si sf so ot tt wc bf wk sr lt mk sm sF sT R)
theorem i_vc_bits {k : Nat} {u : SX} {v : SY} (I : i_Rel k u v) (hk : k + 4 ≤ 2051) : wpX_bits (fun r => wpY_bits (fun r' => r' = r ∧ i_Rel (k + 4) u v) v) u := by
  refine zz_el (P := fun u v => wpX_bits (fun r => wpY_bits (fun r' => r' = r ∧ i_Rel (k + 4) u v) v) u) I ?_
  intro mi mb mv n vc bc sl K A B V M oc pa rg eo nm op pc ps tk fl wb wv sa st lf cp si sf so ot tt wc bf wk sr lt mk sm sF sT R
  exact And.intro rfl (zz_in mi mb mv n vc bc sl K A B V M oc pa rg eo nm op pc ps tk fl wb wv sa st lf cp si sf so ot tt wc bf wk sr lt mk sm sF sT R)
theorem i_vc_itemPart {k : Nat} {u : SX} {v : SY} (I : i_Rel k u v) (hk : k + 4 ≤ 2051) (v1 : Int32) (v2 : Int32) : wpX_itemPart (fun r => wpY_itemPart (fun r' => r' = r ∧ i_Rel (k + 4) u v) v v1 v2) u v1 v2 := by
  refine zz_el (P := fun u v => wpX_itemPart (fun r => wpY_itemPart (fun r' => r' = r ∧ i_Rel (k + 4) u v) v v1 v2) u v1 v2) I ?_
  intro mi mb mv n vc bc sl K A B V M oc pa rg eo nm op pc ps tk fl wb wv sa st lf cp si sf so ot tt wc bf wk sr lt mk sm sF sT R
  have Z := zz_in (k := k + 4) mi mb mv n vc bc sl K A B V M oc pa rg eo nm op pc ps tk fl wb wv sa st lf cp si sf so ot tt wc bf wk sr lt mk sm sF sT R
  obtain ⟨⟨b1, b2, b3, b4, b5, b6⟩, -⟩ := R
  refine br_c (fun c => br_t c ⟨rfl, Z⟩) (fun c => br_c (fun d => br_f c (br_t d ⟨rfl, Z⟩)) (fun d => ?_))
  have hv : vp_in v1 32 := by
    obtain ⟨j, hj, rfl⟩ := nI_of c
    rw [nI_leI (by omega) hj] at d
    exact vp_in_nI (by omega) (by decide)
  refine br_c (fun e => br_f c (br_f d (br_t e ⟨rfl, Z⟩))) (fun e => br_c (fun f => ?_) (fun f => br_f c (br_f d (br_f e (br_f f ⟨rfl, Z⟩)))))
  refine br_c (fun g => And.intro hv (br_f c (br_f d (br_f e (br_t f (br_t g (And.intro hv ⟨rfl, Z⟩))))))) (fun g => ?_)
  refine br_c (fun i => And.intro hv (br_f c (br_f d (br_f e (br_t f (br_f g (br_t i (And.intro hv ⟨rfl, Z⟩)))))))) (fun i => ?_)
  exact And.intro hv (br_f c (br_f d (br_f e (br_t f (br_f g (br_f i (And.intro hv ⟨rfl, Z⟩)))))))
theorem i_vc_valueAt {k : Nat} {u : SX} {v : SY} (I : i_Rel k u v) (hk : k + 4 ≤ 2051) (v1 : Int32) : wpX_valueAt (fun r => wpY_valueAt (fun r' => r' = r ∧ i_Rel (k + 4) u v) v v1) u v1 := by
  refine zz_el (P := fun u v => wpX_valueAt (fun r => wpY_valueAt (fun r' => r' = r ∧ i_Rel (k + 4) u v) v v1) u v1) I ?_
  intro mi mb mv n vc bc sl K A B V M oc pa rg eo nm op pc ps tk fl wb wv sa st lf cp si sf so ot tt wc bf wk sr lt mk sm sF sT R
  have Z := zz_in (k := k + 4) mi mb mv n vc bc sl K A B V M oc pa rg eo nm op pc ps tk fl wb wv sa st lf cp si sf so ot tt wc bf wk sr lt mk sm sF sT R
  obtain ⟨⟨b1, b2, b3, b4, b5, b6⟩, -⟩ := R
  refine br_c (fun c => br_t c ⟨rfl, Z⟩) (fun c => br_c (fun d => ?_) (fun d => br_f c (br_f d ⟨rfl, Z⟩)))
  have hv : vp_in v1 64 := by
    obtain ⟨j, hj, rfl⟩ := nI_of c
    rw [nI_ltI hj (by omega)] at d
    exact vp_in_nI (by omega) (by decide)
  exact And.intro hv (br_f c (br_t d (And.intro hv ⟨rfl, Z⟩)))
theorem i_vc_putValue {k : Nat} {u : SX} {v : SY} (I : i_Rel k u v) (hk : k + 4 ≤ 2051) (v1 : Int32) : wpX_putValue (fun r u' => wpY_putValue (fun r' v' => r' = r ∧ i_Rel (k + 4) u' v') v v1) u v1 := by
  refine zz_el (P := fun u v => wpX_putValue (fun r u' => wpY_putValue (fun r' v' => r' = r ∧ i_Rel (k + 4) u' v') v v1) u v1) I ?_
  intro mi mb mv n vc bc sl K A B V M oc pa rg eo nm op pc ps tk fl wb wv sa st lf cp si sf so ot tt wc bf wk sr lt mk sm sF sT R
  have Z := zz_in (k := k + 4) mi mb mv n vc bc sl K A B V M oc pa rg eo nm op pc ps tk fl wb wv sa st lf cp si sf so ot tt wc bf wk sr lt mk sm sF sT R
  obtain ⟨⟨b1, b2, b3, b4, b5, b6⟩, r1, r2, r3, r4⟩ := R
  refine br_c (fun c => br_t c ⟨rfl, Z⟩) (fun c => br_c (fun d => ?_) (fun d => br_f c (br_f d ⟨rfl, Z⟩)))
  refine br_c (fun e => ?_) (fun e => br_f c (br_t d (br_f e ⟨rfl, Z⟩)))
  have e' := e
  rw [nI_ltI (by omega) (by omega)] at e'
  have hv : vp_in (nI vc) 64 := vp_in_nI (by omega) (by decide)
  obtain ⟨j, hj, rfl⟩ := nI_of2 (M := 65535) (n := 65535) (by decide) c d
  have eu : upd (fs_F V) (nI vc).toNatClampNeg (nI j) = fs_F (fs_u V vc j) := by rw [nI_clamp (by omega), fs_Fu]
  refine And.intro hv (nm_r eu (nm_r (nI_1 vc) ?_))
  refine br_f c (br_t d (br_t e (And.intro hv (nm_r eu (nm_r (nI_1 vc) ⟨rfl, ?_⟩)))))
  refine zz_in mi mb mv n (vc + 1) bc sl K A B (fs_u V vc j) M oc pa rg eo nm op pc ps tk fl wb wv sa st lf cp si sf so ot tt wc bf wk sr lt mk sm sF sT ⟨⟨b1, b2, b3, b4, by omega, b6⟩, r1, r2, fun i => ?_, r4⟩
  unfold fs_u
  split
  · omega
  · exact r3 i
theorem i_vc_erase {k : Nat} {u : SX} {v : SY} (I : i_Rel k u v) (hk : k + 4 ≤ 2051) (v1 : Int32) : wpX_erase (fun r u' => wpY_erase (fun r' v' => r' = r ∧ i_Rel (k + 4) u' v') v v1) u v1 := by
  refine zz_el (P := fun u v => wpX_erase (fun r u' => wpY_erase (fun r' v' => r' = r ∧ i_Rel (k + 4) u' v') v v1) u v1) I ?_
  intro mi mb mv n vc bc sl K A B V M oc pa rg eo nm op pc ps tk fl wb wv sa st lf cp si sf so ot tt wc bf wk sr lt mk sm sF sT R
  have Z := zz_in (k := k + 4) mi mb mv n vc bc sl K A B V M oc pa rg eo nm op pc ps tk fl wb wv sa st lf cp si sf so ot tt wc bf wk sr lt mk sm sF sT R
  obtain ⟨⟨b1, b2, b3, b4, b5, b6⟩, r1, r2, r3, r4, r5, r6, r7⟩ := R
  refine br_c (fun c => br_t c ⟨rfl, Z⟩) (fun c => br_c (fun d => br_f c (br_f (Int32.not_le.mpr d) ⟨rfl, Z⟩)) (fun d => ?_))
  have d' : v1 ≤ 2 := Int32.not_lt.mp d
  obtain ⟨j, hj, rfl⟩ := nI_of2 (M := 2) (n := 2) (by decide) c d'
  have hj3 : j = 0 ∨ j = 1 ∨ j = 2 := by omega
  rcases hj3 with rfl | rfl | rfl
  · refine br_t (by decide) (br_f c (br_t d' (br_t (by decide) (br_f (by decide) (br_f (by decide) ⟨rfl, ?_⟩)))))
    rw [← nI_0]
    refine zz_in mi mb mv 0 vc bc (nI 0) K A B V M (nI 0) pa rg eo nm op pc ps tk fl wb wv sa st lf cp si sf so ot tt wc bf wk sr lt mk sm sF sT ?_
    refine ⟨⟨b1, b2, b3, by omega, b5, b6⟩, Or.inl nI_0, r2, r3, r4, ?_, rfl, trivial, ?_, ?_, ?_, ?_, ?_⟩
    · intro i hi; omega
    · intro j hj; omega
    · intro j hj; omega
    · intro j hj; omega
    · intro j hj; omega
    · intro h
      exact absurd h (by decide)
  · refine br_f (by decide) (br_t (by decide) (br_f c (br_t d' (br_f (by decide) (br_t (by decide) (br_f (by decide) ⟨rfl, ?_⟩))))))
    rw [← nI_0]
    exact zz_in mi mb mv n 0 bc sl K A B V M oc pa rg eo nm op pc ps tk fl wb wv sa st lf cp si sf so ot tt wc bf wk sr lt mk sm sF sT ⟨⟨b1, b2, b3, b4, by omega, b6⟩, r1, r2, r3, r4, r5, r6, r7⟩
  · refine br_f (by decide) (br_f (by decide) (br_t (by decide) (br_f c (br_t d' (br_f (by decide) (br_f (by decide) (br_t (by decide) ⟨rfl, ?_⟩)))))))
    rw [← nI_0]
    exact zz_in mi mb mv n vc 0 sl K A B V M oc pa rg eo nm op pc ps tk fl wb wv sa st lf cp si sf so ot tt wc bf wk sr lt mk sm sF sT ⟨⟨b1, b2, b3, b4, b5, by omega⟩, r1, r2, r3, r4, r5, r6, r7⟩
end
section
/-! one more item: the description's facts last -/
theorem fs_rgo_cg {K K' : Nat → Nat} : ∀ {l : List Nat}, (∀ g, g ∈ l → K' g = K g) → fs_rgo K' l = fs_rgo K l := by
  intro l
  induction l with
  | nil => intro _; rfl
  | cons a r ih =>
    intro h
    rw [fs_rgo, fs_rgo, h a List.mem_cons_self, ih (fun g hg => h g (List.mem_cons_of_mem a hg))]
section
variable {K A B K' A' B' : Nat → Nat} {n : Nat}
theorem fs_same_cg (hK : ∀ j, j < n → K' j = K j) {s g : Nat} (hs : s ≤ n) (hg : g ≤ n) (h : fs_same K s g) : fs_same K' s g := by
  intro x hR
  rw [fs_cg hK hs, fs_cg hK hg]
  by_cases c : x < n
  · rw [hK x c] at hR
    exact h x hR
  · constructor
    · intro hm; have := fs_lt hm; omega
    · intro hm; have := fs_lt hm; omega
theorem fs_top_lt {i l : Nat} (h : fs_stk K i = l :: fs_stk K l) : l < i := fs_lt (by rw [h]; exact List.mem_cons_self)
theorem fs_wf_cg (hK : ∀ j, j < n → K' j = K j) (hA : ∀ j, j < n → A' j = A j) (hB : ∀ j, j < n → B' j = B j) (W : fs_WF K A B n) : fs_WF K' A' B' n := by
  intro i hi
  obtain ⟨c1, c2, c3, c4, c5, c6, c7, c8, c9, c10, c11, c12, c13⟩ := W i hi
  have eK := hK i hi
  have eA := hA i hi
  have eB := hB i hi
  have eS := fs_cg hK (i := i) (by omega)
  refine ⟨by rw [eK]; exact c1, by rw [eK, eA]; exact c2, by rw [eK, eB, eA]; exact c3, by rw [eK, eA]; exact c4, ?_, ?_, ?_, ?_, ?_, ?_, ?_, ?_, by rw [eA, eB]; exact c13⟩
  · rw [eK, eA]
    intro h
    obtain ⟨a1, a2, a3, a4⟩ := c5 h
    refine ⟨a1, by rw [hK _ (by omega)]; exact a2, fs_same_cg hK (by omega) (by omega) a3, fun j hj hna => ?_⟩
    rw [hK j (by omega)] at hna
    rw [hA j (by omega)]
    exact a4 j hj hna
  · rw [eK, eB, eA]
    intro h
    have := (c5 (Or.inr (Or.inl h))).1
    rw [hA _ (by omega)]
    exact c6 h
  · rw [eK, eS]
    intro h
    obtain ⟨l, h1, h2⟩ := c7 h
    have := fs_top_lt h1
    exact ⟨l, by rw [fs_cg hK (i := l) (by omega)]; exact h1, by rw [hK l (by omega)]; exact h2⟩
  · rw [eK, eS]
    intro h
    obtain ⟨l, h1, h2⟩ := c8 h
    have := fs_top_lt h1
    exact ⟨l, by rw [fs_cg hK (i := l) (by omega)]; exact h1, by rw [hK l (by omega)]; exact h2⟩
  · rw [eK, eS, eA]
    intro h
    have h1 := c9 h
    have := fs_top_lt h1
    rw [fs_cg hK (i := A i) (by omega)]
    exact h1
  · rw [eK, eS]
    intro u hu h9
    have hm : u < i := fs_lt (by rw [hu]; exact List.mem_cons_self)
    rw [fs_cg hK (i := u) (by omega)] at hu
    rw [hK u (by omega)] at h9
    exact c10 u hu h9
  · rw [eK]
    intro j hj h
    rw [hK j (by omega)] at h
    exact c11 j hj h
  · rw [eK]
    intro j hj h h8
    rw [hK j (by omega)] at h
    rw [hA j (by omega)] at h8
    have := fs_elt W (i := j) (by omega) h
    rw [hK (A j) (by omega)] at h8
    exact c12 j hj h h8
end
def fs_okn (K A : Nat → Nat) (n k α β : Nat) : Prop :=
  (1 ≤ k ∧ k ≤ 11) ∧ (k ≤ 3 → 1 ≤ α ∧ α ≤ 16) ∧ (k = 2 → β < 2 ^ α) ∧ (k = 4 → 2 ≤ α ∧ α ≤ 16)
  ∧ (fs_nam k → α < n ∧ K α = 3 ∧ fs_rgo K (fs_stk K α) = fs_rgo K (fs_stk K n) ∧ ¬ fs_isN K A n α)
  ∧ (k = 6 → β < 2 ^ (A α))
  ∧ (k = 8 → ∃ l, fs_stk K n = l :: fs_stk K l ∧ K l = 5)
  ∧ (k = 10 → ∃ u, fs_stk K n = u :: fs_stk K u ∧ K u = 9)
  ∧ (k = 11 → fs_stk K n = α :: fs_stk K α)
  ∧ (∀ u, fs_stk K n = u :: fs_stk K u → K u = 9 → k = 10 ∨ k = 11)
  ∧ (∀ j, n = j + 1 → K j = 7 ∨ K j = 8 → k ≤ 3)
  ∧ (∀ j, n = j + 1 → K j = 11 → K (A j) = 8 → k = 11)
  ∧ (α < 65536 ∧ β < 65536)
section
variable {K A B : Nat → Nat} {n k α β : Nat}
theorem fs_wf_ext (W : fs_WF K A B n) (h : fs_okn K A n k α β) : fs_WF (fs_u K n k) (fs_u A n α) (fs_u B n β) (n + 1) := by
  have hK : ∀ j, j < n → fs_u K n k j = K j := fun j hj => fs_un (by omega)
  have hA : ∀ j, j < n → fs_u A n α j = A j := fun j hj => fs_un (by omega)
  have hB : ∀ j, j < n → fs_u B n β j = B j := fun j hj => fs_un (by omega)
  intro i hi
  by_cases e : i = n
  · subst e
    obtain ⟨c1, c2, c3, c4, c5, c6, c7, c8, c9, c10, c11, c12, c13⟩ := h
    have eS := fs_cg hK (i := i) (by omega)
    unfold fs_wf1
    rw [eS, fs_us, fs_us, fs_us]
    refine ⟨c1, c2, c3, c4, ?_, ?_, ?_, ?_, ?_, ?_, ?_, ?_, c13⟩
    · intro h
      obtain ⟨a1, a2, a3, a4⟩ := c5 h
      refine ⟨a1, by rw [hK _ a1]; exact a2, fs_same_cg hK (by omega) (by omega) (fs_same_of a3), fun j hj hna he => ?_⟩
      rw [hK j hj] at hna
      rw [hA j hj] at he
      exact a4 ⟨j, hj, hna, he⟩
    · intro h
      have := (c5 (Or.inr (Or.inl h))).1
      rw [hA _ (by omega)]
      exact c6 h
    · intro h
      obtain ⟨l, h1, h2⟩ := c7 h
      have := fs_top_lt h1
      exact ⟨l, by rw [fs_cg hK (i := l) (by omega)]; exact h1, by rw [hK l (by omega)]; exact h2⟩
    · intro h
      obtain ⟨l, h1, h2⟩ := c8 h
      have := fs_top_lt h1
      exact ⟨l, by rw [fs_cg hK (i := l) (by omega)]; exact h1, by rw [hK l (by omega)]; exact h2⟩
    · intro h
      have h1 := c9 h
      have := fs_top_lt h1
      rw [fs_cg hK (i := α) (by omega)]
      exact h1
    · intro u hu h9
      have hm : u < i := fs_lt (by rw [hu]; exact List.mem_cons_self)
      rw [fs_cg hK (i := u) (by omega)] at hu
      rw [hK u (by omega)] at h9
      exact c10 u hu h9
    · intro j hj h
      rw [hK j (by omega)] at h
      exact c11 j hj h
    · intro j hj h h8
      rw [hK j (by omega)] at h
      rw [hA j (by omega)] at h8
      have := fs_elt W (i := j) (by omega) h
      rw [hK (A j) (by omega)] at h8
      exact c12 j hj h h8
  · exact fs_wf_cg hK hA hB W i (by omega)
theorem fs_bdd_ext (h : fs_bdd K A B) (hk : k ≤ 11) (ha : α < 65536) (hb : β < 65536) : fs_bdd (fs_u K n k) (fs_u A n α) (fs_u B n β) := by
  intro j
  unfold fs_u
  by_cases e : j = n
  · rw [if_pos e, if_pos e, if_pos e]; exact ⟨hk, ha, hb⟩
  · rw [if_neg e, if_neg e, if_neg e]; exact h j
theorem fs_isN_ext (h : fs_okn K A n k α β) (W : fs_WF K A B n) {s : Nat} (hs : s ≤ n) : fs_isN (fs_u K n k) (fs_u A n α) (n + 1) s ↔ (s < n ∧ fs_isN K A n s) ∨ (fs_nam k ∧ α = s) := by
  constructor
  · rintro ⟨j, hj, h1, h2⟩
    by_cases e : j = n
    · subst e
      rw [fs_us] at h1 h2
      exact Or.inr ⟨h1, h2⟩
    · rw [fs_un e] at h1 h2
      have := fs_nm W (i := j) (by omega) h1
      exact Or.inl ⟨by omega, j, by omega, h1, h2⟩
  · rintro (⟨h0, j, hj, h1, h2⟩ | ⟨h1, h2⟩)
    · exact ⟨j, by omega, by rw [fs_un (by omega)]; exact h1, by rw [fs_un (by omega)]; exact h2⟩
    · exact ⟨n, by omega, by rw [fs_us]; exact h1, by rw [fs_us]; exact h2⟩
end
section
variable {mi mb mv n vc bc : Nat} {K A B V M : Nat → Nat} {pa rg eo nm op eo' nm' op' : Nat → Int32} {k α β : Nat}
theorem fs_rel_ext (R : fs_Rel mi mb mv n vc bc 0 K A B V M (nI (fs_stk K n).length) pa rg eo nm op) (hn : n < mi) (h : fs_okn K A n k α β)
    (he1 : k = 11 → eo' = upd eo α (nI n)) (he2 : k ≠ 11 → eo' = eo)
    (ho1 : 5 ≤ k → k ≠ 11 → op' = upd op (fs_stk K n).length (nI n)) (ho2 : k < 5 ∨ k = 11 → op' = op)
    (hn1 : fs_nam k → nm' = upd (upd nm n 0) α 1) (hn2 : ¬ fs_nam k → nm' = upd nm n 0) :
    fs_Rel mi mb mv (n + 1) vc bc 0 (fs_u K n k) (fs_u A n α) (fs_u B n β) V M (nI (fs_stk (fs_u K n k) (n + 1)).length) (upd pa n (fs_oI (fs_stk K n).head?)) (upd rg n (fs_oI (fs_rgo K (fs_stk K n)))) eo' nm' op' := by
  obtain ⟨⟨b1, b2, b3, b4, b5, b6⟩, r1, r2, r3, r4, r5, r6, r7, r8, r9, r10, r11, r12⟩ := R
  have hK : ∀ j, j < n → fs_u K n k j = K j := fun j hj => fs_un (by omega)
  have hk := h.1
  have hab := h.2.2.2.2.2.2.2.2.2.2.2.2
  have eS : ∀ {i : Nat}, i ≤ n → fs_stk (fs_u K n k) i = fs_stk K i := fun hi => fs_cg hK hi
  refine ⟨⟨b1, b2, b3, by omega, b5, b6⟩, r1, fs_bdd_ext r2 hk.2 hab.1 hab.2, r3, r4, fs_wf_ext r5 h, rfl, ?_, ?_, ?_, ?_, ?_, ?_⟩
  · by_cases c : k = 11
    · rw [fs_sE (by rw [fs_us]; exact c), eS (Nat.le_refl n), ho2 (Or.inr c)]
      have hs := h.2.2.2.2.2.2.2.2.1 c
      rw [hs] at r7 ⊢
      exact r7.2
    · by_cases c5 : 5 ≤ k
      · rw [fs_sO (by rw [fs_us]; exact c) (by rw [fs_us]; exact c5), eS (Nat.le_refl n), ho1 c5 c]
        exact ⟨pk_us, fs_open_cg (fun i hi => pk_un (by omega)) r7⟩
      · rw [fs_sP (by rw [fs_us]; omega), eS (Nat.le_refl n), ho2 (Or.inl (by omega))]
        exact r7
  · intro j hj
    by_cases e : j = n
    · subst e
      rw [eS (Nat.le_refl j)]
      exact pk_us
    · rw [eS (by omega), pk_un e]
      exact r8 j (by omega)
  · intro j hj
    have e1 : fs_rgo (fs_u K n k) (fs_stk K j) = fs_rgo K (fs_stk K j) := fs_rgo_cg (fun g hg => hK g (by have := fs_lt hg; omega))
    by_cases e : j = n
    · subst e
      rw [eS (Nat.le_refl j), e1]
      exact pk_us
    · rw [eS (by omega), pk_un e, e1]
      exact r9 j (by omega)
  · intro e he hk11
    by_cases c : e = n
    · subst c
      rw [fs_us] at hk11
      rw [fs_us, he1 hk11]
      exact pk_us
    · rw [fs_un c] at hk11
      rw [fs_un c]
      by_cases c2 : k = 11
      · rw [he1 c2]
        have hs := h.2.2.2.2.2.2.2.2.1 c2
        have hne : A e ≠ α := by
          intro z
          have := fs_cl hk11 (fs_en r5 (by omega) hk11) (j := n) (by omega)
          rw [z, hs] at this
          exact this List.mem_cons_self
        rw [pk_un hne]
        exact r10 e (by omega) hk11
      · rw [he2 c2]
        exact r10 e (by omega) hk11
  · intro s hs
    rw [fs_isN_ext h r5 (by omega)]
    by_cases c : fs_nam k
    · have hc := h.2.2.2.2.1 c
      rw [hn1 c]
      by_cases e : s = α
      · subst e
        exact Or.inr ⟨pk_us, Or.inr ⟨c, rfl⟩⟩
      · rw [pk_un e]
        by_cases e2 : s = n
        · subst e2
          refine Or.inl ⟨pk_us, ?_⟩
          rintro (⟨h1, _⟩ | ⟨_, h2⟩)
          · omega
          · exact e h2.symm
        · rw [pk_un e2]
          rcases r11 s (by omega) with ⟨h1, h2⟩ | ⟨h1, h2⟩
          · refine Or.inl ⟨h1, ?_⟩
            rintro (⟨_, h3⟩ | ⟨_, h3⟩)
            · exact h2 h3
            · exact e h3.symm
          · exact Or.inr ⟨h1, Or.inl ⟨by omega, h2⟩⟩
    · rw [hn2 c]
      by_cases e2 : s = n
      · subst e2
        refine Or.inl ⟨pk_us, ?_⟩
        rintro (⟨h1, _⟩ | ⟨h1, _⟩)
        · omega
        · exact c h1
      · rw [pk_un e2]
        rcases r11 s (by omega) with ⟨h1, h2⟩ | ⟨h1, h2⟩
        · refine Or.inl ⟨h1, ?_⟩
          rintro (⟨_, h3⟩ | ⟨h3, _⟩)
          · exact h2 h3
          · exact c h3
        · exact Or.inr ⟨h1, Or.inl ⟨by omega, h2⟩⟩
  · intro h01
    exact absurd h01 (by decide)
end
end
section
/-! the component's add -/
def fs_gk (K : Nat → Nat) : List Nat → Nat
  | [] => 0
  | g :: _ => K g
def fs_la (K : Nat → Nat) : Nat → Nat
  | 0 => 0
  | m + 1 => K m
def fs_LCF (K A : Nat → Nat) : Nat → Prop
  | 0 => False
  | m + 1 => K m = 11 ∧ K (A m) = 8
def fs_PL (K A : Nat → Nat) (n k : Nat) : Prop :=
  ¬ (k ≠ 11 ∧ fs_LCF K A n) ∧ ¬ (fs_gk K (fs_stk K n) = 9 ∧ k ≠ 10 ∧ k ≠ 11) ∧ ¬ (k = 10 ∧ fs_gk K (fs_stk K n) ≠ 9)
  ∧ ¬ ((fs_la K n = 7 ∨ fs_la K n = 8) ∧ 3 < k) ∧ ¬ (k = 8 ∧ fs_gk K (fs_stk K n) ≠ 5) ∧ ¬ (k = 11 ∧ fs_oI (fs_stk K n).head? < 0)
def fs_RF (K A : Nat → Nat) (n : Nat) (a : Int32) : Prop :=
  ∃ s, a = nI s ∧ s < n ∧ K s = 3 ∧ ¬ fs_isN K A n s ∧ fs_rgo K (fs_stk K s) = fs_rgo K (fs_stk K n)
def fs_AG (K A : Nat → Nat) (n k : Nat) (a b : Int32) : Prop :=
  (k ≤ 3 → ∃ w, a = nI w ∧ 1 ≤ w ∧ w ≤ 16 ∧ (k = 2 → ∃ β, b = nI β ∧ β < 2 ^ w))
  ∧ (k = 4 → ∃ w, a = nI w ∧ 2 ≤ w ∧ w ≤ 16)
  ∧ (k = 6 → ∃ s β, a = nI s ∧ s < n ∧ b = nI β ∧ β < 2 ^ (A s) ∧ β % 2 = 1)
  ∧ (k = 10 → ∃ u t, (fs_stk K n).head? = some u ∧ a = nI t ∧ t < 2 ^ (A (A u)) ∧ ∀ j, j < n → ¬ fs_isC K A u a j)
theorem fs_oI_inj {o o' : Option Nat} (ho : ∀ g, o = some g → g < 2 ^ 31) (ho' : ∀ g, o' = some g → g < 2 ^ 31) : fs_oI o = fs_oI o' ↔ o = o' := by
  cases o' with
  | none =>
    cases o with
    | none => exact ⟨fun _ => rfl, fun _ => rfl⟩
    | some g => exact ⟨fun h => absurd h (fs_neg1 g (ho g rfl)), fun h => by cases h⟩
  | some u => exact fs_oI_some ho (ho' u rfl)
theorem fs_rgo_lt {K : Nat → Nat} {j g : Nat} (h : fs_rgo K (fs_stk K j) = some g) : g < j := fs_lt (fs_rg_mem h).1
theorem fs_gk11 {K A B : Nat → Nat} (hb : fs_bdd K A B) (l : List Nat) : fs_gk K l ≤ 11 := by
  cases l with
  | nil => exact Nat.zero_le _
  | cons g r => exact (hb g).1
theorem fs_la11 {K A B : Nat → Nat} (hb : fs_bdd K A B) (n : Nat) : fs_la K n ≤ 11 := by
  cases n with
  | zero => exact Nat.zero_le _
  | succ m => exact (hb m).1
section
variable {mi mb mv n vc bc : Nat} {oc sl pc ps tk fl : Int32} {K A B V M : Nat → Nat} {pa rg eo nm op wb wv sa st lf cp si sf so : Nat → Int32}
theorem xs_lcf {post : Int32 → Prop} (W : fs_WF K A B n) (hb : fs_bdd K A B) (hn : n ≤ 32) (h1 : fs_LCF K A n → post 1) (h0 : ¬ fs_LCF K A n → post 0) : wpX_lastClosedFill post (nI mi, nI mb, nI mv, nI n, oc, sl, nI vc, nI bc, pc, ps, tk, fl, fs_F K, fs_F A, fs_F B, pa, rg, eo, nm, op, fs_F V, fs_F M, wb, wv, sa, st, lf, cp, si, sf, so) := by
  cases n with
  | zero => exact br_t rfl (h0 id)
  | succ m =>
    unfold wpX_lastClosedFill
    dsimp only
    have hv : vp_in (nI m) 32 := vp_in_nI (by omega) (by decide)
    have hm := hb m
    refine br_f (nI_ne0 (by omega) (by omega)) ?_
    rw [nI_pred, fs_Fat (f := K) (i := m) (by omega), fs_Fat (f := A) (i := m) (by omega), fs_Fat (f := K) (i := A m) (by omega)]
    have hk2 := hb (A m)
    refine And.intro hv (pk_eq (K m) 11 (fun e => And.intro hv ?_) (fun e => h0 (fun z => e z.1)))
    have := fs_elt W (i := m) (by omega) e
    exact And.intro (vp_in_nI (by omega) (by decide)) (pk_eq (K (A m)) 8 (fun e2 => h1 ⟨e, e2⟩) (fun e2 => h0 (fun z => e2 z.2)))
theorem xs_p127 {post : Int32 → Prop} {k : Nat} {r : Int32} (hk : k ≤ 11) (h1 : ¬ (k = 11 ∧ r < 0) → post 1) (h0 : k = 11 ∧ r < 0 → post 0) : wX_placeOk_127 post (nI k) r (nI mi) (nI mb) (nI mv) (nI n) oc sl (nI vc) (nI bc) pc ps tk fl (fs_F K) (fs_F A) (fs_F B) pa rg eo nm op (fs_F V) (fs_F M) wb wv sa st lf cp si sf so :=
  pk_eq k 11 (fun e => br_c (fun c => h0 ⟨e, c⟩) (fun c => h1 (fun z => c z.2))) (fun e => h1 (fun z => e z.1))
theorem xs_p114 {post : Int32 → Prop} {k g : Nat} {r : Int32} (hk : k ≤ 11) (hg : g ≤ 11) (h1 : ¬ (k = 8 ∧ g ≠ 5) → wX_placeOk_127 post (nI k) r (nI mi) (nI mb) (nI mv) (nI n) oc sl (nI vc) (nI bc) pc ps tk fl (fs_F K) (fs_F A) (fs_F B) pa rg eo nm op (fs_F V) (fs_F M) wb wv sa st lf cp si sf so) (h0 : k = 8 ∧ g ≠ 5 → post 0) : wX_placeOk_114 post (nI k) r (nI g) (nI mi) (nI mb) (nI mv) (nI n) oc sl (nI vc) (nI bc) pc ps tk fl (fs_F K) (fs_F A) (fs_F B) pa rg eo nm op (fs_F V) (fs_F M) wb wv sa st lf cp si sf so :=
  pk_eq k 8 (fun e => pk_eq g 5 (fun c => h1 (fun z => z.2 c)) (fun c => h0 ⟨e, c⟩)) (fun e => h1 (fun z => e z.1))
theorem xs_p107 {post : Int32 → Prop} {k g : Nat} {r : Int32} (hk : k ≤ 11) (h1 : ¬ 3 < k → wX_placeOk_114 post (nI k) r (nI g) (nI mi) (nI mb) (nI mv) (nI n) oc sl (nI vc) (nI bc) pc ps tk fl (fs_F K) (fs_F A) (fs_F B) pa rg eo nm op (fs_F V) (fs_F M) wb wv sa st lf cp si sf so) (h0 : 3 < k → post 0) : wX_placeOk_107 post (nI k) r (nI g) (nI mi) (nI mb) (nI mv) (nI n) oc sl (nI vc) (nI bc) pc ps tk fl (fs_F K) (fs_F A) (fs_F B) pa rg eo nm op (fs_F V) (fs_F M) wb wv sa st lf cp si sf so :=
  pk_le k 3 (fun c => h1 (by omega)) (fun c => h0 c)
theorem xs_p91 {post : Int32 → Prop} {k g la : Nat} {r : Int32} (hk : k ≤ 11) (hl : la ≤ 11) (h1 : ¬ ((la = 7 ∨ la = 8) ∧ 3 < k) → wX_placeOk_114 post (nI k) r (nI g) (nI mi) (nI mb) (nI mv) (nI n) oc sl (nI vc) (nI bc) pc ps tk fl (fs_F K) (fs_F A) (fs_F B) pa rg eo nm op (fs_F V) (fs_F M) wb wv sa st lf cp si sf so) (h0 : (la = 7 ∨ la = 8) ∧ 3 < k → post 0) : wX_placeOk_91 post (nI k) r (nI g) (nI la) (nI mi) (nI mb) (nI mv) (nI n) oc sl (nI vc) (nI bc) pc ps tk fl (fs_F K) (fs_F A) (fs_F B) pa rg eo nm op (fs_F V) (fs_F M) wb wv sa st lf cp si sf so :=
  pk_eq la 7 (fun e => xs_p107 hk (fun c => h1 (fun z => c z.2)) (fun c => h0 ⟨Or.inl e, c⟩)) (fun e => pk_eq la 8 (fun e8 => xs_p107 hk (fun c => h1 (fun z => c z.2)) (fun c => h0 ⟨Or.inr e8, c⟩)) (fun e8 => h1 (fun z => z.1.elim e e8)))
theorem xs_p69 {post : Int32 → Prop} {k g : Nat} {r : Int32} (hn : n ≤ 32) (h : wX_placeOk_91 post (nI k) r (nI g) (nI (fs_la K n)) (nI mi) (nI mb) (nI mv) (nI n) oc sl (nI vc) (nI bc) pc ps tk fl (fs_F K) (fs_F A) (fs_F B) pa rg eo nm op (fs_F V) (fs_F M) wb wv sa st lf cp si sf so) : wX_placeOk_69 post (nI k) r (nI g) (nI mi) (nI mb) (nI mv) (nI n) oc sl (nI vc) (nI bc) pc ps tk fl (fs_F K) (fs_F A) (fs_F B) pa rg eo nm op (fs_F V) (fs_F M) wb wv sa st lf cp si sf so := by
  cases n with
  | zero => exact br_t (by decide) h
  | succ m =>
    refine br_f (nI_nle (by omega) (by omega)) ?_
    rw [nI_pred, fs_Fat (f := K) (i := m) (by omega)]
    exact And.intro (vp_in_nI (by omega) (by decide)) h
theorem xs_p55 {post : Int32 → Prop} {k g : Nat} {r : Int32} (hk : k ≤ 11) (hg : g ≤ 11) (h1 : ¬ (k = 10 ∧ g ≠ 9) → wX_placeOk_69 post (nI k) r (nI g) (nI mi) (nI mb) (nI mv) (nI n) oc sl (nI vc) (nI bc) pc ps tk fl (fs_F K) (fs_F A) (fs_F B) pa rg eo nm op (fs_F V) (fs_F M) wb wv sa st lf cp si sf so) (h0 : k = 10 ∧ g ≠ 9 → post 0) : wX_placeOk_55 post (nI k) r (nI g) (nI mi) (nI mb) (nI mv) (nI n) oc sl (nI vc) (nI bc) pc ps tk fl (fs_F K) (fs_F A) (fs_F B) pa rg eo nm op (fs_F V) (fs_F M) wb wv sa st lf cp si sf so :=
  pk_eq k 10 (fun e => pk_eq g 9 (fun c => h1 (fun z => z.2 c)) (fun c => h0 ⟨e, c⟩)) (fun e => h1 (fun z => e z.1))
theorem xs_p35 {post : Int32 → Prop} {k g : Nat} {r : Int32} (hk : k ≤ 11) (hg : g ≤ 11) (h1 : ¬ (g = 9 ∧ k ≠ 10 ∧ k ≠ 11) → wX_placeOk_55 post (nI k) r (nI g) (nI mi) (nI mb) (nI mv) (nI n) oc sl (nI vc) (nI bc) pc ps tk fl (fs_F K) (fs_F A) (fs_F B) pa rg eo nm op (fs_F V) (fs_F M) wb wv sa st lf cp si sf so) (h0 : g = 9 ∧ k ≠ 10 ∧ k ≠ 11 → post 0) : wX_placeOk_35 post (nI k) r (nI g) (nI mi) (nI mb) (nI mv) (nI n) oc sl (nI vc) (nI bc) pc ps tk fl (fs_F K) (fs_F A) (fs_F B) pa rg eo nm op (fs_F V) (fs_F M) wb wv sa st lf cp si sf so :=
  pk_eq g 9 (fun e => pk_eq k 10 (fun c => h1 (fun z => z.2.1 c)) (fun c => pk_eq k 11 (fun d => h1 (fun z => z.2.2 d)) (fun d => h0 ⟨e, c, d⟩))) (fun e => h1 (fun z => e z.1))
theorem xs_place {post : Int32 → Prop} {k : Nat} (W : fs_WF K A B n) (hb : fs_bdd K A B) (hn : n ≤ 32) (hk : k ≤ 11) (hop : fs_open op (fs_stk K n)) (h1 : fs_PL K A n k → post 1) (h0 : ¬ fs_PL K A n k → post 0) : wpX_placeOk post (nI mi, nI mb, nI mv, nI n, nI (fs_stk K n).length, sl, nI vc, nI bc, pc, ps, tk, fl, fs_F K, fs_F A, fs_F B, pa, rg, eo, nm, op, fs_F V, fs_F M, wb, wv, sa, st, lf, cp, si, sf, so) (nI k) := by
  have hlen := fs_len (K := K) n
  have hg := fs_gk11 hb (fs_stk K n)
  have hl := fs_la11 hb n
  have s19 : wX_placeOk_19 post (nI k) (fs_oI (fs_stk K n).head?) (nI (fs_gk K (fs_stk K n))) (nI mi) (nI mb) (nI mv) (nI n) (nI (fs_stk K n).length) sl (nI vc) (nI bc) pc ps tk fl (fs_F K) (fs_F A) (fs_F B) pa rg eo nm op (fs_F V) (fs_F M) wb wv sa st lf cp si sf so := by
    have s35 : ¬ (k ≠ 11 ∧ fs_LCF K A n) → wX_placeOk_35 post (nI k) (fs_oI (fs_stk K n).head?) (nI (fs_gk K (fs_stk K n))) (nI mi) (nI mb) (nI mv) (nI n) (nI (fs_stk K n).length) sl (nI vc) (nI bc) pc ps tk fl (fs_F K) (fs_F A) (fs_F B) pa rg eo nm op (fs_F V) (fs_F M) wb wv sa st lf cp si sf so := by
      intro c1
      refine xs_p35 hk hg (fun c2 => ?_) (fun c2 => h0 (fun z => z.2.1 c2))
      refine xs_p55 hk hg (fun c3 => ?_) (fun c3 => h0 (fun z => z.2.2.1 c3))
      refine xs_p69 hn ?_
      refine xs_p91 hk hl (fun c4 => ?_) (fun c4 => h0 (fun z => z.2.2.2.1 c4))
      refine xs_p114 hk hg (fun c5 => ?_) (fun c5 => h0 (fun z => z.2.2.2.2.1 c5))
      exact xs_p127 hk (fun c6 => h1 ⟨c1, c2, c3, c4, c5, c6⟩) (fun c6 => h0 (fun z => z.2.2.2.2.2 c6))
    refine pk_eq k 11 (fun e => s35 (fun z => z.1 e)) (fun e => ?_)
    exact xs_lcf W hb hn (fun c => br_f (by decide) (h0 (fun z => z.1 ⟨e, c⟩))) (fun c => br_t rfl (s35 (fun z => c z.2)))
  unfold wpX_placeOk
  dsimp only
  refine xs_inn (by omega) hop ?_
  generalize hL : fs_stk K n = l at *
  cases l with
  | nil => exact br_t (by decide) s19
  | cons g r =>
    have hlt : g < n := fs_lt (by rw [hL]; exact List.mem_cons_self)
    refine br_f (nI_pos (n := g) (by omega)) (And.intro (vp_in_nI (n := g) (by omega) (by decide)) ?_)
    have e : fs_F K (fs_oI (g :: r).head?).toNatClampNeg = nI (fs_gk K (g :: r)) := fs_Fat (f := K) (i := g) (by omega)
    rw [e]
    exact s19
theorem xs_ref {post : Int32 → Prop} {a : Int32} (hb : fs_bdd K A B) (hn : n ≤ 32) (hop : fs_open op (fs_stk K n)) (hrg : ∀ j, j < n → rg j = fs_oI (fs_rgo K (fs_stk K j))) (hnm : ∀ s, s < n → (nm s = 0 ∧ ¬ fs_isN K A n s) ∨ (nm s = 1 ∧ fs_isN K A n s)) (h1 : fs_RF K A n a → post 1) (h0 : ¬ fs_RF K A n a → post 0) : wpX_refOk post (nI mi, nI mb, nI mv, nI n, nI (fs_stk K n).length, sl, nI vc, nI bc, pc, ps, tk, fl, fs_F K, fs_F A, fs_F B, pa, rg, eo, nm, op, fs_F V, fs_F M, wb, wv, sa, st, lf, cp, si, sf, so) a := by
  have hlen := fs_len (K := K) n
  unfold wpX_refOk
  dsimp only
  refine br_c (fun c => h0 ?_) (fun c => ?_)
  · rintro ⟨s, rfl, hs, -⟩
    exact nI_pos (by omega) c
  · obtain ⟨s, hs, rfl⟩ := nI_of c
    refine pk_le n s (fun d => h0 ?_) (fun d => ?_)
    · rintro ⟨s', e, hs', -⟩
      rw [nI_eq hs (by omega)] at e
      omega
    · have hv : vp_in (nI s) 32 := vp_in_nI (by omega) (by decide)
      have hks := (hb s).1
      have inv : fs_RF K A n (nI s) → K s = 3 ∧ ¬ fs_isN K A n s ∧ fs_rgo K (fs_stk K s) = fs_rgo K (fs_stk K n) := by
        rintro ⟨s', e, hs', h3⟩
        rw [nI_eq hs (by omega)] at e
        subst e
        exact h3
      rw [fs_Fat (f := K) (i := s) (by omega), nI_clamp (n := s) (by omega)]
      refine And.intro hv (pk_eq (K s) 3 (fun e3 => And.intro hv ?_) (fun e3 => h0 (fun z => e3 (inv z).1)))
      rcases hnm s d with ⟨g1, g2⟩ | ⟨g1, g2⟩
      · refine br_t g1 (And.intro hv ?_)
        refine xs_reg (fun j => (hb j).1) (by omega) hop (fun g hg => by have := fs_lt hg; omega) ?_
        rw [hrg s d]
        have ei := fs_oI_inj (o := fs_rgo K (fs_stk K s)) (o' := fs_rgo K (fs_stk K n)) (fun g hg => by have := fs_rgo_lt hg; omega) (fun g hg => by have := fs_rgo_lt hg; omega)
        exact br_c (fun c2 => h1 ⟨s, rfl, d, e3, g2, ei.mp c2⟩) (fun c2 => h0 (fun z => c2 (ei.mpr (inv z).2.2)))
      · refine br_f (by rw [g1]; decide) (h0 (fun z => (inv z).2.1 g2))
theorem xs_wok {post : Int32 → Prop} {a : Int32} (h1 : (∃ w, a = nI w ∧ 1 ≤ w ∧ w ≤ 16) → post 1) (h0 : ¬ (∃ w, a = nI w ∧ 1 ≤ w ∧ w ≤ 16) → post 0) : wpX_widthOk post (nI mi, nI mb, nI mv, nI n, oc, sl, nI vc, nI bc, pc, ps, tk, fl, fs_F K, fs_F A, fs_F B, pa, rg, eo, nm, op, fs_F V, fs_F M, wb, wv, sa, st, lf, cp, si, sf, so) a := by
  unfold wpX_widthOk
  dsimp only
  refine br_c (fun c => h0 ?_) (fun c => br_c (fun d => h0 ?_) (fun d => h1 ?_))
  · rintro ⟨w, rfl, h1, h2⟩
    exact absurd c (nI_nlt (b := 1) h1 (by omega))
  · rintro ⟨w, rfl, h1, h2⟩
    exact absurd d (nI_nlt (a := 16) h2 (by decide))
  · have c0 : ¬ a < 0 := fun z => c (Int32.lt_trans z (by decide))
    obtain ⟨j, hj, rfl⟩ := nI_of2 (M := 16) (n := 16) (by decide) c0 (Int32.not_lt.mp d)
    refine ⟨j, rfl, ?_, hj⟩
    have : ¬ nI j < nI 1 := c
    rw [nI_ltI (by omega) (by omega)] at this
    omega
end
end
section
section
variable {mi mb mv n vc bc : Nat} {oc sl pc ps tk fl : Int32} {K A B V M : Nat → Nat} {pa rg eo nm op wb wv sa st lf cp si sf so : Nat → Int32}
theorem fs_and1 {β : Nat} (h : β < 65536) : nI β &&& 1 = nI (β % 2) := by
  rw [pk_andN (by omega) 1 (by decide), Nat.pow_one]
theorem xs_tag {post : Int32 → Prop} {a : Int32} {w : Nat} (W : fs_WF K A B n) (hb : fs_bdd K A B) (hn : n ≤ 32) (hop : fs_open op (fs_stk K n)) (hpa : ∀ j, j < n → pa j = fs_oI (fs_stk K j).head?) (hu : (fs_stk K n).head? = some w) (hu9 : K w = 9)
    (h1 : (∃ t, a = nI t ∧ t < 2 ^ (A (A w)) ∧ ∀ j, j < n → ¬ fs_isC K A w a j) → post 1) (h0 : ¬ (∃ t, a = nI t ∧ t < 2 ^ (A (A w)) ∧ ∀ j, j < n → ¬ fs_isC K A w a j) → post 0) : wpX_tagOk post (nI mi, nI mb, nI mv, nI n, nI (fs_stk K n).length, sl, nI vc, nI bc, pc, ps, tk, fl, fs_F K, fs_F A, fs_F B, pa, rg, eo, nm, op, fs_F V, fs_F M, wb, wv, sa, st, lf, cp, si, sf, so) a := by
  have hlen := fs_len (K := K) n
  have hun := fs_hdlt hu
  have hna := fs_nm W hun (Or.inr (Or.inr (Or.inr hu9)))
  have hwd := fs_wd W (i := A w) (by omega) (by omega)
  unfold wpX_tagOk
  dsimp only
  refine xs_inn (by omega) hop ?_
  rw [hu]
  show vp_in (nI w) 32 ∧ (vp_in (fs_F A (nI w).toNatClampNeg) 32 ∧ (∀ x3_35 : Int32, x3_35 = fs_F A (fs_F A (nI w).toNatClampNeg).toNatClampNeg → _))
  rw [fs_Fat (f := A) (i := w) (by omega), fs_Fat (f := A) (i := A w) (by omega)]
  refine And.intro (vp_in_nI (by omega) (by decide)) (And.intro (vp_in_nI (by omega) (by decide)) (nm_e ?_))
  have e := fs_sh0 hwd.2 a
  obtain ⟨o, ho⟩ := fs_lst_ex (fs_isC K A w a) n
  refine br_c (fun c => ?_) (fun c => h0 (fun z => ?_))
  · obtain ⟨t, ht, hat⟩ := e.mp c
    refine xs_cof hn hb hpa hun ho ?_
    cases o with
    | none => exact br_f (by decide) (h1 ⟨t, hat, ht, ho⟩)
    | some c' =>
      refine br_t (nI_pos' (n := c') (by have := ho.1; omega)) (h0 (fun z => ?_))
      obtain ⟨t, _, _, hz⟩ := z
      exact hz c' ho.1 ho.2.1
  · obtain ⟨t, hat, ht, _⟩ := z
    exact c (e.mpr ⟨t, ht, hat⟩)
theorem xs_args {post : Int32 → Prop} {k : Nat} {a b : Int32} (W : fs_WF K A B n) (hb : fs_bdd K A B) (hn : n ≤ 32) (hk1 : 1 ≤ k) (hk : k ≤ 11) (hop : fs_open op (fs_stk K n)) (hpa : ∀ j, j < n → pa j = fs_oI (fs_stk K j).head?) (hRF : fs_nam k → fs_RF K A n a) (hu : k = 10 → ∃ u, (fs_stk K n).head? = some u ∧ K u = 9)
    (h1 : fs_AG K A n k a b → post 1) (h0 : ¬ fs_AG K A n k a b → post 0) : wpX_argsOk post (nI mi, nI mb, nI mv, nI n, nI (fs_stk K n).length, sl, nI vc, nI bc, pc, ps, tk, fl, fs_F K, fs_F A, fs_F B, pa, rg, eo, nm, op, fs_F V, fs_F M, wb, wv, sa, st, lf, cp, si, sf, so) (nI k) a b := by
  have w56 : k = 1 ∨ k = 3 → wX_argsOk_56 post a (nI mi) (nI mb) (nI mv) (nI n) (nI (fs_stk K n).length) sl (nI vc) (nI bc) pc ps tk fl (fs_F K) (fs_F A) (fs_F B) pa rg eo nm op (fs_F V) (fs_F M) wb wv sa st lf cp si sf so := by
    intro e
    refine xs_wok (fun c => And.intro narrow_b1 (h1 ?_)) (fun c => And.intro narrow_b0 (h0 (fun z => c ?_)))
    · obtain ⟨w, c1, c2, c3⟩ := c
      exact ⟨fun _ => ⟨w, c1, c2, c3, fun e2 => by omega⟩, fun e2 => by omega, fun e2 => by omega, fun e2 => by omega⟩
    · obtain ⟨w, c1, c2, c3, _⟩ := z.1 (by omega)
      exact ⟨w, c1, c2, c3⟩
  have triv : k = 5 ∨ k = 7 ∨ k = 8 ∨ k = 9 ∨ k = 11 → fs_AG K A n k a b := fun e => ⟨fun e2 => by omega, fun e2 => by omega, fun e2 => by omega, fun e2 => by omega⟩
  unfold wpX_argsOk
  dsimp only
  refine br_f (nI_nlt (b := 1) hk1 (by omega)) ?_
  refine pk_lt 10 k (fun e => h1 (triv (by omega))) (fun e10 => ?_)
  refine pk_eq k 1 (fun e => w56 (Or.inl e)) (fun e1 => ?_)
  refine pk_eq k 2 (fun e => ?_) (fun e2 => ?_)
  · refine xs_wok (fun c => br_f (by decide) ?_) (fun c => br_t rfl (h0 (fun z => c ?_)))
    · obtain ⟨w, rfl, c2, c3⟩ := c
      have es := fs_sh0 c3 b
      refine br_c (fun d => h1 ?_) (fun d => h0 (fun z => d (es.mpr ?_)))
      · obtain ⟨β, hβ, hbβ⟩ := es.mp d
        exact ⟨fun _ => ⟨w, rfl, c2, c3, fun _ => ⟨β, hbβ, hβ⟩⟩, fun e2 => by omega, fun e2 => by omega, fun e2 => by omega⟩
      · obtain ⟨w', ew, _, h16, hz⟩ := z.1 (by omega)
        obtain ⟨β, hbβ, hβ⟩ := hz e
        rw [nI_eq (by omega) (by omega)] at ew
        subst ew
        exact ⟨β, hβ, hbβ⟩
    · obtain ⟨w, c1, c2, c3, _⟩ := z.1 (by omega)
      exact ⟨w, c1, c2, c3⟩
  refine pk_eq k 3 (fun e => w56 (Or.inr e)) (fun e3 => ?_)
  refine pk_eq k 4 (fun e => ?_) (fun e4 => ?_)
  · refine br_c (fun c => h0 (fun z => ?_)) (fun c => br_c (fun d => h0 (fun z => ?_)) (fun d => h1 ?_))
    · obtain ⟨w, rfl, c1, c2⟩ := z.2.1 e
      exact absurd c (nI_nlt (b := 2) c1 (by omega))
    · obtain ⟨w, rfl, c1, c2⟩ := z.2.1 e
      exact absurd d (nI_nlt (a := 16) c2 (by decide))
    · have c0 : ¬ a < 0 := fun z => c (Int32.lt_trans z (by decide))
      obtain ⟨j, hj, rfl⟩ := nI_of2 (M := 16) (n := 16) (by decide) c0 (Int32.not_lt.mp d)
      refine ⟨fun e2 => by omega, fun _ => ⟨j, rfl, ?_, hj⟩, fun e2 => by omega, fun e2 => by omega⟩
      have : ¬ nI j < nI 2 := c
      rw [nI_ltI (by omega) (by omega)] at this
      omega
  refine pk_eq k 5 (fun e => h1 (triv (by omega))) (fun e5 => ?_)
  refine pk_eq k 6 (fun e => ?_) (fun e6 => ?_)
  · obtain ⟨s, rfl, hs, hk3, _, _⟩ := hRF (Or.inr (Or.inl e))
    have hwd := fs_wd W (i := s) (by omega) (by omega)
    have es := fs_sh0 hwd.2 b
    have hp16 := fs_p16 hwd.2
    rw [fs_Fat (f := A) (i := s) (by omega)]
    refine And.intro (vp_in_nI (by omega) (by decide)) (br_c (fun d => ?_) (fun d => h0 (fun z => d (es.mpr ?_))))
    · obtain ⟨β, hβ, rfl⟩ := es.mp d
      rw [fs_and1 (by omega)]
      refine pk_eq (β % 2) 1 (fun f => h1 ⟨fun e2 => by omega, fun e2 => by omega, fun _ => ⟨s, β, rfl, hs, rfl, hβ, f⟩, fun e2 => by omega⟩) (fun f => h0 (fun z => ?_))
      obtain ⟨s', β', q1, q2, q3, q4, q5⟩ := z.2.2.1 e
      rw [nI_eq (by omega) (by omega)] at q1
      subst q1
      rw [nI_eq (by omega) (by omega)] at q3
      subst q3
      exact f q5
    · obtain ⟨s', β', q1, q2, q3, q4, q5⟩ := z.2.2.1 e
      rw [nI_eq (by omega) (by omega)] at q1
      subst q1
      exact ⟨β', q4, q3⟩
  refine pk_eq k 7 (fun e => h1 (triv (by omega))) (fun e7 => ?_)
  refine pk_eq k 8 (fun e => h1 (triv (by omega))) (fun e8 => ?_)
  refine pk_eq k 9 (fun e => h1 (triv (by omega))) (fun e9 => ?_)
  refine pk_eq k 10 (fun e => ?_) (fun e10 => trivial)
  obtain ⟨w, hw, hw9⟩ := hu e
  refine xs_tag W hb hn hop hpa hw hw9 (fun c => And.intro narrow_b1 (h1 ?_)) (fun c => And.intro narrow_b0 (h0 (fun z => c ?_)))
  · obtain ⟨t, c1, c2, c3⟩ := c
    exact ⟨fun e2 => by omega, fun e2 => by omega, fun e2 => by omega, fun _ => ⟨w, t, hw, c1, c2, c3⟩⟩
  · obtain ⟨w', t, q1, q2, q3, q4⟩ := z.2.2.2 e
    rw [hw] at q1
    injection q1 with q1
    subst q1
    exact ⟨t, q2, q3, q4⟩
theorem xs_st100 {post : Int32 → SX → Prop} {k α β : Nat} {aA : Nat → Int32} {nm' : Nat → Int32} (hn : n < 32) (hop : fs_open op (fs_stk K n)) (h : fs_okn K A n k α β) (hA : k = 11 ∨ aA = fs_F (fs_u A n α)) (hA2 : ∀ j, j ≠ n → aA j = nI (A j))
    (hp : ∀ eo' op' : Nat → Int32, (k = 11 → eo' = upd eo α (nI n)) → (k ≠ 11 → eo' = eo) → (5 ≤ k → k ≠ 11 → op' = upd op (fs_stk K n).length (nI n)) → (k < 5 ∨ k = 11 → op' = op) → post (nI n) (nI mi, nI mb, nI mv, nI (n + 1), nI (fs_stk (fs_u K n k) (n + 1)).length, sl, nI vc, nI bc, pc, ps, tk, fl, fs_F (fs_u K n k), fs_F (fs_u A n α), fs_F (fs_u B n β), pa, rg, eo', nm', op', fs_F V, fs_F M, wb, wv, sa, st, lf, cp, si, sf, so)) :
    wX_store_100 post (nI k) (nI n) (nI mi) (nI mb) (nI mv) (nI n) (nI (fs_stk K n).length) sl (nI vc) (nI bc) pc ps tk fl (fs_F (fs_u K n k)) aA (fs_F (fs_u B n β)) pa rg eo nm' op (fs_F V) (fs_F M) wb wv sa st lf cp si sf so := by
  have hlen := fs_len (K := K) n
  have hk := h.1
  have hv : vp_in (nI n) 32 := vp_in_nI (by omega) (by decide)
  have hK : ∀ j, j < n → fs_u K n k j = K j := fun j hj => fs_un (by omega)
  have eS := fs_cg hK (i := n) (Nat.le_refl n)
  refine pk_eq k 11 (fun e => ?_) (fun e => ?_)
  · have hs := h.2.2.2.2.2.2.2.2.1 e
    have hα : α < n := fs_lt (by rw [hs]; exact List.mem_cons_self)
    have eL : fs_stk (fs_u K n k) (n + 1) = fs_stk K α := by
      rw [fs_sE (by rw [fs_us]; exact e), eS, hs]; rfl
    have hp' := hp (upd eo α (nI n)) op (fun _ => rfl) (fun z => absurd e z) (fun _ z => absurd e z) (fun _ => rfl)
    rw [eL] at hp'
    rw [hs] at hop hlen ⊢
    rw [List.length_cons] at hlen ⊢
    refine nm_r (nI_pred _) ?_
    have hv2 : vp_in (nI (fs_stk K α).length) 32 := vp_in_nI (by omega) (by decide)
    have eo1 : op (nI (fs_stk K α).length).toNatClampNeg = nI α := by rw [nI_clamp (by omega)]; exact hop.1
    rw [eo1, nI_clamp (n := n) (by omega), nI_clamp (n := α) (by omega)]
    have eA : upd aA n (nI α) = fs_F (fs_u A n α) := by
      funext j
      show (if j = n then nI α else aA j) = nI (if j = n then α else A j)
      by_cases c : j = n
      · rw [if_pos c, if_pos c]
      · rw [if_neg c, if_neg c]; exact hA2 j c
    refine And.intro hv2 (And.intro hv (nm_r eA (And.intro hv2 (And.intro (vp_in_nI (by omega) (by decide)) (nm_e (nm_r (nI_1 n) hp'))))))
  · have eA : aA = fs_F (fs_u A n α) := by
      rcases hA with c | c
      · exact absurd c e
      · exact c
    subst eA
    refine pk_lt k 5 (fun c => ?_) (fun c => ?_)
    · have hp' := hp eo op (fun z => absurd z e) (fun _ => rfl) (fun z _ => absurd c (by omega)) (fun _ => rfl)
      rw [fs_sP (by rw [fs_us]; exact c), eS] at hp'
      exact nm_r (nI_1 n) hp'
    · have hp' := hp eo (upd op (fs_stk K n).length (nI n)) (fun z => absurd z e) (fun _ => rfl) (fun _ _ => rfl) (fun z => by omega)
      rw [fs_sO (by rw [fs_us]; exact e) (by rw [fs_us]; exact c), eS, List.length_cons] at hp'
      refine And.intro (vp_in_nI (by omega) (by decide)) ?_
      rw [nI_clamp (n := (fs_stk K n).length) (by omega)]
      exact nm_e (nm_r (nI_1 _) (nm_r (nI_1 n) hp'))
theorem xs_st54 {post : Int32 → SX → Prop} {k α β : Nat} {a : Int32} {aA : Nat → Int32} (hb : fs_bdd K A B) (hn : n < 32) (hop : fs_open op (fs_stk K n)) (h : fs_okn K A n k α β) (hna : fs_nam k → a = nI α) (hA : k = 11 ∨ aA = fs_F (fs_u A n α)) (hA2 : ∀ j, j ≠ n → aA j = nI (A j))
    (hp : ∀ eo' nm' op' : Nat → Int32, (k = 11 → eo' = upd eo α (nI n)) → (k ≠ 11 → eo' = eo) → (5 ≤ k → k ≠ 11 → op' = upd op (fs_stk K n).length (nI n)) → (k < 5 ∨ k = 11 → op' = op) → (fs_nam k → nm' = upd (upd nm n 0) α 1) → (¬ fs_nam k → nm' = upd nm n 0) → post (nI n) (nI mi, nI mb, nI mv, nI (n + 1), nI (fs_stk (fs_u K n k) (n + 1)).length, sl, nI vc, nI bc, pc, ps, tk, fl, fs_F (fs_u K n k), fs_F (fs_u A n α), fs_F (fs_u B n β), upd pa n (fs_oI (fs_stk K n).head?), upd rg n (fs_oI (fs_rgo K (fs_stk K n))), eo', nm', op', fs_F V, fs_F M, wb, wv, sa, st, lf, cp, si, sf, so)) :
    wX_store_54 post (nI k) a (nI n) (nI β) (nI n) (nI mi) (nI mb) (nI mv) (nI n) (nI (fs_stk K n).length) sl (nI vc) (nI bc) pc ps tk fl (fs_F (fs_u K n k)) aA (fs_F B) pa rg eo nm op (fs_F V) (fs_F M) wb wv sa st lf cp si sf so := by
  have hlen := fs_len (K := K) n
  have hk := h.1
  have hv : vp_in (nI n) 32 := vp_in_nI (by omega) (by decide)
  have hK : ∀ j, j < n → fs_u K n k j = K j := fun j hj => fs_un (by omega)
  have hK11 : ∀ j, fs_u K n k j ≤ 11 := by
    intro j
    unfold fs_u
    split
    · exact hk.2
    · exact (hb j).1
  have erg : fs_rgo (fs_u K n k) (fs_stk K n) = fs_rgo K (fs_stk K n) := fs_rgo_cg (fun g hg => hK g (fs_lt hg))
  unfold wX_store_54
  rw [nI_clamp (n := n) (by omega), fs_Fu]
  refine And.intro hv (nm_e ?_)
  refine xs_inn (by omega) hop (And.intro hv (nm_e ?_))
  refine xs_reg hK11 (by omega) hop (fun g hg => by have := fs_lt hg; omega) (And.intro hv ?_)
  rw [erg]
  refine nm_e (And.intro hv (nm_r (e' := upd nm n 0) rfl ?_))
  refine xs_names hk.2 (fun c => br_f (by decide) ?_) (fun c => br_t rfl ?_)
  · have hc := h.2.2.2.2.1 c
    rw [hna c, nI_clamp (n := α) (by omega)]
    refine And.intro (vp_in_nI (by omega) (by decide)) (nm_r (e' := upd (upd nm n 0) α 1) rfl ?_)
    exact xs_st100 hn hop h hA hA2 (fun eo' op' q1 q2 q3 q4 => hp eo' _ op' q1 q2 q3 q4 (fun _ => rfl) (fun z => absurd c z))
  · exact xs_st100 hn hop h hA hA2 (fun eo' op' q1 q2 q3 q4 => hp eo' _ op' q1 q2 q3 q4 (fun z => absurd z c) (fun _ => rfl))
theorem xs_store {post : Int32 → SX → Prop} {k α β : Nat} {a b : Int32} (hb : fs_bdd K A B) (hn : n < 32) (hop : fs_open op (fs_stk K n)) (h : fs_okn K A n k α β) (ha : k ≠ 8 → k ≠ 11 → a = nI α) (h8 : k = 8 → α = 0) (hβ : k = 2 ∨ k = 6 → b = nI β) (hβ0 : ¬ (k = 2 ∨ k = 6) → β = 0)
    (hp : ∀ eo' nm' op' : Nat → Int32, (k = 11 → eo' = upd eo α (nI n)) → (k ≠ 11 → eo' = eo) → (5 ≤ k → k ≠ 11 → op' = upd op (fs_stk K n).length (nI n)) → (k < 5 ∨ k = 11 → op' = op) → (fs_nam k → nm' = upd (upd nm n 0) α 1) → (¬ fs_nam k → nm' = upd nm n 0) → post (nI n) (nI mi, nI mb, nI mv, nI (n + 1), nI (fs_stk (fs_u K n k) (n + 1)).length, sl, nI vc, nI bc, pc, ps, tk, fl, fs_F (fs_u K n k), fs_F (fs_u A n α), fs_F (fs_u B n β), upd pa n (fs_oI (fs_stk K n).head?), upd rg n (fs_oI (fs_rgo K (fs_stk K n))), eo', nm', op', fs_F V, fs_F M, wb, wv, sa, st, lf, cp, si, sf, so)) :
    wpX_store post (nI mi, nI mb, nI mv, nI n, nI (fs_stk K n).length, sl, nI vc, nI bc, pc, ps, tk, fl, fs_F K, fs_F A, fs_F B, pa, rg, eo, nm, op, fs_F V, fs_F M, wb, wv, sa, st, lf, cp, si, sf, so) (nI k) a b := by
  have hk := h.1
  have hv : vp_in (nI n) 32 := vp_in_nI (by omega) (by decide)
  have hna : fs_nam k → a = nI α := by
    intro c
    have c' : k = 5 ∨ k = 6 ∨ k = 7 ∨ k = 9 := c
    exact ha (by omega) (by omega)
  have s31 : ∀ z : Int32, (k ≠ 11 → z = nI α) → wX_store_31 post (nI k) a b (nI n) z (nI n) (nI mi) (nI mb) (nI mv) (nI n) (nI (fs_stk K n).length) sl (nI vc) (nI bc) pc ps tk fl (fs_F (fs_u K n k)) (fs_F A) (fs_F B) pa rg eo nm op (fs_F V) (fs_F M) wb wv sa st lf cp si sf so := by
    intro z hz
    have hA : k = 11 ∨ upd (fs_F A) n z = fs_F (fs_u A n α) := by
      by_cases c : k = 11
      · exact Or.inl c
      · rw [hz c, fs_Fu]; exact Or.inr rfl
    have hA2 : ∀ j, j ≠ n → upd (fs_F A) n z j = nI (A j) := fun j hj => pk_un hj
    unfold wX_store_31
    rw [nI_clamp (n := n) (by omega)]
    refine And.intro hv (nm_e ?_)
    refine pk_eq k 2 (fun e => ?_) (fun e2 => pk_eq k 6 (fun e => ?_) (fun e6 => ?_))
    · rw [hβ (Or.inl e)]
      exact xs_st54 hb hn hop h hna hA hA2 hp
    · rw [hβ (Or.inr e)]
      exact xs_st54 hb hn hop h hna hA hA2 hp
    · have e0 := hβ0 (by omega)
      subst e0
      exact xs_st54 hb hn hop h hna hA hA2 hp
  unfold wpX_store
  dsimp only
  rw [nI_clamp (n := n) (by omega), fs_Fu]
  refine And.intro hv (nm_e (pk_eq k 8 (fun e => s31 0 (fun _ => by rw [h8 e]; rfl)) (fun e => s31 a (fun z => ha e z))))
end
end
section
/-! the reference's add -/
def fs_pl (k : Nat) : Nat := if k ≤ 3 then 1 else 0
section
variable {mi mb mv n vc bc : Nat} {sl ot tt wc : Int32} {K A B V M : Nat → Nat} {bf wk sr lt mk sm sF sT : Nat → Int32}
theorem ys_a220 {post : Int32 → SY → Prop} {k : Nat} {a b r p : Int32} (hk : k ≤ 11) (h1 : ¬ (k = 11 ∧ r < 0) → wY_add_234 post (nI k) a b r p (nI mi) (nI mb) (nI mv) sl (nI n) (nI vc) (nI bc) ot tt wc (fs_F K) (fs_F A) (fs_F B) (fs_F V) (fs_F M) bf wk sr lt mk sm sF sT) (h0 : k = 11 ∧ r < 0 → post (-4) (nI mi, nI mb, nI mv, sl, nI n, nI vc, nI bc, ot, tt, wc, fs_F K, fs_F A, fs_F B, fs_F V, fs_F M, bf, wk, sr, lt, mk, sm, sF, sT)) : wY_add_220 post (nI k) a b r p (nI mi) (nI mb) (nI mv) sl (nI n) (nI vc) (nI bc) ot tt wc (fs_F K) (fs_F A) (fs_F B) (fs_F V) (fs_F M) bf wk sr lt mk sm sF sT :=
  pk_eq k 11 (fun e => br_c (fun c => h1 (fun z => absurd z.2 (Int32.not_lt.mpr c))) (fun c => h0 ⟨e, Int32.not_le.mp c⟩)) (fun e => h1 (fun z => e z.1))
theorem ys_a208 {post : Int32 → SY → Prop} {k g : Nat} {a b r p : Int32} (hk : k ≤ 11) (hg : g ≤ 11) (h1 : ¬ (k = 8 ∧ g ≠ 5) → wY_add_220 post (nI k) a b r p (nI mi) (nI mb) (nI mv) sl (nI n) (nI vc) (nI bc) ot tt wc (fs_F K) (fs_F A) (fs_F B) (fs_F V) (fs_F M) bf wk sr lt mk sm sF sT) (h0 : k = 8 ∧ g ≠ 5 → post (-4) (nI mi, nI mb, nI mv, sl, nI n, nI vc, nI bc, ot, tt, wc, fs_F K, fs_F A, fs_F B, fs_F V, fs_F M, bf, wk, sr, lt, mk, sm, sF, sT)) : wY_add_208 post (nI k) a b r (nI g) p (nI mi) (nI mb) (nI mv) sl (nI n) (nI vc) (nI bc) ot tt wc (fs_F K) (fs_F A) (fs_F B) (fs_F V) (fs_F M) bf wk sr lt mk sm sF sT :=
  pk_eq k 8 (fun e => pk_eq g 5 (fun c => h1 (fun z => z.2 c)) (fun c => h0 ⟨e, c⟩)) (fun e => h1 (fun z => e z.1))
theorem ys_a200 {post : Int32 → SY → Prop} {k g : Nat} {a b r : Int32} (h1 : ¬ 3 < k → wY_add_208 post (nI k) a b r (nI g) (nI (fs_pl k)) (nI mi) (nI mb) (nI mv) sl (nI n) (nI vc) (nI bc) ot tt wc (fs_F K) (fs_F A) (fs_F B) (fs_F V) (fs_F M) bf wk sr lt mk sm sF sT) (h0 : 3 < k → post (-4) (nI mi, nI mb, nI mv, sl, nI n, nI vc, nI bc, ot, tt, wc, fs_F K, fs_F A, fs_F B, fs_F V, fs_F M, bf, wk, sr, lt, mk, sm, sF, sT)) : wY_add_200 post (nI k) a b r (nI g) (nI (fs_pl k)) (nI mi) (nI mb) (nI mv) sl (nI n) (nI vc) (nI bc) ot tt wc (fs_F K) (fs_F A) (fs_F B) (fs_F V) (fs_F M) bf wk sr lt mk sm sF sT := by
  unfold fs_pl at *
  by_cases c : k ≤ 3
  · rw [if_pos c] at *
    exact br_f (by decide) (h1 (by omega))
  · rw [if_neg c] at *
    exact br_t rfl (h0 (by omega))
theorem ys_a186 {post : Int32 → SY → Prop} {k g la : Nat} {a b r : Int32} (hl : la ≤ 11) (h1 : ¬ ((la = 7 ∨ la = 8) ∧ 3 < k) → wY_add_208 post (nI k) a b r (nI g) (nI (fs_pl k)) (nI mi) (nI mb) (nI mv) sl (nI n) (nI vc) (nI bc) ot tt wc (fs_F K) (fs_F A) (fs_F B) (fs_F V) (fs_F M) bf wk sr lt mk sm sF sT) (h0 : (la = 7 ∨ la = 8) ∧ 3 < k → post (-4) (nI mi, nI mb, nI mv, sl, nI n, nI vc, nI bc, ot, tt, wc, fs_F K, fs_F A, fs_F B, fs_F V, fs_F M, bf, wk, sr, lt, mk, sm, sF, sT)) : wY_add_186 post (nI k) a b r (nI g) (nI la) (nI (fs_pl k)) (nI mi) (nI mb) (nI mv) sl (nI n) (nI vc) (nI bc) ot tt wc (fs_F K) (fs_F A) (fs_F B) (fs_F V) (fs_F M) bf wk sr lt mk sm sF sT :=
  pk_eq la 7 (fun e => ys_a200 (fun c => h1 (fun z => c z.2)) (fun c => h0 ⟨Or.inl e, c⟩)) (fun e => pk_eq la 8 (fun e8 => ys_a200 (fun c => h1 (fun z => c z.2)) (fun c => h0 ⟨Or.inr e8, c⟩)) (fun e8 => h1 (fun z => z.1.elim e e8)))
theorem ys_a170 {post : Int32 → SY → Prop} {k g la : Nat} {a b r p : Int32} (hk : k ≤ 11) (hg : g ≤ 11) (h1 : ¬ (k = 10 ∧ g ≠ 9) → wY_add_186 post (nI k) a b r (nI g) (nI la) p (nI mi) (nI mb) (nI mv) sl (nI n) (nI vc) (nI bc) ot tt wc (fs_F K) (fs_F A) (fs_F B) (fs_F V) (fs_F M) bf wk sr lt mk sm sF sT) (h0 : k = 10 ∧ g ≠ 9 → post (-4) (nI mi, nI mb, nI mv, sl, nI n, nI vc, nI bc, ot, tt, wc, fs_F K, fs_F A, fs_F B, fs_F V, fs_F M, bf, wk, sr, lt, mk, sm, sF, sT)) : wY_add_170 post (nI k) a b r (nI g) (nI la) p (nI mi) (nI mb) (nI mv) sl (nI n) (nI vc) (nI bc) ot tt wc (fs_F K) (fs_F A) (fs_F B) (fs_F V) (fs_F M) bf wk sr lt mk sm sF sT :=
  pk_eq k 10 (fun e => pk_eq g 9 (fun c => h1 (fun z => z.2 c)) (fun c => h0 ⟨e, c⟩)) (fun e => h1 (fun z => e z.1))
theorem ys_a148 {post : Int32 → SY → Prop} {k g la : Nat} {a b r p : Int32} (hk : k ≤ 11) (hg : g ≤ 11) (h1 : ¬ (g = 9 ∧ k ≠ 10 ∧ k ≠ 11) → wY_add_170 post (nI k) a b r (nI g) (nI la) p (nI mi) (nI mb) (nI mv) sl (nI n) (nI vc) (nI bc) ot tt wc (fs_F K) (fs_F A) (fs_F B) (fs_F V) (fs_F M) bf wk sr lt mk sm sF sT) (h0 : g = 9 ∧ k ≠ 10 ∧ k ≠ 11 → post (-4) (nI mi, nI mb, nI mv, sl, nI n, nI vc, nI bc, ot, tt, wc, fs_F K, fs_F A, fs_F B, fs_F V, fs_F M, bf, wk, sr, lt, mk, sm, sF, sT)) : wY_add_148 post (nI k) a b r (nI g) (nI la) p (nI mi) (nI mb) (nI mv) sl (nI n) (nI vc) (nI bc) ot tt wc (fs_F K) (fs_F A) (fs_F B) (fs_F V) (fs_F M) bf wk sr lt mk sm sF sT :=
  pk_eq g 9 (fun e => pk_eq k 10 (fun c => h1 (fun z => z.2.1 c)) (fun c => pk_eq k 11 (fun d => h1 (fun z => z.2.2 d)) (fun d => h0 ⟨e, c, d⟩))) (fun e => h1 (fun z => e z.1))
theorem ys_a109 {post : Int32 → SY → Prop} {k g : Nat} {a b r p : Int32} (W : fs_WF K A B n) (hb : fs_bdd K A B) (hn : n ≤ 32) (hk : k ≤ 11) (h1 : ¬ (k ≠ 11 ∧ fs_LCF K A n) → wY_add_148 post (nI k) a b r (nI g) (nI (fs_la K n)) p (nI mi) (nI mb) (nI mv) sl (nI n) (nI vc) (nI bc) ot tt wc (fs_F K) (fs_F A) (fs_F B) (fs_F V) (fs_F M) bf wk sr lt mk sm sF sT) (h0 : k ≠ 11 ∧ fs_LCF K A n → post (-4) (nI mi, nI mb, nI mv, sl, nI n, nI vc, nI bc, ot, tt, wc, fs_F K, fs_F A, fs_F B, fs_F V, fs_F M, bf, wk, sr, lt, mk, sm, sF, sT)) : wY_add_109 post (nI k) a b r (nI g) (nI (fs_la K n)) p (nI mi) (nI mb) (nI mv) sl (nI n) (nI vc) (nI bc) ot tt wc (fs_F K) (fs_F A) (fs_F B) (fs_F V) (fs_F M) bf wk sr lt mk sm sF sT := by
  cases n with
  | zero => exact br_f (show ¬ nI 0 = 11 by decide) (h1 (fun z => z.2))
  | succ m =>
    have hm := hb m
    have hk2 := hb (A m)
    have hv : vp_in (nI m) 32 := vp_in_nI (by omega) (by decide)
    refine pk_eq (K m) 11 (fun e => ?_) (fun e => h1 (fun z => e z.2.1))
    have := fs_elt W (i := m) (by omega) e
    rw [nI_pred, fs_Fat (f := A) (i := m) (by omega), fs_Fat (f := K) (i := A m) (by omega)]
    refine And.intro hv (And.intro (vp_in_nI (by omega) (by decide)) ?_)
    exact pk_eq (K (A m)) 8 (fun e2 => pk_eq k 11 (fun e3 => h1 (fun z => z.1 e3)) (fun e3 => h0 ⟨e3, e, e2⟩)) (fun e2 => h1 (fun z => e2 z.2.2))
theorem ys_a87 {post : Int32 → SY → Prop} {k g la : Nat} {a b r : Int32} (hk1 : 1 ≤ k) (hk : k ≤ 11) (h : wY_add_109 post (nI k) a b r (nI g) (nI la) (nI (fs_pl k)) (nI mi) (nI mb) (nI mv) sl (nI n) (nI vc) (nI bc) ot tt wc (fs_F K) (fs_F A) (fs_F B) (fs_F V) (fs_F M) bf wk sr lt mk sm sF sT) : wY_add_87 post (nI k) a b r (nI g) (nI la) (nI mi) (nI mb) (nI mv) sl (nI n) (nI vc) (nI bc) ot tt wc (fs_F K) (fs_F A) (fs_F B) (fs_F V) (fs_F M) bf wk sr lt mk sm sF sT := by
  have hp : k ≤ 3 → wY_add_104 post (nI k) a b r (nI g) (nI la) (nI mi) (nI mb) (nI mv) sl (nI n) (nI vc) (nI bc) ot tt wc (fs_F K) (fs_F A) (fs_F B) (fs_F V) (fs_F M) bf wk sr lt mk sm sF sT := by
    intro c
    unfold fs_pl at h
    rw [if_pos c] at h
    exact h
  refine pk_eq k 1 (fun e => hp (by omega)) (fun e1 => pk_eq k 2 (fun e => hp (by omega)) (fun e2 => pk_eq k 3 (fun e => hp (by omega)) (fun e3 => ?_)))
  unfold fs_pl at h
  rw [if_neg (by omega)] at h
  exact h
theorem ys_a63 {post : Int32 → SY → Prop} {k g : Nat} {a b r : Int32} (hn : n ≤ 32) (h : wY_add_87 post (nI k) a b r (nI g) (nI (fs_la K n)) (nI mi) (nI mb) (nI mv) sl (nI n) (nI vc) (nI bc) ot tt wc (fs_F K) (fs_F A) (fs_F B) (fs_F V) (fs_F M) bf wk sr lt mk sm sF sT) : wY_add_63 post (nI k) a b r (nI g) (nI mi) (nI mb) (nI mv) sl (nI n) (nI vc) (nI bc) ot tt wc (fs_F K) (fs_F A) (fs_F B) (fs_F V) (fs_F M) bf wk sr lt mk sm sF sT := by
  cases n with
  | zero => exact br_t (by decide) h
  | succ m =>
    refine br_f (nI_ne0 (by omega) (by omega)) ?_
    rw [nI_pred, fs_Fat (f := K) (i := m) (by omega)]
    exact And.intro (vp_in_nI (by omega) (by decide)) h
theorem ys_place {post : Int32 → SY → Prop} {k : Nat} {a b : Int32} (W : fs_WF K A B n) (hb : fs_bdd K A B) (hn : n ≤ 32) (hk1 : 1 ≤ k) (hk : k ≤ 11) (h1 : fs_PL K A n k → wY_add_234 post (nI k) a b (fs_oI (fs_stk K n).head?) (nI (fs_pl k)) (nI mi) (nI mb) (nI mv) sl (nI n) (nI vc) (nI bc) ot tt wc (fs_F K) (fs_F A) (fs_F B) (fs_F V) (fs_F M) bf wk sr lt mk sm sF sT) (h0 : ¬ fs_PL K A n k → post (-4) (nI mi, nI mb, nI mv, sl, nI n, nI vc, nI bc, ot, tt, wc, fs_F K, fs_F A, fs_F B, fs_F V, fs_F M, bf, wk, sr, lt, mk, sm, sF, sT)) :
    wpY_inside (fun r_5 => (((0 : Int32) ≤ r_5 → (vp_in r_5 32 ∧ (wY_add_63 post (nI k) a b r_5 (fs_F K r_5.toNatClampNeg) (nI mi) (nI mb) (nI mv) sl (nI n) (nI vc) (nI bc) ot tt wc (fs_F K) (fs_F A) (fs_F B) (fs_F V) (fs_F M) bf wk sr lt mk sm sF sT))) ∧ (¬ (0 : Int32) ≤ r_5 → (wY_add_63 post (nI k) a b r_5 0 (nI mi) (nI mb) (nI mv) sl (nI n) (nI vc) (nI bc) ot tt wc (fs_F K) (fs_F A) (fs_F B) (fs_F V) (fs_F M) bf wk sr lt mk sm sF sT)))) (nI mi, nI mb, nI mv, sl, nI n, nI vc, nI bc, ot, tt, wc, fs_F K, fs_F A, fs_F B, fs_F V, fs_F M, bf, wk, sr, lt, mk, sm, sF, sT) (nI n) := by
  have hg := fs_gk11 hb (fs_stk K n)
  have hl := fs_la11 hb n
  have s63 : wY_add_63 post (nI k) a b (fs_oI (fs_stk K n).head?) (nI (fs_gk K (fs_stk K n))) (nI mi) (nI mb) (nI mv) sl (nI n) (nI vc) (nI bc) ot tt wc (fs_F K) (fs_F A) (fs_F B) (fs_F V) (fs_F M) bf wk sr lt mk sm sF sT := by
    refine ys_a63 hn (ys_a87 hk1 hk ?_)
    refine ys_a109 W hb hn hk (fun c1 => ?_) (fun c1 => h0 (fun z => z.1 c1))
    refine ys_a148 hk hg (fun c2 => ?_) (fun c2 => h0 (fun z => z.2.1 c2))
    refine ys_a170 hk hg (fun c3 => ?_) (fun c3 => h0 (fun z => z.2.2.1 c3))
    refine ys_a186 hl (fun c4 => ?_) (fun c4 => h0 (fun z => z.2.2.2.1 c4))
    refine ys_a208 hk hg (fun c5 => ?_) (fun c5 => h0 (fun z => z.2.2.2.2.1 c5))
    exact ys_a220 hk (fun c6 => h1 ⟨c1, c2, c3, c4, c5, c6⟩) (fun c6 => h0 (fun z => z.2.2.2.2.2 c6))
  refine ys_ins hb hn ?_
  generalize hL : fs_stk K n = l at *
  cases l with
  | nil => exact br_f (by decide) s63
  | cons g r =>
    have hlt : g < n := fs_lt (by rw [hL]; exact List.mem_cons_self)
    refine br_t (nI_pos' (n := g) (by omega)) (And.intro (vp_in_nI (n := g) (by omega) (by decide)) ?_)
    have e : fs_F K (fs_oI (g :: r).head?).toNatClampNeg = nI (fs_gk K (g :: r)) := fs_Fat (f := K) (i := g) (by omega)
    rw [e]
    exact s63
theorem ys_ref {post : Int32 → SY → Prop} {k : Nat} {a b r p : Int32} (hb : fs_bdd K A B) (hn : n ≤ 32) (hk : k ≤ 11) (h1 : (fs_nam k → fs_RF K A n a) → wY_add_294 post (nI k) a b r p (nI mi) (nI mb) (nI mv) sl (nI n) (nI vc) (nI bc) ot tt wc (fs_F K) (fs_F A) (fs_F B) (fs_F V) (fs_F M) bf wk sr lt mk sm sF sT) (h0 : fs_nam k ∧ ¬ fs_RF K A n a → post (-6) (nI mi, nI mb, nI mv, sl, nI n, nI vc, nI bc, ot, tt, wc, fs_F K, fs_F A, fs_F B, fs_F V, fs_F M, bf, wk, sr, lt, mk, sm, sF, sT)) : wY_add_234 post (nI k) a b r p (nI mi) (nI mb) (nI mv) sl (nI n) (nI vc) (nI bc) ot tt wc (fs_F K) (fs_F A) (fs_F B) (fs_F V) (fs_F M) bf wk sr lt mk sm sF sT := by
  refine ys_names hk (fun c => br_f (by decide) ?_) (fun c => br_t rfl (h1 (fun z => absurd z c)))
  refine br_c (fun d => h0 ⟨c, ?_⟩) (fun d => ?_)
  · rintro ⟨s, rfl, hs, -⟩
    exact nI_pos (by omega) d
  · obtain ⟨s, hs, rfl⟩ := nI_of d
    refine pk_le n s (fun d => h0 ⟨c, ?_⟩) (fun d => ?_)
    · rintro ⟨s', e, hs', -⟩
      rw [nI_eq hs (by omega)] at e
      omega
    · have hks := (hb s).1
      have inv : fs_RF K A n (nI s) → K s = 3 ∧ ¬ fs_isN K A n s ∧ fs_rgo K (fs_stk K s) = fs_rgo K (fs_stk K n) := by
        rintro ⟨s', e, hs', h3⟩
        rw [nI_eq hs (by omega)] at e
        subst e
        exact h3
      rw [fs_Fat (f := K) (i := s) (by omega)]
      refine And.intro (vp_in_nI (by omega) (by decide)) (pk_eq (K s) 3 (fun e3 => ?_) (fun e3 => h0 ⟨c, fun z => e3 (inv z).1⟩))
      refine ys_named hb hn hs (fun g => br_f (by decide) (h0 ⟨c, fun z => (inv z).2.1 g⟩)) (fun g => br_t rfl ?_)
      refine ys_reg hb (by omega) (ys_reg hb hn ?_)
      have ei := fs_oI_inj (o := fs_rgo K (fs_stk K s)) (o' := fs_rgo K (fs_stk K n)) (fun g hg => by have := fs_rgo_lt hg; omega) (fun g hg => by have := fs_rgo_lt hg; omega)
      exact br_c (fun c2 => h1 (fun _ => ⟨s, rfl, d, e3, g, ei.mp c2⟩)) (fun c2 => h0 ⟨c, fun z => c2 (ei.mpr (inv z).2.2)⟩)
theorem ys_args {post : Int32 → SY → Prop} {k : Nat} {a b : Int32} (W : fs_WF K A B n) (hb : fs_bdd K A B) (hn : n ≤ 32) (hk1 : 1 ≤ k) (hk : k ≤ 11) (hRF : fs_nam k → fs_RF K A n a) (hu : k = 10 → ∃ u, (fs_stk K n).head? = some u ∧ K u = 9)
    (h1 : fs_AG K A n k a b → wY_add_424 post (nI k) a b (fs_oI (fs_stk K n).head?) (nI mi) (nI mb) (nI mv) sl (nI n) (nI vc) (nI bc) ot tt wc (fs_F K) (fs_F A) (fs_F B) (fs_F V) (fs_F M) bf wk sr lt mk sm sF sT) (h0 : ¬ fs_AG K A n k a b → post (-5) (nI mi, nI mb, nI mv, sl, nI n, nI vc, nI bc, ot, tt, wc, fs_F K, fs_F A, fs_F B, fs_F V, fs_F M, bf, wk, sr, lt, mk, sm, sF, sT)) : wY_add_294 post (nI k) a b (fs_oI (fs_stk K n).head?) (nI (fs_pl k)) (nI mi) (nI mb) (nI mv) sl (nI n) (nI vc) (nI bc) ot tt wc (fs_F K) (fs_F A) (fs_F B) (fs_F V) (fs_F M) bf wk sr lt mk sm sF sT := by
  have s383 : k ≠ 10 → fs_AG K A n k a b → wY_add_383 post (nI k) a b (fs_oI (fs_stk K n).head?) (nI mi) (nI mb) (nI mv) sl (nI n) (nI vc) (nI bc) ot tt wc (fs_F K) (fs_F A) (fs_F B) (fs_F V) (fs_F M) bf wk sr lt mk sm sF sT := by
    intro c g
    exact pk_eq k 10 (fun e => absurd e c) (fun _ => h1 g)
  have s351 : k ≠ 10 → k ≠ 6 → fs_AG K A n k a b → wY_add_351 post (nI k) a b (fs_oI (fs_stk K n).head?) (nI mi) (nI mb) (nI mv) sl (nI n) (nI vc) (nI bc) ot tt wc (fs_F K) (fs_F A) (fs_F B) (fs_F V) (fs_F M) bf wk sr lt mk sm sF sT := by
    intro c c6 g
    exact pk_eq k 6 (fun e => absurd e c6) (fun _ => s383 c g)
  have s332 : k ≠ 10 → k ≠ 6 → k ≠ 4 → fs_AG K A n k a b → wY_add_332 post (nI k) a b (fs_oI (fs_stk K n).head?) (nI mi) (nI mb) (nI mv) sl (nI n) (nI vc) (nI bc) ot tt wc (fs_F K) (fs_F A) (fs_F B) (fs_F V) (fs_F M) bf wk sr lt mk sm sF sT := by
    intro c c6 c4 g
    exact pk_eq k 4 (fun e => absurd e c4) (fun _ => s351 c c6 g)
  unfold fs_pl
  by_cases k3 : k ≤ 3
  · rw [if_pos k3]
    refine br_f (by decide) ?_
    refine br_c (fun c => h0 (fun z => ?_)) (fun c => br_c (fun d => ?_) (fun d => h0 (fun z => ?_)))
    · obtain ⟨w, rfl, c1, c2, _⟩ := z.1 k3
      exact absurd c (nI_nlt (b := 1) c1 (by omega))
    · have c0 : ¬ a < 0 := fun z => c (Int32.lt_trans z (by decide))
      obtain ⟨w, hw, rfl⟩ := nI_of2 (M := 16) (n := 16) (by decide) c0 d
      have c1 : ¬ nI w < nI 1 := c
      rw [nI_ltI (by omega) (by omega)] at c1
      refine pk_eq k 2 (fun e2 => ?_) (fun e2 => ?_)
      · have es := fs_lt1 hw b
        have inv : fs_AG K A n k (nI w) b → ∃ β, β < 2 ^ w ∧ b = nI β := by
          intro z
          obtain ⟨w', ew, _, h16, hz⟩ := z.1 (by omega)
          obtain ⟨β, hbβ, hβ⟩ := hz e2
          rw [nI_eq (by omega) (by omega)] at ew
          subst ew
          exact ⟨β, hβ, hbβ⟩
        refine br_c (fun f => h0 (fun z => ((es.mpr (inv z)).1 f))) (fun f => br_c (fun q => ?_) (fun q => h0 (fun z => q (es.mpr (inv z)).2)))
        obtain ⟨β, hβ, hbβ⟩ := es.mp ⟨f, q⟩
        exact s332 (by omega) (by omega) (by omega) ⟨fun _ => ⟨w, rfl, by omega, hw, fun _ => ⟨β, hbβ, hβ⟩⟩, fun e2 => by omega, fun e2 => by omega, fun e2 => by omega⟩
      · exact s332 (by omega) (by omega) (by omega) ⟨fun _ => ⟨w, rfl, by omega, hw, fun e => absurd e e2⟩, fun e2 => by omega, fun e2 => by omega, fun e2 => by omega⟩
    · obtain ⟨w, rfl, c1, c2, _⟩ := z.1 k3
      exact absurd (nI_le (a := w) (b := 16) c2 (by decide)) d
  · rw [if_neg k3]
    refine br_t rfl ?_
    refine pk_eq k 2 (fun e2 => by omega) (fun e2 => ?_)
    refine pk_eq k 4 (fun e4 => ?_) (fun e4 => ?_)
    · refine br_c (fun c => h0 (fun z => ?_)) (fun c => br_c (fun d => ?_) (fun d => h0 (fun z => ?_)))
      · obtain ⟨w, rfl, c1, c2⟩ := z.2.1 e4
        exact absurd c (nI_nlt (b := 2) c1 (by omega))
      · have c0 : ¬ a < 0 := fun z => c (Int32.lt_trans z (by decide))
        obtain ⟨w, hw, rfl⟩ := nI_of2 (M := 16) (n := 16) (by decide) c0 d
        have c1 : ¬ nI w < nI 2 := c
        rw [nI_ltI (by omega) (by omega)] at c1
        exact s351 (by omega) (by omega) ⟨fun e2 => by omega, fun _ => ⟨w, rfl, by omega, hw⟩, fun e2 => by omega, fun e2 => by omega⟩
      · obtain ⟨w, rfl, c1, c2⟩ := z.2.1 e4
        exact absurd (nI_le (a := w) (b := 16) c2 (by decide)) d
    refine pk_eq k 6 (fun e6 => ?_) (fun e6 => ?_)
    · obtain ⟨s, rfl, hs, hk3, _, _⟩ := hRF (Or.inr (Or.inl e6))
      have hwd := fs_wd W (i := s) (by omega) (by omega)
      have hp16 := fs_p16 hwd.2
      have inv : fs_AG K A n k (nI s) b → ∃ β, b = nI β ∧ β < 2 ^ (A s) ∧ β % 2 = 1 := by
        intro z
        obtain ⟨s', β', q1, q2, q3, q4, q5⟩ := z.2.2.1 e6
        rw [nI_eq (by omega) (by omega)] at q1
        subst q1
        exact ⟨β', q3, q4, q5⟩
      refine br_c (fun c => h0 (fun z => ?_)) (fun c => And.intro (vp_in_nI (by omega) (by decide)) ?_)
      · obtain ⟨β, rfl, h2, h3⟩ := inv z
        exact absurd c (nI_nlt (b := 1) (by omega) (by omega))
      · have c0 : ¬ b < 0 := fun z => c (Int32.lt_trans z (by decide))
        obtain ⟨β, hβ, rfl⟩ := nI_of c0
        rw [fs_Fat (f := A) (i := s) (by omega), fs_1l hwd.2]
        refine pk_le (2 ^ A s) β (fun d => h0 (fun z => ?_)) (fun d => And.intro (by decide) ?_)
        · obtain ⟨β', e1, h2, h3⟩ := inv z
          rw [nI_eq (by omega) (by omega)] at e1
          omega
        · have er : nI β - nI β / 2 * 2 = nI (β % 2) := pk_rem (d := 2) hβ (by omega) (by omega)
          rw [er]
          refine pk_eq (β % 2) 0 (fun f => h0 (fun z => ?_)) (fun f => s383 (by omega) ⟨fun e2 => by omega, fun e2 => by omega, fun _ => ⟨s, β, rfl, hs, rfl, d, by omega⟩, fun e2 => by omega⟩)
          obtain ⟨β', e1, h2, h3⟩ := inv z
          rw [nI_eq (by omega) (by omega)] at e1
          omega
    refine pk_eq k 10 (fun e10 => ?_) (fun e10 => h1 ⟨fun e2 => by omega, fun e2 => by omega, fun e2 => by omega, fun e2 => by omega⟩)
    obtain ⟨w, hw, hw9⟩ := hu e10
    have hun := fs_hdlt hw
    have hna := fs_nm W hun (Or.inr (Or.inr (Or.inr hw9)))
    have hwd := fs_wd W (i := A w) (by omega) (by omega)
    have es := fs_lt1 hwd.2 a
    have inv : fs_AG K A n k a b → ∃ t, a = nI t ∧ t < 2 ^ (A (A w)) ∧ ∀ j, j < n → ¬ fs_isC K A w a j := by
      intro z
      obtain ⟨w', t, q1, q2, q3, q4⟩ := z.2.2.2 e10
      rw [hw] at q1
      injection q1 with q1
      subst q1
      exact ⟨t, q2, q3, q4⟩
    have h1' := h1
    rw [hw, fs_oIs] at h1' ⊢
    refine br_c (fun c => h0 (fun z => ?_)) (fun c => ?_)
    · obtain ⟨t, rfl, h2, h3⟩ := inv z
      have := fs_p16 hwd.2
      exact nI_pos (by omega) c
    · refine And.intro (vp_in_nI (by omega) (by decide)) ?_
      rw [fs_Fat (f := A) (i := w) (by omega), fs_Fat (f := A) (i := A w) (by omega)]
      refine And.intro (vp_in_nI (by omega) (by decide)) (br_c (fun d => h0 (fun z => ?_)) (fun d => ?_))
      · obtain ⟨t, h2, h3, h4⟩ := inv z
        exact absurd d (Int32.not_le.mpr (es.mpr ⟨t, h3, h2⟩).2)
      · obtain ⟨t, ht, hat⟩ := es.mp ⟨c, Int32.not_le.mp d⟩
        obtain ⟨o, ho⟩ := fs_lst_ex (fs_isC K A w a) n
        refine ys_cof hn hb (by omega) ho ?_
        cases o with
        | none => exact br_t (by decide) (h1' ⟨fun e2 => by omega, fun e2 => by omega, fun e2 => by omega, fun _ => ⟨w, t, hw, hat, ht, ho⟩⟩)
        | some c' =>
          refine br_f (nI_pos (n := c') (by have := ho.1; omega)) (h0 (fun z => ?_))
          obtain ⟨t, _, _, hz⟩ := inv z
          exact hz c' ho.1 ho.2.1
theorem ys_store {post : Int32 → SY → Prop} {k α β : Nat} {a b r : Int32} (hn : n < 32) (hk : k ≤ 11) (ha : k ≠ 8 → k ≠ 11 → a = nI α) (h8 : k = 8 → α = 0) (h11 : k = 11 → r = nI α) (hβ : k = 2 ∨ k = 6 → b = nI β) (hβ0 : ¬ (k = 2 ∨ k = 6) → β = 0)
    (hp : post (nI n) (nI mi, nI mb, nI mv, sl, nI (n + 1), nI vc, nI bc, ot, tt, wc, fs_F (fs_u K n k), fs_F (fs_u A n α), fs_F (fs_u B n β), fs_F V, fs_F M, bf, wk, sr, lt, mk, sm, sF, sT)) : wY_add_424 post (nI k) a b r (nI mi) (nI mb) (nI mv) sl (nI n) (nI vc) (nI bc) ot tt wc (fs_F K) (fs_F A) (fs_F B) (fs_F V) (fs_F M) bf wk sr lt mk sm sF sT := by
  have hv : vp_in (nI n) 32 := vp_in_nI (by omega) (by decide)
  have s464 : ∀ z : Int32, z = nI α → wY_add_464 post (nI k) b z (nI n) (nI mi) (nI mb) (nI mv) sl (nI n) (nI vc) (nI bc) ot tt wc (fs_F (fs_u K n k)) (fs_F A) (fs_F B) (fs_F V) (fs_F M) bf wk sr lt mk sm sF sT := by
    intro z hz
    subst hz
    unfold wY_add_464
    rw [nI_clamp (n := n) (by omega), fs_Fu]
    have s489 : ∀ z : Int32, z = nI β → wY_add_489 post z (nI n) (nI mi) (nI mb) (nI mv) sl (nI n) (nI vc) (nI bc) ot tt wc (fs_F (fs_u K n k)) (fs_F (fs_u A n α)) (fs_F B) (fs_F V) (fs_F M) bf wk sr lt mk sm sF sT := by
      intro z hz
      subst hz
      unfold wY_add_489
      rw [nI_clamp (n := n) (by omega), fs_Fu]
      refine And.intro hv (nm_e (nm_r (nI_1 n) ?_))
      rw [nI_pred]
      exact hp
    refine And.intro hv (nm_e ?_)
    exact pk_eq k 2 (fun e => s489 b (hβ (Or.inl e))) (fun e2 => pk_eq k 6 (fun e => s489 b (hβ (Or.inr e))) (fun e6 => s489 0 (by rw [hβ0 (by omega)]; rfl)))
  unfold wY_add_424
  rw [nI_clamp (n := n) (by omega), fs_Fu]
  refine And.intro hv (nm_e ?_)
  exact pk_eq k 11 (fun e => s464 r (h11 e)) (fun e11 => pk_eq k 8 (fun e => s464 0 (by rw [h8 e]; rfl)) (fun e8 => s464 a (ha e8 e11)))
end
end
section
/-! add -/
theorem fs_gk_cons {K : Nat → Nat} {l : List Nat} {m : Nat} (h : fs_gk K l = m) (hm : m ≠ 0) : ∃ g r, l = g :: r ∧ K g = m := by
  cases l with
  | nil => exact absurd h (fun z => hm z.symm)
  | cons g r => exact ⟨g, r, rfl, h⟩
theorem fs_okn_of {K A B : Nat → Nat} {n k : Nat} {a b : Int32} (W : fs_WF K A B n) (hb : fs_bdd K A B) (hn : n ≤ 32) (hk1 : 1 ≤ k) (hk : k ≤ 11) (hP : fs_PL K A n k) (hR : fs_nam k → fs_RF K A n a) (hG : fs_AG K A n k a b) :
    ∃ α β, fs_okn K A n k α β ∧ (k ≠ 8 → k ≠ 11 → a = nI α) ∧ (k = 8 → α = 0) ∧ (k = 11 → fs_oI (fs_stk K n).head? = nI α) ∧ (k = 2 ∨ k = 6 → b = nI β) ∧ (¬ (k = 2 ∨ k = 6) → β = 0) := by
  obtain ⟨p1, p2, p3, p4, p5, p6⟩ := hP
  obtain ⟨g1, g2, g3, g4⟩ := hG
  have q8 : k = 8 → ∃ l, fs_stk K n = l :: fs_stk K l ∧ K l = 5 := by
    intro e
    have : fs_gk K (fs_stk K n) = 5 := Classical.byContradiction (fun z => p5 ⟨e, z⟩)
    obtain ⟨g, r, h1, h2⟩ := fs_gk_cons this (by decide)
    exact ⟨g, fs_hd h1, h2⟩
  have q10 : k = 10 → ∃ u, fs_stk K n = u :: fs_stk K u ∧ K u = 9 := by
    intro e
    have : fs_gk K (fs_stk K n) = 9 := Classical.byContradiction (fun z => p3 ⟨e, z⟩)
    obtain ⟨g, r, h1, h2⟩ := fs_gk_cons this (by decide)
    exact ⟨g, fs_hd h1, h2⟩
  have q9 : ∀ u, fs_stk K n = u :: fs_stk K u → K u = 9 → k = 10 ∨ k = 11 := by
    intro u hu h9
    have : fs_gk K (fs_stk K n) = 9 := by rw [hu]; exact h9
    exact Classical.byContradiction (fun z => p2 ⟨this, fun e => z (Or.inl e), fun e => z (Or.inr e)⟩)
  have q7 : ∀ j, n = j + 1 → K j = 7 ∨ K j = 8 → k ≤ 3 := by
    intro j hj h
    subst hj
    exact Classical.byContradiction (fun z => p4 ⟨h, by omega⟩)
  have q11 : ∀ j, n = j + 1 → K j = 11 → K (A j) = 8 → k = 11 := by
    intro j hj h h8
    subst hj
    exact Classical.byContradiction (fun z => p1 ⟨z, h, h8⟩)
  have q6 : k = 11 → ∃ g, fs_stk K n = g :: fs_stk K g := by
    intro e
    cases hs : fs_stk K n with
    | nil => exact absurd ⟨e, by rw [hs]; decide⟩ p6
    | cons g r => exact ⟨g, by rw [← fs_hd hs]; exact hs.symm⟩
  have nn : ¬ fs_nam k → fs_nam k → ∀ P : Prop, P := fun z z' => absurd z' z
  by_cases k3 : k ≤ 3
  · obtain ⟨w, e1, h1, h16, hβ⟩ := g1 k3
    have hp16 := fs_p16 h16
    have hna : ¬ fs_nam k := by unfold fs_nam; omega
    by_cases k2 : k = 2
    · obtain ⟨β, e2, hlt⟩ := hβ k2
      refine ⟨w, β, ⟨⟨hk1, hk⟩, fun _ => ⟨h1, h16⟩, fun _ => hlt, fun e => by omega, fun e => absurd e hna, fun e => by omega, q8, q10, fun e => by omega, q9, q7, q11, by omega, by omega⟩, fun _ _ => e1, fun e => by omega, fun e => by omega, fun _ => e2, fun z => absurd (Or.inl k2) z⟩
    · refine ⟨w, 0, ⟨⟨hk1, hk⟩, fun _ => ⟨h1, h16⟩, fun e => absurd e k2, fun e => by omega, fun e => absurd e hna, fun e => by omega, q8, q10, fun e => by omega, q9, q7, q11, by omega, by omega⟩, fun _ _ => e1, fun e => by omega, fun e => by omega, fun e => by omega, fun _ => rfl⟩
  by_cases k4 : k = 4
  · obtain ⟨w, e1, h1, h16⟩ := g2 k4
    have hna : ¬ fs_nam k := by unfold fs_nam; omega
    refine ⟨w, 0, ⟨⟨hk1, hk⟩, fun e => by omega, fun e => by omega, fun _ => ⟨h1, h16⟩, fun e => absurd e hna, fun e => by omega, q8, q10, fun e => by omega, q9, q7, q11, by omega, by omega⟩, fun _ _ => e1, fun e => by omega, fun e => by omega, fun e => by omega, fun _ => rfl⟩
  by_cases k8 : k = 8
  · have hna : ¬ fs_nam k := by unfold fs_nam; omega
    refine ⟨0, 0, ⟨⟨hk1, hk⟩, fun e => by omega, fun e => by omega, fun e => by omega, fun e => absurd e hna, fun e => by omega, q8, q10, fun e => by omega, q9, q7, q11, by omega, by omega⟩, fun e _ => absurd k8 e, fun _ => rfl, fun e => by omega, fun e => by omega, fun _ => rfl⟩
  by_cases k10 : k = 10
  · obtain ⟨u, t, h1, h2, h3, h4⟩ := g4 k10
    obtain ⟨u', hu', hk9⟩ := q10 k10
    have eu : u' = u := by
      rw [hu'] at h1
      injection h1
    subst eu
    have hun := fs_top_lt hu'
    have hna9 := fs_nm W (i := u') (by omega) (Or.inr (Or.inr (Or.inr hk9)))
    have hwd := fs_wd W (i := A u') (by omega) (by omega)
    have hp16 := fs_p16 hwd.2
    have hna : ¬ fs_nam k := by unfold fs_nam; omega
    refine ⟨t, 0, ⟨⟨hk1, hk⟩, fun e => by omega, fun e => by omega, fun e => by omega, fun e => absurd e hna, fun e => by omega, q8, q10, fun e => by omega, q9, q7, q11, by omega, by omega⟩, fun _ _ => h2, fun e => by omega, fun e => by omega, fun e => by omega, fun _ => rfl⟩
  by_cases k11 : k = 11
  · obtain ⟨g, hg⟩ := q6 k11
    have hgn := fs_top_lt hg
    have hna : ¬ fs_nam k := by unfold fs_nam; omega
    refine ⟨g, 0, ⟨⟨hk1, hk⟩, fun e => by omega, fun e => by omega, fun e => by omega, fun e => absurd e hna, fun e => by omega, q8, q10, fun _ => hg, q9, q7, q11, by omega, by omega⟩, fun _ e => absurd k11 e, fun e => by omega, fun _ => by rw [hg]; rfl, fun e => by omega, fun _ => rfl⟩
  have hna : fs_nam k := by unfold fs_nam; omega
  obtain ⟨s, e1, hs, h3, h4, h5⟩ := hR hna
  by_cases k6 : k = 6
  · obtain ⟨s', β, f1, f2, f3, f4, f5⟩ := g3 k6
    have es : s' = s := by
      rw [e1, nI_eq (by omega) (by omega)] at f1
      exact f1.symm
    subst es
    have hwd := fs_wd W (i := s') (by omega) (by omega)
    have hp16 := fs_p16 hwd.2
    refine ⟨s', β, ⟨⟨hk1, hk⟩, fun e => by omega, fun e => by omega, fun e => by omega, fun _ => ⟨hs, h3, h5, h4⟩, fun _ => f4, q8, q10, fun e => by omega, q9, q7, q11, by omega, by omega⟩, fun _ _ => e1, fun e => by omega, fun e => by omega, fun _ => f3, fun z => absurd (Or.inr k6) z⟩
  · refine ⟨s, 0, ⟨⟨hk1, hk⟩, fun e => by omega, fun e => by omega, fun e => by omega, fun _ => ⟨hs, h3, h5, h4⟩, fun e => absurd e k6, q8, q10, fun e => by omega, q9, q7, q11, by omega, by omega⟩, fun _ _ => e1, fun e => by omega, fun e => by omega, fun e => by omega, fun _ => rfl⟩
theorem fs_PL10 {K A : Nat → Nat} {n k : Nat} (hP : fs_PL K A n k) (e : k = 10) : ∃ u, (fs_stk K n).head? = some u ∧ K u = 9 := by
  have : fs_gk K (fs_stk K n) = 9 := Classical.byContradiction (fun z => hP.2.2.1 ⟨e, z⟩)
  obtain ⟨g, r, h1, h2⟩ := fs_gk_cons this (by decide)
  exact ⟨g, by rw [h1]; rfl, h2⟩
section
variable {mi mb mv n vc bc : Nat} {oc sl pc ps tk fl : Int32} {K A B V M : Nat → Nat} {pa rg eo nm op wb wv sa st lf cp si sf so : Nat → Int32}
theorem xs_add {post : Int32 → SX → Prop} {k : Nat} {a b : Int32} (R : fs_Rel mi mb mv n vc bc 0 K A B V M (nI (fs_stk K n).length) pa rg eo nm op) (hnm : n < mi) (hk1 : 1 ≤ k) (hk : k ≤ 11)
    (hP0 : ¬ fs_PL K A n k → post (-4) (nI mi, nI mb, nI mv, nI n, nI (fs_stk K n).length, 0, nI vc, nI bc, pc, ps, tk, fl, fs_F K, fs_F A, fs_F B, pa, rg, eo, nm, op, fs_F V, fs_F M, wb, wv, sa, st, lf, cp, si, sf, so))
    (hR0 : fs_PL K A n k → ¬ (fs_nam k → fs_RF K A n a) → post (-6) (nI mi, nI mb, nI mv, nI n, nI (fs_stk K n).length, 0, nI vc, nI bc, pc, ps, tk, fl, fs_F K, fs_F A, fs_F B, pa, rg, eo, nm, op, fs_F V, fs_F M, wb, wv, sa, st, lf, cp, si, sf, so))
    (hG0 : fs_PL K A n k → (fs_nam k → fs_RF K A n a) → ¬ fs_AG K A n k a b → post (-5) (nI mi, nI mb, nI mv, nI n, nI (fs_stk K n).length, 0, nI vc, nI bc, pc, ps, tk, fl, fs_F K, fs_F A, fs_F B, pa, rg, eo, nm, op, fs_F V, fs_F M, wb, wv, sa, st, lf, cp, si, sf, so))
    (hok : fs_PL K A n k → (fs_nam k → fs_RF K A n a) → fs_AG K A n k a b → wpX_store post (nI mi, nI mb, nI mv, nI n, nI (fs_stk K n).length, 0, nI vc, nI bc, pc, ps, tk, fl, fs_F K, fs_F A, fs_F B, pa, rg, eo, nm, op, fs_F V, fs_F M, wb, wv, sa, st, lf, cp, si, sf, so) (nI k) a b) :
    wpX_add post (nI mi, nI mb, nI mv, nI n, nI (fs_stk K n).length, 0, nI vc, nI bc, pc, ps, tk, fl, fs_F K, fs_F A, fs_F B, pa, rg, eo, nm, op, fs_F V, fs_F M, wb, wv, sa, st, lf, cp, si, sf, so) (nI k) a b := by
  obtain ⟨⟨b1, b2, b3, b4, b5, b6⟩, r1, r2, r3, r4, r5, r6, r7, r8, r9, r10, r11, r12⟩ := R
  have s67 : fs_PL K A n k → (fs_nam k → fs_RF K A n a) → wX_add_67 post (nI k) a b (nI mi) (nI mb) (nI mv) (nI n) (nI (fs_stk K n).length) 0 (nI vc) (nI bc) pc ps tk fl (fs_F K) (fs_F A) (fs_F B) pa rg eo nm op (fs_F V) (fs_F M) wb wv sa st lf cp si sf so := by
    intro hP hR
    refine xs_args r5 r2 (by omega) hk1 hk r7 r8 hR (fs_PL10 hP) (fun g => br_f (by decide) (hok hP hR g)) (fun g => br_t rfl (hG0 hP hR g))
  unfold wpX_add
  dsimp only
  refine br_t rfl (br_t (nI_lt hnm (by omega)) (br_f (nI_nlt (b := 1) hk1 (by omega)) (br_t (nI_le (b := 11) hk (by decide)) ?_)))
  refine xs_place r5 r2 (by omega) hk r7 (fun hP => br_f (by decide) ?_) (fun hP => br_t rfl (hP0 hP))
  refine xs_names hk (fun c => br_f (by decide) ?_) (fun c => br_t rfl (s67 hP (fun z => absurd z c)))
  exact xs_ref r2 (by omega) r7 r9 r11 (fun g => br_f (by decide) (s67 hP (fun _ => g))) (fun g => br_t rfl (hR0 hP (fun z => g (z c))))
end
section
variable {mi mb mv n vc bc : Nat} {sl ot tt wc : Int32} {K A B V M : Nat → Nat} {bf wk sr lt mk sm sF sT : Nat → Int32}
theorem ys_add {post : Int32 → SY → Prop} {k : Nat} {a b : Int32} (W : fs_WF K A B n) (hb : fs_bdd K A B) (hmi : mi ≤ 32) (hnm : n < mi) (hk1 : 1 ≤ k) (hk : k ≤ 11)
    (hP0 : ¬ fs_PL K A n k → post (-4) (nI mi, nI mb, nI mv, 0, nI n, nI vc, nI bc, ot, tt, wc, fs_F K, fs_F A, fs_F B, fs_F V, fs_F M, bf, wk, sr, lt, mk, sm, sF, sT))
    (hR0 : fs_PL K A n k → ¬ (fs_nam k → fs_RF K A n a) → post (-6) (nI mi, nI mb, nI mv, 0, nI n, nI vc, nI bc, ot, tt, wc, fs_F K, fs_F A, fs_F B, fs_F V, fs_F M, bf, wk, sr, lt, mk, sm, sF, sT))
    (hG0 : fs_PL K A n k → (fs_nam k → fs_RF K A n a) → ¬ fs_AG K A n k a b → post (-5) (nI mi, nI mb, nI mv, 0, nI n, nI vc, nI bc, ot, tt, wc, fs_F K, fs_F A, fs_F B, fs_F V, fs_F M, bf, wk, sr, lt, mk, sm, sF, sT))
    (hok : fs_PL K A n k → (fs_nam k → fs_RF K A n a) → fs_AG K A n k a b → wY_add_424 post (nI k) a b (fs_oI (fs_stk K n).head?) (nI mi) (nI mb) (nI mv) 0 (nI n) (nI vc) (nI bc) ot tt wc (fs_F K) (fs_F A) (fs_F B) (fs_F V) (fs_F M) bf wk sr lt mk sm sF sT) :
    wpY_add post (nI mi, nI mb, nI mv, 0, nI n, nI vc, nI bc, ot, tt, wc, fs_F K, fs_F A, fs_F B, fs_F V, fs_F M, bf, wk, sr, lt, mk, sm, sF, sT) (nI k) a b := by
  unfold wpY_add
  dsimp only
  refine br_t rfl (br_t (nI_lt hnm (by omega)) (br_f (nI_nlt (b := 1) hk1 (by omega)) (br_t (nI_le (b := 11) hk (by decide)) ?_)))
  refine ys_place W hb (by omega) hk1 hk (fun hP => ?_) hP0
  refine ys_ref hb (by omega) hk (fun hR => ?_) (fun z => hR0 hP (fun q => z.2 (q z.1)))
  exact ys_args W hb (by omega) hk1 hk hR (fs_PL10 hP) (hok hP hR) (hG0 hP hR)
end
theorem i_vc_add {k : Nat} {u : SX} {v : SY} (I : i_Rel k u v) (hk : k + 4 ≤ 2051) (v1 : Int32) (v2 : Int32) (v3 : Int32) : wpX_add (fun r u' => wpY_add (fun r' v' => r' = r ∧ i_Rel (k + 4) u' v') v v1 v2 v3) u v1 v2 v3 := by
  refine zz_el (P := fun u v => wpX_add (fun r u' => wpY_add (fun r' v' => r' = r ∧ i_Rel (k + 4) u' v') v v1 v2 v3) u v1 v2 v3) I ?_
  intro mi mb mv n vc bc sl K A B V M oc pa rg eo nm op pc ps tk fl wb wv sa st lf cp si sf so ot tt wc bf wk sr lt mk sm sF sT R
  have Z := zz_in (k := k + 4) mi mb mv n vc bc sl K A B V M oc pa rg eo nm op pc ps tk fl wb wv sa st lf cp si sf so ot tt wc bf wk sr lt mk sm sF sT R
  have R0 := R
  obtain ⟨⟨b1, b2, b3, b4, b5, b6⟩, r1, r2, r3, r4, r5, r6, r7, r8, r9, r10, r11, r12⟩ := R
  by_cases hs : ¬ sl = 0
  · exact br_f hs (br_f hs ⟨rfl, Z⟩)
  have hs : sl = 0 := Classical.byContradiction hs
  subst hs
  by_cases c1 : ¬ nI n < nI mi
  · exact br_t rfl (br_f c1 (br_t rfl (br_f c1 ⟨rfl, Z⟩)))
  have c1 : nI n < nI mi := Classical.byContradiction c1
  by_cases c2 : v1 < 1
  · exact br_t rfl (br_t c1 (br_t c2 (br_t rfl (br_t c1 (br_t c2 ⟨rfl, Z⟩)))))
  by_cases c3 : ¬ v1 ≤ 11
  · exact br_t rfl (br_t c1 (br_f c2 (br_f c3 (br_t rfl (br_t c1 (br_f c2 (br_f c3 ⟨rfl, Z⟩)))))))
  have c3 : v1 ≤ 11 := Classical.byContradiction c3
  obtain ⟨κ, hκ, rfl⟩ := nI_of2 (M := 11) (n := 11) (by decide) (fun z => c2 (Int32.lt_trans z (by decide))) c3
  have hκ1 : 1 ≤ κ := by
    have c2' : ¬ nI κ < nI 1 := c2
    rw [nI_ltI (by omega) (by omega)] at c2'
    omega
  rw [nI_ltI (by omega) (by omega)] at c1
  subst r6
  by_cases hP : fs_PL K A n κ
  · by_cases hR : fs_nam κ → fs_RF K A n v2
    · by_cases hG : fs_AG K A n κ v2 v3
      · obtain ⟨α, β, ok, ha, h8, h11, hβ, hβ0⟩ := fs_okn_of r5 r2 (by omega) hκ1 hκ hP hR hG
        refine xs_add R0 c1 hκ1 hκ (fun z => absurd hP z) (fun _ z => absurd hR z) (fun _ _ z => absurd hG z) (fun _ _ _ => ?_)
        refine xs_store r2 (by omega) r7 ok ha h8 hβ hβ0 ?_
        intro eo' nm' op' e1 e2 e3 e4 e5 e6
        refine ys_add r5 r2 b1 c1 hκ1 hκ (fun z => absurd hP z) (fun _ z => absurd hR z) (fun _ _ z => absurd hG z) (fun _ _ _ => ?_)
        refine ys_store (by omega) hκ ha h8 h11 hβ hβ0 ⟨rfl, ?_⟩
        exact zz_in mi mb mv (n + 1) vc bc 0 (fs_u K n κ) (fs_u A n α) (fs_u B n β) V M _ _ _ eo' nm' op' pc ps tk fl wb wv sa st lf cp si sf so ot tt wc bf wk sr lt mk sm sF sT (fs_rel_ext R0 c1 ok e1 e2 e3 e4 e5 e6)
      · refine xs_add R0 c1 hκ1 hκ (fun z => absurd hP z) (fun _ z => absurd hR z) (fun _ _ _ => ?_) (fun _ _ z => absurd z hG)
        exact ys_add r5 r2 b1 c1 hκ1 hκ (fun z => absurd hP z) (fun _ z => absurd hR z) (fun _ _ _ => ⟨rfl, Z⟩) (fun _ _ z => absurd z hG)
    · refine xs_add R0 c1 hκ1 hκ (fun z => absurd hP z) (fun _ _ => ?_) (fun _ z => absurd z hR) (fun _ z => absurd z hR)
      exact ys_add r5 r2 b1 c1 hκ1 hκ (fun z => absurd hP z) (fun _ _ => ⟨rfl, Z⟩) (fun _ z => absurd z hR) (fun _ z => absurd z hR)
  · refine xs_add R0 c1 hκ1 hκ (fun _ => ?_) (fun z => absurd z hP) (fun z => absurd z hP) (fun z => absurd z hP)
    exact ys_add r5 r2 b1 c1 hκ1 hκ (fun _ => ⟨rfl, Z⟩) (fun z => absurd z hP) (fun z => absurd z hP) (fun z => absurd z hP)
end
section
/-! seal, depth, bits -/
section
variable {mi mb mv n vc bc : Nat} {oc sl pc ps tk fl : Int32} {K A B V M : Nat → Nat} {pa rg eo nm op wb wv sa st lf cp si sf so : Nat → Int32}
theorem xs_seal21 {post : Int32 → SX → Prop} {o : Option Nat} (hb : fs_bdd K A B) (hn : n ≤ 32) (hnm : ∀ s, s < n → (nm s = 0 ∧ ¬ fs_isN K A n s) ∨ (nm s = 1 ∧ fs_isN K A n s)) (ho : fs_lst (fun i => K i = 3 ∧ ¬ fs_isN K A n i) n o) (h1 : o = none → post 1 (nI mi, nI mb, nI mv, nI n, oc, 1, nI vc, nI bc, pc, ps, tk, fl, fs_F K, fs_F A, fs_F B, pa, rg, eo, nm, op, fs_F V, fs_F M, wb, wv, sa, st, lf, cp, si, sf, so)) (h0 : o ≠ none → post (-8) (nI mi, nI mb, nI mv, nI n, oc, sl, nI vc, nI bc, pc, ps, tk, fl, fs_F K, fs_F A, fs_F B, pa, rg, eo, nm, op, fs_F V, fs_F M, wb, wv, sa, st, lf, cp, si, sf, so)) : ∃ m, wX_seal_21 post (nI mi) (nI mb) (nI mv) (nI n) oc sl (nI vc) (nI bc) pc ps tk fl (fs_F K) (fs_F A) (fs_F B) pa rg eo nm op (fs_F V) (fs_F M) wb wv sa st lf cp si sf so m 0 := by
  have key : ∀ d j, j + d = n → (∀ i, i < j → ¬ (K i = 3 ∧ ¬ fs_isN K A n i)) → wX_seal_21 post (nI mi) (nI mb) (nI mv) (nI n) oc sl (nI vc) (nI bc) pc ps tk fl (fs_F K) (fs_F A) (fs_F B) pa rg eo nm op (fs_F V) (fs_F M) wb wv sa st lf cp si sf so (d + 1) (nI j) := by
    intro d
    induction d with
    | zero =>
      intro j hj hi
      refine br_t (nI_le (by omega) (by omega)) (h1 ?_)
      cases o with
      | none => rfl
      | some c => exact absurd ho.2.1 (hi c (by have := ho.1; omega))
    | succ d ih =>
      intro j hj hi
      have hv : vp_in (nI j) 32 := vp_in_nI (by omega) (by decide)
      have hkj := (hb j).1
      have go : ¬ (K j = 3 ∧ ¬ fs_isN K A n j) → wX_seal_21 post (nI mi) (nI mb) (nI mv) (nI n) oc sl (nI vc) (nI bc) pc ps tk fl (fs_F K) (fs_F A) (fs_F B) pa rg eo nm op (fs_F V) (fs_F M) wb wv sa st lf cp si sf so (d + 1) (nI (j + 1)) := by
        intro hc
        refine ih (j + 1) (by omega) (fun i hij => ?_)
        by_cases e : i = j
        · subst e; exact hc
        · exact hi i (by omega)
      refine br_f (nI_ge (by omega) (by omega)) (And.intro hv ?_)
      rw [fs_Fat (f := K) (by omega), nI_clamp (n := j) (by omega)]
      refine pk_eq (K j) 3 (fun e => And.intro hv ?_) (fun e => nm_r (nI_1 j) (go (fun z => e z.1)))
      rcases hnm j (by omega) with ⟨g1, g2⟩ | ⟨g1, g2⟩
      · refine br_t g1 (h0 ?_)
        intro z
        subst z
        exact ho j (by omega) ⟨e, g2⟩
      · exact br_f (by rw [g1]; decide) (nm_r (nI_1 j) (go (fun z => z.2 g2)))
  exact ⟨_, key n 0 (by omega) (fun i hi => absurd hi (Nat.not_lt_zero i))⟩
end
section
variable {mi mb mv n vc bc : Nat} {sl ot tt wc : Int32} {K A B V M : Nat → Nat} {bf wk sr lt mk sm sF sT : Nat → Int32}
theorem ys_seal25 {post : Int32 → SY → Prop} {o : Option Nat} (hb : fs_bdd K A B) (hn : n ≤ 32) (ho : fs_lst (fun i => K i = 3 ∧ ¬ fs_isN K A n i) n o) (h1 : o = none → post 1 (nI mi, nI mb, nI mv, 1, nI n, nI vc, nI bc, ot, tt, wc, fs_F K, fs_F A, fs_F B, fs_F V, fs_F M, bf, wk, sr, lt, mk, sm, sF, sT)) (h0 : o ≠ none → post (-8) (nI mi, nI mb, nI mv, sl, nI n, nI vc, nI bc, ot, tt, wc, fs_F K, fs_F A, fs_F B, fs_F V, fs_F M, bf, wk, sr, lt, mk, sm, sF, sT)) : ∃ m, wY_seal_25 post (nI mi) (nI mb) (nI mv) sl (nI n) (nI vc) (nI bc) ot tt wc (fs_F K) (fs_F A) (fs_F B) (fs_F V) (fs_F M) bf wk sr lt mk sm sF sT m 0 := by
  have key : ∀ d j, j + d = n → (∀ i, i < j → ¬ (K i = 3 ∧ ¬ fs_isN K A n i)) → wY_seal_25 post (nI mi) (nI mb) (nI mv) sl (nI n) (nI vc) (nI bc) ot tt wc (fs_F K) (fs_F A) (fs_F B) (fs_F V) (fs_F M) bf wk sr lt mk sm sF sT (d + 1) (nI j) := by
    intro d
    induction d with
    | zero =>
      intro j hj hi
      refine br_t (nI_le (by omega) (by omega)) (h1 ?_)
      cases o with
      | none => rfl
      | some c => exact absurd ho.2.1 (hi c (by have := ho.1; omega))
    | succ d ih =>
      intro j hj hi
      have hv : vp_in (nI j) 32 := vp_in_nI (by omega) (by decide)
      have hkj := (hb j).1
      have go : ¬ (K j = 3 ∧ ¬ fs_isN K A n j) → wY_seal_25 post (nI mi) (nI mb) (nI mv) sl (nI n) (nI vc) (nI bc) ot tt wc (fs_F K) (fs_F A) (fs_F B) (fs_F V) (fs_F M) bf wk sr lt mk sm sF sT (d + 1) (nI (j + 1)) := by
        intro hc
        refine ih (j + 1) (by omega) (fun i hij => ?_)
        by_cases e : i = j
        · subst e; exact hc
        · exact hi i (by omega)
      refine br_f (nI_ge (by omega) (by omega)) (And.intro hv ?_)
      rw [fs_Fat (f := K) (by omega)]
      refine pk_eq (K j) 3 (fun e => ?_) (fun e => nm_r (nI_1 j) (go (fun z => e z.1)))
      refine ys_named hb hn (by omega) (fun g => br_f (by decide) (nm_r (nI_1 j) (go (fun z => z.2 g)))) (fun g => br_t rfl (h0 ?_))
      intro z
      subst z
      exact ho j (by omega) ⟨e, g⟩
  exact ⟨_, key n 0 (by omega) (fun i hi => absurd hi (Nat.not_lt_zero i))⟩
theorem ys_depth {post : Int32 → Prop} (W : fs_WF K A B n) (hb : fs_bdd K A B) (hn : n ≤ 32) (h : post (nI (fs_stk K n).length)) : wpY_depth post (nI mi, nI mb, nI mv, sl, nI n, nI vc, nI bc, ot, tt, wc, fs_F K, fs_F A, fs_F B, fs_F V, fs_F M, bf, wk, sr, lt, mk, sm, sF, sT) := by
  have key : ∀ d j, j + d = n → wY_depth_4 post (nI mi) (nI mb) (nI mv) sl (nI n) (nI vc) (nI bc) ot tt wc (fs_F K) (fs_F A) (fs_F B) (fs_F V) (fs_F M) bf wk sr lt mk sm sF sT (d + 1) (nI (fs_stk K j).length) (nI j) := by
    intro d
    induction d with
    | zero =>
      intro j hj
      have : j = n := by omega
      subst this
      exact br_t (nI_le (by omega) (by omega)) h
    | succ d ih =>
      intro j hj
      have hv : vp_in (nI j) 32 := vp_in_nI (by omega) (by decide)
      have hkj := (hb j).1
      have hih := ih (j + 1) (by omega)
      refine br_f (nI_ge (by omega) (by omega)) (And.intro hv ?_)
      rw [fs_Fat (f := K) (by omega)]
      refine pk_eq (K j) 11 (fun e => ?_) (fun e => And.intro hv ?_)
      · have hs := fs_en W (i := j) (by omega) e
        rw [fs_sE' e hs] at hih
        rw [hs, List.length_cons]
        exact nm_r (pk_m1 _) (nm_r (nI_1 j) hih)
      · refine pk_lt (K j) 5 (fun c => ?_) (fun c => ?_)
        · rw [fs_sP c] at hih
          exact nm_r (Int32.add_zero _) (nm_r (nI_1 j) hih)
        · rw [fs_sO e c, List.length_cons] at hih
          exact nm_r (nI_1 _) (nm_r (nI_1 j) hih)
  exact ⟨_, key n 0 (by omega)⟩
end
theorem i_vc_seal {k : Nat} {u : SX} {v : SY} (I : i_Rel k u v) (hk : k + 4 ≤ 2051) : wpX_seal (fun r u' => wpY_seal (fun r' v' => r' = r ∧ i_Rel (k + 4) u' v') v) u := by
  refine zz_el (P := fun u v => wpX_seal (fun r u' => wpY_seal (fun r' v' => r' = r ∧ i_Rel (k + 4) u' v') v) u) I ?_
  intro mi mb mv n vc bc sl K A B V M oc pa rg eo nm op pc ps tk fl wb wv sa st lf cp si sf so ot tt wc bf wk sr lt mk sm sF sT R
  have Z := zz_in (k := k + 4) mi mb mv n vc bc sl K A B V M oc pa rg eo nm op pc ps tk fl wb wv sa st lf cp si sf so ot tt wc bf wk sr lt mk sm sF sT R
  have R0 := R
  obtain ⟨⟨b1, b2, b3, b4, b5, b6⟩, r1, r2, r3, r4, r5, r6, r7, r8, r9, r10, r11, r12⟩ := R
  by_cases hs : ¬ sl = 0
  · exact br_f hs (br_f hs ⟨rfl, Z⟩)
  have hs : sl = 0 := Classical.byContradiction hs
  subst hs
  have hlen := fs_len (K := K) n
  obtain ⟨o, ho⟩ := fs_lst_ex (fun i => K i = 3 ∧ ¬ fs_isN K A n i) n
  refine br_t rfl ?_
  cases hL : fs_stk K n with
  | nil =>
    have r6' : oc = nI 0 := by rw [r6, hL]; rfl
    subst r6'
    refine br_t (by decide) ?_
    have hy : ∀ (post : Int32 → SY → Prop), (o = none → post 1 (nI mi, nI mb, nI mv, 1, nI n, nI vc, nI bc, ot, tt, wc, fs_F K, fs_F A, fs_F B, fs_F V, fs_F M, bf, wk, sr, lt, mk, sm, sF, sT)) → (o ≠ none → post (-8) (nI mi, nI mb, nI mv, 0, nI n, nI vc, nI bc, ot, tt, wc, fs_F K, fs_F A, fs_F B, fs_F V, fs_F M, bf, wk, sr, lt, mk, sm, sF, sT)) → wpY_seal post (nI mi, nI mb, nI mv, 0, nI n, nI vc, nI bc, ot, tt, wc, fs_F K, fs_F A, fs_F B, fs_F V, fs_F M, bf, wk, sr, lt, mk, sm, sF, sT) := by
      intro post q1 q0
      refine br_t rfl (ys_ins r2 (by omega) ?_)
      rw [hL]
      exact br_t (by decide) (ys_seal25 r2 (by omega) ho q1 q0)
    refine xs_seal21 r2 (by omega) r11 ho (fun e => hy _ (fun _ => ⟨rfl, ?_⟩) (fun z => absurd e z)) (fun e => hy _ (fun z => absurd z e) (fun _ => ⟨rfl, Z⟩))
    refine zz_in mi mb mv n vc bc 1 K A B V M (nI 0) pa rg eo nm op pc ps tk fl wb wv sa st lf cp si sf so ot tt wc bf wk sr lt mk sm sF sT ⟨⟨b1, b2, b3, b4, b5, b6⟩, Or.inr rfl, r2, r3, r4, r5, r6, r7, r8, r9, r10, r11, fun _ => ⟨hL, fun s hs h3 => ?_⟩⟩
    subst e
    exact Classical.byContradiction (fun z => ho s hs ⟨h3, z⟩)
  | cons g r =>
    have hlt : g < n := fs_lt (by rw [hL]; exact List.mem_cons_self)
    rw [hL, List.length_cons] at hlen
    have r6' : oc = nI (r.length + 1) := by rw [r6, hL]; rfl
    subst r6'
    refine br_f (nI_nle (by omega) (by omega)) ?_
    refine br_t rfl (ys_ins r2 (by omega) ?_)
    rw [hL, List.head?_cons, fs_oIs]
    exact br_f (nI_pos (by omega)) ⟨rfl, Z⟩
theorem i_vc_depth {k : Nat} {u : SX} {v : SY} (I : i_Rel k u v) (hk : k + 4 ≤ 2051) : wpX_depth (fun r => wpY_depth (fun r' => r' = r ∧ i_Rel (k + 4) u v) v) u := by
  refine zz_el (P := fun u v => wpX_depth (fun r => wpY_depth (fun r' => r' = r ∧ i_Rel (k + 4) u v) v) u) I ?_
  intro mi mb mv n vc bc sl K A B V M oc pa rg eo nm op pc ps tk fl wb wv sa st lf cp si sf so ot tt wc bf wk sr lt mk sm sF sT R
  have Z := zz_in (k := k + 4) mi mb mv n vc bc sl K A B V M oc pa rg eo nm op pc ps tk fl wb wv sa st lf cp si sf so ot tt wc bf wk sr lt mk sm sF sT R
  obtain ⟨⟨b1, b2, b3, b4, b5, b6⟩, r1, r2, r3, r4, r5, r6, r7⟩ := R
  exact ys_depth r5 r2 (by omega) ⟨r6.symm, Z⟩
theorem i_vc_bitsAt {k : Nat} {u : SX} {v : SY} (I : i_Rel k u v) (hk : k + 4 ≤ 2051) (v1 : Int32) (v2 : Int32) : wpX_bitsAt (fun r => wpY_bitsAt (fun r' => r' = r ∧ i_Rel (k + 4) u v) v v1 v2) u v1 v2 := by
  refine zz_el (P := fun u v => wpX_bitsAt (fun r => wpY_bitsAt (fun r' => r' = r ∧ i_Rel (k + 4) u v) v v1 v2) u v1 v2) I ?_
  intro mi mb mv n vc bc sl K A B V M oc pa rg eo nm op pc ps tk fl wb wv sa st lf cp si sf so ot tt wc bf wk sr lt mk sm sF sT R
  have Z := zz_in (k := k + 4) mi mb mv n vc bc sl K A B V M oc pa rg eo nm op pc ps tk fl wb wv sa st lf cp si sf so ot tt wc bf wk sr lt mk sm sF sT R
  obtain ⟨⟨b1, b2, b3, b4, b5, b6⟩, r1, r2, r3, r4, r5, r6, r7⟩ := R
  unfold wpX_bitsAt
  dsimp only
  refine xs_wok (fun c => br_f (by decide) ?_) (fun c => br_t rfl ?_)
  · obtain ⟨w, rfl, h1, h16⟩ := c
    have y1 : ¬ nI w < 1 := nI_nlt (b := 1) h1 (by omega)
    have y2 : ¬ (16 : Int32) < nI w := nI_nlt (a := 16) h16 (by decide)
    refine br_c (fun d => br_f y1 (br_f y2 (br_t d ⟨rfl, Z⟩))) (fun d => ?_)
    refine br_c (fun e => ?_) (fun e => br_f y1 (br_f y2 (br_f d (br_f e ⟨rfl, Z⟩))))
    obtain ⟨p, hp, rfl⟩ := nI_of d
    rw [fs_le_sub hp (by omega) (by omega)] at e
    refine xs_num r4 (by omega) h16 ?_
    exact ys_bits r4 (by omega) hp h1 h16 (fun _ => ⟨rfl, Z⟩) (fun z => by omega)
  · refine br_c (fun d => ⟨rfl, Z⟩) (fun d => br_c (fun e => ⟨rfl, Z⟩) (fun e => absurd ?_ c))
    have c0 : ¬ v2 < 0 := fun z => d (Int32.lt_trans z (by decide))
    obtain ⟨j, hj, rfl⟩ := nI_of2 (M := 16) (n := 16) (by decide) c0 (Int32.not_lt.mp e)
    have : ¬ nI j < nI 1 := d
    rw [nI_ltI (by omega) (by omega)] at this
    exact ⟨j, rfl, by omega, hj⟩
section
variable {mi mb mv n vc bc : Nat} {sl ot tt wc : Int32} {K A B V M : Nat → Nat} {bf wk sr lt mk sm sF sT : Nat → Int32}
theorem ys_pb43 {post : Int32 → SY → Prop} {w x : Nat} (hp : bc + w ≤ 128) (hw : w ≤ 16) (hx : x < 2 ^ 31) (h : post 1 (nI mi, nI mb, nI mv, sl, nI n, nI vc, nI (bc + w), ot, tt, wc, fs_F K, fs_F A, fs_F B, fs_F V, fs_F (fs_wN M bc w x), bf, wk, sr, lt, mk, sm, sF, sT)) : ∃ m, wY_putBits_43 post (nI w) (nI x) (nI mi) (nI mb) (nI mv) sl (nI n) (nI vc) (nI bc) ot tt wc m 0 (fs_F K) (fs_F A) (fs_F B) (fs_F V) (fs_F M) bf wk sr lt mk sm sF sT := by
  have key : ∀ d k, k + d = w → wY_putBits_43 post (nI w) (nI x) (nI mi) (nI mb) (nI mv) sl (nI n) (nI vc) (nI bc) ot tt wc (d + 1) (nI k) (fs_F K) (fs_F A) (fs_F B) (fs_F V) (fs_w3 (fs_F M) bc w x k) bf wk sr lt mk sm sF sT := by
    intro d
    induction d with
    | zero =>
      intro k hk
      refine br_t (nI_le (by omega) (by omega)) (nm_r (nI_add bc w) ?_)
      have : k = w := by omega
      rw [this]
      have e := fs_wF M bc w x
      unfold fs_w at e
      rw [e]
      exact h
    | succ d ih =>
      intro k hk
      refine br_f (nI_ge (by omega) (by omega)) ?_
      rw [nI_add bc k, nI_clamp (n := bc + k) (by omega), fs_bit (by omega) hw hx, fs_ws (fs_F M) (by omega)]
      exact And.intro (vp_in_nI (by omega) (by decide)) (nm_e (nm_r (nI_1 k) (ih (k + 1) (by omega))))
  have h0 := key w 0 (by omega)
  rw [fs_w0] at h0
  exact ⟨_, h0⟩
end
theorem fs_wN1 {M : Nat → Nat} (h : ∀ j, M j ≤ 1) (p w x j : Nat) : fs_wN M p w x j ≤ 1 := by
  unfold fs_wN
  split
  · have := Nat.mod_lt (x / 2 ^ (p + w - 1 - j)) (y := 2) (by decide)
    omega
  · exact h j
theorem i_vc_putBits {k : Nat} {u : SX} {v : SY} (I : i_Rel k u v) (hk : k + 4 ≤ 2051) (v1 : Int32) (v2 : Int32) : wpX_putBits (fun r u' => wpY_putBits (fun r' v' => r' = r ∧ i_Rel (k + 4) u' v') v v1 v2) u v1 v2 := by
  refine zz_el (P := fun u v => wpX_putBits (fun r u' => wpY_putBits (fun r' v' => r' = r ∧ i_Rel (k + 4) u' v') v v1 v2) u v1 v2) I ?_
  intro mi mb mv n vc bc sl K A B V M oc pa rg eo nm op pc ps tk fl wb wv sa st lf cp si sf so ot tt wc bf wk sr lt mk sm sF sT R
  have Z := zz_in (k := k + 4) mi mb mv n vc bc sl K A B V M oc pa rg eo nm op pc ps tk fl wb wv sa st lf cp si sf so ot tt wc bf wk sr lt mk sm sF sT R
  obtain ⟨⟨b1, b2, b3, b4, b5, b6⟩, r1, r2, r3, r4, r5⟩ := R
  unfold wpX_putBits
  dsimp only
  refine xs_wok (fun c => br_f (by decide) ?_) (fun c => br_t rfl ?_)
  · obtain ⟨w, rfl, h1, h16⟩ := c
    have hp16 := fs_p16 h16
    have y1 : ¬ nI w < 1 := nI_nlt (b := 1) h1 (by omega)
    have y2 : ¬ (16 : Int32) < nI w := nI_nlt (a := 16) h16 (by decide)
    have e1 := fs_sh0 h16 v2
    have e2 := fs_lt1 h16 v2
    refine br_c (fun d => ?_) (fun d => ?_)
    · obtain ⟨x, hx, rfl⟩ := e1.mp d
      have e3 := e2.mpr ⟨x, hx, rfl⟩
      refine br_c (fun f => ?_) (fun f => br_f y1 (br_f y2 (br_f e3.1 (br_t e3.2 (br_f f ⟨rfl, Z⟩)))))
      have f' := f
      rw [nI_add, nI_leI (by omega) (by omega)] at f'
      refine xs_wm (by omega) h16 (by omega) (nm_r (nI_add bc w) ?_)
      refine br_f y1 (br_f y2 (br_f e3.1 (br_t e3.2 (br_t f (ys_pb43 (by omega) h16 (by omega) ⟨rfl, ?_⟩)))))
      exact zz_in mi mb mv n vc (bc + w) sl K A B V (fs_wN M bc w x) oc pa rg eo nm op pc ps tk fl wb wv sa st lf cp si sf so ot tt wc bf wk sr lt mk sm sF sT ⟨⟨b1, b2, b3, b4, b5, f'⟩, r1, r2, r3, fs_wN1 r4 bc w x, r5⟩
    · refine br_f y1 (br_f y2 (br_c (fun f => ⟨rfl, Z⟩) (fun f => br_c (fun q => absurd (e1.mpr (e2.mp ⟨f, q⟩)) d) (fun q => ⟨rfl, Z⟩))))
  · refine br_c (fun d => ⟨rfl, Z⟩) (fun d => br_c (fun e => ⟨rfl, Z⟩) (fun e => absurd ?_ c))
    have c0 : ¬ v1 < 0 := fun z => d (Int32.lt_trans z (by decide))
    obtain ⟨j, hj, rfl⟩ := nI_of2 (M := 16) (n := 16) (by decide) c0 (Int32.not_lt.mp e)
    have : ¬ nI j < nI 1 := d
    rw [nI_ltI (by omega) (by omega)] at this
    exact ⟨j, rfl, by omega, hj⟩
theorem fs_flip {m : Nat} (h : m ≤ 1) : nI m ^^^ 1 = nI (1 - m) ∧ (1 : Int32) - nI m = nI (1 - m) := by
  have : m = 0 ∨ m = 1 := by omega
  rcases this with rfl | rfl <;> exact ⟨by decide, by decide⟩
theorem i_vc_flip {k : Nat} {u : SX} {v : SY} (I : i_Rel k u v) (hk : k + 4 ≤ 2051) (v1 : Int32) : wpX_flip (fun r u' => wpY_flip (fun r' v' => r' = r ∧ i_Rel (k + 4) u' v') v v1) u v1 := by
  refine zz_el (P := fun u v => wpX_flip (fun r u' => wpY_flip (fun r' v' => r' = r ∧ i_Rel (k + 4) u' v') v v1) u v1) I ?_
  intro mi mb mv n vc bc sl K A B V M oc pa rg eo nm op pc ps tk fl wb wv sa st lf cp si sf so ot tt wc bf wk sr lt mk sm sF sT R
  have Z := zz_in (k := k + 4) mi mb mv n vc bc sl K A B V M oc pa rg eo nm op pc ps tk fl wb wv sa st lf cp si sf so ot tt wc bf wk sr lt mk sm sF sT R
  obtain ⟨⟨b1, b2, b3, b4, b5, b6⟩, r1, r2, r3, r4, r5⟩ := R
  refine br_c (fun c => br_t c ⟨rfl, Z⟩) (fun c => br_c (fun d => ?_) (fun d => br_f c (br_f d ⟨rfl, Z⟩)))
  have d' := d
  obtain ⟨p, hp, rfl⟩ := nI_of c
  rw [nI_ltI hp (by omega)] at d'
  have hv : vp_in (nI p) 128 := vp_in_nI (by omega) (by decide)
  have hc : (nI p).toNatClampNeg = p := nI_clamp hp
  have e1 : upd (fs_F M) (nI p).toNatClampNeg (fs_F M (nI p).toNatClampNeg ^^^ 1) = fs_F (fs_u M p (1 - M p)) := by
    rw [hc, fs_Fa, (fs_flip (r4 p)).1, fs_Fu]
  have e2 : upd (fs_F M) (nI p).toNatClampNeg (1 - fs_F M (nI p).toNatClampNeg) = fs_F (fs_u M p (1 - M p)) := by
    rw [hc, fs_Fa, (fs_flip (r4 p)).2, fs_Fu]
  refine And.intro hv (And.intro hv (nm_r e1 (And.intro hv ?_)))
  refine br_f c (br_t d (And.intro hv (And.intro hv (nm_r e2 (And.intro hv ⟨rfl, ?_⟩)))))
  refine zz_in mi mb mv n vc bc sl K A B V (fs_u M p (1 - M p)) oc pa rg eo nm op pc ps tk fl wb wv sa st lf cp si sf so ot tt wc bf wk sr lt mk sm sF sT ⟨⟨b1, b2, b3, b4, b5, b6⟩, r1, r2, r3, fun j => ?_, r5⟩
  unfold fs_u
  split
  · omega
  · exact r4 j
end
section
/-! the invariant of the reference's run -/
def fs_YI (K A : Nat → Nat) (n i p t : Nat) (S C : Nat → Nat) (sr mk sm sF sT : Nat → Int32) : Prop :=
  (∀ g, g < n → fs_nam (K g) → fs_pd K A g i → sr (A g) = nI (S (A g)) ∧ S (A g) + A (A g) ≤ p)
  ∧ (∀ g, g ∈ fs_stk K i → K g = 5 ∨ K g = 6 → sr g = nI (S g) ∧ S (A g) + A (A g) ≤ S g ∧ S g ≤ p)
  ∧ (∀ g, g ∈ fs_stk K i → K g = 8 → mk g = nI (C g) ∧ C g < t)
  ∧ fs_NT K A n sm sF sT p
  ∧ (∀ g g', g < n → g' < n → fs_nam (K g) → fs_nam (K g') → g ≠ g' → fs_pd K A g i → fs_pd K A g' i → S (A g) + A (A g) ≤ S (A g') ∨ S (A g') + A (A g') ≤ S (A g))
  ∧ (∀ g q o a b, g < n → fs_nam (K g) → fs_pd K A g i → fs_nt K A n sm sF sT p q o a b → q + A (A o) ≤ S (A g) ∨ S (A g) + A (A g) ≤ q)
section
variable {K A B : Nat → Nat} {n i i' p p' t t' : Nat} {S C C' : Nat → Nat} {sr mk mk' sm sF sT : Nat → Int32}
theorem fs_nt_up {q o a b : Nat} (hp : p ≤ p') (h : fs_nt K A n sm sF sT p q o a b) : fs_nt K A n sm sF sT p' q o a b := by
  obtain ⟨h0, h1, h2, h3, h4, h5, h6, h7, h8⟩ := h
  exact ⟨h0, h1, h2, h3, h4, h5, h6, h7, by omega⟩
theorem fs_nt_dn {q o a b : Nat} (hn : n ≤ 32) (hp : p ≤ p') (hp' : p' ≤ 128) (hN : fs_NT K A n sm sF sT p) (h : fs_nt K A n sm sF sT p' q o a b) : fs_nt K A n sm sF sT p q o a b := by
  rcases hN.1 q h.1 with e | ⟨o', a', b', h'⟩
  · exact absurd (h.2.1.symm.trans e) (fs_neg1 o (by have := h.2.2.2.2.1; omega))
  · obtain ⟨rfl, rfl, rfl⟩ := fs_nt_u hn hp' h (fs_nt_up hp h')
    exact h'
theorem fs_NT_up (hn : n ≤ 32) (hp : p ≤ p') (hp' : p' ≤ 128) (hN : fs_NT K A n sm sF sT p) : fs_NT K A n sm sF sT p' := by
  refine ⟨fun q hq => ?_, fun q g a b q' g' a' b' hlt h h' => hN.2 q g a b q' g' a' b' hlt (fs_nt_dn hn hp hp' hN h) (fs_nt_dn hn hp hp' hN h')⟩
  rcases hN.1 q hq with e | ⟨o, a, b, h⟩
  · exact Or.inl e
  · exact Or.inr ⟨o, a, b, fs_nt_up hp h⟩
theorem fs_A1 (W : fs_WF K A B n) {g g' : Nat} (hg : g < n) (hg' : g' < n) (h : fs_nam (K g)) (h' : fs_nam (K g')) (e : A g = A g') : g = g' := by
  rcases Nat.lt_trichotomy g g' with c | c | c
  · exact absurd e ((fs_nm W hg' h').2.2.2 g c h)
  · exact c
  · exact absurd e.symm ((fs_nm W hg h).2.2.2 g' c h')
/-- a step over an item that isn't an END -/
theorem fs_YA (W : fs_WF K A B n) (hn : n ≤ 32) (hi : i < n) (h11 : K i ≠ 11) (hST : fs_ST K A n i i') (hp : p ≤ p') (hp' : p' ≤ 128) (hsl : K i = 3 → p + A i ≤ p') (ht : t ≤ t')
    (hm : (C' = C ∧ mk' = mk ∧ K i ≠ 8) ∨ (C' = fs_u C i t ∧ mk' = upd mk i (nI t) ∧ t < t')) (I : fs_YI K A n i p t S C sr mk sm sF sT) : fs_YI K A n i' p' t' (fs_u S i p) C' (upd sr i (nI p)) mk' sm sF sT := by
  obtain ⟨y1, y2, y3, y4, y5, y6⟩ := I
  refine ⟨fun g hg hna hpd => ?_, fun g hg hk => ?_, fun g hg hk => ?_, fs_NT_up hn hp hp' y4, fun g g' hg hg' hna hna' hne hpd hpd' => ?_, fun g q o a b hg hna hpd hnt => ?_⟩
  · rcases fs_L3 W hi hg hna hST hpd with e | hpd0
    · have := (fs_nm W hg hna).2.1
      rw [← e] at this
      rw [← e, fs_us]
      exact ⟨pk_us, hsl this⟩
    · have := hpd0.1
      rw [fs_un (by omega), pk_un (by omega)]
      have := y1 g hg hna hpd0
      exact ⟨this.1, by omega⟩
  · have hgn := fs_lt hg
    rcases fs_L1 W hi hST hg (by omega) with ⟨e, _⟩ | hg0
    · subst e
      have hna : fs_nam (K g) := by rcases hk with h | h <;> simp [fs_nam, h]
      have hA := (fs_nm W hi hna).1
      have := y1 g hi hna ⟨hA, Or.inl (Nat.le_refl g)⟩
      rw [fs_us, fs_un (by omega)]
      exact ⟨pk_us, this.2, hp⟩
    · have hlt := fs_lt hg0
      have hna : fs_nam (K g) := by rcases hk with h | h <;> simp [fs_nam, h]
      have hA := (fs_nm W (by omega) hna).1
      rw [fs_un (by omega), fs_un (by omega), pk_un (by omega)]
      have := y2 g hg0 hk
      exact ⟨this.1, this.2.1, by omega⟩
  · rcases fs_L1 W hi hST hg (by omega) with ⟨e, _⟩ | hg0
    · subst e
      rcases hm with ⟨_, _, h8⟩ | ⟨hC, hM, htt⟩
      · exact absurd hk h8
      · rw [hC, hM, fs_us]
        exact ⟨pk_us, htt⟩
    · have hlt := fs_lt hg0
      have h3 := y3 g hg0 hk
      rcases hm with ⟨hC, hM, _⟩ | ⟨hC, hM, htt⟩
      · rw [hC, hM]
        exact ⟨h3.1, by omega⟩
      · rw [hC, hM, fs_un (by omega), pk_un (by omega)]
        exact ⟨h3.1, by omega⟩
  · rcases fs_L3 W hi hg hna hST hpd with e | hpd0
    · rcases fs_L3 W hi hg' hna' hST hpd' with e' | hpd0'
      · exact absurd (fs_A1 W hg hg' hna hna' (e.symm.trans e')) hne
      · have := hpd0'.1
        have := y1 g' hg' hna' hpd0'
        rw [← e, fs_us, fs_un (by omega)]
        exact Or.inr this.2
    · have := hpd0.1
      rcases fs_L3 W hi hg' hna' hST hpd' with e' | hpd0'
      · have := y1 g hg hna hpd0
        rw [← e', fs_us, fs_un (by omega)]
        exact Or.inl this.2
      · have := hpd0'.1
        rw [fs_un (by omega), fs_un (by omega)]
        exact y5 g g' hg hg' hna hna' hne hpd0 hpd0'
  · have hnt0 := fs_nt_dn hn hp hp' y4 hnt
    rcases fs_L3 W hi hg hna hST hpd with e | hpd0
    · have h6 := hnt0.2.2.2.2.2.2
      rw [← e, fs_us]
      exact Or.inl (by omega)
    · have := hpd0.1
      rw [fs_un (by omega)]
      exact y6 g q o a b hg hna hpd0 hnt0
/-- a step over an END, no sum noted -/
theorem fs_YB (W : fs_WF K A B n) (hi : i < n) (h11 : K i = 11) (hST : fs_ST K A n i i') (I : fs_YI K A n i p t S C sr mk sm sF sT) : fs_YI K A n i' p t S C sr mk sm sF sT := by
  obtain ⟨y1, y2, y3, y4, y5, y6⟩ := I
  have pd0 : ∀ g, g < n → fs_nam (K g) → fs_pd K A g i' → fs_pd K A g i := by
    intro g hg hna hpd
    rcases fs_L3 W hi hg hna hST hpd with e | h
    · have := (fs_nm W hg hna).2.1
      rw [← e] at this
      omega
    · exact h
  have st0 : ∀ g, g ∈ fs_stk K i' → K g ≠ 10 → g ∈ fs_stk K i := by
    intro g hg h10
    rcases fs_L1 W hi hST hg h10 with ⟨_, e⟩ | h
    · exact absurd h11 e
    · exact h
  exact ⟨fun g hg hna hpd => y1 g hg hna (pd0 g hg hna hpd), fun g hg hk => y2 g (st0 g hg (by omega)) hk, fun g hg hk => y3 g (st0 g hg (by omega)) hk, y4, fun g g' hg hg' hna hna' hne hpd hpd' => y5 g g' hg hg' hna hna' hne (pd0 g hg hna hpd) (pd0 g' hg' hna' hpd'), fun g q o a b hg hna hpd hnt => y6 g q o a b hg hna (pd0 g hg hna hpd) hnt⟩
theorem fs_pdE (W : fs_WF K A B n) (hi : i < n) (h11 : K i = 11) (hk : K (A i) = 5 ∨ K (A i) = 6) : A i < n ∧ fs_nam (K (A i)) ∧ fs_pd K A (A i) i := by
  have h1 := fs_elt W hi h11
  have hna : fs_nam (K (A i)) := by rcases hk with h | h <;> simp [fs_nam, h]
  have h2 := fs_nm W (i := A i) (by omega) hna
  exact ⟨by omega, hna, by omega, Or.inr ⟨fs_eo W hi h11, hk⟩⟩
theorem fs_nt_off {q q0 o a b x y z : Nat} (hq : q ≠ q0) : fs_nt K A n (upd sm q0 (nI x)) (upd sF q0 (nI y)) (upd sT q0 (nI z)) p q o a b ↔ fs_nt K A n sm sF sT p q o a b := by
  unfold fs_nt
  rw [pk_un hq, pk_un hq, pk_un hq]
/-- a sum is noted -/
theorem fs_YC (W : fs_WF K A B n) (hn : n ≤ 32) (hp128 : p ≤ 128) (hi : i < n) (h11 : K i = 11) (h6 : K (A i) = 6) (I : fs_YI K A n i p t S C sr mk sm sF sT) :
    fs_YI K A n (i + 1) p t S C sr mk (upd sm (S (A (A i))) (nI (A i))) (upd sF (S (A (A i))) (nI (S (A i)))) (upd sT (S (A (A i))) (nI p))
    ∧ fs_nt K A n (upd sm (S (A (A i))) (nI (A i))) (upd sF (S (A (A i))) (nI (S (A i)))) (upd sT (S (A (A i))) (nI p)) p (S (A (A i))) (A i) (S (A i)) p := by
  have hST : fs_ST K A n i (i + 1) := Or.inr (Or.inl ⟨rfl, h11, by omega⟩)
  have I' := fs_YB W hi h11 hST I
  obtain ⟨hgn, hgna, hgpd⟩ := fs_pdE W hi h11 (Or.inr h6)
  have hfin : ¬ fs_pd K A (A i) (i + 1) := fs_L5 W hi hST (Or.inr ⟨h11, rfl, Or.inr h6⟩)
  obtain ⟨y1, y2, y3, y4, y5, y6⟩ := I
  obtain ⟨z1, z2, z3, z4, z5, z6⟩ := I'
  have hslot := fs_nm W hgn hgna
  have hwd := fs_wd W (i := A (A i)) (by omega) (by omega)
  have e1 := y1 (A i) hgn hgna hgpd
  have e2 := y2 (A i) (fs_eo W hi h11) (Or.inr h6)
  have pd0 : ∀ g, g < n → fs_nam (K g) → fs_pd K A g (i + 1) → fs_pd K A g i := by
    intro g hg hna hpd
    rcases fs_L3 W hi hg hna hST hpd with e | h
    · have := (fs_nm W hg hna).2.1
      rw [← e] at this
      omega
    · exact h
  generalize hg0 : A i = g0 at *
  generalize hs0 : A g0 = s0 at *
  generalize hq0 : S s0 = q0 at *
  have hnew : fs_nt K A n (upd sm q0 (nI g0)) (upd sF q0 (nI (S g0))) (upd sT q0 (nI p)) p q0 g0 (S g0) p := by
    refine ⟨by omega, pk_us, pk_us, pk_us, hgn, h6, ?_, e2.2.2, Nat.le_refl p⟩
    rw [hs0]; exact e2.2.1
  have huni : ∀ {o a b : Nat}, fs_nt K A n (upd sm q0 (nI g0)) (upd sF q0 (nI (S g0))) (upd sT q0 (nI p)) p q0 o a b → o = g0 ∧ a = S g0 ∧ b = p := fun h => fs_nt_u hn hp128 hnew h
  refine ⟨⟨z1, z2, z3, ⟨fun q hq => ?_, fun q g a b q' g' a' b' hlt h h' => ?_⟩, z5, fun g q o a b hg hna hpd hnt => ?_⟩, hnew⟩
  · by_cases c : q = q0
    · subst c; exact Or.inr ⟨_, _, _, hnew⟩
    · rcases y4.1 q hq with e | ⟨o, a, b, h⟩
      · left; rw [pk_un c]; exact e
      · exact Or.inr ⟨o, a, b, (fs_nt_off c).mpr h⟩
  · by_cases c : q = q0
    · subst c
      obtain ⟨rfl, rfl, rfl⟩ := huni h
      have h0 := (fs_nt_off (by omega)).mp h'
      rcases y6 g q' g' a' b' hgn hgna hgpd h0 with h | h
      · rw [hs0] at h; omega
      · rw [hs0] at h; rw [hs0]; omega
    · have h0 := (fs_nt_off c).mp h
      by_cases c' : q' = q0
      · subst c'
        rcases y6 g0 q g a b hgn hgna hgpd h0 with h1 | h1
        · rw [hs0] at h1; omega
        · rw [hs0] at h1; omega
      · exact y4.2 q g a b q' g' a' b' hlt h0 ((fs_nt_off c').mp h')
  · have hpd0 := pd0 g hg hna hpd
    by_cases c : q = q0
    · subst c
      obtain ⟨rfl, rfl, rfl⟩ := huni hnt
      have hne : g ≠ o := by intro e; subst e; exact hfin hpd
      rcases y5 g o hg hgn hna hgna hne hpd0 hgpd with h | h
      · rw [hs0] at h; right; omega
      · rw [hs0] at h; left; rw [hs0]; omega
    · exact y6 g q o a b hg hna hpd0 ((fs_nt_off c).mp hnt)
end
end
section
/-! one item of the reference -/
def fs_pad (u p : Nat) : Nat := if p % u = 0 then 0 else u - p % u
theorem fs_pad_lt {u p : Nat} (h : 2 ≤ u) : fs_pad u p < u := by
  unfold fs_pad
  split
  · omega
  · have := Nat.mod_lt p (y := u) (by omega)
    omega
theorem fs_pad_z {u p : Nat} (h : 2 ≤ u) : (p + fs_pad u p) % u = 0 := by
  unfold fs_pad
  split
  · next c => rw [Nat.add_zero]; exact c
  · have h1 := Nat.mod_lt p (y := u) (by omega)
    have h2 := Nat.div_add_mod p u
    have : p + (u - p % u) = u * (p / u) + u := by omega
    rw [this, Nat.add_mod_right, Nat.mul_mod_right]
theorem fs_pad_n {u p j : Nat} (h : 2 ≤ u) (hj : j < fs_pad u p) : (p + j) % u ≠ 0 := by
  unfold fs_pad at hj
  split at hj
  · omega
  · next c =>
    have h1 := Nat.mod_lt p (y := u) (by omega)
    rw [Nat.add_mod, Nat.mod_eq_of_lt (a := j) (by omega), Nat.mod_eq_of_lt (by omega)]
    omega
theorem fs_w1 (bf : Nat → Int32) (p k : Nat) : fs_w (fs_w bf p k 0) (p + k) 1 0 = fs_w bf p (k + 1) 0 := by
  funext q
  unfold fs_w fs_w3
  by_cases h : p + k ≤ q ∧ q < p + k + 1
  · rw [if_pos h, if_pos (by omega), Nat.zero_div, Nat.zero_div]
  · rw [if_neg h]
    by_cases h2 : p ≤ q ∧ q < p + k
    · rw [if_pos h2, if_pos (by omega), Nat.zero_div, Nat.zero_div]
    · rw [if_neg h2, if_neg (by omega)]
theorem fs_w00 (bf : Nat → Int32) (p x : Nat) : fs_w bf p 0 x = bf := fs_w0 bf p 0 x
section
variable {mi mb mv n vc bc : Nat} {sl ot tt wc : Int32} {K A B V M : Nat → Nat} {bf wk sr lt mk sm sF sT : Nat → Int32}
theorem ys_const {post : Int32 → SY → Prop} {i p : Nat} {gm : Int32} (hb : fs_bdd K A B) (hi : i < 32) (hk : K i = 2) (hw : A i ≤ 16) (hmb : mb ≤ 128) (hp : p ≤ 128) (h1 : p + A i ≤ mb → post (nI (i + 1)) (nI mi, nI mb, nI mv, sl, nI n, nI vc, nI bc, nI (p + A i), tt, wc, fs_F K, fs_F A, fs_F B, fs_F V, fs_F M, fs_w bf p (A i) (B i), wk, upd sr i (nI p), lt, mk, sm, sF, sT)) (h0 : mb < p + A i → ∀ (ot tt wc : Int32) (bf wk sr lt mk sm sF sT : Nat → Int32), post (-1) (nI mi, nI mb, nI mv, sl, nI n, nI vc, nI bc, ot, tt, wc, fs_F K, fs_F A, fs_F B, fs_F V, fs_F M, bf, wk, sr, lt, mk, sm, sF, sT)) : wpY_layItem post (nI mi, nI mb, nI mv, sl, nI n, nI vc, nI bc, nI p, tt, wc, fs_F K, fs_F A, fs_F B, fs_F V, fs_F M, bf, wk, sr, lt, mk, sm, sF, sT) (nI i) gm := by
  have hv : vp_in (nI i) 32 := vp_in_nI hi (by decide)
  have hB := (hb i).2.2
  unfold wpY_layItem
  dsimp only
  rw [fs_Fat (f := K) (by omega), fs_Fat (f := A) (by omega), fs_Fat (f := B) (by omega), hk, nI_clamp (n := i) (by omega)]
  refine And.intro hv (nm_e (And.intro hv (nm_e (br_f (by decide) (And.intro hv (nm_e (br_t (by decide) (And.intro hv ?_))))))))
  refine ys_app hmb hw (by omega) hp (fun c => br_f (by decide) ?_) (fun c => br_t rfl (h0 c _ _ _ _ _ _ _ _ _ _ _))
  rw [nI_1]
  exact h1 c
theorem ys_slot {post : Int32 → SY → Prop} {i p : Nat} {gm : Int32} (hi : i < 32) (hk : K i = 3) (hw : A i ≤ 16) (hmb : mb ≤ 128) (hp : p ≤ 128) (h1 : p + A i ≤ mb → post (nI (i + 1)) (nI mi, nI mb, nI mv, sl, nI n, nI vc, nI bc, nI (p + A i), tt, wc, fs_F K, fs_F A, fs_F B, fs_F V, fs_F M, fs_w bf p (A i) 0, wk, upd sr i (nI p), lt, mk, sm, sF, sT)) (h0 : mb < p + A i → ∀ (ot tt wc : Int32) (bf wk sr lt mk sm sF sT : Nat → Int32), post (-1) (nI mi, nI mb, nI mv, sl, nI n, nI vc, nI bc, ot, tt, wc, fs_F K, fs_F A, fs_F B, fs_F V, fs_F M, bf, wk, sr, lt, mk, sm, sF, sT)) : wpY_layItem post (nI mi, nI mb, nI mv, sl, nI n, nI vc, nI bc, nI p, tt, wc, fs_F K, fs_F A, fs_F B, fs_F V, fs_F M, bf, wk, sr, lt, mk, sm, sF, sT) (nI i) gm := by
  have hv : vp_in (nI i) 32 := vp_in_nI hi (by decide)
  unfold wpY_layItem
  dsimp only
  rw [fs_Fat (f := K) (by omega), fs_Fat (f := A) (by omega), hk, nI_clamp (n := i) (by omega)]
  refine And.intro hv (nm_e (And.intro hv (nm_e (br_f (by decide) (And.intro hv (nm_e (br_f (by decide) (br_t (by decide) ?_))))))))
  refine ys_app (x := 0) hmb hw (by omega) hp (fun c => br_f (by decide) ?_) (fun c => br_t rfl (h0 c _ _ _ _ _ _ _ _ _ _ _))
  rw [nI_1]
  exact h1 c
theorem ys_align {post : Int32 → SY → Prop} {i p : Nat} {gm : Int32} (hi : i < 32) (hk : K i = 4) (hu : 2 ≤ A i) (hw : A i ≤ 16) (hmb : mb ≤ 128) (hp : p ≤ mb) (h1 : p + fs_pad (A i) p ≤ mb → post (nI (i + 1)) (nI mi, nI mb, nI mv, sl, nI n, nI vc, nI bc, nI (p + fs_pad (A i) p), tt, wc, fs_F K, fs_F A, fs_F B, fs_F V, fs_F M, fs_w bf p (fs_pad (A i) p) 0, wk, upd sr i (nI p), lt, mk, sm, sF, sT)) (h0 : mb < p + fs_pad (A i) p → ∀ (ot tt wc : Int32) (bf wk sr lt mk sm sF sT : Nat → Int32), post (-1) (nI mi, nI mb, nI mv, sl, nI n, nI vc, nI bc, ot, tt, wc, fs_F K, fs_F A, fs_F B, fs_F V, fs_F M, bf, wk, sr, lt, mk, sm, sF, sT)) : wpY_layItem post (nI mi, nI mb, nI mv, sl, nI n, nI vc, nI bc, nI p, tt, wc, fs_F K, fs_F A, fs_F B, fs_F V, fs_F M, bf, wk, sr, lt, mk, sm, sF, sT) (nI i) gm := by
  have hv : vp_in (nI i) 32 := vp_in_nI hi (by decide)
  have hpl := fs_pad_lt (p := p) hu
  have hpz := fs_pad_z (p := p) hu
  have hpn := fun j => fs_pad_n (p := p) (j := j) hu
  unfold wpY_layItem
  dsimp only
  rw [fs_Fat (f := K) (by omega), fs_Fat (f := A) (by omega), hk, nI_clamp (n := i) (by omega)]
  refine And.intro hv (nm_e (And.intro hv (nm_e (br_f (by decide) (And.intro hv (nm_e (br_f (by decide) (br_f (by decide) (br_t (by decide) ?_)))))))))
  generalize fs_pad (A i) p = d at *
  generalize A i = w at *
  have key : ∀ r j, j + r = d → p + j ≤ mb → wY_layItem_97 post (nI i) gm (nI 4) (nI w) (r + 1) (nI j) (nI mi) (nI mb) (nI mv) sl (nI n) (nI vc) (nI bc) (nI (p + j)) tt wc (fs_F K) (fs_F A) (fs_F B) (fs_F V) (fs_F M) (fs_w bf p j 0) wk (upd sr i (nI p)) lt mk sm sF sT := by
    intro r
    induction r with
    | zero =>
      intro j hj hm
      have : j = d := by omega
      subst this
      refine br_f (nI_ge (b := 16) (by omega) (by decide)) (br_f (nI_nlt (b := 2) hu (by omega)) (And.intro (nI_ne0 (by omega) (by omega)) ?_))
      rw [pk_rem (by omega) (by omega) (by omega), hpz]
      refine br_t (by decide) (br_t (by decide) ?_)
      rw [nI_1]
      exact h1 hm
    | succ r ih =>
      intro j hj hm
      have hnz := hpn j (by omega)
      have hlt := Nat.mod_lt (p + j) (y := w) (by omega)
      refine br_f (nI_ge (b := 16) (by omega) (by decide)) (br_f (nI_nlt (b := 2) hu (by omega)) (And.intro (nI_ne0 (by omega) (by omega)) ?_))
      rw [pk_rem (by omega) (by omega) (by omega)]
      refine br_f (nI_ne0 (by omega) (by omega)) ?_
      refine ys_app (w := 1) (x := 0) hmb (by omega) (by omega) (by omega) (fun c => br_f (by decide) (nm_r (nI_1 j) ?_)) (fun c => br_t rfl (h0 (by omega) _ _ _ _ _ _ _ _ _ _ _))
      rw [fs_w1]
      exact ih (j + 1) (by omega) (by omega)
  have h3 := key d 0 (by omega) (by omega)
  rw [fs_w00] at h3
  exact ⟨_, h3⟩
theorem ys_open {post : Int32 → SY → Prop} {i p : Nat} {gm : Int32} (hi : i < 32) (hk : K i = 5 ∨ K i = 6) (h1 : post (nI (i + 1)) (nI mi, nI mb, nI mv, sl, nI n, nI vc, nI bc, nI p, tt, wc, fs_F K, fs_F A, fs_F B, fs_F V, fs_F M, bf, wk, upd sr i (nI p), lt, mk, sm, sF, sT)) : wpY_layItem post (nI mi, nI mb, nI mv, sl, nI n, nI vc, nI bc, nI p, tt, wc, fs_F K, fs_F A, fs_F B, fs_F V, fs_F M, bf, wk, sr, lt, mk, sm, sF, sT) (nI i) gm := by
  have hv : vp_in (nI i) 32 := vp_in_nI hi (by decide)
  unfold wpY_layItem
  dsimp only
  rw [fs_Fat (f := K) (by omega), fs_Fat (f := A) (by omega), nI_clamp (n := i) (by omega)]
  rcases hk with hk | hk
  · rw [hk]
    refine And.intro hv (nm_e (And.intro hv (nm_e (br_f (by decide) (And.intro hv (nm_e (br_f (by decide) (br_f (by decide) (br_f (by decide) ?_)))))))))
    refine br_f (by decide) (br_t (by decide) ?_)
    rw [nI_1]
    exact h1
  · rw [hk]
    refine And.intro hv (nm_e (And.intro hv (nm_e (br_f (by decide) (And.intro hv (nm_e (br_f (by decide) (br_f (by decide) (br_f (by decide) ?_)))))))))
    refine br_f (by decide) (br_f (by decide) (br_t (by decide) ?_))
    rw [nI_1]
    exact h1
/-- the items that take a value, up to the taking -/
theorem ys_val137 {post : Int32 → SY → Prop} {i p : Nat} {gm : Int32} (hi : i < 32) (hk : K i = 1 ∨ K i = 7 ∨ K i = 8 ∨ K i = 9)
    (h : wY_layItem_137 post (nI i) gm (nI (K i)) (nI (A i)) (nI mi) (nI mb) (nI mv) sl (nI n) (nI vc) (nI bc) (nI p) tt wc (fs_F K) (fs_F A) (fs_F B) (fs_F V) (fs_F M) bf wk (upd sr i (nI p)) lt mk sm sF sT) : wpY_layItem post (nI mi, nI mb, nI mv, sl, nI n, nI vc, nI bc, nI p, tt, wc, fs_F K, fs_F A, fs_F B, fs_F V, fs_F M, bf, wk, sr, lt, mk, sm, sF, sT) (nI i) gm := by
  have hv : vp_in (nI i) 32 := vp_in_nI hi (by decide)
  unfold wpY_layItem
  dsimp only
  rw [fs_Fat (f := K) (by omega), fs_Fat (f := A) (by omega), nI_clamp (n := i) (by omega)]
  refine And.intro hv (nm_e (And.intro hv (nm_e ?_)))
  refine pk_eq (K i) 11 (fun e => by omega) (fun _ => And.intro hv (nm_e ?_))
  exact pk_eq (K i) 2 (fun e => by omega) (fun _ => pk_eq (K i) 3 (fun e => by omega) (fun _ => pk_eq (K i) 4 (fun e => by omega) (fun _ => h)))
theorem ys_val0 {post : Int32 → SY → Prop} {i p : Nat} (hi : i < 32) (hk : K i = 1 ∨ K i = 7 ∨ K i = 8 ∨ K i = 9)
    (h : wY_layItem_177 post (nI i) (nI (K i)) (nI (A i)) (nI mi) (nI mb) (nI mv) sl (nI n) (nI vc) (nI bc) (nI p) tt wc (fs_F K) (fs_F A) (fs_F B) (fs_F V) (fs_F M) bf wk (upd sr i (nI p)) lt mk sm sF sT) : wpY_layItem post (nI mi, nI mb, nI mv, sl, nI n, nI vc, nI bc, nI p, tt, wc, fs_F K, fs_F A, fs_F B, fs_F V, fs_F M, bf, wk, sr, lt, mk, sm, sF, sT) (nI i) 0 := by
  refine ys_val137 hi hk ?_
  refine pk_eq (K i) 4 (fun e => by omega) (fun _ => pk_eq (K i) 5 (fun e => by omega) (fun _ => pk_eq (K i) 6 (fun e => by omega) (fun _ => pk_eq (K i) 10 (fun e => by omega) (fun _ => ?_))))
  exact br_t rfl h
theorem ys_valG {post : Int32 → SY → Prop} {i p t : Nat} {G : Nat → Prop} {Bd : Prop} (hi : i < 32) (hk : K i = 1 ∨ K i = 7 ∨ K i = 8 ∨ K i = 9)
    (hg : ∀ post' : Int32 → SY → Prop, (∀ x, G x → post' 1 (nI mi, nI mb, nI mv, sl, nI n, nI vc, nI bc, nI p, tt, nI (t + 1), fs_F K, fs_F A, fs_F B, fs_F V, fs_F M, bf, upd wk t (nI x), upd sr i (nI p), lt, mk, sm, sF, sT)) → (Bd → post' 0 (nI mi, nI mb, nI mv, sl, nI n, nI vc, nI bc, nI p, tt, nI t, fs_F K, fs_F A, fs_F B, fs_F V, fs_F M, bf, wk, upd sr i (nI p), lt, mk, sm, sF, sT)) → wpY_guessValue post' (nI mi, nI mb, nI mv, sl, nI n, nI vc, nI bc, nI p, tt, nI t, fs_F K, fs_F A, fs_F B, fs_F V, fs_F M, bf, wk, upd sr i (nI p), lt, mk, sm, sF, sT) (nI i))
    (h1 : ∀ x, G x → wY_layItem_177 post (nI i) (nI (K i)) (nI (A i)) (nI mi) (nI mb) (nI mv) sl (nI n) (nI vc) (nI bc) (nI p) tt (nI (t + 1)) (fs_F K) (fs_F A) (fs_F B) (fs_F V) (fs_F M) bf (upd wk t (nI x)) (upd sr i (nI p)) lt mk sm sF sT)
    (h0 : Bd → ∀ (ot tt wc : Int32) (bf wk sr lt mk sm sF sT : Nat → Int32), post (-1) (nI mi, nI mb, nI mv, sl, nI n, nI vc, nI bc, ot, tt, wc, fs_F K, fs_F A, fs_F B, fs_F V, fs_F M, bf, wk, sr, lt, mk, sm, sF, sT)) : wpY_layItem post (nI mi, nI mb, nI mv, sl, nI n, nI vc, nI bc, nI p, tt, nI t, fs_F K, fs_F A, fs_F B, fs_F V, fs_F M, bf, wk, sr, lt, mk, sm, sF, sT) (nI i) 1 := by
  refine ys_val137 hi hk ?_
  refine pk_eq (K i) 4 (fun e => by omega) (fun _ => pk_eq (K i) 5 (fun e => by omega) (fun _ => pk_eq (K i) 6 (fun e => by omega) (fun _ => pk_eq (K i) 10 (fun e => by omega) (fun _ => ?_))))
  refine br_f (by decide) ?_
  exact hg _ (fun x hx => br_f (by decide) (h1 x hx)) (fun hb => br_t rfl (h0 hb _ _ _ _ _ _ _ _ _ _ _))
theorem ys_273 {post : Int32 → SY → Prop} {i e x k : Nat} (W : fs_WF K A B n) (hn : n ≤ 32) (hb : fs_bdd K A B) (hi : i < 32) (hk : k ≤ 11) (hk9 : k ≠ 9) (he : e < n) (hke : K e = 11) (hA : A e = i) (hx : x < 2 ^ 31)
    (h0 : x = 0 → post (nI (e + 1)) (nI mi, nI mb, nI mv, sl, nI n, nI vc, nI bc, ot, tt, wc, fs_F K, fs_F A, fs_F B, fs_F V, fs_F M, bf, wk, sr, upd lt i (nI x), mk, sm, sF, sT)) (h1 : 0 < x → post (nI (i + 1)) (nI mi, nI mb, nI mv, sl, nI n, nI vc, nI bc, ot, tt, wc, fs_F K, fs_F A, fs_F B, fs_F V, fs_F M, bf, wk, sr, upd lt i (nI x), mk, sm, sF, sT)) : wY_layItem_273 post (nI i) (nI k) (nI x) (nI mi) (nI mb) (nI mv) sl (nI n) (nI vc) (nI bc) ot tt wc (fs_F K) (fs_F A) (fs_F B) (fs_F V) (fs_F M) bf wk sr lt mk sm sF sT := by
  have hv : vp_in (nI i) 32 := vp_in_nI hi (by decide)
  refine pk_eq k 9 (fun e => absurd e hk9) (fun _ => And.intro hv ?_)
  rw [nI_clamp (n := i) (by omega)]
  refine nm_e (pk_le x 0 (fun c => ?_) (fun c => ?_))
  · have hy := ys_end (post := fun r_28 => post (r_28 + 1) (nI mi, nI mb, nI mv, sl, nI n, nI vc, nI bc, ot, tt, wc, fs_F K, fs_F A, fs_F B, fs_F V, fs_F M, bf, wk, sr, upd lt i (nI x), mk, sm, sF, sT)) (mi := mi) (mb := mb) (mv := mv) (vc := vc) (bc := bc) (sl := sl) (ot := ot) (tt := tt) (wc := wc) (V := V) (M := M) (bf := bf) (wk := wk) (sr := sr) (lt := upd lt i (nI x)) (mk := mk) (sm := sm) (sF := sF) (sT := sT) W hn hb he hke (by rw [nI_1]; exact h0 (by omega))
    rw [hA] at hy
    exact hy
  · rw [nI_1]
    exact h1 c
theorem ys_273u {post : Int32 → SY → Prop} {i x : Nat} {o : Option Nat} (hn : n ≤ 32) (hb : fs_bdd K A B) (hi : i < 32) (ho : fs_lst (fs_isC K A i (nI x)) n o)
    (h1 : ∀ c, o = some c → post (nI (c + 1)) (nI mi, nI mb, nI mv, sl, nI n, nI vc, nI bc, ot, tt, wc, fs_F K, fs_F A, fs_F B, fs_F V, fs_F M, bf, wk, sr, lt, mk, sm, sF, sT)) (h0 : o = none → post (-1) (nI mi, nI mb, nI mv, sl, nI n, nI vc, nI bc, ot, tt, wc, fs_F K, fs_F A, fs_F B, fs_F V, fs_F M, bf, wk, sr, lt, mk, sm, sF, sT)) : wY_layItem_273 post (nI i) (nI 9) (nI x) (nI mi) (nI mb) (nI mv) sl (nI n) (nI vc) (nI bc) ot tt wc (fs_F K) (fs_F A) (fs_F B) (fs_F V) (fs_F M) bf wk sr lt mk sm sF sT := by
  refine br_t (by decide) (ys_cof hn hb hi ho ?_)
  cases o with
  | none => exact br_f (by decide) (h0 rfl)
  | some c =>
    rw [fs_oIs]
    refine br_t (nI_pos' (by have := ho.1; omega)) ?_
    rw [nI_1]
    exact h1 c rfl
theorem ys_177f {post : Int32 → SY → Prop} {i p t w x : Nat} (hi : i < 32) (htt : t < 64) (hw : w ≤ 16) (hmb : mb ≤ 128) (hp : p ≤ 128) (hx : x < 2 ^ 31) (hlt : nI t < wc) (hwk : wk t = nI x)
    (h1 : x < 2 ^ w → p + w ≤ mb → post (nI (i + 1)) (nI mi, nI mb, nI mv, sl, nI n, nI vc, nI bc, nI (p + w), nI (t + 1), wc, fs_F K, fs_F A, fs_F B, fs_F V, fs_F M, fs_w bf p w x, wk, sr, lt, upd mk i (nI t), sm, sF, sT)) (h0 : ¬ (x < 2 ^ w ∧ p + w ≤ mb) → ∀ (ot tt wc : Int32) (bf wk sr lt mk sm sF sT : Nat → Int32), post (-1) (nI mi, nI mb, nI mv, sl, nI n, nI vc, nI bc, ot, tt, wc, fs_F K, fs_F A, fs_F B, fs_F V, fs_F M, bf, wk, sr, lt, mk, sm, sF, sT)) : wY_layItem_177 post (nI i) (nI 1) (nI w) (nI mi) (nI mb) (nI mv) sl (nI n) (nI vc) (nI bc) (nI p) (nI t) wc (fs_F K) (fs_F A) (fs_F B) (fs_F V) (fs_F M) bf wk sr lt mk sm sF sT := by
  have hv : vp_in (nI i) 32 := vp_in_nI hi (by decide)
  have hp16 := fs_p16 hw
  refine br_t hlt (And.intro (vp_in_nI htt (by decide)) ?_)
  rw [nI_clamp (n := t) (by omega), nI_clamp (n := i) (by omega), hwk, fs_1l hw]
  refine nm_e (And.intro hv (nm_e (nm_r (nI_1 t) (br_t (by decide) (pk_le (2 ^ w) x (fun c => h0 (fun z => by omega) _ _ _ _ _ _ _ _ _ _ _) (fun c => ?_))))))
  refine ys_app hmb hw hx hp (fun d => br_f (by decide) ?_) (fun d => br_t rfl (h0 (fun z => by omega) _ _ _ _ _ _ _ _ _ _ _))
  rw [nI_1]
  exact h1 c d
theorem ys_177s {post : Int32 → SY → Prop} {i t k s q x : Nat} (hi : i < 32) (hk : k = 7 ∨ k = 9) (htt : t < 64) (hs : s < 32) (hq : sr s = nI q) (hw : A s ≤ 16) (hqw : q + A s ≤ 128) (hx : x < 2 ^ 31) (hlt : nI t < wc) (hwk : wk t = nI x)
    (h1 : x < 2 ^ A s → wY_layItem_273 post (nI i) (nI k) (nI x) (nI mi) (nI mb) (nI mv) sl (nI n) (nI vc) (nI bc) ot (nI (t + 1)) wc (fs_F K) (fs_F A) (fs_F B) (fs_F V) (fs_F M) (fs_w bf q (A s) x) wk sr lt (upd mk i (nI t)) sm sF sT) (h0 : ¬ x < 2 ^ A s → ∀ (ot tt wc : Int32) (bf wk sr lt mk sm sF sT : Nat → Int32), post (-1) (nI mi, nI mb, nI mv, sl, nI n, nI vc, nI bc, ot, tt, wc, fs_F K, fs_F A, fs_F B, fs_F V, fs_F M, bf, wk, sr, lt, mk, sm, sF, sT)) : wY_layItem_177 post (nI i) (nI k) (nI s) (nI mi) (nI mb) (nI mv) sl (nI n) (nI vc) (nI bc) ot (nI t) wc (fs_F K) (fs_F A) (fs_F B) (fs_F V) (fs_F M) bf wk sr lt mk sm sF sT := by
  have hv : vp_in (nI i) 32 := vp_in_nI hi (by decide)
  refine br_t hlt (And.intro (vp_in_nI htt (by decide)) ?_)
  rw [nI_clamp (n := t) (by omega), nI_clamp (n := i) (by omega), hwk]
  refine nm_e (And.intro hv (nm_e (nm_r (nI_1 t) (pk_eq k 1 (fun e => by omega) (fun _ => pk_eq k 8 (fun e => by omega) (fun _ => ?_))))))
  exact ys_set hs hq hw hqw hx (fun c => br_f (by decide) (h1 c)) (fun c => br_t rfl (h0 (by omega) _ _ _ _ _ _ _ _ _ _ _))
theorem ys_177l {post : Int32 → SY → Prop} {i t x : Nat} {z : Int32} (hi : i < 32) (htt : t < 64) (hlt : nI t < wc) (hwk : wk t = nI x)
    (h1 : wY_layItem_273 post (nI i) (nI 8) (nI x) (nI mi) (nI mb) (nI mv) sl (nI n) (nI vc) (nI bc) ot (nI (t + 1)) wc (fs_F K) (fs_F A) (fs_F B) (fs_F V) (fs_F M) bf wk sr lt (upd mk i (nI t)) sm sF sT) : wY_layItem_177 post (nI i) (nI 8) z (nI mi) (nI mb) (nI mv) sl (nI n) (nI vc) (nI bc) ot (nI t) wc (fs_F K) (fs_F A) (fs_F B) (fs_F V) (fs_F M) bf wk sr lt mk sm sF sT := by
  have hv : vp_in (nI i) 32 := vp_in_nI hi (by decide)
  refine br_t hlt (And.intro (vp_in_nI htt (by decide)) ?_)
  rw [nI_clamp (n := t) (by omega), nI_clamp (n := i) (by omega), hwk]
  exact nm_e (And.intro hv (nm_e (nm_r (nI_1 t) (br_f (by decide) (br_t (by decide) h1)))))
theorem ys_177z {post : Int32 → SY → Prop} {i t k : Nat} {z : Int32} (hlt : ¬ nI t < wc) (h0 : post (-1) (nI mi, nI mb, nI mv, sl, nI n, nI vc, nI bc, ot, nI t, wc, fs_F K, fs_F A, fs_F B, fs_F V, fs_F M, bf, wk, sr, lt, mk, sm, sF, sT)) : wY_layItem_177 post (nI i) (nI k) z (nI mi) (nI mb) (nI mv) sl (nI n) (nI vc) (nI bc) ot (nI t) wc (fs_F K) (fs_F A) (fs_F B) (fs_F V) (fs_F M) bf wk sr lt mk sm sF sT := br_f hlt h0
/-- guessValue: x is guessed -/
theorem ys_g77 {post : Int32 → SY → Prop} {t x : Nat} (hmv : mv ≤ 64) (ht : t ≤ 64) (hx : x < 2 ^ 31) (h1 : t < mv → post 1 (nI mi, nI mb, nI mv, sl, nI n, nI vc, nI bc, ot, tt, nI (t + 1), fs_F K, fs_F A, fs_F B, fs_F V, fs_F M, bf, upd wk t (nI x), sr, lt, mk, sm, sF, sT)) (h0 : mv ≤ t → post 0 (nI mi, nI mb, nI mv, sl, nI n, nI vc, nI bc, ot, tt, nI t, fs_F K, fs_F A, fs_F B, fs_F V, fs_F M, bf, wk, sr, lt, mk, sm, sF, sT)) : wY_guessValue_77 post (nI x) (nI mi) (nI mb) (nI mv) sl (nI n) (nI vc) (nI bc) ot tt (nI t) (fs_F K) (fs_F A) (fs_F B) (fs_F V) (fs_F M) bf wk sr lt mk sm sF sT := by
  refine br_f (nI_pos hx) (pk_lt t mv (fun c => And.intro (vp_in_nI (by omega) (by decide)) ?_) h0)
  rw [nI_clamp (n := t) (by omega)]
  exact nm_e (nm_r (nI_1 t) (h1 c))
theorem ys_gf {post : Int32 → SY → Prop} {i p t : Nat} (hM : ∀ j, M j ≤ 1) (hbc : bc ≤ 128) (hmv : mv ≤ 64) (ht : t ≤ 64) (hi : i < 32) (hk : K i = 1) (hw1 : 1 ≤ A i) (hw : A i ≤ 16) (hp : p ≤ 128)
    (h1 : p + A i ≤ bc → t < mv → post 1 (nI mi, nI mb, nI mv, sl, nI n, nI vc, nI bc, nI p, tt, nI (t + 1), fs_F K, fs_F A, fs_F B, fs_F V, fs_F M, bf, upd wk t (nI (fs_nb M p (A i))), sr, lt, mk, sm, sF, sT)) (h0 : ¬ (p + A i ≤ bc ∧ t < mv) → post 0 (nI mi, nI mb, nI mv, sl, nI n, nI vc, nI bc, nI p, tt, nI t, fs_F K, fs_F A, fs_F B, fs_F V, fs_F M, bf, wk, sr, lt, mk, sm, sF, sT)) : wpY_guessValue post (nI mi, nI mb, nI mv, sl, nI n, nI vc, nI bc, nI p, tt, nI t, fs_F K, fs_F A, fs_F B, fs_F V, fs_F M, bf, wk, sr, lt, mk, sm, sF, sT) (nI i) := by
  have hv : vp_in (nI i) 32 := vp_in_nI hi (by decide)
  have hp16 := fs_p16 hw
  have hnb : fs_nb M p (A i) < 2 ^ A i := fs_nb_lt (fun j _ => hM _)
  unfold wpY_guessValue
  dsimp only
  rw [fs_Fat (f := K) (by omega), fs_Fat (f := A) (by omega), hk]
  refine And.intro hv (nm_e (And.intro hv (br_t (by decide) ?_)))
  refine ys_bits hM hbc (by omega) hw1 hw (fun c => ?_) (fun c => br_t (by decide) (h0 (fun z => by omega)))
  exact ys_g77 hmv ht (by omega) (fun d => h1 c d) (fun d => h0 (fun z => by omega))
theorem ys_gs {post : Int32 → SY → Prop} {i t q : Nat} (hM : ∀ j, M j ≤ 1) (hbc : bc ≤ 128) (hmv : mv ≤ 64) (ht : t ≤ 64) (hi : i < 32) (hk : K i = 7 ∨ K i = 9) (hs : A i < 32) (hq : sr (A i) = nI q) (hq1 : q ≤ 128) (hw1 : 1 ≤ A (A i)) (hw : A (A i) ≤ 16)
    (h1 : q + A (A i) ≤ bc → t < mv → post 1 (nI mi, nI mb, nI mv, sl, nI n, nI vc, nI bc, ot, tt, nI (t + 1), fs_F K, fs_F A, fs_F B, fs_F V, fs_F M, bf, upd wk t (nI (fs_nb M q (A (A i)))), sr, lt, mk, sm, sF, sT)) (h0 : ¬ (q + A (A i) ≤ bc ∧ t < mv) → post 0 (nI mi, nI mb, nI mv, sl, nI n, nI vc, nI bc, ot, tt, nI t, fs_F K, fs_F A, fs_F B, fs_F V, fs_F M, bf, wk, sr, lt, mk, sm, sF, sT)) : wpY_guessValue post (nI mi, nI mb, nI mv, sl, nI n, nI vc, nI bc, ot, tt, nI t, fs_F K, fs_F A, fs_F B, fs_F V, fs_F M, bf, wk, sr, lt, mk, sm, sF, sT) (nI i) := by
  have hv : vp_in (nI i) 32 := vp_in_nI hi (by decide)
  have hv2 : vp_in (nI (A i)) 32 := vp_in_nI hs (by decide)
  have hp16 := fs_p16 hw
  have hnb : fs_nb M q (A (A i)) < 2 ^ A (A i) := fs_nb_lt (fun j _ => hM _)
  unfold wpY_guessValue
  dsimp only
  rw [fs_Fat (f := K) (by omega), fs_Fat (f := A) (i := i) (by omega)]
  refine And.intro hv (nm_e (And.intro hv (pk_eq (K i) 1 (fun e => by omega) (fun _ => And.intro hv (pk_eq (K i) 8 (fun e => by omega) (fun _ => And.intro hv2 (And.intro hv2 ?_)))))))
  rw [fs_Fat (f := A) (i := A i) (by omega), nI_clamp (n := A i) (by omega), hq]
  refine ys_bits hM hbc (by omega) hw1 hw (fun c => ?_) (fun c => br_t (by decide) (h0 (fun z => by omega)))
  exact ys_g77 hmv ht (by omega) (fun d => h1 c d) (fun d => h0 (fun z => by omega))
theorem ys_gl {post : Int32 → SY → Prop} {i p t g q a : Nat} (hM : ∀ j, M j ≤ 1) (hb : fs_bdd K A B) (hbc : bc ≤ 128) (hmv : mv ≤ 64) (ht : t ≤ 64) (hi : i < 32) (hk : K i = 8) (hg : (fs_stk K i).head? = some g) (hs : A g < 32) (hq : sr (A g) = nI q) (hq1 : q ≤ 128) (ha : sr g = nI a) (ha1 : a ≤ p) (hp1 : p ≤ 128) (hw1 : 1 ≤ A (A g)) (hw : A (A g) ≤ 16)
    (h1 : ∀ x, (x = 1 ∧ fs_room M bc q (A (A g)) a p) ∨ (x = 0 ∧ ¬ fs_room M bc q (A (A g)) a p) → t < mv → post 1 (nI mi, nI mb, nI mv, sl, nI n, nI vc, nI bc, nI p, tt, nI (t + 1), fs_F K, fs_F A, fs_F B, fs_F V, fs_F M, bf, upd wk t (nI x), sr, lt, mk, sm, sF, sT)) (h0 : mv ≤ t → post 0 (nI mi, nI mb, nI mv, sl, nI n, nI vc, nI bc, nI p, tt, nI t, fs_F K, fs_F A, fs_F B, fs_F V, fs_F M, bf, wk, sr, lt, mk, sm, sF, sT)) : wpY_guessValue post (nI mi, nI mb, nI mv, sl, nI n, nI vc, nI bc, nI p, tt, nI t, fs_F K, fs_F A, fs_F B, fs_F V, fs_F M, bf, wk, sr, lt, mk, sm, sF, sT) (nI i) := by
  have hv : vp_in (nI i) 32 := vp_in_nI hi (by decide)
  unfold wpY_guessValue
  dsimp only
  rw [fs_Fat (f := K) (by omega), hk]
  refine And.intro hv (nm_e (And.intro hv (br_f (by decide) (And.intro hv (br_t (by decide) ?_)))))
  refine ys_room hM hb hbc hi hg hs hq hq1 ha ha1 hp1 hw1 hw (fun c => br_f (by decide) ?_) (fun c => br_t rfl ?_)
  · exact ys_g77 (x := 1) hmv ht (by omega) (fun d => h1 1 (Or.inl ⟨rfl, c⟩) d) h0
  · exact ys_g77 (x := 0) hmv ht (by omega) (fun d => h1 0 (Or.inr ⟨rfl, c⟩) d) h0
end
end
section
/-! the reference's ENDs -/
section
variable {mi mb mv n vc bc : Nat} {sl ot tt wc : Int32} {K A B V M : Nat → Nat} {bf wk sr lt mk sm sF sT : Nat → Int32}
theorem ys_eL {post : Int32 → SY → Prop} {i o p q a : Nat} {gm : Int32} (hb : fs_bdd K A B) (hi : i < 32) (hk : K i = 11) (ho : A i = o) (ho32 : o < 32) (hk5 : K o = 5) (hs : A o < 32) (hq : sr (A o) = nI q) (ha : sr o = nI a) (hap : a ≤ p) (hp : p ≤ 128) (hw : A (A o) ≤ 16) (hqw : q + A (A o) ≤ 128)
    (h1 : p - a < 2 ^ A (A o) → post (nI (i + 1)) (nI mi, nI mb, nI mv, sl, nI n, nI vc, nI bc, nI p, tt, wc, fs_F K, fs_F A, fs_F B, fs_F V, fs_F M, fs_w bf q (A (A o)) (p - a), wk, sr, lt, mk, sm, sF, sT)) (h0 : ¬ p - a < 2 ^ A (A o) → ∀ (ot tt wc : Int32) (bf wk sr lt mk sm sF sT : Nat → Int32), post (-1) (nI mi, nI mb, nI mv, sl, nI n, nI vc, nI bc, ot, tt, wc, fs_F K, fs_F A, fs_F B, fs_F V, fs_F M, bf, wk, sr, lt, mk, sm, sF, sT)) : wpY_layItem post (nI mi, nI mb, nI mv, sl, nI n, nI vc, nI bc, nI p, tt, wc, fs_F K, fs_F A, fs_F B, fs_F V, fs_F M, bf, wk, sr, lt, mk, sm, sF, sT) (nI i) gm := by
  have hv : vp_in (nI i) 32 := vp_in_nI hi (by decide)
  have hvo : vp_in (nI o) 32 := vp_in_nI ho32 (by decide)
  unfold wpY_layItem
  dsimp only
  rw [fs_Fat (f := K) (by omega), hk]
  refine And.intro hv (nm_e (And.intro hv (nm_e (br_t (by decide) ?_))))
  unfold wpY_close
  dsimp only
  rw [fs_Fat (f := A) (i := i) (by omega), ho]
  refine And.intro hv (nm_e ?_)
  rw [fs_Fat (f := A) (i := o) (by omega), fs_Fat (f := K) (i := o) (by omega), hk5]
  refine And.intro hvo (nm_e (And.intro hvo (br_t (by decide) (And.intro hvo ?_))))
  rw [nI_clamp (n := o) (by omega), ha, pk_sub hap]
  refine ys_set hs hq hw hqw (by omega) (fun c => br_f (by decide) ?_) (fun c => br_t rfl (h0 (by omega) _ _ _ _ _ _ _ _ _ _ _))
  rw [nI_1]
  exact h1 c
theorem ys_eS {post : Int32 → SY → Prop} {i o p q a : Nat} {gm : Int32} (hi : i < 32) (hk : K i = 11) (ho : A i = o) (ho32 : o < 32) (hk6 : K o = 6) (hs : A o < 32) (hq : sr (A o) = nI q) (hq1 : q < 128) (ha : sr o = nI a)
    (h1 : post (nI (i + 1)) (nI mi, nI mb, nI mv, sl, nI n, nI vc, nI bc, nI p, tt, wc, fs_F K, fs_F A, fs_F B, fs_F V, fs_F M, bf, wk, sr, lt, mk, upd sm q (nI o), upd sF q (nI a), upd sT q (nI p))) : wpY_layItem post (nI mi, nI mb, nI mv, sl, nI n, nI vc, nI bc, nI p, tt, wc, fs_F K, fs_F A, fs_F B, fs_F V, fs_F M, bf, wk, sr, lt, mk, sm, sF, sT) (nI i) gm := by
  have hv : vp_in (nI i) 32 := vp_in_nI hi (by decide)
  have hvo : vp_in (nI o) 32 := vp_in_nI ho32 (by decide)
  have hvs : vp_in (nI (A o)) 32 := vp_in_nI hs (by decide)
  have hvq : vp_in (nI q) 128 := vp_in_nI hq1 (by decide)
  unfold wpY_layItem
  dsimp only
  rw [fs_Fat (f := K) (by omega), hk]
  refine And.intro hv (nm_e (And.intro hv (nm_e (br_t (by decide) ?_))))
  unfold wpY_close
  dsimp only
  rw [fs_Fat (f := A) (i := i) (by omega), ho]
  refine And.intro hv (nm_e ?_)
  rw [fs_Fat (f := A) (i := o) (by omega), fs_Fat (f := K) (i := o) (by omega), hk6]
  refine And.intro hvo (nm_e (And.intro hvo (br_f (by decide) (And.intro hvo (br_t (by decide) ?_)))))
  rw [nI_clamp (n := A o) (by omega), hq, nI_clamp (n := q) (by omega), nI_clamp (n := o) (by omega), ha]
  refine And.intro hvs (And.intro hvq (nm_e (And.intro hvs (And.intro hvo (And.intro hvq (nm_e (And.intro hvs (And.intro hvq (nm_e ?_)))))))))
  unfold wY_close_111
  rw [fs_Fat (f := K) (i := o) (by omega), hk6]
  refine And.intro hvo (br_f (by decide) (And.intro hvo (br_f (by decide) (And.intro hvo (br_f (by decide) ?_)))))
  rw [nI_1]
  exact h1
theorem ys_e111 {post : Int32 → SY → Prop} {i o : Nat} {gm : Int32} (hi : i < 32) (hk : K i = 11) (ho : A i = o) (ho32 : o < 32) (hko : 7 ≤ K o) (hko2 : K o ≤ 11) (h : wY_close_111 post (nI i) gm (nI o) (nI mi) (nI mb) (nI mv) sl (nI n) (nI vc) (nI bc) ot tt wc (fs_F K) (fs_F A) (fs_F B) (fs_F V) (fs_F M) bf wk sr lt mk sm sF sT) : wpY_layItem post (nI mi, nI mb, nI mv, sl, nI n, nI vc, nI bc, ot, tt, wc, fs_F K, fs_F A, fs_F B, fs_F V, fs_F M, bf, wk, sr, lt, mk, sm, sF, sT) (nI i) gm := by
  have hv : vp_in (nI i) 32 := vp_in_nI hi (by decide)
  have hvo : vp_in (nI o) 32 := vp_in_nI ho32 (by decide)
  unfold wpY_layItem
  dsimp only
  rw [fs_Fat (f := K) (by omega), hk]
  refine And.intro hv (nm_e (And.intro hv (nm_e (br_t (by decide) ?_))))
  unfold wpY_close
  dsimp only
  rw [fs_Fat (f := A) (i := i) (by omega), ho]
  refine And.intro hv (nm_e ?_)
  rw [fs_Fat (f := K) (i := o) (by omega)]
  refine And.intro hvo (nm_e (And.intro hvo (pk_eq (K o) 5 (fun e => by omega) (fun _ => And.intro hvo (pk_eq (K o) 6 (fun e => by omega) (fun _ => ?_))))))
  exact h
theorem ys_206 {post : Int32 → SY → Prop} {i o : Nat} (ho32 : o < 32) (h0 : lt o - 1 ≤ 0 → post (nI (i + 1)) (nI mi, nI mb, nI mv, sl, nI n, nI vc, nI bc, ot, tt, wc, fs_F K, fs_F A, fs_F B, fs_F V, fs_F M, bf, wk, sr, upd lt o (lt o - 1), mk, sm, sF, sT)) (h1 : ¬ lt o - 1 ≤ 0 → post (nI (o + 1)) (nI mi, nI mb, nI mv, sl, nI n, nI vc, nI bc, ot, tt, wc, fs_F K, fs_F A, fs_F B, fs_F V, fs_F M, bf, wk, sr, upd lt o (lt o - 1), mk, sm, sF, sT)) : wY_close_206 post (nI i) (nI o) (nI mi) (nI mb) (nI mv) sl (nI n) (nI vc) (nI bc) ot tt wc (fs_F K) (fs_F A) (fs_F B) (fs_F V) (fs_F M) bf wk sr lt mk sm sF sT := by
  have hvo : vp_in (nI o) 32 := vp_in_nI ho32 (by decide)
  unfold wY_close_206
  rw [nI_clamp (n := o) (by omega)]
  refine And.intro hvo (And.intro hvo (nm_e (And.intro hvo ?_)))
  rw [pk_us, nI_1, nI_1]
  exact br_c h0 h1
theorem ys_eR {post : Int32 → SY → Prop} {i o : Nat} {gm : Int32} (hi : i < 32) (hk : K i = 11) (ho : A i = o) (ho32 : o < 32) (hko : K o = 7 ∨ (K o = 8 ∧ gm = 0)) (h0 : lt o - 1 ≤ 0 → post (nI (i + 1)) (nI mi, nI mb, nI mv, sl, nI n, nI vc, nI bc, ot, tt, wc, fs_F K, fs_F A, fs_F B, fs_F V, fs_F M, bf, wk, sr, upd lt o (lt o - 1), mk, sm, sF, sT)) (h1 : ¬ lt o - 1 ≤ 0 → post (nI (o + 1)) (nI mi, nI mb, nI mv, sl, nI n, nI vc, nI bc, ot, tt, wc, fs_F K, fs_F A, fs_F B, fs_F V, fs_F M, bf, wk, sr, upd lt o (lt o - 1), mk, sm, sF, sT)) : wpY_layItem post (nI mi, nI mb, nI mv, sl, nI n, nI vc, nI bc, ot, tt, wc, fs_F K, fs_F A, fs_F B, fs_F V, fs_F M, bf, wk, sr, lt, mk, sm, sF, sT) (nI i) gm := by
  have hvo : vp_in (nI o) 32 := vp_in_nI ho32 (by decide)
  have w206 := ys_206 (post := post) (i := i) (mi := mi) (mb := mb) (mv := mv) (n := n) (vc := vc) (bc := bc) (sl := sl) (ot := ot) (tt := tt) (wc := wc) (K := K) (A := A) (B := B) (V := V) (M := M) (bf := bf) (wk := wk) (sr := sr) (lt := lt) (mk := mk) (sm := sm) (sF := sF) (sT := sT) ho32 h0 h1
  have w158 : wY_close_158 post (nI i) gm (nI o) (nI mi) (nI mb) (nI mv) sl (nI n) (nI vc) (nI bc) ot tt wc (fs_F K) (fs_F A) (fs_F B) (fs_F V) (fs_F M) bf wk sr lt mk sm sF sT := by
    refine br_c (fun _ => w206) (fun c => And.intro hvo ?_)
    rw [fs_Fat (f := K) (i := o) (by omega)]
    rcases hko with e | ⟨_, e⟩
    · rw [e]
      exact br_f (by decide) w206
    · exact absurd e c
  refine ys_e111 hi hk ho ho32 (by omega) (by omega) ?_
  unfold wY_close_111
  rw [fs_Fat (f := K) (i := o) (by omega)]
  refine And.intro hvo (pk_eq (K o) 10 (fun e => by omega) (fun _ => And.intro hvo (pk_eq (K o) 7 (fun _ => w158) (fun _ => And.intro hvo (pk_eq (K o) 8 (fun _ => w158) (fun e => by omega))))))
theorem ys_eF {post : Int32 → SY → Prop} {i o p g q a c : Nat} (hM : ∀ j, M j ≤ 1) (hb : fs_bdd K A B) (hbc : bc ≤ 128) (hi : i < 32) (hk : K i = 11) (ho : A i = o) (ho32 : o < 32) (hko : K o = 8) (hg : (fs_stk K o).head? = some g) (hs : A g < 32) (hq : sr (A g) = nI q) (hq1 : q ≤ 128) (ha : sr g = nI a) (ha1 : a ≤ p) (hp1 : p ≤ 128) (hw1 : 1 ≤ A (A g)) (hw : A (A g) ≤ 16) (hc : mk o = nI c) (hc64 : c < 64)
    (h1 : fs_room M bc q (A (A g)) a p → wY_close_206 post (nI i) (nI o) (nI mi) (nI mb) (nI mv) sl (nI n) (nI vc) (nI bc) (nI p) tt wc (fs_F K) (fs_F A) (fs_F B) (fs_F V) (fs_F M) bf (upd wk c (wk c + 1)) sr (upd lt o (lt o + 1)) mk sm sF sT) (h0 : ¬ fs_room M bc q (A (A g)) a p → wY_close_206 post (nI i) (nI o) (nI mi) (nI mb) (nI mv) sl (nI n) (nI vc) (nI bc) (nI p) tt wc (fs_F K) (fs_F A) (fs_F B) (fs_F V) (fs_F M) bf wk sr lt mk sm sF sT) : wpY_layItem post (nI mi, nI mb, nI mv, sl, nI n, nI vc, nI bc, nI p, tt, wc, fs_F K, fs_F A, fs_F B, fs_F V, fs_F M, bf, wk, sr, lt, mk, sm, sF, sT) (nI i) 1 := by
  have hvo : vp_in (nI o) 32 := vp_in_nI ho32 (by decide)
  have hvc : vp_in (nI c) 64 := vp_in_nI hc64 (by decide)
  refine ys_e111 hi hk ho ho32 (by omega) (by omega) ?_
  unfold wY_close_111
  rw [fs_Fat (f := K) (i := o) (by omega), hko]
  refine And.intro hvo (br_f (by decide) (And.intro hvo (br_f (by decide) (And.intro hvo (br_t (by decide) ?_)))))
  refine br_f (by decide) (And.intro hvo ?_)
  rw [fs_Fat (f := K) (i := o) (by omega), hko]
  refine br_t (by decide) ?_
  refine ys_room hM hb hbc ho32 hg hs hq hq1 ha ha1 hp1 hw1 hw (fun d => br_f (by decide) ?_) (fun d => br_t rfl (h0 d))
  rw [nI_clamp (n := o) (by omega), hc, nI_clamp (n := c) (by omega)]
  exact And.intro hvo (And.intro hvc (And.intro hvc (nm_e (And.intro hvo (And.intro hvo (nm_e (h1 d)))))))
theorem ys_eU {post : Int32 → SY → Prop} {i o : Nat} {gm : Int32} (hi : i < 32) (hk : K i = 11) (ho : A i = o) (ho32 : o < 32) (hko : K o = 9) (h1 : post (nI (i + 1)) (nI mi, nI mb, nI mv, sl, nI n, nI vc, nI bc, ot, tt, wc, fs_F K, fs_F A, fs_F B, fs_F V, fs_F M, bf, wk, sr, lt, mk, sm, sF, sT)) : wpY_layItem post (nI mi, nI mb, nI mv, sl, nI n, nI vc, nI bc, ot, tt, wc, fs_F K, fs_F A, fs_F B, fs_F V, fs_F M, bf, wk, sr, lt, mk, sm, sF, sT) (nI i) gm := by
  have hvo : vp_in (nI o) 32 := vp_in_nI ho32 (by decide)
  refine ys_e111 hi hk ho ho32 (by omega) (by omega) ?_
  unfold wY_close_111
  rw [fs_Fat (f := K) (i := o) (by omega), hko]
  refine And.intro hvo (br_f (by decide) (And.intro hvo (br_f (by decide) (And.intro hvo (br_f (by decide) ?_)))))
  rw [nI_1]
  exact h1
theorem ys_eC {post : Int32 → SY → Prop} {i o w e : Nat} {gm : Int32} (W : fs_WF K A B n) (hn : n ≤ 32) (hb : fs_bdd K A B) (hi : i < 32) (hk : K i = 11) (ho : A i = o) (ho32 : o < 32) (hko : K o = 10) (hw : (fs_stk K o).head? = some w) (he : e < n) (hke : K e = 11) (hA : A e = w) (h1 : post (nI e) (nI mi, nI mb, nI mv, sl, nI n, nI vc, nI bc, ot, tt, wc, fs_F K, fs_F A, fs_F B, fs_F V, fs_F M, bf, wk, sr, lt, mk, sm, sF, sT)) : wpY_layItem post (nI mi, nI mb, nI mv, sl, nI n, nI vc, nI bc, ot, tt, wc, fs_F K, fs_F A, fs_F B, fs_F V, fs_F M, bf, wk, sr, lt, mk, sm, sF, sT) (nI i) gm := by
  have hvo : vp_in (nI o) 32 := vp_in_nI ho32 (by decide)
  refine ys_e111 hi hk ho ho32 (by omega) (by omega) ?_
  unfold wY_close_111
  rw [fs_Fat (f := K) (i := o) (by omega), hko]
  refine And.intro hvo (br_t (by decide) ?_)
  refine ys_ins hb (by omega) ?_
  rw [hw, fs_oIs, ← hA]
  exact ys_end W hn hb he hke h1
end
end
section
/-! the component's layItem -/
section
variable {mi mb mv n vc bc : Nat} {oc sl pc ps tk fl : Int32} {K A B V M : Nat → Nat} {pa rg eo nm op wb wv sa st lf cp si sf so : Nat → Int32}
theorem xs_app {post : SX → Prop} {p w x : Nat} (hmb : mb ≤ 128) (hw : w ≤ 16) (hx : x < 2 ^ 31) (hp : p ≤ 128) (h1 : p + w ≤ mb → post (nI mi, nI mb, nI mv, nI n, oc, sl, nI vc, nI bc, pc, nI (p + w), tk, fl, fs_F K, fs_F A, fs_F B, pa, rg, eo, nm, op, fs_F V, fs_F M, fs_w wb p w x, wv, sa, st, lf, cp, si, sf, so)) (h0 : mb < p + w → post (nI mi, nI mb, nI mv, nI n, oc, sl, nI vc, nI bc, pc, nI p, tk, 1, fs_F K, fs_F A, fs_F B, pa, rg, eo, nm, op, fs_F V, fs_F M, wb, wv, sa, st, lf, cp, si, sf, so)) : wpX_append post (nI mi, nI mb, nI mv, nI n, oc, sl, nI vc, nI bc, pc, nI p, tk, fl, fs_F K, fs_F A, fs_F B, pa, rg, eo, nm, op, fs_F V, fs_F M, wb, wv, sa, st, lf, cp, si, sf, so) (nI w) (nI x) := by
  unfold wpX_append
  dsimp only
  rw [nI_add]
  refine pk_le (p + w) mb (fun c => ?_) (fun c => h0 c)
  refine xs_wn (by omega) hw hx ?_
  dsimp only
  exact nm_r (nI_add p w) (h1 c)
theorem xs_take {post : Int32 → SX → Prop} {t : Nat} (hvc : vc ≤ 64) (ht : t ≤ 64) (h1 : t < vc → post (nI (V t)) (nI mi, nI mb, nI mv, nI n, oc, sl, nI vc, nI bc, pc, ps, nI (t + 1), fl, fs_F K, fs_F A, fs_F B, pa, rg, eo, nm, op, fs_F V, fs_F M, wb, wv, sa, st, lf, cp, si, sf, so)) (h0 : vc ≤ t → post (-1) (nI mi, nI mb, nI mv, nI n, oc, sl, nI vc, nI bc, pc, ps, nI t, 1, fs_F K, fs_F A, fs_F B, pa, rg, eo, nm, op, fs_F V, fs_F M, wb, wv, sa, st, lf, cp, si, sf, so)) : wpX_take post (nI mi, nI mb, nI mv, nI n, oc, sl, nI vc, nI bc, pc, ps, nI t, fl, fs_F K, fs_F A, fs_F B, pa, rg, eo, nm, op, fs_F V, fs_F M, wb, wv, sa, st, lf, cp, si, sf, so) := by
  unfold wpX_take
  dsimp only
  refine pk_lt t vc (fun c => And.intro (vp_in_nI (by omega) (by decide)) ?_) h0
  rw [fs_Fat (f := V) (by omega)]
  exact nm_e (nm_r (nI_1 t) (h1 c))
theorem xs_fill {post : SX → Prop} {s : Nat} {z : Int32} (hs : s < 32) (hw : A s ≤ 16) (h1 : ∀ x, x < 2 ^ A s → z = nI x → ∃ q, sa s = nI q ∧ q + A s ≤ 128 ∧ post (nI mi, nI mb, nI mv, nI n, oc, sl, nI vc, nI bc, pc, ps, tk, fl, fs_F K, fs_F A, fs_F B, pa, rg, eo, nm, op, fs_F V, fs_F M, fs_w wb q (A s) x, wv, sa, st, lf, cp, si, sf, so)) (h0 : ¬ (∃ x, x < 2 ^ A s ∧ z = nI x) → post (nI mi, nI mb, nI mv, nI n, oc, sl, nI vc, nI bc, pc, ps, tk, 1, fs_F K, fs_F A, fs_F B, pa, rg, eo, nm, op, fs_F V, fs_F M, wb, wv, sa, st, lf, cp, si, sf, so)) : wpX_fillSlot post (nI mi, nI mb, nI mv, nI n, oc, sl, nI vc, nI bc, pc, ps, tk, fl, fs_F K, fs_F A, fs_F B, pa, rg, eo, nm, op, fs_F V, fs_F M, wb, wv, sa, st, lf, cp, si, sf, so) (nI s) z := by
  have hp16 := fs_p16 hw
  have hv : vp_in (nI s) 32 := vp_in_nI hs (by decide)
  unfold wpX_fillSlot
  dsimp only
  rw [fs_Fat (f := A) (by omega), nI_clamp (n := s) (by omega)]
  have es := fs_sh0 hw z
  refine And.intro hv (br_c (fun c => And.intro hv (And.intro hv ?_)) (fun c => h0 (fun q => c (es.mpr q))))
  obtain ⟨x, hx, rfl⟩ := es.mp c
  obtain ⟨q, hq, hq1, hpo⟩ := h1 x hx rfl
  rw [hq]
  exact xs_wn hq1 hw (by omega) hpo
theorem xs_l1 {post : SX → Prop} {i p t : Nat} (hi : i < 32) (hk : K i = 1) (hw : A i ≤ 16) (hmb : mb ≤ 128) (hp : p ≤ 128) (hvc : vc ≤ 64) (ht : t ≤ 64) (hV : ∀ j, V j < 2 ^ 30)
    (h1 : t < vc → V t < 2 ^ A i → p + A i ≤ mb → post (nI mi, nI mb, nI mv, nI n, oc, sl, nI vc, nI bc, nI (i + 1), nI (p + A i), nI (t + 1), 0, fs_F K, fs_F A, fs_F B, pa, rg, eo, nm, op, fs_F V, fs_F M, fs_w wb p (A i) (V t), wv, sa, st, lf, cp, si, sf, so)) (h0 : ¬ (t < vc ∧ V t < 2 ^ A i ∧ p + A i ≤ mb) → ∀ (pc ps tk : Int32) (wb wv sa st lf cp si sf so : Nat → Int32), post (nI mi, nI mb, nI mv, nI n, oc, sl, nI vc, nI bc, pc, ps, tk, 1, fs_F K, fs_F A, fs_F B, pa, rg, eo, nm, op, fs_F V, fs_F M, wb, wv, sa, st, lf, cp, si, sf, so)) : wpX_layItem post (nI mi, nI mb, nI mv, nI n, oc, sl, nI vc, nI bc, nI i, nI p, nI t, 0, fs_F K, fs_F A, fs_F B, pa, rg, eo, nm, op, fs_F V, fs_F M, wb, wv, sa, st, lf, cp, si, sf, so) := by
  have hv : vp_in (nI i) 32 := vp_in_nI hi (by decide)
  have hp16 := fs_p16 hw
  have hVt := hV t
  unfold wpX_layItem
  dsimp only
  rw [fs_Fat (f := K) (by omega), hk]
  refine nm_r (nI_1 i) (And.intro hv (nm_e ?_))
  refine br_f (by decide) (br_f (by decide) (br_t (by decide) ?_))
  unfold wpX_layField
  dsimp only
  refine xs_take hvc ht (fun c => And.intro hv ?_) (fun c => And.intro hv ?_)
  · dsimp only
    rw [fs_Fat (f := A) (i := i) (by omega)]
    have es := fs_sh0 hw (nI (V t))
    refine br_c (fun d => And.intro hv ?_) (fun d => h0 (fun z => d (es.mpr ⟨V t, z.2.1, rfl⟩)) _ _ _ _ _ _ _ _ _ _ _ _)
    obtain ⟨x, hx, e⟩ := es.mp d
    rw [nI_eq (by omega) (by omega)] at e
    subst e
    exact xs_app hmb hw (by omega) hp (fun e => h1 c hx e) (fun e => h0 (fun z => by omega) _ _ _ _ _ _ _ _ _ _ _ _)
  · dsimp only
    rw [fs_Fat (f := A) (i := i) (by omega)]
    have es := fs_sh0 hw (-1)
    refine br_f (fun d => ?_) (h0 (fun z => by omega) _ _ _ _ _ _ _ _ _ _ _ _)
    obtain ⟨x, hx, e⟩ := es.mp d
    exact fs_neg1 x (by omega) e.symm
theorem xs_l2 {post : SX → Prop} {i p : Nat} (hb : fs_bdd K A B) (hi : i < 32) (hk : K i = 2) (hw : A i ≤ 16) (hmb : mb ≤ 128) (hp : p ≤ 128)
    (h1 : p + A i ≤ mb → post (nI mi, nI mb, nI mv, nI n, oc, sl, nI vc, nI bc, nI (i + 1), nI (p + A i), tk, 0, fs_F K, fs_F A, fs_F B, pa, rg, eo, nm, op, fs_F V, fs_F M, fs_w wb p (A i) (B i), wv, sa, st, lf, cp, si, sf, so)) (h0 : mb < p + A i → ∀ (pc ps tk : Int32) (wb wv sa st lf cp si sf so : Nat → Int32), post (nI mi, nI mb, nI mv, nI n, oc, sl, nI vc, nI bc, pc, ps, tk, 1, fs_F K, fs_F A, fs_F B, pa, rg, eo, nm, op, fs_F V, fs_F M, wb, wv, sa, st, lf, cp, si, sf, so)) : wpX_layItem post (nI mi, nI mb, nI mv, nI n, oc, sl, nI vc, nI bc, nI i, nI p, tk, 0, fs_F K, fs_F A, fs_F B, pa, rg, eo, nm, op, fs_F V, fs_F M, wb, wv, sa, st, lf, cp, si, sf, so) := by
  have hv : vp_in (nI i) 32 := vp_in_nI hi (by decide)
  have hB := (hb i).2.2
  unfold wpX_layItem
  dsimp only
  rw [fs_Fat (f := K) (by omega), hk]
  refine nm_r (nI_1 i) (And.intro hv (nm_e ?_))
  refine br_f (by decide) (br_f (by decide) (br_f (by decide) (br_t (by decide) ?_)))
  rw [fs_Fat (f := A) (by omega), fs_Fat (f := B) (by omega)]
  refine And.intro hv (And.intro hv ?_)
  exact xs_app hmb hw (by omega) hp h1 (fun c => h0 c _ _ _ _ _ _ _ _ _ _ _ _)
theorem xs_l3 {post : SX → Prop} {i p : Nat} (hi : i < 32) (hk : K i = 3) (hw : A i ≤ 16) (hmb : mb ≤ 128) (hp : p ≤ 128)
    (h1 : p + A i ≤ mb → post (nI mi, nI mb, nI mv, nI n, oc, sl, nI vc, nI bc, nI (i + 1), nI (p + A i), tk, 0, fs_F K, fs_F A, fs_F B, pa, rg, eo, nm, op, fs_F V, fs_F M, fs_w wb p (A i) 0, wv, upd sa i (nI p), st, lf, cp, si, sf, so)) (h0 : mb < p + A i → ∀ (pc ps tk : Int32) (wb wv sa st lf cp si sf so : Nat → Int32), post (nI mi, nI mb, nI mv, nI n, oc, sl, nI vc, nI bc, pc, ps, tk, 1, fs_F K, fs_F A, fs_F B, pa, rg, eo, nm, op, fs_F V, fs_F M, wb, wv, sa, st, lf, cp, si, sf, so)) : wpX_layItem post (nI mi, nI mb, nI mv, nI n, oc, sl, nI vc, nI bc, nI i, nI p, tk, 0, fs_F K, fs_F A, fs_F B, pa, rg, eo, nm, op, fs_F V, fs_F M, wb, wv, sa, st, lf, cp, si, sf, so) := by
  have hv : vp_in (nI i) 32 := vp_in_nI hi (by decide)
  unfold wpX_layItem
  dsimp only
  rw [fs_Fat (f := K) (by omega), hk]
  refine nm_r (nI_1 i) (And.intro hv (nm_e ?_))
  refine br_f (by decide) (br_f (by decide) (br_f (by decide) (br_f (by decide) (br_t (by decide) ?_))))
  rw [fs_Fat (f := A) (by omega), nI_clamp (n := i) (by omega)]
  refine And.intro hv (nm_e (And.intro hv ?_))
  exact xs_app (x := 0) hmb hw (by omega) hp h1 (fun c => h0 c _ _ _ _ _ _ _ _ _ _ _ _)
theorem xs_pad {post : Int32 → Prop} {i p : Nat} (hi : i < 32) (hu : 2 ≤ A i) (hw : A i ≤ 16) (hp : p ≤ 128) (h : post (nI (fs_pad (A i) p))) : wpX_padding post (nI mi, nI mb, nI mv, nI n, oc, sl, nI vc, nI bc, pc, nI p, tk, fl, fs_F K, fs_F A, fs_F B, pa, rg, eo, nm, op, fs_F V, fs_F M, wb, wv, sa, st, lf, cp, si, sf, so) (nI i) := by
  have hv : vp_in (nI i) 32 := vp_in_nI hi (by decide)
  have hlt := Nat.mod_lt p (y := A i) (by omega)
  unfold wpX_padding
  dsimp only
  rw [fs_Fat (f := A) (by omega)]
  refine And.intro hv (nm_e (br_f (nI_nle (by omega) (by omega)) (And.intro (nI_ne0 (by omega) (by omega)) ?_)))
  rw [pk_rem (by omega) (by omega) (by omega)]
  unfold fs_pad at h
  refine pk_eq (p % A i) 0 (fun c => ?_) (fun c => ?_)
  · rw [if_pos c] at h
    exact h
  · rw [if_neg c] at h
    rw [pk_sub (by omega)]
    exact h
theorem xs_l4 {post : SX → Prop} {i p : Nat} (hi : i < 32) (hk : K i = 4) (hu : 2 ≤ A i) (hw : A i ≤ 16) (hmb : mb ≤ 128) (hp : p ≤ 128)
    (h1 : p + fs_pad (A i) p ≤ mb → post (nI mi, nI mb, nI mv, nI n, oc, sl, nI vc, nI bc, nI (i + 1), nI (p + fs_pad (A i) p), tk, 0, fs_F K, fs_F A, fs_F B, pa, rg, eo, nm, op, fs_F V, fs_F M, fs_w wb p (fs_pad (A i) p) 0, wv, sa, st, lf, cp, si, sf, so)) (h0 : mb < p + fs_pad (A i) p → ∀ (pc ps tk : Int32) (wb wv sa st lf cp si sf so : Nat → Int32), post (nI mi, nI mb, nI mv, nI n, oc, sl, nI vc, nI bc, pc, ps, tk, 1, fs_F K, fs_F A, fs_F B, pa, rg, eo, nm, op, fs_F V, fs_F M, wb, wv, sa, st, lf, cp, si, sf, so)) : wpX_layItem post (nI mi, nI mb, nI mv, nI n, oc, sl, nI vc, nI bc, nI i, nI p, tk, 0, fs_F K, fs_F A, fs_F B, pa, rg, eo, nm, op, fs_F V, fs_F M, wb, wv, sa, st, lf, cp, si, sf, so) := by
  have hv : vp_in (nI i) 32 := vp_in_nI hi (by decide)
  have hpl := fs_pad_lt (p := p) hu
  unfold wpX_layItem
  dsimp only
  rw [fs_Fat (f := K) (by omega), hk]
  refine nm_r (nI_1 i) (And.intro hv (nm_e ?_))
  refine br_f (by decide) (br_f (by decide) (br_f (by decide) (br_f (by decide) (br_f (by decide) (br_t (by decide) ?_)))))
  refine xs_pad hi hu hw hp ?_
  exact xs_app (x := 0) hmb (by omega) (by omega) hp h1 (fun c => h0 c _ _ _ _ _ _ _ _ _ _ _ _)
theorem xs_l155 {post : SX → Prop} {i p t : Nat} (hi : i < 32) (hk5 : 5 ≤ K i) (hk10 : K i ≤ 10) (h : wX_layItem_155 post (nI i) (nI mi) (nI mb) (nI mv) (nI n) oc sl (nI vc) (nI bc) (nI (i + 1)) (nI p) (nI t) 0 (fs_F K) (fs_F A) (fs_F B) pa rg eo nm op (fs_F V) (fs_F M) wb wv sa st lf cp si sf so) : wpX_layItem post (nI mi, nI mb, nI mv, nI n, oc, sl, nI vc, nI bc, nI i, nI p, nI t, 0, fs_F K, fs_F A, fs_F B, pa, rg, eo, nm, op, fs_F V, fs_F M, wb, wv, sa, st, lf, cp, si, sf, so) := by
  have hv : vp_in (nI i) 32 := vp_in_nI hi (by decide)
  unfold wpX_layItem
  dsimp only
  rw [fs_Fat (f := K) (by omega)]
  refine nm_r (nI_1 i) (And.intro hv (nm_e ?_))
  refine br_f (nI_nlt (b := 1) (by omega) (by omega)) (br_f (nI_nlt (a := 11) (by omega) (by decide)) ?_)
  refine pk_eq (K i) 1 (fun e => by omega) (fun _ => pk_eq (K i) 2 (fun e => by omega) (fun _ => pk_eq (K i) 3 (fun e => by omega) (fun _ => pk_eq (K i) 4 (fun e => by omega) (fun _ => ?_))))
  refine pk_eq (K i) 5 (fun e => h) (fun _ => pk_eq (K i) 6 (fun e => h) (fun _ => pk_eq (K i) 7 (fun e => h) (fun _ => pk_eq (K i) 8 (fun e => h) (fun _ => ?_))))
  exact pk_eq (K i) 9 (fun e => h) (fun _ => pk_eq (K i) 10 (fun e => h) (fun _ => pk_eq (K i) 11 (fun e => by omega) (fun _ => trivial)))
theorem xs_l5 {post : SX → Prop} {i p t : Nat} (hi : i < 32) (hk : K i = 5 ∨ K i = 6) (h1 : post (nI mi, nI mb, nI mv, nI n, oc, sl, nI vc, nI bc, nI (i + 1), nI p, nI t, 0, fs_F K, fs_F A, fs_F B, pa, rg, eo, nm, op, fs_F V, fs_F M, wb, wv, sa, upd st i (nI p), lf, cp, si, sf, so)) : wpX_layItem post (nI mi, nI mb, nI mv, nI n, oc, sl, nI vc, nI bc, nI i, nI p, nI t, 0, fs_F K, fs_F A, fs_F B, pa, rg, eo, nm, op, fs_F V, fs_F M, wb, wv, sa, st, lf, cp, si, sf, so) := by
  have hv : vp_in (nI i) 32 := vp_in_nI hi (by decide)
  refine xs_l155 hi (by omega) (by omega) ?_
  unfold wX_layItem_155 wpX_layOpening
  dsimp only
  rw [fs_Fat (f := K) (by omega), nI_clamp (n := i) (by omega)]
  refine And.intro hv (nm_e ?_)
  rcases hk with hk | hk
  · rw [hk]
    exact br_t (by decide) (And.intro hv (nm_e h1))
  · rw [hk]
    exact br_f (by decide) (br_t (by decide) (And.intro hv (nm_e h1)))
theorem xs_loop {post : SX → Prop} {i x e : Nat} (hi : i < 32) (hx : x < 2 ^ 31) (heo : eo i = nI e) (h0 : x = 0 → post (nI mi, nI mb, nI mv, nI n, oc, sl, nI vc, nI bc, nI (e + 1), ps, tk, fl, fs_F K, fs_F A, fs_F B, pa, rg, eo, nm, op, fs_F V, fs_F M, wb, wv, sa, st, upd lf i (nI x), cp, si, sf, so)) (h1 : 0 < x → post (nI mi, nI mb, nI mv, nI n, oc, sl, nI vc, nI bc, pc, ps, tk, fl, fs_F K, fs_F A, fs_F B, pa, rg, eo, nm, op, fs_F V, fs_F M, wb, wv, sa, st, upd lf i (nI x), cp, si, sf, so)) : wpX_beginLoop post (nI mi, nI mb, nI mv, nI n, oc, sl, nI vc, nI bc, pc, ps, tk, fl, fs_F K, fs_F A, fs_F B, pa, rg, eo, nm, op, fs_F V, fs_F M, wb, wv, sa, st, lf, cp, si, sf, so) (nI i) (nI x) := by
  have hv : vp_in (nI i) 32 := vp_in_nI hi (by decide)
  unfold wpX_beginLoop
  dsimp only
  rw [nI_clamp (n := i) (by omega), heo]
  refine And.intro hv (nm_e (pk_lt 0 x (fun c => h1 c) (fun c => And.intro hv (nm_r (nI_1 e) (h0 (by omega))))))
theorem xs_ent {post : SX → Prop} {w : Nat} {x : Int32} {o : Option Nat} (hn : n ≤ 32) (hb : fs_bdd K A B) (hpa : ∀ j, j < n → pa j = fs_oI (fs_stk K j).head?) (hw : w < n) (ho : fs_lst (fs_isC K A w x) n o) (h1 : ∀ c, o = some c → post (nI mi, nI mb, nI mv, nI n, oc, sl, nI vc, nI bc, nI (c + 1), ps, tk, fl, fs_F K, fs_F A, fs_F B, pa, rg, eo, nm, op, fs_F V, fs_F M, wb, wv, sa, st, lf, cp, si, sf, so)) (h0 : o = none → post (nI mi, nI mb, nI mv, nI n, oc, sl, nI vc, nI bc, pc, ps, tk, 1, fs_F K, fs_F A, fs_F B, pa, rg, eo, nm, op, fs_F V, fs_F M, wb, wv, sa, st, lf, cp, si, sf, so)) : wpX_enterCase post (nI mi, nI mb, nI mv, nI n, oc, sl, nI vc, nI bc, pc, ps, tk, fl, fs_F K, fs_F A, fs_F B, pa, rg, eo, nm, op, fs_F V, fs_F M, wb, wv, sa, st, lf, cp, si, sf, so) (nI w) x := by
  unfold wpX_enterCase
  dsimp only
  refine xs_cof hn hb hpa hw ho ?_
  cases o with
  | none => exact br_f (by decide) (h0 rfl)
  | some c =>
    rw [fs_oIs]
    exact br_t (nI_pos' (by have := ho.1; omega)) (nm_r (nI_1 c) (h1 c rfl))
/-- after a failure the rest of an opening keeps the failure -/
theorem xs_l51F {post : SX → Prop} {i k : Nat} {z : Int32} (hn : n ≤ 32) (hb : fs_bdd K A B) (hpa : ∀ j, j < n → pa j = fs_oI (fs_stk K j).head?) (hi : i < n) (hk : k ≤ 11) (h : ∀ (pc ps tk : Int32) (wb wv sa st lf cp si sf so : Nat → Int32), post (nI mi, nI mb, nI mv, nI n, oc, sl, nI vc, nI bc, pc, ps, tk, 1, fs_F K, fs_F A, fs_F B, pa, rg, eo, nm, op, fs_F V, fs_F M, wb, wv, sa, st, lf, cp, si, sf, so)) : wX_layOpening_51 post (nI i) (nI k) z (nI mi) (nI mb) (nI mv) (nI n) oc sl (nI vc) (nI bc) pc ps tk 1 (fs_F K) (fs_F A) (fs_F B) pa rg eo nm op (fs_F V) (fs_F M) wb wv sa st lf cp si sf so := by
  have hv : vp_in (nI i) 32 := vp_in_nI (by omega) (by decide)
  obtain ⟨o, ho⟩ := fs_lst_ex (fs_isC K A i z) n
  refine pk_eq k 9 (fun e => ?_) (fun _ => ?_)
  · exact xs_ent hn hb hpa hi ho (fun c _ => h _ _ _ _ _ _ _ _ _ _ _ _) (fun _ => h _ _ _ _ _ _ _ _ _ _ _ _)
  · unfold wpX_beginLoop
    dsimp only
    exact And.intro hv (nm_e (br_c (fun _ => h _ _ _ _ _ _ _ _ _ _ _ _) (fun _ => And.intro hv (nm_e (h _ _ _ _ _ _ _ _ _ _ _ _)))))
theorem xs_l789 {post : SX → Prop} {i p t q : Nat} (hn : n ≤ 32) (hb : fs_bdd K A B) (hpa : ∀ j, j < n → pa j = fs_oI (fs_stk K j).head?) (hi : i < n) (hk : K i = 7 ∨ K i = 8 ∨ K i = 9) (hvc : vc ≤ 64) (ht : t ≤ 64) (hV : ∀ j, V j < 2 ^ 30)
    (hs : K i ≠ 8 → A i < 32 ∧ A (A i) ≤ 16 ∧ sa (A i) = nI q ∧ q + A (A i) ≤ 128)
    (h7 : K i ≠ 8 → t < vc → V t < 2 ^ A (A i) → wX_layOpening_51 post (nI i) (nI (K i)) (nI (V t)) (nI mi) (nI mb) (nI mv) (nI n) oc sl (nI vc) (nI bc) (nI (i + 1)) (nI p) (nI (t + 1)) 0 (fs_F K) (fs_F A) (fs_F B) pa rg eo nm op (fs_F V) (fs_F M) (fs_w wb q (A (A i)) (V t)) wv sa st lf cp si sf so)
    (h8 : K i = 8 → t < vc → wX_layOpening_51 post (nI i) (nI (K i)) (nI (V t)) (nI mi) (nI mb) (nI mv) (nI n) oc sl (nI vc) (nI bc) (nI (i + 1)) (nI p) (nI (t + 1)) 0 (fs_F K) (fs_F A) (fs_F B) pa rg eo nm op (fs_F V) (fs_F M) wb wv sa st lf cp si sf so)
    (h0 : ¬ (t < vc ∧ (K i ≠ 8 → V t < 2 ^ A (A i))) → ∀ (pc ps tk : Int32) (wb wv sa st lf cp si sf so : Nat → Int32), post (nI mi, nI mb, nI mv, nI n, oc, sl, nI vc, nI bc, pc, ps, tk, 1, fs_F K, fs_F A, fs_F B, pa, rg, eo, nm, op, fs_F V, fs_F M, wb, wv, sa, st, lf, cp, si, sf, so)) : wpX_layItem post (nI mi, nI mb, nI mv, nI n, oc, sl, nI vc, nI bc, nI i, nI p, nI t, 0, fs_F K, fs_F A, fs_F B, pa, rg, eo, nm, op, fs_F V, fs_F M, wb, wv, sa, st, lf, cp, si, sf, so) := by
  have hv : vp_in (nI i) 32 := vp_in_nI (by omega) (by decide)
  have hVt := hV t
  refine xs_l155 (by omega) (by omega) (by omega) ?_
  unfold wX_layItem_155 wpX_layOpening
  dsimp only
  rw [fs_Fat (f := K) (by omega)]
  refine And.intro hv (nm_e (pk_eq (K i) 5 (fun e => by omega) (fun _ => pk_eq (K i) 6 (fun e => by omega) (fun _ => ?_))))
  refine xs_take hvc ht (fun c => ?_) (fun c => ?_)
  · refine pk_eq (K i) 8 (fun e => h8 e c) (fun e => And.intro hv ?_)
    obtain ⟨g1, g2, g3, g4⟩ := hs e
    have hp16 := fs_p16 g2
    dsimp only
    rw [fs_Fat (f := A) (i := i) (by omega)]
    refine xs_fill g1 g2 (fun x hx ex => ⟨q, g3, g4, ?_⟩) (fun z => ?_)
    · rw [nI_eq (by omega) (by omega)] at ex
      subst ex
      exact h7 e c hx
    · exact xs_l51F hn hb hpa hi (by omega) (h0 (fun y => z ⟨V t, y.2 e, rfl⟩))
  · have hf := h0 (fun y => by omega)
    refine pk_eq (K i) 8 (fun e => xs_l51F hn hb hpa hi (by omega) hf) (fun e => And.intro hv ?_)
    obtain ⟨g1, g2, g3, g4⟩ := hs e
    have hp16 := fs_p16 g2
    dsimp only
    rw [fs_Fat (f := A) (i := i) (by omega)]
    refine xs_fill g1 g2 (fun x hx ex => absurd ex.symm (fs_neg1 x (by omega))) (fun z => ?_)
    exact xs_l51F hn hb hpa hi (by omega) hf
end
end
section
/-! the component's layEnd -/
section
variable {mi mb mv n vc bc : Nat} {oc sl pc ps tk fl : Int32} {K A B V M : Nat → Nat} {pa rg eo nm op wb wv sa st lf cp si sf so : Nat → Int32}
theorem xs_next {post : SX → Prop} {o : Nat} (ho : o < 32) (h0 : lf o - 1 ≤ 0 → post (nI mi, nI mb, nI mv, nI n, oc, sl, nI vc, nI bc, pc, ps, tk, fl, fs_F K, fs_F A, fs_F B, pa, rg, eo, nm, op, fs_F V, fs_F M, wb, wv, sa, st, upd lf o (lf o - 1), cp, si, sf, so)) (h1 : ¬ lf o - 1 ≤ 0 → post (nI mi, nI mb, nI mv, nI n, oc, sl, nI vc, nI bc, nI (o + 1), ps, tk, fl, fs_F K, fs_F A, fs_F B, pa, rg, eo, nm, op, fs_F V, fs_F M, wb, wv, sa, st, upd lf o (lf o - 1), cp, si, sf, so)) : wpX_nextRound post (nI mi, nI mb, nI mv, nI n, oc, sl, nI vc, nI bc, pc, ps, tk, fl, fs_F K, fs_F A, fs_F B, pa, rg, eo, nm, op, fs_F V, fs_F M, wb, wv, sa, st, lf, cp, si, sf, so) (nI o) := by
  have hv : vp_in (nI o) 32 := vp_in_nI ho (by decide)
  unfold wpX_nextRound
  dsimp only
  rw [nI_clamp (n := o) (by omega)]
  refine And.intro hv (And.intro hv (nm_e (And.intro hv ?_)))
  rw [pk_us]
  exact br_c h0 (fun c => nm_r (nI_1 o) (h1 c))
theorem xs_leave {post : SX → Prop} {o w e : Nat} (ho : o < 32) (hpa : pa o = nI w) (hw : w < 32) (heo : eo w = nI e) (h : post (nI mi, nI mb, nI mv, nI n, oc, sl, nI vc, nI bc, nI (e + 1), ps, tk, fl, fs_F K, fs_F A, fs_F B, pa, rg, eo, nm, op, fs_F V, fs_F M, wb, wv, sa, st, lf, cp, si, sf, so)) : wpX_leaveCase post (nI mi, nI mb, nI mv, nI n, oc, sl, nI vc, nI bc, pc, ps, tk, fl, fs_F K, fs_F A, fs_F B, pa, rg, eo, nm, op, fs_F V, fs_F M, wb, wv, sa, st, lf, cp, si, sf, so) (nI o) := by
  have hv : vp_in (nI o) 32 := vp_in_nI ho (by decide)
  unfold wpX_leaveCase
  dsimp only
  rw [nI_clamp (n := o) (by omega), hpa, nI_clamp (n := w) (by omega), heo]
  exact And.intro hv (And.intro (vp_in_nI hw (by decide)) (nm_r (nI_1 e) h))
theorem xs_e5 {post : SX → Prop} {i o p q a : Nat} (hi : i < 32) (hk : K i = 11) (hA : A i = o) (ho : o < 32) (hk5 : K o = 5) (hs : A o < 32) (hw : A (A o) ≤ 16) (hq : sa (A o) = nI q) (hqw : q + A (A o) ≤ 128) (ha : st o = nI a) (hap : a ≤ p) (hp : p ≤ 128)
    (h1 : p - a < 2 ^ A (A o) → post (nI mi, nI mb, nI mv, nI n, oc, sl, nI vc, nI bc, nI (i + 1), nI p, tk, 0, fs_F K, fs_F A, fs_F B, pa, rg, eo, nm, op, fs_F V, fs_F M, fs_w wb q (A (A o)) (p - a), wv, sa, st, lf, cp, si, sf, so)) (h0 : ¬ p - a < 2 ^ A (A o) → ∀ (pc ps tk : Int32) (wb wv sa st lf cp si sf so : Nat → Int32), post (nI mi, nI mb, nI mv, nI n, oc, sl, nI vc, nI bc, pc, ps, tk, 1, fs_F K, fs_F A, fs_F B, pa, rg, eo, nm, op, fs_F V, fs_F M, wb, wv, sa, st, lf, cp, si, sf, so)) : wpX_layItem post (nI mi, nI mb, nI mv, nI n, oc, sl, nI vc, nI bc, nI i, nI p, tk, 0, fs_F K, fs_F A, fs_F B, pa, rg, eo, nm, op, fs_F V, fs_F M, wb, wv, sa, st, lf, cp, si, sf, so) := by
  have hv : vp_in (nI i) 32 := vp_in_nI hi (by decide)
  have hvo : vp_in (nI o) 32 := vp_in_nI ho (by decide)
  have hp16 := fs_p16 hw
  unfold wpX_layItem
  dsimp only
  rw [fs_Fat (f := K) (by omega), hk]
  refine nm_r (nI_1 i) (And.intro hv (nm_e ?_))
  refine br_f (by decide) (br_f (by decide) (br_f (by decide) (br_f (by decide) (br_f (by decide) (br_f (by decide) (br_f (by decide) (br_f (by decide) (br_f (by decide) (br_f (by decide) (br_f (by decide) (br_f (by decide) (br_t (by decide) ?_))))))))))))
  refine And.intro hv ?_
  rw [fs_Fat (f := A) (by omega), hA]
  unfold wpX_layEnd
  dsimp only
  rw [fs_Fat (f := K) (i := o) (by omega), hk5, fs_Fat (f := A) (i := o) (by omega), nI_clamp (n := o) (by omega), ha, pk_sub hap]
  refine And.intro hvo (nm_e ?_)
  refine br_f (by decide) (br_f (by decide) (br_t (by decide) ?_))
  refine And.intro hvo (And.intro hvo ?_)
  refine xs_fill hs hw (fun x hx ex => ⟨q, hq, hqw, ?_⟩) (fun z => h0 (fun y => z ⟨_, y, rfl⟩) _ _ _ _ _ _ _ _ _ _ _ _)
  rw [nI_eq (by omega) (by omega)] at ex
  rw [← ex] at hx ⊢
  exact h1 hx
theorem xs_e6 {post : SX → Prop} {i o p q a : Nat} (hi : i < 32) (hk : K i = 11) (hA : A i = o) (ho : o < 32) (hk6 : K o = 6) (hs : A o < 32) (hq : sa (A o) = nI q) (hq1 : q < 128) (ha : st o = nI a)
    (h1 : post (nI mi, nI mb, nI mv, nI n, oc, sl, nI vc, nI bc, nI (i + 1), nI p, tk, 0, fs_F K, fs_F A, fs_F B, pa, rg, eo, nm, op, fs_F V, fs_F M, wb, wv, sa, st, lf, cp, upd si q (nI o), upd sf q (nI a), upd so q (nI p))) : wpX_layItem post (nI mi, nI mb, nI mv, nI n, oc, sl, nI vc, nI bc, nI i, nI p, tk, 0, fs_F K, fs_F A, fs_F B, pa, rg, eo, nm, op, fs_F V, fs_F M, wb, wv, sa, st, lf, cp, si, sf, so) := by
  have hv : vp_in (nI i) 32 := vp_in_nI hi (by decide)
  have hvo : vp_in (nI o) 32 := vp_in_nI ho (by decide)
  have hvs : vp_in (nI (A o)) 32 := vp_in_nI hs (by decide)
  have hvq : vp_in (nI q) 128 := vp_in_nI hq1 (by decide)
  unfold wpX_layItem
  dsimp only
  rw [fs_Fat (f := K) (by omega), hk]
  refine nm_r (nI_1 i) (And.intro hv (nm_e ?_))
  refine br_f (by decide) (br_f (by decide) (br_f (by decide) (br_f (by decide) (br_f (by decide) (br_f (by decide) (br_f (by decide) (br_f (by decide) (br_f (by decide) (br_f (by decide) (br_f (by decide) (br_f (by decide) (br_t (by decide) ?_))))))))))))
  refine And.intro hv ?_
  rw [fs_Fat (f := A) (by omega), hA]
  unfold wpX_layEnd
  dsimp only
  rw [fs_Fat (f := K) (i := o) (by omega), hk6]
  refine And.intro hvo (nm_e ?_)
  refine br_f (by decide) (br_f (by decide) (br_f (by decide) (br_t (by decide) ?_)))
  unfold wpX_noteSum
  dsimp only
  rw [fs_Fat (f := A) (i := o) (by omega), nI_clamp (n := A o) (by omega), hq, nI_clamp (n := o) (by omega), ha]
  refine And.intro hvo (And.intro hvs (nm_e ?_))
  rw [nI_clamp (n := q) (by omega)]
  exact And.intro hvq (nm_e (And.intro hvo (And.intro hvq (nm_e (And.intro hvq (nm_e h1))))))
theorem xs_e78 {post : SX → Prop} {i o : Nat} (hi : i < 32) (hk : K i = 11) (hA : A i = o) (ho : o < 32) (hko : K o = 7 ∨ K o = 8)
    (h0 : lf o - 1 ≤ 0 → post (nI mi, nI mb, nI mv, nI n, oc, sl, nI vc, nI bc, nI (i + 1), ps, tk, fl, fs_F K, fs_F A, fs_F B, pa, rg, eo, nm, op, fs_F V, fs_F M, wb, wv, sa, st, upd lf o (lf o - 1), cp, si, sf, so)) (h1 : ¬ lf o - 1 ≤ 0 → post (nI mi, nI mb, nI mv, nI n, oc, sl, nI vc, nI bc, nI (o + 1), ps, tk, fl, fs_F K, fs_F A, fs_F B, pa, rg, eo, nm, op, fs_F V, fs_F M, wb, wv, sa, st, upd lf o (lf o - 1), cp, si, sf, so)) : wpX_layItem post (nI mi, nI mb, nI mv, nI n, oc, sl, nI vc, nI bc, nI i, ps, tk, fl, fs_F K, fs_F A, fs_F B, pa, rg, eo, nm, op, fs_F V, fs_F M, wb, wv, sa, st, lf, cp, si, sf, so) := by
  have hv : vp_in (nI i) 32 := vp_in_nI hi (by decide)
  have hvo : vp_in (nI o) 32 := vp_in_nI ho (by decide)
  unfold wpX_layItem
  dsimp only
  rw [fs_Fat (f := K) (by omega), hk]
  refine nm_r (nI_1 i) (And.intro hv (nm_e ?_))
  refine br_f (by decide) (br_f (by decide) (br_f (by decide) (br_f (by decide) (br_f (by decide) (br_f (by decide) (br_f (by decide) (br_f (by decide) (br_f (by decide) (br_f (by decide) (br_f (by decide) (br_f (by decide) (br_t (by decide) ?_))))))))))))
  refine And.intro hv ?_
  rw [fs_Fat (f := A) (by omega), hA]
  unfold wpX_layEnd
  dsimp only
  rw [fs_Fat (f := K) (i := o) (by omega)]
  refine And.intro hvo (nm_e ?_)
  rcases hko with e | e
  · rw [e]
    refine br_f (by decide) (br_f (by decide) (br_f (by decide) (br_f (by decide) (br_t (by decide) ?_))))
    exact xs_next ho h0 h1
  · rw [e]
    refine br_f (by decide) (br_f (by decide) (br_f (by decide) (br_f (by decide) (br_f (by decide) (br_t (by decide) ?_)))))
    exact xs_next ho h0 h1
theorem xs_e9 {post : SX → Prop} {i o : Nat} (hi : i < 32) (hk : K i = 11) (hA : A i = o) (ho : o < 32) (hko : K o = 9) (h : post (nI mi, nI mb, nI mv, nI n, oc, sl, nI vc, nI bc, nI (i + 1), ps, tk, fl, fs_F K, fs_F A, fs_F B, pa, rg, eo, nm, op, fs_F V, fs_F M, wb, wv, sa, st, lf, cp, si, sf, so)) : wpX_layItem post (nI mi, nI mb, nI mv, nI n, oc, sl, nI vc, nI bc, nI i, ps, tk, fl, fs_F K, fs_F A, fs_F B, pa, rg, eo, nm, op, fs_F V, fs_F M, wb, wv, sa, st, lf, cp, si, sf, so) := by
  have hv : vp_in (nI i) 32 := vp_in_nI hi (by decide)
  have hvo : vp_in (nI o) 32 := vp_in_nI ho (by decide)
  unfold wpX_layItem
  dsimp only
  rw [fs_Fat (f := K) (by omega), hk]
  refine nm_r (nI_1 i) (And.intro hv (nm_e ?_))
  refine br_f (by decide) (br_f (by decide) (br_f (by decide) (br_f (by decide) (br_f (by decide) (br_f (by decide) (br_f (by decide) (br_f (by decide) (br_f (by decide) (br_f (by decide) (br_f (by decide) (br_f (by decide) (br_t (by decide) ?_))))))))))))
  refine And.intro hv ?_
  rw [fs_Fat (f := A) (by omega), hA]
  unfold wpX_layEnd
  dsimp only
  rw [fs_Fat (f := K) (i := o) (by omega), hko]
  refine And.intro hvo (nm_e ?_)
  refine br_f (by decide) (br_f (by decide) (br_f (by decide) (br_f (by decide) (br_f (by decide) (br_f (by decide) (br_t (by decide) ?_))))))
  exact h
theorem xs_e10 {post : SX → Prop} {i o w e : Nat} (hi : i < 32) (hk : K i = 11) (hA : A i = o) (ho : o < 32) (hko : K o = 10) (hpa : pa o = nI w) (hw : w < 32) (heo : eo w = nI e) (h : post (nI mi, nI mb, nI mv, nI n, oc, sl, nI vc, nI bc, nI (e + 1), ps, tk, fl, fs_F K, fs_F A, fs_F B, pa, rg, eo, nm, op, fs_F V, fs_F M, wb, wv, sa, st, lf, cp, si, sf, so)) : wpX_layItem post (nI mi, nI mb, nI mv, nI n, oc, sl, nI vc, nI bc, nI i, ps, tk, fl, fs_F K, fs_F A, fs_F B, pa, rg, eo, nm, op, fs_F V, fs_F M, wb, wv, sa, st, lf, cp, si, sf, so) := by
  have hv : vp_in (nI i) 32 := vp_in_nI hi (by decide)
  have hvo : vp_in (nI o) 32 := vp_in_nI ho (by decide)
  unfold wpX_layItem
  dsimp only
  rw [fs_Fat (f := K) (by omega), hk]
  refine nm_r (nI_1 i) (And.intro hv (nm_e ?_))
  refine br_f (by decide) (br_f (by decide) (br_f (by decide) (br_f (by decide) (br_f (by decide) (br_f (by decide) (br_f (by decide) (br_f (by decide) (br_f (by decide) (br_f (by decide) (br_f (by decide) (br_f (by decide) (br_t (by decide) ?_))))))))))))
  refine And.intro hv ?_
  rw [fs_Fat (f := A) (by omega), hA]
  unfold wpX_layEnd
  dsimp only
  rw [fs_Fat (f := K) (i := o) (by omega), hko]
  refine And.intro hvo (nm_e ?_)
  refine br_f (by decide) (br_f (by decide) (br_f (by decide) (br_f (by decide) (br_f (by decide) (br_f (by decide) (br_f (by decide) (br_t (by decide) ?_)))))))
  exact xs_leave ho hpa hw heo h
end
end
section
/-! serialise: the two states side by side -/
def fs_SI (K A : Nat → Nat) (n i p : Nat) (S : Nat → Nat) (wb sa st lf si sf so bf lt sm sF sT : Nat → Int32) : Prop :=
  (∀ q, q < p → wb q = bf q ∧ (bf q = 0 ∨ bf q = 1))
  ∧ (∀ g, g < n → fs_nam (K g) → fs_pd K A g i → sa (A g) = nI (S (A g)))
  ∧ (∀ g, g ∈ fs_stk K i → K g = 5 ∨ K g = 6 → st g = nI (S g))
  ∧ (∀ g, g ∈ fs_stk K i → K g = 7 ∨ K g = 8 → lf g = lt g)
  ∧ (∀ q, q < 128 → si q = sm q ∧ (sm q ≠ -1 → sf q = sF q ∧ so q = sT q))
def fs_SQ (mb vc : Nat) (K A : Nat → Nat) (n i p t : Nat) (S C : Nat → Nat) (wb sa st lf si sf so bf sr lt mk sm sF sT : Nat → Int32) : Prop :=
  i ≤ n ∧ (i < n → K i ≠ 10) ∧ p ≤ mb ∧ t ≤ vc ∧ fs_YI K A n i p t S C sr mk sm sF sT ∧ fs_SI K A n i p S wb sa st lf si sf so bf lt sm sF sT
theorem fs_01 (x : Nat) : nI (x % 2) = 0 ∨ nI (x % 2) = 1 := by
  have h : x % 2 = 0 ∨ x % 2 = 1 := by omega
  rcases h with e | e
  · rw [e]; exact Or.inl rfl
  · rw [e]; exact Or.inr rfl
theorem fs_bits {wb bf : Nat → Int32} {p p' q w x : Nat} (h : ∀ r, r < p → wb r = bf r ∧ (bf r = 0 ∨ bf r = 1)) (hr : ∀ r, r < p' → r < p ∨ (q ≤ r ∧ r < q + w)) : ∀ r, r < p' → fs_w wb q w x r = fs_w bf q w x r ∧ (fs_w bf q w x r = 0 ∨ fs_w bf q w x r = 1) := by
  intro r hrp
  by_cases c : q ≤ r ∧ r < q + w
  · rw [fs_win c.1 c.2, fs_win c.1 c.2]
    exact ⟨rfl, fs_01 _⟩
  · rw [fs_wout (by omega), fs_wout (by omega)]
    rcases hr r hrp with c2 | c2
    · exact h r c2
    · exact absurd c2 c
section
variable {mb vc : Nat} {K A B : Nat → Nat} {n i i' p p' t t' : Nat} {S C C' : Nat → Nat} {wb sa st lf si sf so bf sr lt mk sm sF sT wb' sa' st' lf' bf' lt' mk' : Nat → Int32}
theorem fs_SA (W : fs_WF K A B n) (hn : n ≤ 32) (hi : i < n) (h11 : K i ≠ 11) (hST : fs_ST K A n i i')
    (hbits : ∀ q, q < p' → wb' q = bf' q ∧ (bf' q = 0 ∨ bf' q = 1)) (hsa : ∀ j, j ≠ i → sa' j = sa j) (hsai : K i = 3 → sa' i = nI p) (hst : ∀ j, j ≠ i → st' j = st j) (hsti : K i = 5 ∨ K i = 6 → st' i = nI p)
    (hlf : ∀ j, j ≠ i → lf' j = lf j) (hlt : ∀ j, j ≠ i → lt' j = lt j) (hlfi : K i = 7 ∨ K i = 8 → lf' i = lt' i) (J : fs_SI K A n i p S wb sa st lf si sf so bf lt sm sF sT) : fs_SI K A n i' p' (fs_u S i p) wb' sa' st' lf' si sf so bf' lt' sm sF sT := by
  obtain ⟨j1, j2, j3, j4, j5⟩ := J
  refine ⟨hbits, fun g hg hna hpd => ?_, fun g hg hk => ?_, fun g hg hk => ?_, j5⟩
  · rcases fs_L3 W hi hg hna hST hpd with e | hpd0
    · have := (fs_nm W hg hna).2.1
      rw [← e] at this
      rw [← e, fs_us]
      exact hsai this
    · have := hpd0.1
      rw [fs_un (by omega), hsa _ (by omega)]
      exact j2 g hg hna hpd0
  · rcases fs_L1 W hi hST hg (by omega) with ⟨e, _⟩ | hg0
    · subst e
      rw [fs_us]
      exact hsti hk
    · have hlt := fs_lt hg0
      rw [fs_un (by omega), hst _ (by omega)]
      exact j3 g hg0 hk
  · rcases fs_L1 W hi hST hg (by omega) with ⟨e, _⟩ | hg0
    · subst e
      exact hlfi hk
    · have hltt := fs_lt hg0
      rw [hlf _ (by omega), hlt _ (by omega)]
      exact j4 g hg0 hk
theorem fs_SB (W : fs_WF K A B n) (hi : i < n) (h11 : K i = 11) (hST : fs_ST K A n i i')
    (hbits : ∀ q, q < p → wb' q = bf' q ∧ (bf' q = 0 ∨ bf' q = 1)) (hlf : ∀ j, j ≠ A i → lf' j = lf j) (hlt : ∀ j, j ≠ A i → lt' j = lt j) (hlfi : K (A i) = 7 ∨ K (A i) = 8 → lf' (A i) = lt' (A i))
    (J : fs_SI K A n i p S wb sa st lf si sf so bf lt sm sF sT) : fs_SI K A n i' p S wb' sa st lf' si sf so bf' lt' sm sF sT := by
  obtain ⟨j1, j2, j3, j4, j5⟩ := J
  have st0 : ∀ g, g ∈ fs_stk K i' → K g ≠ 10 → g ∈ fs_stk K i := by
    intro g hg h10
    rcases fs_L1 W hi hST hg h10 with ⟨_, e⟩ | h
    · exact absurd h11 e
    · exact h
  refine ⟨hbits, fun g hg hna hpd => ?_, fun g hg hk => j3 g (st0 g hg (by omega)) hk, fun g hg hk => ?_, j5⟩
  · rcases fs_L3 W hi hg hna hST hpd with e | hpd0
    · have := (fs_nm W hg hna).2.1
      rw [← e] at this
      omega
    · exact j2 g hg hna hpd0
  · by_cases c : g = A i
    · subst c; exact hlfi hk
    · rw [hlf g c, hlt g c]
      exact j4 g (st0 g hg (by omega)) hk
theorem fs_SC {q : Nat} {x y z : Int32} (J : fs_SI K A n i p S wb sa st lf si sf so bf lt sm sF sT) : fs_SI K A n i p S wb sa st lf (upd si q x) (upd sf q y) (upd so q z) bf lt (upd sm q x) (upd sF q y) (upd sT q z) := by
  obtain ⟨j1, j2, j3, j4, j5⟩ := J
  refine ⟨j1, j2, j3, j4, fun r hr => ?_⟩
  by_cases c : r = q
  · subst c
    rw [pk_us, pk_us, pk_us, pk_us, pk_us, pk_us]
    exact ⟨rfl, fun _ => ⟨rfl, rfl⟩⟩
  · rw [pk_un c, pk_un c, pk_un c, pk_un c, pk_un c, pk_un c]
    exact j5 r hr
/-- the next pair of states, over an item that isn't an END -/
theorem fs_SQA (W : fs_WF K A B n) (hn : n ≤ 32) (hmb : mb ≤ 128) (hi : i < n) (h11 : K i ≠ 11) (hST : fs_ST K A n i i') (hp : p ≤ p') (hp' : p' ≤ mb) (hsl : K i ≤ 3 → p + 1 ≤ p') (hsl3 : K i = 3 → p + A i ≤ p') (ht : t ≤ t') (ht' : t' ≤ vc)
    (hm : (C' = C ∧ mk' = mk ∧ K i ≠ 8) ∨ (C' = fs_u C i t ∧ mk' = upd mk i (nI t) ∧ t < t'))
    (hbits : ∀ q, q < p' → wb' q = bf' q ∧ (bf' q = 0 ∨ bf' q = 1)) (hsa : ∀ j, j ≠ i → sa' j = sa j) (hsai : K i = 3 → sa' i = nI p) (hst : ∀ j, j ≠ i → st' j = st j) (hsti : K i = 5 ∨ K i = 6 → st' i = nI p)
    (hlf : ∀ j, j ≠ i → lf' j = lf j) (hlt : ∀ j, j ≠ i → lt' j = lt j) (hlfi : K i = 7 ∨ K i = 8 → lf' i = lt' i) (Q : fs_SQ mb vc K A n i p t S C wb sa st lf si sf so bf sr lt mk sm sF sT) :
    fs_m K i' p' < fs_m K i p ∧ fs_SQ mb vc K A n i' p' t' (fs_u S i p) C' wb' sa' st' lf' si sf so bf' (upd sr i (nI p)) lt' mk' sm sF sT := by
  obtain ⟨_, _, _, _, I, J⟩ := Q
  exact ⟨fs_md W hn hi hST hp hsl (by omega), fs_le W hi hST, fun h => fs_nc W hi hST h, hp', ht', fs_YA W hn hi h11 hST hp (by omega) hsl3 ht hm I, fs_SA W hn hi h11 hST hbits hsa hsai hst hsti hlf hlt hlfi J⟩
/-- the same over an END -/
theorem fs_SQB (W : fs_WF K A B n) (hn : n ≤ 32) (hmb : mb ≤ 128) (hi : i < n) (h11 : K i = 11) (hST : fs_ST K A n i i')
    (hbits : ∀ q, q < p → wb' q = bf' q ∧ (bf' q = 0 ∨ bf' q = 1)) (hlf : ∀ j, j ≠ A i → lf' j = lf j) (hlt : ∀ j, j ≠ A i → lt' j = lt j) (hlfi : K (A i) = 7 ∨ K (A i) = 8 → lf' (A i) = lt' (A i))
    (Q : fs_SQ mb vc K A n i p t S C wb sa st lf si sf so bf sr lt mk sm sF sT) :
    fs_m K i' p < fs_m K i p ∧ fs_SQ mb vc K A n i' p t S C wb' sa st lf' si sf so bf' sr lt' mk sm sF sT := by
  obtain ⟨_, _, q3, q4, I, J⟩ := Q
  exact ⟨fs_md W hn hi hST (Nat.le_refl p) (fun h => by omega) (by omega), fs_le W hi hST, fun h => fs_nc W hi hST h, q3, q4, fs_YB W hi h11 hST I, fs_SB W hi h11 hST hbits hlf hlt hlfi J⟩
theorem fs_SQC (W : fs_WF K A B n) (hn : n ≤ 32) (hmb : mb ≤ 128) (hi : i < n) (h11 : K i = 11) (h6 : K (A i) = 6) (Q : fs_SQ mb vc K A n i p t S C wb sa st lf si sf so bf sr lt mk sm sF sT) :
    fs_m K (i + 1) p < fs_m K i p ∧ fs_SQ mb vc K A n (i + 1) p t S C wb sa st lf (upd si (S (A (A i))) (nI (A i))) (upd sf (S (A (A i))) (nI (S (A i)))) (upd so (S (A (A i))) (nI p)) bf sr lt mk (upd sm (S (A (A i))) (nI (A i))) (upd sF (S (A (A i))) (nI (S (A i)))) (upd sT (S (A (A i))) (nI p)) := by
  have hST : fs_ST K A n i (i + 1) := Or.inr (Or.inl ⟨rfl, h11, by omega⟩)
  obtain ⟨_, _, q3, q4, I, J⟩ := Q
  have J' := fs_SB (wb' := wb) (bf' := bf) (lf' := lf) (lt' := lt) W hi h11 hST J.1 (fun _ _ => rfl) (fun _ _ => rfl) (fun h => by omega) J
  exact ⟨fs_md W hn hi hST (Nat.le_refl p) (fun h => by omega) (by omega), fs_le W hi hST, fun h => fs_nc W hi hST h, q3, q4, (fs_YC W hn (by omega) hi h11 h6 I).1, fs_SC J'⟩
end
end
section
/-! serialise: one item of both -/
theorem fs_hd1 {K : Nat → Nat} {c i : Nat} (h : (fs_stk K c).head? = some i) : fs_stk K c = i :: fs_stk K i := by
  cases e : fs_stk K c with
  | nil => rw [e] at h; cases h
  | cons a r =>
    rw [e] at h
    injection h with h
    subst h
    rw [← fs_hd e]
    exact e.symm
section
variable {mi mb mv n vc bc : Nat} {oc sl pc ps tk fl : Int32} {K A B V M : Nat → Nat} {pa rg eo nm op wb wv sa st lf cp si sf so : Nat → Int32} {ot tt wc : Int32} {bf wk sr lt mk sm sF sT : Nat → Int32}
variable {i p t : Nat} {S C : Nat → Nat}
theorem sv_1 (R : fs_Rel mi mb mv n vc bc 1 K A B V M oc pa rg eo nm op) (hi : i < n) (hwk : ∀ j, j < vc → wk j = nI (V j)) (Q : fs_SQ mb vc K A n i p t S C wb sa st lf si sf so bf sr lt mk sm sF sT) (hk : K i = 1) : ((∀ post : SX → Prop, (∀ (pc ps tk : Int32) (wb wv sa st lf cp si sf so : Nat → Int32), post (nI mi, nI mb, nI mv, nI n, oc, sl, nI vc, nI bc, pc, ps, tk, 1, fs_F K, fs_F A, fs_F B, pa, rg, eo, nm, op, fs_F V, fs_F M, wb, wv, sa, st, lf, cp, si, sf, so)) → wpX_layItem post (nI mi, nI mb, nI mv, nI n, oc, sl, nI vc, nI bc, nI i, nI p, nI t, 0, fs_F K, fs_F A, fs_F B, pa, rg, eo, nm, op, fs_F V, fs_F M, wb, wv, sa, st, lf, cp, si, sf, so)) ∧ (∀ post : Int32 → SY → Prop, (∀ (ot tt wc : Int32) (bf wk sr lt mk sm sF sT : Nat → Int32), post (-1) (nI mi, nI mb, nI mv, sl, nI n, nI vc, nI bc, ot, tt, wc, fs_F K, fs_F A, fs_F B, fs_F V, fs_F M, bf, wk, sr, lt, mk, sm, sF, sT)) → wpY_layItem post (nI mi, nI mb, nI mv, sl, nI n, nI vc, nI bc, nI p, nI t, nI vc, fs_F K, fs_F A, fs_F B, fs_F V, fs_F M, bf, wk, sr, lt, mk, sm, sF, sT) (nI i) 0))
    ∨ (∃ (i1 p1 t1 : Nat) (S1 C1 : Nat → Nat) (wb1 sa1 st1 lf1 si1 sf1 so1 bf1 sr1 lt1 mk1 sm1 sF1 sT1 : Nat → Int32), (fs_m K i1 p1 < fs_m K i p ∧ fs_SQ mb vc K A n i1 p1 t1 S1 C1 wb1 sa1 st1 lf1 si1 sf1 so1 bf1 sr1 lt1 mk1 sm1 sF1 sT1) ∧ (∀ post : SX → Prop, post (nI mi, nI mb, nI mv, nI n, oc, sl, nI vc, nI bc, nI i1, nI p1, nI t1, 0, fs_F K, fs_F A, fs_F B, pa, rg, eo, nm, op, fs_F V, fs_F M, wb1, wv, sa1, st1, lf1, cp, si1, sf1, so1) → wpX_layItem post (nI mi, nI mb, nI mv, nI n, oc, sl, nI vc, nI bc, nI i, nI p, nI t, 0, fs_F K, fs_F A, fs_F B, pa, rg, eo, nm, op, fs_F V, fs_F M, wb, wv, sa, st, lf, cp, si, sf, so)) ∧ (∀ post : Int32 → SY → Prop, post (nI i1) (nI mi, nI mb, nI mv, sl, nI n, nI vc, nI bc, nI p1, nI t1, nI vc, fs_F K, fs_F A, fs_F B, fs_F V, fs_F M, bf1, wk, sr1, lt1, mk1, sm1, sF1, sT1) → wpY_layItem post (nI mi, nI mb, nI mv, sl, nI n, nI vc, nI bc, nI p, nI t, nI vc, fs_F K, fs_F A, fs_F B, fs_F V, fs_F M, bf, wk, sr, lt, mk, sm, sF, sT) (nI i) 0))
    ∨ (∃ e : Nat, fs_m K e p < fs_m K i p ∧ fs_m K (e + 1) p < fs_m K e p ∧ e < n ∧ fs_SQ mb vc K A n (e + 1) p t S C wb sa st lf si sf so bf sr lt mk sm sF sT ∧ (∀ post : SX → Prop, post (nI mi, nI mb, nI mv, nI n, oc, sl, nI vc, nI bc, nI (e + 1), nI p, nI t, 0, fs_F K, fs_F A, fs_F B, pa, rg, eo, nm, op, fs_F V, fs_F M, wb, wv, sa, st, lf, cp, si, sf, so) → wpX_layItem post (nI mi, nI mb, nI mv, nI n, oc, sl, nI vc, nI bc, nI i, nI p, nI t, 0, fs_F K, fs_F A, fs_F B, pa, rg, eo, nm, op, fs_F V, fs_F M, wb, wv, sa, st, lf, cp, si, sf, so)) ∧ (∀ post : Int32 → SY → Prop, post (nI e) (nI mi, nI mb, nI mv, sl, nI n, nI vc, nI bc, nI p, nI t, nI vc, fs_F K, fs_F A, fs_F B, fs_F V, fs_F M, bf, wk, sr, lt, mk, sm, sF, sT) → wpY_layItem post (nI mi, nI mb, nI mv, sl, nI n, nI vc, nI bc, nI p, nI t, nI vc, fs_F K, fs_F A, fs_F B, fs_F V, fs_F M, bf, wk, sr, lt, mk, sm, sF, sT) (nI i) 0) ∧ (∀ post : Int32 → SY → Prop, post (nI (e + 1)) (nI mi, nI mb, nI mv, sl, nI n, nI vc, nI bc, nI p, nI t, nI vc, fs_F K, fs_F A, fs_F B, fs_F V, fs_F M, bf, wk, sr, lt, mk, sm, sF, sT) → wpY_layItem post (nI mi, nI mb, nI mv, sl, nI n, nI vc, nI bc, nI p, nI t, nI vc, fs_F K, fs_F A, fs_F B, fs_F V, fs_F M, bf, wk, sr, lt, mk, sm, sF, sT) (nI e) 0)) := by
  have R0 := R
  obtain ⟨⟨b1, b2, b3, b4, b5, b6⟩, r1, r2, r3, r4, W, r6, r7, r8, r9, r10, r11, r12⟩ := R
  have Q0 := Q
  obtain ⟨q1, q2, q3, q4, I, J⟩ := Q
  have hwd := fs_wd W hi (by omega)
  by_cases c : t < vc ∧ V t < 2 ^ A i ∧ p + A i ≤ mb
  · have hST : fs_ST K A n i (i + 1) := Or.inl ⟨rfl, by omega⟩
    refine Or.inr (Or.inl ⟨i + 1, p + A i, t + 1, fs_u S i p, fs_u C i t, fs_w wb p (A i) (V t), sa, st, lf, si, sf, so, fs_w bf p (A i) (V t), upd sr i (nI p), lt, upd mk i (nI t), sm, sF, sT, ?_, fun post h => ?_, fun post h => ?_⟩)
    · exact fs_SQA W (by omega) b2 hi (by omega) hST (by omega) c.2.2 (fun _ => by omega) (fun _ => by omega) (by omega) (by omega) (Or.inr ⟨rfl, rfl, by omega⟩) (fs_bits J.1 (fun r hr => by omega)) (fun _ _ => rfl) (fun e => by omega) (fun _ _ => rfl) (fun e => by omega) (fun _ _ => rfl) (fun _ _ => rfl) (fun e => by omega) Q0
    · exact xs_l1 (by omega) hk hwd.2 b2 (by omega) (by omega) (by omega) r3 (fun _ _ _ => h) (fun z => absurd c z)
    · refine ys_val0 (by omega) (Or.inl hk) ?_
      rw [hk]
      exact ys_177f (by omega) (by omega) hwd.2 b2 (by omega) (by have := r3 t; omega) (nI_lt c.1 (by omega)) (hwk t c.1) (fun _ _ => h) (fun z => absurd c.2 z)
  · refine Or.inl ⟨fun post h => ?_, fun post h => ?_⟩
    · exact xs_l1 (by omega) hk hwd.2 b2 (by omega) (by omega) (by omega) r3 (fun d e f => absurd ⟨d, e, f⟩ c) (fun _ => h)
    · refine ys_val0 (by omega) (Or.inl hk) ?_
      rw [hk]
      by_cases d : t < vc
      · exact ys_177f (by omega) (by omega) hwd.2 b2 (by omega) (by have := r3 t; omega) (nI_lt d (by omega)) (hwk t d) (fun e f => absurd ⟨d, e, f⟩ c) (fun _ => h)
      · exact ys_177z (nI_nlt (by omega) (by omega)) (h _ _ _ _ _ _ _ _ _ _ _)
theorem sv_2 (R : fs_Rel mi mb mv n vc bc 1 K A B V M oc pa rg eo nm op) (hi : i < n) (hwk : ∀ j, j < vc → wk j = nI (V j)) (Q : fs_SQ mb vc K A n i p t S C wb sa st lf si sf so bf sr lt mk sm sF sT) (hk : K i = 2) : ((∀ post : SX → Prop, (∀ (pc ps tk : Int32) (wb wv sa st lf cp si sf so : Nat → Int32), post (nI mi, nI mb, nI mv, nI n, oc, sl, nI vc, nI bc, pc, ps, tk, 1, fs_F K, fs_F A, fs_F B, pa, rg, eo, nm, op, fs_F V, fs_F M, wb, wv, sa, st, lf, cp, si, sf, so)) → wpX_layItem post (nI mi, nI mb, nI mv, nI n, oc, sl, nI vc, nI bc, nI i, nI p, nI t, 0, fs_F K, fs_F A, fs_F B, pa, rg, eo, nm, op, fs_F V, fs_F M, wb, wv, sa, st, lf, cp, si, sf, so)) ∧ (∀ post : Int32 → SY → Prop, (∀ (ot tt wc : Int32) (bf wk sr lt mk sm sF sT : Nat → Int32), post (-1) (nI mi, nI mb, nI mv, sl, nI n, nI vc, nI bc, ot, tt, wc, fs_F K, fs_F A, fs_F B, fs_F V, fs_F M, bf, wk, sr, lt, mk, sm, sF, sT)) → wpY_layItem post (nI mi, nI mb, nI mv, sl, nI n, nI vc, nI bc, nI p, nI t, nI vc, fs_F K, fs_F A, fs_F B, fs_F V, fs_F M, bf, wk, sr, lt, mk, sm, sF, sT) (nI i) 0))
    ∨ (∃ (i1 p1 t1 : Nat) (S1 C1 : Nat → Nat) (wb1 sa1 st1 lf1 si1 sf1 so1 bf1 sr1 lt1 mk1 sm1 sF1 sT1 : Nat → Int32), (fs_m K i1 p1 < fs_m K i p ∧ fs_SQ mb vc K A n i1 p1 t1 S1 C1 wb1 sa1 st1 lf1 si1 sf1 so1 bf1 sr1 lt1 mk1 sm1 sF1 sT1) ∧ (∀ post : SX → Prop, post (nI mi, nI mb, nI mv, nI n, oc, sl, nI vc, nI bc, nI i1, nI p1, nI t1, 0, fs_F K, fs_F A, fs_F B, pa, rg, eo, nm, op, fs_F V, fs_F M, wb1, wv, sa1, st1, lf1, cp, si1, sf1, so1) → wpX_layItem post (nI mi, nI mb, nI mv, nI n, oc, sl, nI vc, nI bc, nI i, nI p, nI t, 0, fs_F K, fs_F A, fs_F B, pa, rg, eo, nm, op, fs_F V, fs_F M, wb, wv, sa, st, lf, cp, si, sf, so)) ∧ (∀ post : Int32 → SY → Prop, post (nI i1) (nI mi, nI mb, nI mv, sl, nI n, nI vc, nI bc, nI p1, nI t1, nI vc, fs_F K, fs_F A, fs_F B, fs_F V, fs_F M, bf1, wk, sr1, lt1, mk1, sm1, sF1, sT1) → wpY_layItem post (nI mi, nI mb, nI mv, sl, nI n, nI vc, nI bc, nI p, nI t, nI vc, fs_F K, fs_F A, fs_F B, fs_F V, fs_F M, bf, wk, sr, lt, mk, sm, sF, sT) (nI i) 0))
    ∨ (∃ e : Nat, fs_m K e p < fs_m K i p ∧ fs_m K (e + 1) p < fs_m K e p ∧ e < n ∧ fs_SQ mb vc K A n (e + 1) p t S C wb sa st lf si sf so bf sr lt mk sm sF sT ∧ (∀ post : SX → Prop, post (nI mi, nI mb, nI mv, nI n, oc, sl, nI vc, nI bc, nI (e + 1), nI p, nI t, 0, fs_F K, fs_F A, fs_F B, pa, rg, eo, nm, op, fs_F V, fs_F M, wb, wv, sa, st, lf, cp, si, sf, so) → wpX_layItem post (nI mi, nI mb, nI mv, nI n, oc, sl, nI vc, nI bc, nI i, nI p, nI t, 0, fs_F K, fs_F A, fs_F B, pa, rg, eo, nm, op, fs_F V, fs_F M, wb, wv, sa, st, lf, cp, si, sf, so)) ∧ (∀ post : Int32 → SY → Prop, post (nI e) (nI mi, nI mb, nI mv, sl, nI n, nI vc, nI bc, nI p, nI t, nI vc, fs_F K, fs_F A, fs_F B, fs_F V, fs_F M, bf, wk, sr, lt, mk, sm, sF, sT) → wpY_layItem post (nI mi, nI mb, nI mv, sl, nI n, nI vc, nI bc, nI p, nI t, nI vc, fs_F K, fs_F A, fs_F B, fs_F V, fs_F M, bf, wk, sr, lt, mk, sm, sF, sT) (nI i) 0) ∧ (∀ post : Int32 → SY → Prop, post (nI (e + 1)) (nI mi, nI mb, nI mv, sl, nI n, nI vc, nI bc, nI p, nI t, nI vc, fs_F K, fs_F A, fs_F B, fs_F V, fs_F M, bf, wk, sr, lt, mk, sm, sF, sT) → wpY_layItem post (nI mi, nI mb, nI mv, sl, nI n, nI vc, nI bc, nI p, nI t, nI vc, fs_F K, fs_F A, fs_F B, fs_F V, fs_F M, bf, wk, sr, lt, mk, sm, sF, sT) (nI e) 0)) := by
  have R0 := R
  obtain ⟨⟨b1, b2, b3, b4, b5, b6⟩, r1, r2, r3, r4, W, r6, r7, r8, r9, r10, r11, r12⟩ := R
  have Q0 := Q
  obtain ⟨q1, q2, q3, q4, I, J⟩ := Q
  have hwd := fs_wd W hi (by omega)
  have hST : fs_ST K A n i (i + 1) := Or.inl ⟨rfl, by omega⟩
  by_cases c : p + A i ≤ mb
  · refine Or.inr (Or.inl ⟨i + 1, p + A i, t, fs_u S i p, C, fs_w wb p (A i) (B i), sa, st, lf, si, sf, so, fs_w bf p (A i) (B i), upd sr i (nI p), lt, mk, sm, sF, sT, ?_, fun post h => ?_, fun post h => ?_⟩)
    · exact fs_SQA W (by omega) b2 hi (by omega) hST (by omega) c (fun _ => by omega) (fun _ => by omega) (by omega) (by omega) (Or.inl ⟨rfl, rfl, by omega⟩) (fs_bits J.1 (fun r hr => by omega)) (fun _ _ => rfl) (fun e => by omega) (fun _ _ => rfl) (fun e => by omega) (fun _ _ => rfl) (fun _ _ => rfl) (fun e => by omega) Q0
    · exact xs_l2 r2 (by omega) hk hwd.2 b2 (by omega) (fun _ => h) (fun z => by omega)
    · exact ys_const r2 (by omega) hk hwd.2 b2 (by omega) (fun _ => h) (fun z => by omega)
  · refine Or.inl ⟨fun post h => ?_, fun post h => ?_⟩
    · exact xs_l2 r2 (by omega) hk hwd.2 b2 (by omega) (fun z => absurd z c) (fun _ => h)
    · exact ys_const r2 (by omega) hk hwd.2 b2 (by omega) (fun z => absurd z c) (fun _ => h)
theorem sv_3 (R : fs_Rel mi mb mv n vc bc 1 K A B V M oc pa rg eo nm op) (hi : i < n) (hwk : ∀ j, j < vc → wk j = nI (V j)) (Q : fs_SQ mb vc K A n i p t S C wb sa st lf si sf so bf sr lt mk sm sF sT) (hk : K i = 3) : ((∀ post : SX → Prop, (∀ (pc ps tk : Int32) (wb wv sa st lf cp si sf so : Nat → Int32), post (nI mi, nI mb, nI mv, nI n, oc, sl, nI vc, nI bc, pc, ps, tk, 1, fs_F K, fs_F A, fs_F B, pa, rg, eo, nm, op, fs_F V, fs_F M, wb, wv, sa, st, lf, cp, si, sf, so)) → wpX_layItem post (nI mi, nI mb, nI mv, nI n, oc, sl, nI vc, nI bc, nI i, nI p, nI t, 0, fs_F K, fs_F A, fs_F B, pa, rg, eo, nm, op, fs_F V, fs_F M, wb, wv, sa, st, lf, cp, si, sf, so)) ∧ (∀ post : Int32 → SY → Prop, (∀ (ot tt wc : Int32) (bf wk sr lt mk sm sF sT : Nat → Int32), post (-1) (nI mi, nI mb, nI mv, sl, nI n, nI vc, nI bc, ot, tt, wc, fs_F K, fs_F A, fs_F B, fs_F V, fs_F M, bf, wk, sr, lt, mk, sm, sF, sT)) → wpY_layItem post (nI mi, nI mb, nI mv, sl, nI n, nI vc, nI bc, nI p, nI t, nI vc, fs_F K, fs_F A, fs_F B, fs_F V, fs_F M, bf, wk, sr, lt, mk, sm, sF, sT) (nI i) 0))
    ∨ (∃ (i1 p1 t1 : Nat) (S1 C1 : Nat → Nat) (wb1 sa1 st1 lf1 si1 sf1 so1 bf1 sr1 lt1 mk1 sm1 sF1 sT1 : Nat → Int32), (fs_m K i1 p1 < fs_m K i p ∧ fs_SQ mb vc K A n i1 p1 t1 S1 C1 wb1 sa1 st1 lf1 si1 sf1 so1 bf1 sr1 lt1 mk1 sm1 sF1 sT1) ∧ (∀ post : SX → Prop, post (nI mi, nI mb, nI mv, nI n, oc, sl, nI vc, nI bc, nI i1, nI p1, nI t1, 0, fs_F K, fs_F A, fs_F B, pa, rg, eo, nm, op, fs_F V, fs_F M, wb1, wv, sa1, st1, lf1, cp, si1, sf1, so1) → wpX_layItem post (nI mi, nI mb, nI mv, nI n, oc, sl, nI vc, nI bc, nI i, nI p, nI t, 0, fs_F K, fs_F A, fs_F B, pa, rg, eo, nm, op, fs_F V, fs_F M, wb, wv, sa, st, lf, cp, si, sf, so)) ∧ (∀ post : Int32 → SY → Prop, post (nI i1) (nI mi, nI mb, nI mv, sl, nI n, nI vc, nI bc, nI p1, nI t1, nI vc, fs_F K, fs_F A, fs_F B, fs_F V, fs_F M, bf1, wk, sr1, lt1, mk1, sm1, sF1, sT1) → wpY_layItem post (nI mi, nI mb, nI mv, sl, nI n, nI vc, nI bc, nI p, nI t, nI vc, fs_F K, fs_F A, fs_F B, fs_F V, fs_F M, bf, wk, sr, lt, mk, sm, sF, sT) (nI i) 0))
    ∨ (∃ e : Nat, fs_m K e p < fs_m K i p ∧ fs_m K (e + 1) p < fs_m K e p ∧ e < n ∧ fs_SQ mb vc K A n (e + 1) p t S C wb sa st lf si sf so bf sr lt mk sm sF sT ∧ (∀ post : SX → Prop, post (nI mi, nI mb, nI mv, nI n, oc, sl, nI vc, nI bc, nI (e + 1), nI p, nI t, 0, fs_F K, fs_F A, fs_F B, pa, rg, eo, nm, op, fs_F V, fs_F M, wb, wv, sa, st, lf, cp, si, sf, so) → wpX_layItem post (nI mi, nI mb, nI mv, nI n, oc, sl, nI vc, nI bc, nI i, nI p, nI t, 0, fs_F K, fs_F A, fs_F B, pa, rg, eo, nm, op, fs_F V, fs_F M, wb, wv, sa, st, lf, cp, si, sf, so)) ∧ (∀ post : Int32 → SY → Prop, post (nI e) (nI mi, nI mb, nI mv, sl, nI n, nI vc, nI bc, nI p, nI t, nI vc, fs_F K, fs_F A, fs_F B, fs_F V, fs_F M, bf, wk, sr, lt, mk, sm, sF, sT) → wpY_layItem post (nI mi, nI mb, nI mv, sl, nI n, nI vc, nI bc, nI p, nI t, nI vc, fs_F K, fs_F A, fs_F B, fs_F V, fs_F M, bf, wk, sr, lt, mk, sm, sF, sT) (nI i) 0) ∧ (∀ post : Int32 → SY → Prop, post (nI (e + 1)) (nI mi, nI mb, nI mv, sl, nI n, nI vc, nI bc, nI p, nI t, nI vc, fs_F K, fs_F A, fs_F B, fs_F V, fs_F M, bf, wk, sr, lt, mk, sm, sF, sT) → wpY_layItem post (nI mi, nI mb, nI mv, sl, nI n, nI vc, nI bc, nI p, nI t, nI vc, fs_F K, fs_F A, fs_F B, fs_F V, fs_F M, bf, wk, sr, lt, mk, sm, sF, sT) (nI e) 0)) := by
  have R0 := R
  obtain ⟨⟨b1, b2, b3, b4, b5, b6⟩, r1, r2, r3, r4, W, r6, r7, r8, r9, r10, r11, r12⟩ := R
  have Q0 := Q
  obtain ⟨q1, q2, q3, q4, I, J⟩ := Q
  have hwd := fs_wd W hi (by omega)
  have hST : fs_ST K A n i (i + 1) := Or.inl ⟨rfl, by omega⟩
  by_cases c : p + A i ≤ mb
  · refine Or.inr (Or.inl ⟨i + 1, p + A i, t, fs_u S i p, C, fs_w wb p (A i) 0, upd sa i (nI p), st, lf, si, sf, so, fs_w bf p (A i) 0, upd sr i (nI p), lt, mk, sm, sF, sT, ?_, fun post h => ?_, fun post h => ?_⟩)
    · exact fs_SQA W (by omega) b2 hi (by omega) hST (by omega) c (fun _ => by omega) (fun _ => by omega) (by omega) (by omega) (Or.inl ⟨rfl, rfl, by omega⟩) (fs_bits J.1 (fun r hr => by omega)) (fun _ e => pk_un e) (fun _ => pk_us) (fun _ _ => rfl) (fun e => by omega) (fun _ _ => rfl) (fun _ _ => rfl) (fun e => by omega) Q0
    · exact xs_l3 (by omega) hk hwd.2 b2 (by omega) (fun _ => h) (fun z => by omega)
    · exact ys_slot (by omega) hk hwd.2 b2 (by omega) (fun _ => h) (fun z => by omega)
  · refine Or.inl ⟨fun post h => ?_, fun post h => ?_⟩
    · exact xs_l3 (by omega) hk hwd.2 b2 (by omega) (fun z => absurd z c) (fun _ => h)
    · exact ys_slot (by omega) hk hwd.2 b2 (by omega) (fun z => absurd z c) (fun _ => h)
theorem sv_4 (R : fs_Rel mi mb mv n vc bc 1 K A B V M oc pa rg eo nm op) (hi : i < n) (hwk : ∀ j, j < vc → wk j = nI (V j)) (Q : fs_SQ mb vc K A n i p t S C wb sa st lf si sf so bf sr lt mk sm sF sT) (hk : K i = 4) : ((∀ post : SX → Prop, (∀ (pc ps tk : Int32) (wb wv sa st lf cp si sf so : Nat → Int32), post (nI mi, nI mb, nI mv, nI n, oc, sl, nI vc, nI bc, pc, ps, tk, 1, fs_F K, fs_F A, fs_F B, pa, rg, eo, nm, op, fs_F V, fs_F M, wb, wv, sa, st, lf, cp, si, sf, so)) → wpX_layItem post (nI mi, nI mb, nI mv, nI n, oc, sl, nI vc, nI bc, nI i, nI p, nI t, 0, fs_F K, fs_F A, fs_F B, pa, rg, eo, nm, op, fs_F V, fs_F M, wb, wv, sa, st, lf, cp, si, sf, so)) ∧ (∀ post : Int32 → SY → Prop, (∀ (ot tt wc : Int32) (bf wk sr lt mk sm sF sT : Nat → Int32), post (-1) (nI mi, nI mb, nI mv, sl, nI n, nI vc, nI bc, ot, tt, wc, fs_F K, fs_F A, fs_F B, fs_F V, fs_F M, bf, wk, sr, lt, mk, sm, sF, sT)) → wpY_layItem post (nI mi, nI mb, nI mv, sl, nI n, nI vc, nI bc, nI p, nI t, nI vc, fs_F K, fs_F A, fs_F B, fs_F V, fs_F M, bf, wk, sr, lt, mk, sm, sF, sT) (nI i) 0))
    ∨ (∃ (i1 p1 t1 : Nat) (S1 C1 : Nat → Nat) (wb1 sa1 st1 lf1 si1 sf1 so1 bf1 sr1 lt1 mk1 sm1 sF1 sT1 : Nat → Int32), (fs_m K i1 p1 < fs_m K i p ∧ fs_SQ mb vc K A n i1 p1 t1 S1 C1 wb1 sa1 st1 lf1 si1 sf1 so1 bf1 sr1 lt1 mk1 sm1 sF1 sT1) ∧ (∀ post : SX → Prop, post (nI mi, nI mb, nI mv, nI n, oc, sl, nI vc, nI bc, nI i1, nI p1, nI t1, 0, fs_F K, fs_F A, fs_F B, pa, rg, eo, nm, op, fs_F V, fs_F M, wb1, wv, sa1, st1, lf1, cp, si1, sf1, so1) → wpX_layItem post (nI mi, nI mb, nI mv, nI n, oc, sl, nI vc, nI bc, nI i, nI p, nI t, 0, fs_F K, fs_F A, fs_F B, pa, rg, eo, nm, op, fs_F V, fs_F M, wb, wv, sa, st, lf, cp, si, sf, so)) ∧ (∀ post : Int32 → SY → Prop, post (nI i1) (nI mi, nI mb, nI mv, sl, nI n, nI vc, nI bc, nI p1, nI t1, nI vc, fs_F K, fs_F A, fs_F B, fs_F V, fs_F M, bf1, wk, sr1, lt1, mk1, sm1, sF1, sT1) → wpY_layItem post (nI mi, nI mb, nI mv, sl, nI n, nI vc, nI bc, nI p, nI t, nI vc, fs_F K, fs_F A, fs_F B, fs_F V, fs_F M, bf, wk, sr, lt, mk, sm, sF, sT) (nI i) 0))
    ∨ (∃ e : Nat, fs_m K e p < fs_m K i p ∧ fs_m K (e + 1) p < fs_m K e p ∧ e < n ∧ fs_SQ mb vc K A n (e + 1) p t S C wb sa st lf si sf so bf sr lt mk sm sF sT ∧ (∀ post : SX → Prop, post (nI mi, nI mb, nI mv, nI n, oc, sl, nI vc, nI bc, nI (e + 1), nI p, nI t, 0, fs_F K, fs_F A, fs_F B, pa, rg, eo, nm, op, fs_F V, fs_F M, wb, wv, sa, st, lf, cp, si, sf, so) → wpX_layItem post (nI mi, nI mb, nI mv, nI n, oc, sl, nI vc, nI bc, nI i, nI p, nI t, 0, fs_F K, fs_F A, fs_F B, pa, rg, eo, nm, op, fs_F V, fs_F M, wb, wv, sa, st, lf, cp, si, sf, so)) ∧ (∀ post : Int32 → SY → Prop, post (nI e) (nI mi, nI mb, nI mv, sl, nI n, nI vc, nI bc, nI p, nI t, nI vc, fs_F K, fs_F A, fs_F B, fs_F V, fs_F M, bf, wk, sr, lt, mk, sm, sF, sT) → wpY_layItem post (nI mi, nI mb, nI mv, sl, nI n, nI vc, nI bc, nI p, nI t, nI vc, fs_F K, fs_F A, fs_F B, fs_F V, fs_F M, bf, wk, sr, lt, mk, sm, sF, sT) (nI i) 0) ∧ (∀ post : Int32 → SY → Prop, post (nI (e + 1)) (nI mi, nI mb, nI mv, sl, nI n, nI vc, nI bc, nI p, nI t, nI vc, fs_F K, fs_F A, fs_F B, fs_F V, fs_F M, bf, wk, sr, lt, mk, sm, sF, sT) → wpY_layItem post (nI mi, nI mb, nI mv, sl, nI n, nI vc, nI bc, nI p, nI t, nI vc, fs_F K, fs_F A, fs_F B, fs_F V, fs_F M, bf, wk, sr, lt, mk, sm, sF, sT) (nI e) 0)) := by
  have R0 := R
  obtain ⟨⟨b1, b2, b3, b4, b5, b6⟩, r1, r2, r3, r4, W, r6, r7, r8, r9, r10, r11, r12⟩ := R
  have Q0 := Q
  obtain ⟨q1, q2, q3, q4, I, J⟩ := Q
  have hwd := fs_al W hi hk
  have hST : fs_ST K A n i (i + 1) := Or.inl ⟨rfl, by omega⟩
  by_cases c : p + fs_pad (A i) p ≤ mb
  · refine Or.inr (Or.inl ⟨i + 1, p + fs_pad (A i) p, t, fs_u S i p, C, fs_w wb p (fs_pad (A i) p) 0, sa, st, lf, si, sf, so, fs_w bf p (fs_pad (A i) p) 0, upd sr i (nI p), lt, mk, sm, sF, sT, ?_, fun post h => ?_, fun post h => ?_⟩)
    · exact fs_SQA W (by omega) b2 hi (by omega) hST (by omega) c (fun _ => by omega) (fun _ => by omega) (by omega) (by omega) (Or.inl ⟨rfl, rfl, by omega⟩) (fs_bits J.1 (fun r hr => by omega)) (fun _ _ => rfl) (fun e => by omega) (fun _ _ => rfl) (fun e => by omega) (fun _ _ => rfl) (fun _ _ => rfl) (fun e => by omega) Q0
    · exact xs_l4 (by omega) hk hwd.1 hwd.2 b2 (by omega) (fun _ => h) (fun z => by omega)
    · exact ys_align (by omega) hk hwd.1 hwd.2 b2 q3 (fun _ => h) (fun z => by omega)
  · refine Or.inl ⟨fun post h => ?_, fun post h => ?_⟩
    · exact xs_l4 (by omega) hk hwd.1 hwd.2 b2 (by omega) (fun z => absurd z c) (fun _ => h)
    · exact ys_align (by omega) hk hwd.1 hwd.2 b2 q3 (fun z => absurd z c) (fun _ => h)
theorem sv_5 (R : fs_Rel mi mb mv n vc bc 1 K A B V M oc pa rg eo nm op) (hi : i < n) (hwk : ∀ j, j < vc → wk j = nI (V j)) (Q : fs_SQ mb vc K A n i p t S C wb sa st lf si sf so bf sr lt mk sm sF sT) (hk : K i = 5 ∨ K i = 6) : ((∀ post : SX → Prop, (∀ (pc ps tk : Int32) (wb wv sa st lf cp si sf so : Nat → Int32), post (nI mi, nI mb, nI mv, nI n, oc, sl, nI vc, nI bc, pc, ps, tk, 1, fs_F K, fs_F A, fs_F B, pa, rg, eo, nm, op, fs_F V, fs_F M, wb, wv, sa, st, lf, cp, si, sf, so)) → wpX_layItem post (nI mi, nI mb, nI mv, nI n, oc, sl, nI vc, nI bc, nI i, nI p, nI t, 0, fs_F K, fs_F A, fs_F B, pa, rg, eo, nm, op, fs_F V, fs_F M, wb, wv, sa, st, lf, cp, si, sf, so)) ∧ (∀ post : Int32 → SY → Prop, (∀ (ot tt wc : Int32) (bf wk sr lt mk sm sF sT : Nat → Int32), post (-1) (nI mi, nI mb, nI mv, sl, nI n, nI vc, nI bc, ot, tt, wc, fs_F K, fs_F A, fs_F B, fs_F V, fs_F M, bf, wk, sr, lt, mk, sm, sF, sT)) → wpY_layItem post (nI mi, nI mb, nI mv, sl, nI n, nI vc, nI bc, nI p, nI t, nI vc, fs_F K, fs_F A, fs_F B, fs_F V, fs_F M, bf, wk, sr, lt, mk, sm, sF, sT) (nI i) 0))
    ∨ (∃ (i1 p1 t1 : Nat) (S1 C1 : Nat → Nat) (wb1 sa1 st1 lf1 si1 sf1 so1 bf1 sr1 lt1 mk1 sm1 sF1 sT1 : Nat → Int32), (fs_m K i1 p1 < fs_m K i p ∧ fs_SQ mb vc K A n i1 p1 t1 S1 C1 wb1 sa1 st1 lf1 si1 sf1 so1 bf1 sr1 lt1 mk1 sm1 sF1 sT1) ∧ (∀ post : SX → Prop, post (nI mi, nI mb, nI mv, nI n, oc, sl, nI vc, nI bc, nI i1, nI p1, nI t1, 0, fs_F K, fs_F A, fs_F B, pa, rg, eo, nm, op, fs_F V, fs_F M, wb1, wv, sa1, st1, lf1, cp, si1, sf1, so1) → wpX_layItem post (nI mi, nI mb, nI mv, nI n, oc, sl, nI vc, nI bc, nI i, nI p, nI t, 0, fs_F K, fs_F A, fs_F B, pa, rg, eo, nm, op, fs_F V, fs_F M, wb, wv, sa, st, lf, cp, si, sf, so)) ∧ (∀ post : Int32 → SY → Prop, post (nI i1) (nI mi, nI mb, nI mv, sl, nI n, nI vc, nI bc, nI p1, nI t1, nI vc, fs_F K, fs_F A, fs_F B, fs_F V, fs_F M, bf1, wk, sr1, lt1, mk1, sm1, sF1, sT1) → wpY_layItem post (nI mi, nI mb, nI mv, sl, nI n, nI vc, nI bc, nI p, nI t, nI vc, fs_F K, fs_F A, fs_F B, fs_F V, fs_F M, bf, wk, sr, lt, mk, sm, sF, sT) (nI i) 0))
    ∨ (∃ e : Nat, fs_m K e p < fs_m K i p ∧ fs_m K (e + 1) p < fs_m K e p ∧ e < n ∧ fs_SQ mb vc K A n (e + 1) p t S C wb sa st lf si sf so bf sr lt mk sm sF sT ∧ (∀ post : SX → Prop, post (nI mi, nI mb, nI mv, nI n, oc, sl, nI vc, nI bc, nI (e + 1), nI p, nI t, 0, fs_F K, fs_F A, fs_F B, pa, rg, eo, nm, op, fs_F V, fs_F M, wb, wv, sa, st, lf, cp, si, sf, so) → wpX_layItem post (nI mi, nI mb, nI mv, nI n, oc, sl, nI vc, nI bc, nI i, nI p, nI t, 0, fs_F K, fs_F A, fs_F B, pa, rg, eo, nm, op, fs_F V, fs_F M, wb, wv, sa, st, lf, cp, si, sf, so)) ∧ (∀ post : Int32 → SY → Prop, post (nI e) (nI mi, nI mb, nI mv, sl, nI n, nI vc, nI bc, nI p, nI t, nI vc, fs_F K, fs_F A, fs_F B, fs_F V, fs_F M, bf, wk, sr, lt, mk, sm, sF, sT) → wpY_layItem post (nI mi, nI mb, nI mv, sl, nI n, nI vc, nI bc, nI p, nI t, nI vc, fs_F K, fs_F A, fs_F B, fs_F V, fs_F M, bf, wk, sr, lt, mk, sm, sF, sT) (nI i) 0) ∧ (∀ post : Int32 → SY → Prop, post (nI (e + 1)) (nI mi, nI mb, nI mv, sl, nI n, nI vc, nI bc, nI p, nI t, nI vc, fs_F K, fs_F A, fs_F B, fs_F V, fs_F M, bf, wk, sr, lt, mk, sm, sF, sT) → wpY_layItem post (nI mi, nI mb, nI mv, sl, nI n, nI vc, nI bc, nI p, nI t, nI vc, fs_F K, fs_F A, fs_F B, fs_F V, fs_F M, bf, wk, sr, lt, mk, sm, sF, sT) (nI e) 0)) := by
  have R0 := R
  obtain ⟨⟨b1, b2, b3, b4, b5, b6⟩, r1, r2, r3, r4, W, r6, r7, r8, r9, r10, r11, r12⟩ := R
  have Q0 := Q
  obtain ⟨q1, q2, q3, q4, I, J⟩ := Q
  have hST : fs_ST K A n i (i + 1) := Or.inl ⟨rfl, by omega⟩
  refine Or.inr (Or.inl ⟨i + 1, p, t, fs_u S i p, C, wb, sa, upd st i (nI p), lf, si, sf, so, bf, upd sr i (nI p), lt, mk, sm, sF, sT, ?_, fun post h => ?_, fun post h => ?_⟩)
  · exact fs_SQA W (by omega) b2 hi (by omega) hST (by omega) q3 (fun _ => by omega) (fun _ => by omega) (by omega) (by omega) (Or.inl ⟨rfl, rfl, by omega⟩) J.1 (fun _ _ => rfl) (fun e => by omega) (fun _ e => pk_un e) (fun _ => pk_us) (fun _ _ => rfl) (fun _ _ => rfl) (fun e => by omega) Q0
  · exact xs_l5 (by omega) hk h
  · exact ys_open (by omega) hk h
theorem sv_7 (R : fs_Rel mi mb mv n vc bc 1 K A B V M oc pa rg eo nm op) (hi : i < n) (hwk : ∀ j, j < vc → wk j = nI (V j)) (Q : fs_SQ mb vc K A n i p t S C wb sa st lf si sf so bf sr lt mk sm sF sT) (hk : K i = 7) : ((∀ post : SX → Prop, (∀ (pc ps tk : Int32) (wb wv sa st lf cp si sf so : Nat → Int32), post (nI mi, nI mb, nI mv, nI n, oc, sl, nI vc, nI bc, pc, ps, tk, 1, fs_F K, fs_F A, fs_F B, pa, rg, eo, nm, op, fs_F V, fs_F M, wb, wv, sa, st, lf, cp, si, sf, so)) → wpX_layItem post (nI mi, nI mb, nI mv, nI n, oc, sl, nI vc, nI bc, nI i, nI p, nI t, 0, fs_F K, fs_F A, fs_F B, pa, rg, eo, nm, op, fs_F V, fs_F M, wb, wv, sa, st, lf, cp, si, sf, so)) ∧ (∀ post : Int32 → SY → Prop, (∀ (ot tt wc : Int32) (bf wk sr lt mk sm sF sT : Nat → Int32), post (-1) (nI mi, nI mb, nI mv, sl, nI n, nI vc, nI bc, ot, tt, wc, fs_F K, fs_F A, fs_F B, fs_F V, fs_F M, bf, wk, sr, lt, mk, sm, sF, sT)) → wpY_layItem post (nI mi, nI mb, nI mv, sl, nI n, nI vc, nI bc, nI p, nI t, nI vc, fs_F K, fs_F A, fs_F B, fs_F V, fs_F M, bf, wk, sr, lt, mk, sm, sF, sT) (nI i) 0))
    ∨ (∃ (i1 p1 t1 : Nat) (S1 C1 : Nat → Nat) (wb1 sa1 st1 lf1 si1 sf1 so1 bf1 sr1 lt1 mk1 sm1 sF1 sT1 : Nat → Int32), (fs_m K i1 p1 < fs_m K i p ∧ fs_SQ mb vc K A n i1 p1 t1 S1 C1 wb1 sa1 st1 lf1 si1 sf1 so1 bf1 sr1 lt1 mk1 sm1 sF1 sT1) ∧ (∀ post : SX → Prop, post (nI mi, nI mb, nI mv, nI n, oc, sl, nI vc, nI bc, nI i1, nI p1, nI t1, 0, fs_F K, fs_F A, fs_F B, pa, rg, eo, nm, op, fs_F V, fs_F M, wb1, wv, sa1, st1, lf1, cp, si1, sf1, so1) → wpX_layItem post (nI mi, nI mb, nI mv, nI n, oc, sl, nI vc, nI bc, nI i, nI p, nI t, 0, fs_F K, fs_F A, fs_F B, pa, rg, eo, nm, op, fs_F V, fs_F M, wb, wv, sa, st, lf, cp, si, sf, so)) ∧ (∀ post : Int32 → SY → Prop, post (nI i1) (nI mi, nI mb, nI mv, sl, nI n, nI vc, nI bc, nI p1, nI t1, nI vc, fs_F K, fs_F A, fs_F B, fs_F V, fs_F M, bf1, wk, sr1, lt1, mk1, sm1, sF1, sT1) → wpY_layItem post (nI mi, nI mb, nI mv, sl, nI n, nI vc, nI bc, nI p, nI t, nI vc, fs_F K, fs_F A, fs_F B, fs_F V, fs_F M, bf, wk, sr, lt, mk, sm, sF, sT) (nI i) 0))
    ∨ (∃ e : Nat, fs_m K e p < fs_m K i p ∧ fs_m K (e + 1) p < fs_m K e p ∧ e < n ∧ fs_SQ mb vc K A n (e + 1) p t S C wb sa st lf si sf so bf sr lt mk sm sF sT ∧ (∀ post : SX → Prop, post (nI mi, nI mb, nI mv, nI n, oc, sl, nI vc, nI bc, nI (e + 1), nI p, nI t, 0, fs_F K, fs_F A, fs_F B, pa, rg, eo, nm, op, fs_F V, fs_F M, wb, wv, sa, st, lf, cp, si, sf, so) → wpX_layItem post (nI mi, nI mb, nI mv, nI n, oc, sl, nI vc, nI bc, nI i, nI p, nI t, 0, fs_F K, fs_F A, fs_F B, pa, rg, eo, nm, op, fs_F V, fs_F M, wb, wv, sa, st, lf, cp, si, sf, so)) ∧ (∀ post : Int32 → SY → Prop, post (nI e) (nI mi, nI mb, nI mv, sl, nI n, nI vc, nI bc, nI p, nI t, nI vc, fs_F K, fs_F A, fs_F B, fs_F V, fs_F M, bf, wk, sr, lt, mk, sm, sF, sT) → wpY_layItem post (nI mi, nI mb, nI mv, sl, nI n, nI vc, nI bc, nI p, nI t, nI vc, fs_F K, fs_F A, fs_F B, fs_F V, fs_F M, bf, wk, sr, lt, mk, sm, sF, sT) (nI i) 0) ∧ (∀ post : Int32 → SY → Prop, post (nI (e + 1)) (nI mi, nI mb, nI mv, sl, nI n, nI vc, nI bc, nI p, nI t, nI vc, fs_F K, fs_F A, fs_F B, fs_F V, fs_F M, bf, wk, sr, lt, mk, sm, sF, sT) → wpY_layItem post (nI mi, nI mb, nI mv, sl, nI n, nI vc, nI bc, nI p, nI t, nI vc, fs_F K, fs_F A, fs_F B, fs_F V, fs_F M, bf, wk, sr, lt, mk, sm, sF, sT) (nI e) 0)) := by
  have R0 := R
  obtain ⟨⟨b1, b2, b3, b4, b5, b6⟩, r1, r2, r3, r4, W, r6, r7, r8, r9, r10, r11, r12⟩ := R
  have Q0 := Q
  obtain ⟨q1, q2, q3, q4, I, J⟩ := Q
  have hna : fs_nam (K i) := Or.inr (Or.inr (Or.inl hk))
  have hnm := fs_nm W hi hna
  have hwd := fs_wd W (i := A i) (by omega) (by omega)
  have hpd : fs_pd K A i i := ⟨hnm.1, Or.inl (Nat.le_refl i)⟩
  obtain ⟨y1, y2⟩ := I.1 i hi hna hpd
  have y3 := J.2.1 i hi hna hpd
  have y1' : upd sr i (nI p) (A i) = nI (S (A i)) := by rw [pk_un (by omega)]; exact y1
  obtain ⟨e, he, hke, hAe⟩ := fs_ex W (r12 rfl).1 hi (by omega) (by omega)
  have heo : eo i = nI e := by have := r10 e he hke; rw [hAe] at this; exact this
  have hVt := r3 t
  by_cases c : t < vc ∧ V t < 2 ^ A (A i)
  · have go : ∀ i1, fs_ST K A n i i1 → (V t = 0 ∧ i1 = e + 1) ∨ (0 < V t ∧ i1 = i + 1) → ((∀ post : SX → Prop, (∀ (pc ps tk : Int32) (wb wv sa st lf cp si sf so : Nat → Int32), post (nI mi, nI mb, nI mv, nI n, oc, sl, nI vc, nI bc, pc, ps, tk, 1, fs_F K, fs_F A, fs_F B, pa, rg, eo, nm, op, fs_F V, fs_F M, wb, wv, sa, st, lf, cp, si, sf, so)) → wpX_layItem post (nI mi, nI mb, nI mv, nI n, oc, sl, nI vc, nI bc, nI i, nI p, nI t, 0, fs_F K, fs_F A, fs_F B, pa, rg, eo, nm, op, fs_F V, fs_F M, wb, wv, sa, st, lf, cp, si, sf, so)) ∧ (∀ post : Int32 → SY → Prop, (∀ (ot tt wc : Int32) (bf wk sr lt mk sm sF sT : Nat → Int32), post (-1) (nI mi, nI mb, nI mv, sl, nI n, nI vc, nI bc, ot, tt, wc, fs_F K, fs_F A, fs_F B, fs_F V, fs_F M, bf, wk, sr, lt, mk, sm, sF, sT)) → wpY_layItem post (nI mi, nI mb, nI mv, sl, nI n, nI vc, nI bc, nI p, nI t, nI vc, fs_F K, fs_F A, fs_F B, fs_F V, fs_F M, bf, wk, sr, lt, mk, sm, sF, sT) (nI i) 0))
    ∨ (∃ (i1 p1 t1 : Nat) (S1 C1 : Nat → Nat) (wb1 sa1 st1 lf1 si1 sf1 so1 bf1 sr1 lt1 mk1 sm1 sF1 sT1 : Nat → Int32), (fs_m K i1 p1 < fs_m K i p ∧ fs_SQ mb vc K A n i1 p1 t1 S1 C1 wb1 sa1 st1 lf1 si1 sf1 so1 bf1 sr1 lt1 mk1 sm1 sF1 sT1) ∧ (∀ post : SX → Prop, post (nI mi, nI mb, nI mv, nI n, oc, sl, nI vc, nI bc, nI i1, nI p1, nI t1, 0, fs_F K, fs_F A, fs_F B, pa, rg, eo, nm, op, fs_F V, fs_F M, wb1, wv, sa1, st1, lf1, cp, si1, sf1, so1) → wpX_layItem post (nI mi, nI mb, nI mv, nI n, oc, sl, nI vc, nI bc, nI i, nI p, nI t, 0, fs_F K, fs_F A, fs_F B, pa, rg, eo, nm, op, fs_F V, fs_F M, wb, wv, sa, st, lf, cp, si, sf, so)) ∧ (∀ post : Int32 → SY → Prop, post (nI i1) (nI mi, nI mb, nI mv, sl, nI n, nI vc, nI bc, nI p1, nI t1, nI vc, fs_F K, fs_F A, fs_F B, fs_F V, fs_F M, bf1, wk, sr1, lt1, mk1, sm1, sF1, sT1) → wpY_layItem post (nI mi, nI mb, nI mv, sl, nI n, nI vc, nI bc, nI p, nI t, nI vc, fs_F K, fs_F A, fs_F B, fs_F V, fs_F M, bf, wk, sr, lt, mk, sm, sF, sT) (nI i) 0))
    ∨ (∃ e : Nat, fs_m K e p < fs_m K i p ∧ fs_m K (e + 1) p < fs_m K e p ∧ e < n ∧ fs_SQ mb vc K A n (e + 1) p t S C wb sa st lf si sf so bf sr lt mk sm sF sT ∧ (∀ post : SX → Prop, post (nI mi, nI mb, nI mv, nI n, oc, sl, nI vc, nI bc, nI (e + 1), nI p, nI t, 0, fs_F K, fs_F A, fs_F B, pa, rg, eo, nm, op, fs_F V, fs_F M, wb, wv, sa, st, lf, cp, si, sf, so) → wpX_layItem post (nI mi, nI mb, nI mv, nI n, oc, sl, nI vc, nI bc, nI i, nI p, nI t, 0, fs_F K, fs_F A, fs_F B, pa, rg, eo, nm, op, fs_F V, fs_F M, wb, wv, sa, st, lf, cp, si, sf, so)) ∧ (∀ post : Int32 → SY → Prop, post (nI e) (nI mi, nI mb, nI mv, sl, nI n, nI vc, nI bc, nI p, nI t, nI vc, fs_F K, fs_F A, fs_F B, fs_F V, fs_F M, bf, wk, sr, lt, mk, sm, sF, sT) → wpY_layItem post (nI mi, nI mb, nI mv, sl, nI n, nI vc, nI bc, nI p, nI t, nI vc, fs_F K, fs_F A, fs_F B, fs_F V, fs_F M, bf, wk, sr, lt, mk, sm, sF, sT) (nI i) 0) ∧ (∀ post : Int32 → SY → Prop, post (nI (e + 1)) (nI mi, nI mb, nI mv, sl, nI n, nI vc, nI bc, nI p, nI t, nI vc, fs_F K, fs_F A, fs_F B, fs_F V, fs_F M, bf, wk, sr, lt, mk, sm, sF, sT) → wpY_layItem post (nI mi, nI mb, nI mv, sl, nI n, nI vc, nI bc, nI p, nI t, nI vc, fs_F K, fs_F A, fs_F B, fs_F V, fs_F M, bf, wk, sr, lt, mk, sm, sF, sT) (nI e) 0)) := by
      intro i1 hST hj
      refine Or.inr (Or.inl ⟨i1, p, t + 1, fs_u S i p, fs_u C i t, fs_w wb (S (A i)) (A (A i)) (V t), sa, st, upd lf i (nI (V t)), si, sf, so, fs_w bf (S (A i)) (A (A i)) (V t), upd sr i (nI p), upd lt i (nI (V t)), upd mk i (nI t), sm, sF, sT, ?_, fun post h => ?_, fun post h => ?_⟩)
      · exact fs_SQA W (by omega) b2 hi (by omega) hST (by omega) q3 (fun _ => by omega) (fun _ => by omega) (by omega) (by omega) (Or.inr ⟨rfl, rfl, by omega⟩) (fs_bits J.1 (fun r hr => by omega)) (fun _ _ => rfl) (fun e => by omega) (fun _ _ => rfl) (fun e => by omega) (fun _ e => pk_un e) (fun _ e => pk_un e) (fun _ => by rw [pk_us, pk_us]) Q0
      · refine xs_l789 (q := S (A i)) (by omega) r2 r8 hi (Or.inl hk) (by omega) (by omega) r3 (fun _ => ⟨by omega, hwd.2, y3, by omega⟩) (fun _ _ _ => ?_) (fun e => by omega) (fun z => absurd ⟨c.1, fun _ => c.2⟩ z)
        rw [hk]
        refine br_f (by decide) ?_
        rcases hj with ⟨z, rfl⟩ | ⟨z, rfl⟩
        · exact xs_loop (by omega) (by omega) heo (fun _ => h) (fun z' => by omega)
        · exact xs_loop (by omega) (by omega) heo (fun z' => by omega) (fun _ => h)
      · refine ys_val0 (by omega) (Or.inr (Or.inl hk)) ?_
        rw [hk]
        refine ys_177s (by omega) (Or.inl rfl) (by omega) (by omega) y1' hwd.2 (by omega) (by omega) (nI_lt c.1 (by omega)) (hwk t c.1) (fun _ => ?_) (fun z => absurd c.2 z)
        rcases hj with ⟨z, rfl⟩ | ⟨z, rfl⟩
        · exact ys_273 W (by omega) r2 (by omega) (by omega) (by omega) he hke hAe (by omega) (fun _ => h) (fun z' => by omega)
        · exact ys_273 W (by omega) r2 (by omega) (by omega) (by omega) he hke hAe (by omega) (fun z' => by omega) (fun _ => h)
    by_cases z : V t = 0
    · exact go (e + 1) (Or.inr (Or.inr (Or.inl ⟨e, rfl, Or.inl hk, he, hke, hAe⟩))) (Or.inl ⟨z, rfl⟩)
    · exact go (i + 1) (Or.inl ⟨rfl, by omega⟩) (Or.inr ⟨by omega, rfl⟩)
  · refine Or.inl ⟨fun post h => ?_, fun post h => ?_⟩
    · exact xs_l789 (q := S (A i)) (by omega) r2 r8 hi (Or.inl hk) (by omega) (by omega) r3 (fun _ => ⟨by omega, hwd.2, y3, by omega⟩) (fun _ d f => absurd ⟨d, f⟩ c) (fun e => by omega) (fun _ => h)
    · refine ys_val0 (by omega) (Or.inr (Or.inl hk)) ?_
      rw [hk]
      by_cases d : t < vc
      · exact ys_177s (by omega) (Or.inl rfl) (by omega) (by omega) y1' hwd.2 (by omega) (by omega) (nI_lt d (by omega)) (hwk t d) (fun f => absurd ⟨d, f⟩ c) (fun _ => h)
      · exact ys_177z (nI_nlt (by omega) (by omega)) (h _ _ _ _ _ _ _ _ _ _ _)
theorem sv_8 (R : fs_Rel mi mb mv n vc bc 1 K A B V M oc pa rg eo nm op) (hi : i < n) (hwk : ∀ j, j < vc → wk j = nI (V j)) (Q : fs_SQ mb vc K A n i p t S C wb sa st lf si sf so bf sr lt mk sm sF sT) (hk : K i = 8) : ((∀ post : SX → Prop, (∀ (pc ps tk : Int32) (wb wv sa st lf cp si sf so : Nat → Int32), post (nI mi, nI mb, nI mv, nI n, oc, sl, nI vc, nI bc, pc, ps, tk, 1, fs_F K, fs_F A, fs_F B, pa, rg, eo, nm, op, fs_F V, fs_F M, wb, wv, sa, st, lf, cp, si, sf, so)) → wpX_layItem post (nI mi, nI mb, nI mv, nI n, oc, sl, nI vc, nI bc, nI i, nI p, nI t, 0, fs_F K, fs_F A, fs_F B, pa, rg, eo, nm, op, fs_F V, fs_F M, wb, wv, sa, st, lf, cp, si, sf, so)) ∧ (∀ post : Int32 → SY → Prop, (∀ (ot tt wc : Int32) (bf wk sr lt mk sm sF sT : Nat → Int32), post (-1) (nI mi, nI mb, nI mv, sl, nI n, nI vc, nI bc, ot, tt, wc, fs_F K, fs_F A, fs_F B, fs_F V, fs_F M, bf, wk, sr, lt, mk, sm, sF, sT)) → wpY_layItem post (nI mi, nI mb, nI mv, sl, nI n, nI vc, nI bc, nI p, nI t, nI vc, fs_F K, fs_F A, fs_F B, fs_F V, fs_F M, bf, wk, sr, lt, mk, sm, sF, sT) (nI i) 0))
    ∨ (∃ (i1 p1 t1 : Nat) (S1 C1 : Nat → Nat) (wb1 sa1 st1 lf1 si1 sf1 so1 bf1 sr1 lt1 mk1 sm1 sF1 sT1 : Nat → Int32), (fs_m K i1 p1 < fs_m K i p ∧ fs_SQ mb vc K A n i1 p1 t1 S1 C1 wb1 sa1 st1 lf1 si1 sf1 so1 bf1 sr1 lt1 mk1 sm1 sF1 sT1) ∧ (∀ post : SX → Prop, post (nI mi, nI mb, nI mv, nI n, oc, sl, nI vc, nI bc, nI i1, nI p1, nI t1, 0, fs_F K, fs_F A, fs_F B, pa, rg, eo, nm, op, fs_F V, fs_F M, wb1, wv, sa1, st1, lf1, cp, si1, sf1, so1) → wpX_layItem post (nI mi, nI mb, nI mv, nI n, oc, sl, nI vc, nI bc, nI i, nI p, nI t, 0, fs_F K, fs_F A, fs_F B, pa, rg, eo, nm, op, fs_F V, fs_F M, wb, wv, sa, st, lf, cp, si, sf, so)) ∧ (∀ post : Int32 → SY → Prop, post (nI i1) (nI mi, nI mb, nI mv, sl, nI n, nI vc, nI bc, nI p1, nI t1, nI vc, fs_F K, fs_F A, fs_F B, fs_F V, fs_F M, bf1, wk, sr1, lt1, mk1, sm1, sF1, sT1) → wpY_layItem post (nI mi, nI mb, nI mv, sl, nI n, nI vc, nI bc, nI p, nI t, nI vc, fs_F K, fs_F A, fs_F B, fs_F V, fs_F M, bf, wk, sr, lt, mk, sm, sF, sT) (nI i) 0))
    ∨ (∃ e : Nat, fs_m K e p < fs_m K i p ∧ fs_m K (e + 1) p < fs_m K e p ∧ e < n ∧ fs_SQ mb vc K A n (e + 1) p t S C wb sa st lf si sf so bf sr lt mk sm sF sT ∧ (∀ post : SX → Prop, post (nI mi, nI mb, nI mv, nI n, oc, sl, nI vc, nI bc, nI (e + 1), nI p, nI t, 0, fs_F K, fs_F A, fs_F B, pa, rg, eo, nm, op, fs_F V, fs_F M, wb, wv, sa, st, lf, cp, si, sf, so) → wpX_layItem post (nI mi, nI mb, nI mv, nI n, oc, sl, nI vc, nI bc, nI i, nI p, nI t, 0, fs_F K, fs_F A, fs_F B, pa, rg, eo, nm, op, fs_F V, fs_F M, wb, wv, sa, st, lf, cp, si, sf, so)) ∧ (∀ post : Int32 → SY → Prop, post (nI e) (nI mi, nI mb, nI mv, sl, nI n, nI vc, nI bc, nI p, nI t, nI vc, fs_F K, fs_F A, fs_F B, fs_F V, fs_F M, bf, wk, sr, lt, mk, sm, sF, sT) → wpY_layItem post (nI mi, nI mb, nI mv, sl, nI n, nI vc, nI bc, nI p, nI t, nI vc, fs_F K, fs_F A, fs_F B, fs_F V, fs_F M, bf, wk, sr, lt, mk, sm, sF, sT) (nI i) 0) ∧ (∀ post : Int32 → SY → Prop, post (nI (e + 1)) (nI mi, nI mb, nI mv, sl, nI n, nI vc, nI bc, nI p, nI t, nI vc, fs_F K, fs_F A, fs_F B, fs_F V, fs_F M, bf, wk, sr, lt, mk, sm, sF, sT) → wpY_layItem post (nI mi, nI mb, nI mv, sl, nI n, nI vc, nI bc, nI p, nI t, nI vc, fs_F K, fs_F A, fs_F B, fs_F V, fs_F M, bf, wk, sr, lt, mk, sm, sF, sT) (nI e) 0)) := by
  have R0 := R
  obtain ⟨⟨b1, b2, b3, b4, b5, b6⟩, r1, r2, r3, r4, W, r6, r7, r8, r9, r10, r11, r12⟩ := R
  have Q0 := Q
  obtain ⟨q1, q2, q3, q4, I, J⟩ := Q
  obtain ⟨e, he, hke, hAe⟩ := fs_ex W (r12 rfl).1 hi (by omega) (by omega)
  have heo : eo i = nI e := by have := r10 e he hke; rw [hAe] at this; exact this
  have hVt := r3 t
  by_cases c : t < vc
  · have go : ∀ i1, fs_ST K A n i i1 → (V t = 0 ∧ i1 = e + 1) ∨ (0 < V t ∧ i1 = i + 1) → ((∀ post : SX → Prop, (∀ (pc ps tk : Int32) (wb wv sa st lf cp si sf so : Nat → Int32), post (nI mi, nI mb, nI mv, nI n, oc, sl, nI vc, nI bc, pc, ps, tk, 1, fs_F K, fs_F A, fs_F B, pa, rg, eo, nm, op, fs_F V, fs_F M, wb, wv, sa, st, lf, cp, si, sf, so)) → wpX_layItem post (nI mi, nI mb, nI mv, nI n, oc, sl, nI vc, nI bc, nI i, nI p, nI t, 0, fs_F K, fs_F A, fs_F B, pa, rg, eo, nm, op, fs_F V, fs_F M, wb, wv, sa, st, lf, cp, si, sf, so)) ∧ (∀ post : Int32 → SY → Prop, (∀ (ot tt wc : Int32) (bf wk sr lt mk sm sF sT : Nat → Int32), post (-1) (nI mi, nI mb, nI mv, sl, nI n, nI vc, nI bc, ot, tt, wc, fs_F K, fs_F A, fs_F B, fs_F V, fs_F M, bf, wk, sr, lt, mk, sm, sF, sT)) → wpY_layItem post (nI mi, nI mb, nI mv, sl, nI n, nI vc, nI bc, nI p, nI t, nI vc, fs_F K, fs_F A, fs_F B, fs_F V, fs_F M, bf, wk, sr, lt, mk, sm, sF, sT) (nI i) 0))
    ∨ (∃ (i1 p1 t1 : Nat) (S1 C1 : Nat → Nat) (wb1 sa1 st1 lf1 si1 sf1 so1 bf1 sr1 lt1 mk1 sm1 sF1 sT1 : Nat → Int32), (fs_m K i1 p1 < fs_m K i p ∧ fs_SQ mb vc K A n i1 p1 t1 S1 C1 wb1 sa1 st1 lf1 si1 sf1 so1 bf1 sr1 lt1 mk1 sm1 sF1 sT1) ∧ (∀ post : SX → Prop, post (nI mi, nI mb, nI mv, nI n, oc, sl, nI vc, nI bc, nI i1, nI p1, nI t1, 0, fs_F K, fs_F A, fs_F B, pa, rg, eo, nm, op, fs_F V, fs_F M, wb1, wv, sa1, st1, lf1, cp, si1, sf1, so1) → wpX_layItem post (nI mi, nI mb, nI mv, nI n, oc, sl, nI vc, nI bc, nI i, nI p, nI t, 0, fs_F K, fs_F A, fs_F B, pa, rg, eo, nm, op, fs_F V, fs_F M, wb, wv, sa, st, lf, cp, si, sf, so)) ∧ (∀ post : Int32 → SY → Prop, post (nI i1) (nI mi, nI mb, nI mv, sl, nI n, nI vc, nI bc, nI p1, nI t1, nI vc, fs_F K, fs_F A, fs_F B, fs_F V, fs_F M, bf1, wk, sr1, lt1, mk1, sm1, sF1, sT1) → wpY_layItem post (nI mi, nI mb, nI mv, sl, nI n, nI vc, nI bc, nI p, nI t, nI vc, fs_F K, fs_F A, fs_F B, fs_F V, fs_F M, bf, wk, sr, lt, mk, sm, sF, sT) (nI i) 0))
    ∨ (∃ e : Nat, fs_m K e p < fs_m K i p ∧ fs_m K (e + 1) p < fs_m K e p ∧ e < n ∧ fs_SQ mb vc K A n (e + 1) p t S C wb sa st lf si sf so bf sr lt mk sm sF sT ∧ (∀ post : SX → Prop, post (nI mi, nI mb, nI mv, nI n, oc, sl, nI vc, nI bc, nI (e + 1), nI p, nI t, 0, fs_F K, fs_F A, fs_F B, pa, rg, eo, nm, op, fs_F V, fs_F M, wb, wv, sa, st, lf, cp, si, sf, so) → wpX_layItem post (nI mi, nI mb, nI mv, nI n, oc, sl, nI vc, nI bc, nI i, nI p, nI t, 0, fs_F K, fs_F A, fs_F B, pa, rg, eo, nm, op, fs_F V, fs_F M, wb, wv, sa, st, lf, cp, si, sf, so)) ∧ (∀ post : Int32 → SY → Prop, post (nI e) (nI mi, nI mb, nI mv, sl, nI n, nI vc, nI bc, nI p, nI t, nI vc, fs_F K, fs_F A, fs_F B, fs_F V, fs_F M, bf, wk, sr, lt, mk, sm, sF, sT) → wpY_layItem post (nI mi, nI mb, nI mv, sl, nI n, nI vc, nI bc, nI p, nI t, nI vc, fs_F K, fs_F A, fs_F B, fs_F V, fs_F M, bf, wk, sr, lt, mk, sm, sF, sT) (nI i) 0) ∧ (∀ post : Int32 → SY → Prop, post (nI (e + 1)) (nI mi, nI mb, nI mv, sl, nI n, nI vc, nI bc, nI p, nI t, nI vc, fs_F K, fs_F A, fs_F B, fs_F V, fs_F M, bf, wk, sr, lt, mk, sm, sF, sT) → wpY_layItem post (nI mi, nI mb, nI mv, sl, nI n, nI vc, nI bc, nI p, nI t, nI vc, fs_F K, fs_F A, fs_F B, fs_F V, fs_F M, bf, wk, sr, lt, mk, sm, sF, sT) (nI e) 0)) := by
      intro i1 hST hj
      refine Or.inr (Or.inl ⟨i1, p, t + 1, fs_u S i p, fs_u C i t, wb, sa, st, upd lf i (nI (V t)), si, sf, so, bf, upd sr i (nI p), upd lt i (nI (V t)), upd mk i (nI t), sm, sF, sT, ?_, fun post h => ?_, fun post h => ?_⟩)
      · exact fs_SQA W (by omega) b2 hi (by omega) hST (by omega) q3 (fun _ => by omega) (fun _ => by omega) (by omega) (by omega) (Or.inr ⟨rfl, rfl, by omega⟩) J.1 (fun _ _ => rfl) (fun e => by omega) (fun _ _ => rfl) (fun e => by omega) (fun _ e => pk_un e) (fun _ e => pk_un e) (fun _ => by rw [pk_us, pk_us]) Q0
      · refine xs_l789 (q := 0) (by omega) r2 r8 hi (Or.inr (Or.inl hk)) (by omega) (by omega) r3 (fun z => absurd hk z) (fun z => absurd hk z) (fun _ _ => ?_) (fun z => absurd ⟨c, fun z => absurd hk z⟩ z)
        rw [hk]
        refine br_f (by decide) ?_
        rcases hj with ⟨z, rfl⟩ | ⟨z, rfl⟩
        · exact xs_loop (by omega) (by omega) heo (fun _ => h) (fun z' => by omega)
        · exact xs_loop (by omega) (by omega) heo (fun z' => by omega) (fun _ => h)
      · refine ys_val0 (by omega) (Or.inr (Or.inr (Or.inl hk))) ?_
        rw [hk]
        refine ys_177l (by omega) (by omega) (nI_lt c (by omega)) (hwk t c) ?_
        rcases hj with ⟨z, rfl⟩ | ⟨z, rfl⟩
        · exact ys_273 W (by omega) r2 (by omega) (by omega) (by omega) he hke hAe (by omega) (fun _ => h) (fun z' => by omega)
        · exact ys_273 W (by omega) r2 (by omega) (by omega) (by omega) he hke hAe (by omega) (fun z' => by omega) (fun _ => h)
    by_cases z : V t = 0
    · exact go (e + 1) (Or.inr (Or.inr (Or.inl ⟨e, rfl, Or.inr hk, he, hke, hAe⟩))) (Or.inl ⟨z, rfl⟩)
    · exact go (i + 1) (Or.inl ⟨rfl, by omega⟩) (Or.inr ⟨by omega, rfl⟩)
  · refine Or.inl ⟨fun post h => ?_, fun post h => ?_⟩
    · exact xs_l789 (q := 0) (by omega) r2 r8 hi (Or.inr (Or.inl hk)) (by omega) (by omega) r3 (fun z => absurd hk z) (fun z => absurd hk z) (fun _ z => absurd z c) (fun _ => h)
    · refine ys_val0 (by omega) (Or.inr (Or.inr (Or.inl hk))) ?_
      rw [hk]
      exact ys_177z (nI_nlt (by omega) (by omega)) (h _ _ _ _ _ _ _ _ _ _ _)
theorem sv_9 (R : fs_Rel mi mb mv n vc bc 1 K A B V M oc pa rg eo nm op) (hi : i < n) (hwk : ∀ j, j < vc → wk j = nI (V j)) (Q : fs_SQ mb vc K A n i p t S C wb sa st lf si sf so bf sr lt mk sm sF sT) (hk : K i = 9) : ((∀ post : SX → Prop, (∀ (pc ps tk : Int32) (wb wv sa st lf cp si sf so : Nat → Int32), post (nI mi, nI mb, nI mv, nI n, oc, sl, nI vc, nI bc, pc, ps, tk, 1, fs_F K, fs_F A, fs_F B, pa, rg, eo, nm, op, fs_F V, fs_F M, wb, wv, sa, st, lf, cp, si, sf, so)) → wpX_layItem post (nI mi, nI mb, nI mv, nI n, oc, sl, nI vc, nI bc, nI i, nI p, nI t, 0, fs_F K, fs_F A, fs_F B, pa, rg, eo, nm, op, fs_F V, fs_F M, wb, wv, sa, st, lf, cp, si, sf, so)) ∧ (∀ post : Int32 → SY → Prop, (∀ (ot tt wc : Int32) (bf wk sr lt mk sm sF sT : Nat → Int32), post (-1) (nI mi, nI mb, nI mv, sl, nI n, nI vc, nI bc, ot, tt, wc, fs_F K, fs_F A, fs_F B, fs_F V, fs_F M, bf, wk, sr, lt, mk, sm, sF, sT)) → wpY_layItem post (nI mi, nI mb, nI mv, sl, nI n, nI vc, nI bc, nI p, nI t, nI vc, fs_F K, fs_F A, fs_F B, fs_F V, fs_F M, bf, wk, sr, lt, mk, sm, sF, sT) (nI i) 0))
    ∨ (∃ (i1 p1 t1 : Nat) (S1 C1 : Nat → Nat) (wb1 sa1 st1 lf1 si1 sf1 so1 bf1 sr1 lt1 mk1 sm1 sF1 sT1 : Nat → Int32), (fs_m K i1 p1 < fs_m K i p ∧ fs_SQ mb vc K A n i1 p1 t1 S1 C1 wb1 sa1 st1 lf1 si1 sf1 so1 bf1 sr1 lt1 mk1 sm1 sF1 sT1) ∧ (∀ post : SX → Prop, post (nI mi, nI mb, nI mv, nI n, oc, sl, nI vc, nI bc, nI i1, nI p1, nI t1, 0, fs_F K, fs_F A, fs_F B, pa, rg, eo, nm, op, fs_F V, fs_F M, wb1, wv, sa1, st1, lf1, cp, si1, sf1, so1) → wpX_layItem post (nI mi, nI mb, nI mv, nI n, oc, sl, nI vc, nI bc, nI i, nI p, nI t, 0, fs_F K, fs_F A, fs_F B, pa, rg, eo, nm, op, fs_F V, fs_F M, wb, wv, sa, st, lf, cp, si, sf, so)) ∧ (∀ post : Int32 → SY → Prop, post (nI i1) (nI mi, nI mb, nI mv, sl, nI n, nI vc, nI bc, nI p1, nI t1, nI vc, fs_F K, fs_F A, fs_F B, fs_F V, fs_F M, bf1, wk, sr1, lt1, mk1, sm1, sF1, sT1) → wpY_layItem post (nI mi, nI mb, nI mv, sl, nI n, nI vc, nI bc, nI p, nI t, nI vc, fs_F K, fs_F A, fs_F B, fs_F V, fs_F M, bf, wk, sr, lt, mk, sm, sF, sT) (nI i) 0))
    ∨ (∃ e : Nat, fs_m K e p < fs_m K i p ∧ fs_m K (e + 1) p < fs_m K e p ∧ e < n ∧ fs_SQ mb vc K A n (e + 1) p t S C wb sa st lf si sf so bf sr lt mk sm sF sT ∧ (∀ post : SX → Prop, post (nI mi, nI mb, nI mv, nI n, oc, sl, nI vc, nI bc, nI (e + 1), nI p, nI t, 0, fs_F K, fs_F A, fs_F B, pa, rg, eo, nm, op, fs_F V, fs_F M, wb, wv, sa, st, lf, cp, si, sf, so) → wpX_layItem post (nI mi, nI mb, nI mv, nI n, oc, sl, nI vc, nI bc, nI i, nI p, nI t, 0, fs_F K, fs_F A, fs_F B, pa, rg, eo, nm, op, fs_F V, fs_F M, wb, wv, sa, st, lf, cp, si, sf, so)) ∧ (∀ post : Int32 → SY → Prop, post (nI e) (nI mi, nI mb, nI mv, sl, nI n, nI vc, nI bc, nI p, nI t, nI vc, fs_F K, fs_F A, fs_F B, fs_F V, fs_F M, bf, wk, sr, lt, mk, sm, sF, sT) → wpY_layItem post (nI mi, nI mb, nI mv, sl, nI n, nI vc, nI bc, nI p, nI t, nI vc, fs_F K, fs_F A, fs_F B, fs_F V, fs_F M, bf, wk, sr, lt, mk, sm, sF, sT) (nI i) 0) ∧ (∀ post : Int32 → SY → Prop, post (nI (e + 1)) (nI mi, nI mb, nI mv, sl, nI n, nI vc, nI bc, nI p, nI t, nI vc, fs_F K, fs_F A, fs_F B, fs_F V, fs_F M, bf, wk, sr, lt, mk, sm, sF, sT) → wpY_layItem post (nI mi, nI mb, nI mv, sl, nI n, nI vc, nI bc, nI p, nI t, nI vc, fs_F K, fs_F A, fs_F B, fs_F V, fs_F M, bf, wk, sr, lt, mk, sm, sF, sT) (nI e) 0)) := by
  have R0 := R
  obtain ⟨⟨b1, b2, b3, b4, b5, b6⟩, r1, r2, r3, r4, W, r6, r7, r8, r9, r10, r11, r12⟩ := R
  have Q0 := Q
  obtain ⟨q1, q2, q3, q4, I, J⟩ := Q
  have hna : fs_nam (K i) := Or.inr (Or.inr (Or.inr hk))
  have hnm := fs_nm W hi hna
  have hwd := fs_wd W (i := A i) (by omega) (by omega)
  have hpd : fs_pd K A i i := ⟨hnm.1, Or.inl (Nat.le_refl i)⟩
  obtain ⟨y1, y2⟩ := I.1 i hi hna hpd
  have y3 := J.2.1 i hi hna hpd
  have y1' : upd sr i (nI p) (A i) = nI (S (A i)) := by rw [pk_un (by omega)]; exact y1
  have hVt := r3 t
  obtain ⟨o, ho⟩ := fs_lst_ex (fs_isC K A i (nI (V t))) n
  by_cases c : t < vc ∧ V t < 2 ^ A (A i)
  · cases o with
    | none =>
      refine Or.inl ⟨fun post h => ?_, fun post h => ?_⟩
      · refine xs_l789 (q := S (A i)) (by omega) r2 r8 hi (Or.inr (Or.inr hk)) (by omega) (by omega) r3 (fun _ => ⟨by omega, hwd.2, y3, by omega⟩) (fun _ _ _ => ?_) (fun e => by omega) (fun _ => h)
        rw [hk]
        refine br_t (by decide) ?_
        exact xs_ent (by omega) r2 r8 hi ho (fun c z => by cases z) (fun _ => h _ _ _ _ _ _ _ _ _ _ _ _)
      · refine ys_val0 (by omega) (Or.inr (Or.inr (Or.inr hk))) ?_
        rw [hk]
        refine ys_177s (by omega) (Or.inr rfl) (by omega) (by omega) y1' hwd.2 (by omega) (by omega) (nI_lt c.1 (by omega)) (hwk t c.1) (fun _ => ?_) (fun _ => h)
        exact ys_273u (by omega) r2 (by omega) ho (fun c z => by cases z) (fun _ => h _ _ _ _ _ _ _ _ _ _ _)
    | some d =>
      have hC : fs_ST K A n i (d + 1) := Or.inr (Or.inr (Or.inr (Or.inr (Or.inl ⟨d, rfl, hk, ho.1, ho.2.1.1, fs_hd1 ho.2.1.2.2⟩))))
      refine Or.inr (Or.inl ⟨d + 1, p, t + 1, fs_u S i p, fs_u C i t, fs_w wb (S (A i)) (A (A i)) (V t), sa, st, lf, si, sf, so, fs_w bf (S (A i)) (A (A i)) (V t), upd sr i (nI p), lt, upd mk i (nI t), sm, sF, sT, ?_, fun post h => ?_, fun post h => ?_⟩)
      · exact fs_SQA W (by omega) b2 hi (by omega) hC (by omega) q3 (fun _ => by omega) (fun _ => by omega) (by omega) (by omega) (Or.inr ⟨rfl, rfl, by omega⟩) (fs_bits J.1 (fun r hr => by omega)) (fun _ _ => rfl) (fun e => by omega) (fun _ _ => rfl) (fun e => by omega) (fun _ _ => rfl) (fun _ _ => rfl) (fun e => by omega) Q0
      · refine xs_l789 (q := S (A i)) (by omega) r2 r8 hi (Or.inr (Or.inr hk)) (by omega) (by omega) r3 (fun _ => ⟨by omega, hwd.2, y3, by omega⟩) (fun _ _ _ => ?_) (fun e => by omega) (fun z => absurd ⟨c.1, fun _ => c.2⟩ z)
        rw [hk]
        refine br_t (by decide) ?_
        exact xs_ent (by omega) r2 r8 hi ho (fun c z => by injection z with z; subst z; exact h) (fun z => by cases z)
      · refine ys_val0 (by omega) (Or.inr (Or.inr (Or.inr hk))) ?_
        rw [hk]
        refine ys_177s (by omega) (Or.inr rfl) (by omega) (by omega) y1' hwd.2 (by omega) (by omega) (nI_lt c.1 (by omega)) (hwk t c.1) (fun _ => ?_) (fun z => absurd c.2 z)
        exact ys_273u (by omega) r2 (by omega) ho (fun c z => by injection z with z; subst z; exact h) (fun z => by cases z)
  · refine Or.inl ⟨fun post h => ?_, fun post h => ?_⟩
    · exact xs_l789 (q := S (A i)) (by omega) r2 r8 hi (Or.inr (Or.inr hk)) (by omega) (by omega) r3 (fun _ => ⟨by omega, hwd.2, y3, by omega⟩) (fun _ d f => absurd ⟨d, f⟩ c) (fun e => by omega) (fun _ => h)
    · refine ys_val0 (by omega) (Or.inr (Or.inr (Or.inr hk))) ?_
      rw [hk]
      by_cases d : t < vc
      · exact ys_177s (by omega) (Or.inr rfl) (by omega) (by omega) y1' hwd.2 (by omega) (by omega) (nI_lt d (by omega)) (hwk t d) (fun f => absurd ⟨d, f⟩ c) (fun _ => h)
      · exact ys_177z (nI_nlt (by omega) (by omega)) (h _ _ _ _ _ _ _ _ _ _ _)
end
end
section
section
variable {mi mb mv n vc bc : Nat} {oc sl pc ps tk fl : Int32} {K A B V M : Nat → Nat} {pa rg eo nm op wb wv sa st lf cp si sf so : Nat → Int32} {ot tt wc : Int32} {bf wk sr lt mk sm sF sT : Nat → Int32}
variable {i p t : Nat} {S C : Nat → Nat}
theorem sv_E (R : fs_Rel mi mb mv n vc bc 1 K A B V M oc pa rg eo nm op) (hi : i < n) (hwk : ∀ j, j < vc → wk j = nI (V j)) (Q : fs_SQ mb vc K A n i p t S C wb sa st lf si sf so bf sr lt mk sm sF sT) (hk : K i = 11) : ((∀ post : SX → Prop, (∀ (pc ps tk : Int32) (wb wv sa st lf cp si sf so : Nat → Int32), post (nI mi, nI mb, nI mv, nI n, oc, sl, nI vc, nI bc, pc, ps, tk, 1, fs_F K, fs_F A, fs_F B, pa, rg, eo, nm, op, fs_F V, fs_F M, wb, wv, sa, st, lf, cp, si, sf, so)) → wpX_layItem post (nI mi, nI mb, nI mv, nI n, oc, sl, nI vc, nI bc, nI i, nI p, nI t, 0, fs_F K, fs_F A, fs_F B, pa, rg, eo, nm, op, fs_F V, fs_F M, wb, wv, sa, st, lf, cp, si, sf, so)) ∧ (∀ post : Int32 → SY → Prop, (∀ (ot tt wc : Int32) (bf wk sr lt mk sm sF sT : Nat → Int32), post (-1) (nI mi, nI mb, nI mv, sl, nI n, nI vc, nI bc, ot, tt, wc, fs_F K, fs_F A, fs_F B, fs_F V, fs_F M, bf, wk, sr, lt, mk, sm, sF, sT)) → wpY_layItem post (nI mi, nI mb, nI mv, sl, nI n, nI vc, nI bc, nI p, nI t, nI vc, fs_F K, fs_F A, fs_F B, fs_F V, fs_F M, bf, wk, sr, lt, mk, sm, sF, sT) (nI i) 0))
    ∨ (∃ (i1 p1 t1 : Nat) (S1 C1 : Nat → Nat) (wb1 sa1 st1 lf1 si1 sf1 so1 bf1 sr1 lt1 mk1 sm1 sF1 sT1 : Nat → Int32), (fs_m K i1 p1 < fs_m K i p ∧ fs_SQ mb vc K A n i1 p1 t1 S1 C1 wb1 sa1 st1 lf1 si1 sf1 so1 bf1 sr1 lt1 mk1 sm1 sF1 sT1) ∧ (∀ post : SX → Prop, post (nI mi, nI mb, nI mv, nI n, oc, sl, nI vc, nI bc, nI i1, nI p1, nI t1, 0, fs_F K, fs_F A, fs_F B, pa, rg, eo, nm, op, fs_F V, fs_F M, wb1, wv, sa1, st1, lf1, cp, si1, sf1, so1) → wpX_layItem post (nI mi, nI mb, nI mv, nI n, oc, sl, nI vc, nI bc, nI i, nI p, nI t, 0, fs_F K, fs_F A, fs_F B, pa, rg, eo, nm, op, fs_F V, fs_F M, wb, wv, sa, st, lf, cp, si, sf, so)) ∧ (∀ post : Int32 → SY → Prop, post (nI i1) (nI mi, nI mb, nI mv, sl, nI n, nI vc, nI bc, nI p1, nI t1, nI vc, fs_F K, fs_F A, fs_F B, fs_F V, fs_F M, bf1, wk, sr1, lt1, mk1, sm1, sF1, sT1) → wpY_layItem post (nI mi, nI mb, nI mv, sl, nI n, nI vc, nI bc, nI p, nI t, nI vc, fs_F K, fs_F A, fs_F B, fs_F V, fs_F M, bf, wk, sr, lt, mk, sm, sF, sT) (nI i) 0))
    ∨ (∃ e : Nat, fs_m K e p < fs_m K i p ∧ fs_m K (e + 1) p < fs_m K e p ∧ e < n ∧ fs_SQ mb vc K A n (e + 1) p t S C wb sa st lf si sf so bf sr lt mk sm sF sT ∧ (∀ post : SX → Prop, post (nI mi, nI mb, nI mv, nI n, oc, sl, nI vc, nI bc, nI (e + 1), nI p, nI t, 0, fs_F K, fs_F A, fs_F B, pa, rg, eo, nm, op, fs_F V, fs_F M, wb, wv, sa, st, lf, cp, si, sf, so) → wpX_layItem post (nI mi, nI mb, nI mv, nI n, oc, sl, nI vc, nI bc, nI i, nI p, nI t, 0, fs_F K, fs_F A, fs_F B, pa, rg, eo, nm, op, fs_F V, fs_F M, wb, wv, sa, st, lf, cp, si, sf, so)) ∧ (∀ post : Int32 → SY → Prop, post (nI e) (nI mi, nI mb, nI mv, sl, nI n, nI vc, nI bc, nI p, nI t, nI vc, fs_F K, fs_F A, fs_F B, fs_F V, fs_F M, bf, wk, sr, lt, mk, sm, sF, sT) → wpY_layItem post (nI mi, nI mb, nI mv, sl, nI n, nI vc, nI bc, nI p, nI t, nI vc, fs_F K, fs_F A, fs_F B, fs_F V, fs_F M, bf, wk, sr, lt, mk, sm, sF, sT) (nI i) 0) ∧ (∀ post : Int32 → SY → Prop, post (nI (e + 1)) (nI mi, nI mb, nI mv, sl, nI n, nI vc, nI bc, nI p, nI t, nI vc, fs_F K, fs_F A, fs_F B, fs_F V, fs_F M, bf, wk, sr, lt, mk, sm, sF, sT) → wpY_layItem post (nI mi, nI mb, nI mv, sl, nI n, nI vc, nI bc, nI p, nI t, nI vc, fs_F K, fs_F A, fs_F B, fs_F V, fs_F M, bf, wk, sr, lt, mk, sm, sF, sT) (nI e) 0)) := by
  have R0 := R
  obtain ⟨⟨b1, b2, b3, b4, b5, b6⟩, r1, r2, r3, r4, W, r6, r7, r8, r9, r10, r11, r12⟩ := R
  have Q0 := Q
  obtain ⟨q1, q2, q3, q4, I, J⟩ := Q
  have hAi := fs_elt W hi hk
  have hop := fs_op (fs_eo W hi hk)
  have hk2 := fs_k W (i := A i) (by omega)
  by_cases k5 : K (A i) = 5
  · obtain ⟨hgn, hgna, hgpd⟩ := fs_pdE W hi hk (Or.inl k5)
    have hnm := fs_nm W hgn hgna
    have hwd := fs_wd W (i := A (A i)) (by omega) (by omega)
    obtain ⟨y1, y2⟩ := I.1 (A i) hgn hgna hgpd
    obtain ⟨z1, z2, z3⟩ := I.2.1 (A i) (fs_eo W hi hk) (Or.inl k5)
    have y3 := J.2.1 (A i) hgn hgna hgpd
    have z4 := J.2.2.1 (A i) (fs_eo W hi hk) (Or.inl k5)
    have hST : fs_ST K A n i (i + 1) := Or.inr (Or.inl ⟨rfl, hk, by omega⟩)
    by_cases c : p - S (A i) < 2 ^ A (A (A i))
    · refine Or.inr (Or.inl ⟨i + 1, p, t, S, C, fs_w wb (S (A (A i))) (A (A (A i))) (p - S (A i)), sa, st, lf, si, sf, so, fs_w bf (S (A (A i))) (A (A (A i))) (p - S (A i)), sr, lt, mk, sm, sF, sT, ?_, fun post h => ?_, fun post h => ?_⟩)
      · exact fs_SQB W (by omega) b2 hi hk hST (fs_bits J.1 (fun r hr => by omega)) (fun _ _ => rfl) (fun _ _ => rfl) (fun e => by omega) Q0
      · exact xs_e5 (by omega) hk rfl (by omega) k5 (by omega) hwd.2 y3 (by omega) z4 z3 (by omega) (fun _ => h) (fun z => absurd c z)
      · exact ys_eL r2 (by omega) hk rfl (by omega) k5 (by omega) y1 z1 z3 (by omega) hwd.2 (by omega) (fun _ => h) (fun z => absurd c z)
    · refine Or.inl ⟨fun post h => ?_, fun post h => ?_⟩
      · exact xs_e5 (by omega) hk rfl (by omega) k5 (by omega) hwd.2 y3 (by omega) z4 z3 (by omega) (fun z => absurd z c) (fun _ => h)
      · exact ys_eL r2 (by omega) hk rfl (by omega) k5 (by omega) y1 z1 z3 (by omega) hwd.2 (by omega) (fun z => absurd z c) (fun _ => h)
  by_cases k6 : K (A i) = 6
  · obtain ⟨hgn, hgna, hgpd⟩ := fs_pdE W hi hk (Or.inr k6)
    have hnm := fs_nm W hgn hgna
    have hwd := fs_wd W (i := A (A i)) (by omega) (by omega)
    obtain ⟨y1, y2⟩ := I.1 (A i) hgn hgna hgpd
    obtain ⟨z1, z2, z3⟩ := I.2.1 (A i) (fs_eo W hi hk) (Or.inr k6)
    have y3 := J.2.1 (A i) hgn hgna hgpd
    have z4 := J.2.2.1 (A i) (fs_eo W hi hk) (Or.inr k6)
    refine Or.inr (Or.inl ⟨i + 1, p, t, S, C, wb, sa, st, lf, _, _, _, bf, sr, lt, mk, _, _, _, fs_SQC W (by omega) b2 hi hk k6 Q0, fun post h => ?_, fun post h => ?_⟩)
    · exact xs_e6 (by omega) hk rfl (by omega) k6 (by omega) y3 (by omega) z4 h
    · exact ys_eS (by omega) hk rfl (by omega) k6 (by omega) y1 (by omega) z1 h
  by_cases k78 : K (A i) = 7 ∨ K (A i) = 8
  · have hl := J.2.2.2.1 (A i) (fs_eo W hi hk) k78
    have go : ∀ i1, fs_ST K A n i i1 → (lt (A i) - 1 ≤ 0 ∧ i1 = i + 1) ∨ (¬ lt (A i) - 1 ≤ 0 ∧ i1 = A i + 1) → ((∀ post : SX → Prop, (∀ (pc ps tk : Int32) (wb wv sa st lf cp si sf so : Nat → Int32), post (nI mi, nI mb, nI mv, nI n, oc, sl, nI vc, nI bc, pc, ps, tk, 1, fs_F K, fs_F A, fs_F B, pa, rg, eo, nm, op, fs_F V, fs_F M, wb, wv, sa, st, lf, cp, si, sf, so)) → wpX_layItem post (nI mi, nI mb, nI mv, nI n, oc, sl, nI vc, nI bc, nI i, nI p, nI t, 0, fs_F K, fs_F A, fs_F B, pa, rg, eo, nm, op, fs_F V, fs_F M, wb, wv, sa, st, lf, cp, si, sf, so)) ∧ (∀ post : Int32 → SY → Prop, (∀ (ot tt wc : Int32) (bf wk sr lt mk sm sF sT : Nat → Int32), post (-1) (nI mi, nI mb, nI mv, sl, nI n, nI vc, nI bc, ot, tt, wc, fs_F K, fs_F A, fs_F B, fs_F V, fs_F M, bf, wk, sr, lt, mk, sm, sF, sT)) → wpY_layItem post (nI mi, nI mb, nI mv, sl, nI n, nI vc, nI bc, nI p, nI t, nI vc, fs_F K, fs_F A, fs_F B, fs_F V, fs_F M, bf, wk, sr, lt, mk, sm, sF, sT) (nI i) 0))
    ∨ (∃ (i1 p1 t1 : Nat) (S1 C1 : Nat → Nat) (wb1 sa1 st1 lf1 si1 sf1 so1 bf1 sr1 lt1 mk1 sm1 sF1 sT1 : Nat → Int32), (fs_m K i1 p1 < fs_m K i p ∧ fs_SQ mb vc K A n i1 p1 t1 S1 C1 wb1 sa1 st1 lf1 si1 sf1 so1 bf1 sr1 lt1 mk1 sm1 sF1 sT1) ∧ (∀ post : SX → Prop, post (nI mi, nI mb, nI mv, nI n, oc, sl, nI vc, nI bc, nI i1, nI p1, nI t1, 0, fs_F K, fs_F A, fs_F B, pa, rg, eo, nm, op, fs_F V, fs_F M, wb1, wv, sa1, st1, lf1, cp, si1, sf1, so1) → wpX_layItem post (nI mi, nI mb, nI mv, nI n, oc, sl, nI vc, nI bc, nI i, nI p, nI t, 0, fs_F K, fs_F A, fs_F B, pa, rg, eo, nm, op, fs_F V, fs_F M, wb, wv, sa, st, lf, cp, si, sf, so)) ∧ (∀ post : Int32 → SY → Prop, post (nI i1) (nI mi, nI mb, nI mv, sl, nI n, nI vc, nI bc, nI p1, nI t1, nI vc, fs_F K, fs_F A, fs_F B, fs_F V, fs_F M, bf1, wk, sr1, lt1, mk1, sm1, sF1, sT1) → wpY_layItem post (nI mi, nI mb, nI mv, sl, nI n, nI vc, nI bc, nI p, nI t, nI vc, fs_F K, fs_F A, fs_F B, fs_F V, fs_F M, bf, wk, sr, lt, mk, sm, sF, sT) (nI i) 0))
    ∨ (∃ e : Nat, fs_m K e p < fs_m K i p ∧ fs_m K (e + 1) p < fs_m K e p ∧ e < n ∧ fs_SQ mb vc K A n (e + 1) p t S C wb sa st lf si sf so bf sr lt mk sm sF sT ∧ (∀ post : SX → Prop, post (nI mi, nI mb, nI mv, nI n, oc, sl, nI vc, nI bc, nI (e + 1), nI p, nI t, 0, fs_F K, fs_F A, fs_F B, pa, rg, eo, nm, op, fs_F V, fs_F M, wb, wv, sa, st, lf, cp, si, sf, so) → wpX_layItem post (nI mi, nI mb, nI mv, nI n, oc, sl, nI vc, nI bc, nI i, nI p, nI t, 0, fs_F K, fs_F A, fs_F B, pa, rg, eo, nm, op, fs_F V, fs_F M, wb, wv, sa, st, lf, cp, si, sf, so)) ∧ (∀ post : Int32 → SY → Prop, post (nI e) (nI mi, nI mb, nI mv, sl, nI n, nI vc, nI bc, nI p, nI t, nI vc, fs_F K, fs_F A, fs_F B, fs_F V, fs_F M, bf, wk, sr, lt, mk, sm, sF, sT) → wpY_layItem post (nI mi, nI mb, nI mv, sl, nI n, nI vc, nI bc, nI p, nI t, nI vc, fs_F K, fs_F A, fs_F B, fs_F V, fs_F M, bf, wk, sr, lt, mk, sm, sF, sT) (nI i) 0) ∧ (∀ post : Int32 → SY → Prop, post (nI (e + 1)) (nI mi, nI mb, nI mv, sl, nI n, nI vc, nI bc, nI p, nI t, nI vc, fs_F K, fs_F A, fs_F B, fs_F V, fs_F M, bf, wk, sr, lt, mk, sm, sF, sT) → wpY_layItem post (nI mi, nI mb, nI mv, sl, nI n, nI vc, nI bc, nI p, nI t, nI vc, fs_F K, fs_F A, fs_F B, fs_F V, fs_F M, bf, wk, sr, lt, mk, sm, sF, sT) (nI e) 0)) := by
      intro i1 hST hj
      refine Or.inr (Or.inl ⟨i1, p, t, S, C, wb, sa, st, upd lf (A i) (lf (A i) - 1), si, sf, so, bf, sr, upd lt (A i) (lt (A i) - 1), mk, sm, sF, sT, ?_, fun post h => ?_, fun post h => ?_⟩)
      · exact fs_SQB W (by omega) b2 hi hk hST J.1 (fun _ e => pk_un e) (fun _ e => pk_un e) (fun _ => by rw [pk_us, pk_us, hl]) Q0
      · rcases hj with ⟨z, rfl⟩ | ⟨z, rfl⟩
        · exact xs_e78 (by omega) hk rfl (by omega) k78 (fun _ => h) (fun z' => absurd (by rw [hl]; exact z) z')
        · exact xs_e78 (by omega) hk rfl (by omega) k78 (fun z' => absurd (by rw [← hl]; exact z') z) (fun _ => h)
      · have k78' : K (A i) = 7 ∨ (K (A i) = 8 ∧ (0 : Int32) = 0) := by
          rcases k78 with e | e
          · exact Or.inl e
          · exact Or.inr ⟨e, rfl⟩
        rcases hj with ⟨z, rfl⟩ | ⟨z, rfl⟩
        · exact ys_eR (by omega) hk rfl (by omega) k78' (fun _ => h) (fun z' => absurd z z')
        · exact ys_eR (by omega) hk rfl (by omega) k78' (fun z' => absurd z' z) (fun _ => h)
    by_cases z : lt (A i) - 1 ≤ 0
    · exact go (i + 1) (Or.inr (Or.inl ⟨rfl, hk, by omega⟩)) (Or.inl ⟨z, rfl⟩)
    · exact go (A i + 1) (Or.inr (Or.inr (Or.inr (Or.inl ⟨hk, k78, rfl⟩)))) (Or.inr ⟨z, rfl⟩)
  by_cases k9 : K (A i) = 9
  · have hST : fs_ST K A n i (i + 1) := Or.inr (Or.inl ⟨rfl, hk, by omega⟩)
    refine Or.inr (Or.inl ⟨i + 1, p, t, S, C, wb, sa, st, lf, si, sf, so, bf, sr, lt, mk, sm, sF, sT, ?_, fun post h => ?_, fun post h => ?_⟩)
    · exact fs_SQB W (by omega) b2 hi hk hST J.1 (fun _ _ => rfl) (fun _ _ => rfl) (fun e => by omega) Q0
    · exact xs_e9 (by omega) hk rfl (by omega) k9 h
    · exact ys_eU (by omega) hk rfl (by omega) k9 h
  have k10 : K (A i) = 10 := by omega
  obtain ⟨w, hw, hw9⟩ := fs_cs W (i := A i) (by omega) k10
  have hwi := fs_top_lt hw
  obtain ⟨e, he, hke, hAe⟩ := fs_ex W (r12 rfl).1 (g := w) (by omega) (by omega) (by omega)
  have heo : eo w = nI e := by have := r10 e he hke; rw [hAe] at this; exact this
  have hpa : pa (A i) = nI w := by rw [r8 (A i) (by omega), hw]; rfl
  have hhd : (fs_stk K (A i)).head? = some w := by rw [hw]; rfl
  have hST1 : fs_ST K A n i e := Or.inr (Or.inr (Or.inr (Or.inr (Or.inr ⟨w, e, hk, k10, hw, hw9, he, hke, hAe, rfl⟩))))
  have hST2 : fs_ST K A n e (e + 1) := Or.inr (Or.inl ⟨rfl, hke, by rw [hAe]; omega⟩)
  obtain ⟨m1, Q1⟩ := fs_SQB W (by omega) b2 hi hk hST1 J.1 (fun _ _ => rfl) (fun _ _ => rfl) (fun e => by omega) Q0
  obtain ⟨m2, Q2⟩ := fs_SQB W (by omega) b2 he hke hST2 J.1 (fun _ _ => rfl) (fun _ _ => rfl) (fun z => by rw [hAe] at z; omega) Q1
  refine Or.inr (Or.inr ⟨e, m1, m2, he, Q2, fun post h => ?_, fun post h => ?_, fun post h => ?_⟩)
  · exact xs_e10 (by omega) hk rfl (by omega) k10 hpa (by omega) heo h
  · exact ys_eC W (by omega) r2 (by omega) hk rfl (by omega) k10 hhd he hke hAe h
  · exact ys_eU (by omega) hke hAe (by omega) hw9 h
theorem sv_step (R : fs_Rel mi mb mv n vc bc 1 K A B V M oc pa rg eo nm op) (hi : i < n) (hwk : ∀ j, j < vc → wk j = nI (V j)) (Q : fs_SQ mb vc K A n i p t S C wb sa st lf si sf so bf sr lt mk sm sF sT) : ((∀ post : SX → Prop, (∀ (pc ps tk : Int32) (wb wv sa st lf cp si sf so : Nat → Int32), post (nI mi, nI mb, nI mv, nI n, oc, sl, nI vc, nI bc, pc, ps, tk, 1, fs_F K, fs_F A, fs_F B, pa, rg, eo, nm, op, fs_F V, fs_F M, wb, wv, sa, st, lf, cp, si, sf, so)) → wpX_layItem post (nI mi, nI mb, nI mv, nI n, oc, sl, nI vc, nI bc, nI i, nI p, nI t, 0, fs_F K, fs_F A, fs_F B, pa, rg, eo, nm, op, fs_F V, fs_F M, wb, wv, sa, st, lf, cp, si, sf, so)) ∧ (∀ post : Int32 → SY → Prop, (∀ (ot tt wc : Int32) (bf wk sr lt mk sm sF sT : Nat → Int32), post (-1) (nI mi, nI mb, nI mv, sl, nI n, nI vc, nI bc, ot, tt, wc, fs_F K, fs_F A, fs_F B, fs_F V, fs_F M, bf, wk, sr, lt, mk, sm, sF, sT)) → wpY_layItem post (nI mi, nI mb, nI mv, sl, nI n, nI vc, nI bc, nI p, nI t, nI vc, fs_F K, fs_F A, fs_F B, fs_F V, fs_F M, bf, wk, sr, lt, mk, sm, sF, sT) (nI i) 0))
    ∨ (∃ (i1 p1 t1 : Nat) (S1 C1 : Nat → Nat) (wb1 sa1 st1 lf1 si1 sf1 so1 bf1 sr1 lt1 mk1 sm1 sF1 sT1 : Nat → Int32), (fs_m K i1 p1 < fs_m K i p ∧ fs_SQ mb vc K A n i1 p1 t1 S1 C1 wb1 sa1 st1 lf1 si1 sf1 so1 bf1 sr1 lt1 mk1 sm1 sF1 sT1) ∧ (∀ post : SX → Prop, post (nI mi, nI mb, nI mv, nI n, oc, sl, nI vc, nI bc, nI i1, nI p1, nI t1, 0, fs_F K, fs_F A, fs_F B, pa, rg, eo, nm, op, fs_F V, fs_F M, wb1, wv, sa1, st1, lf1, cp, si1, sf1, so1) → wpX_layItem post (nI mi, nI mb, nI mv, nI n, oc, sl, nI vc, nI bc, nI i, nI p, nI t, 0, fs_F K, fs_F A, fs_F B, pa, rg, eo, nm, op, fs_F V, fs_F M, wb, wv, sa, st, lf, cp, si, sf, so)) ∧ (∀ post : Int32 → SY → Prop, post (nI i1) (nI mi, nI mb, nI mv, sl, nI n, nI vc, nI bc, nI p1, nI t1, nI vc, fs_F K, fs_F A, fs_F B, fs_F V, fs_F M, bf1, wk, sr1, lt1, mk1, sm1, sF1, sT1) → wpY_layItem post (nI mi, nI mb, nI mv, sl, nI n, nI vc, nI bc, nI p, nI t, nI vc, fs_F K, fs_F A, fs_F B, fs_F V, fs_F M, bf, wk, sr, lt, mk, sm, sF, sT) (nI i) 0))
    ∨ (∃ e : Nat, fs_m K e p < fs_m K i p ∧ fs_m K (e + 1) p < fs_m K e p ∧ e < n ∧ fs_SQ mb vc K A n (e + 1) p t S C wb sa st lf si sf so bf sr lt mk sm sF sT ∧ (∀ post : SX → Prop, post (nI mi, nI mb, nI mv, nI n, oc, sl, nI vc, nI bc, nI (e + 1), nI p, nI t, 0, fs_F K, fs_F A, fs_F B, pa, rg, eo, nm, op, fs_F V, fs_F M, wb, wv, sa, st, lf, cp, si, sf, so) → wpX_layItem post (nI mi, nI mb, nI mv, nI n, oc, sl, nI vc, nI bc, nI i, nI p, nI t, 0, fs_F K, fs_F A, fs_F B, pa, rg, eo, nm, op, fs_F V, fs_F M, wb, wv, sa, st, lf, cp, si, sf, so)) ∧ (∀ post : Int32 → SY → Prop, post (nI e) (nI mi, nI mb, nI mv, sl, nI n, nI vc, nI bc, nI p, nI t, nI vc, fs_F K, fs_F A, fs_F B, fs_F V, fs_F M, bf, wk, sr, lt, mk, sm, sF, sT) → wpY_layItem post (nI mi, nI mb, nI mv, sl, nI n, nI vc, nI bc, nI p, nI t, nI vc, fs_F K, fs_F A, fs_F B, fs_F V, fs_F M, bf, wk, sr, lt, mk, sm, sF, sT) (nI i) 0) ∧ (∀ post : Int32 → SY → Prop, post (nI (e + 1)) (nI mi, nI mb, nI mv, sl, nI n, nI vc, nI bc, nI p, nI t, nI vc, fs_F K, fs_F A, fs_F B, fs_F V, fs_F M, bf, wk, sr, lt, mk, sm, sF, sT) → wpY_layItem post (nI mi, nI mb, nI mv, sl, nI n, nI vc, nI bc, nI p, nI t, nI vc, fs_F K, fs_F A, fs_F B, fs_F V, fs_F M, bf, wk, sr, lt, mk, sm, sF, sT) (nI e) 0)) := by
  have hk := fs_k R.2.2.2.2.2.1 hi
  have h10 := Q.2.1 hi
  have hc : K i = 1 ∨ K i = 2 ∨ K i = 3 ∨ K i = 4 ∨ (K i = 5 ∨ K i = 6) ∨ K i = 7 ∨ K i = 8 ∨ K i = 9 ∨ K i = 11 := by omega
  rcases hc with h | h | h | h | h | h | h | h | h
  · exact sv_1 R hi hwk Q h
  · exact sv_2 R hi hwk Q h
  · exact sv_3 R hi hwk Q h
  · exact sv_4 R hi hwk Q h
  · exact sv_5 R hi hwk Q h
  · exact sv_7 R hi hwk Q h
  · exact sv_8 R hi hwk Q h
  · exact sv_9 R hi hwk Q h
  · exact sv_E R hi hwk Q h
theorem fs_mp (hn : n ≤ 32) (hi : i < n) : 1 ≤ fs_m K i p := by
  unfold fs_m
  omega
theorem sv_lock (R : fs_Rel mi mb mv n vc bc 1 K A B V M oc pa rg eo nm op) (hwk : ∀ j, j < vc → wk j = nI (V j)) : ∀ (m i p t : Nat) (S C : Nat → Nat) (wb sa st lf si sf so bf sr lt mk sm sF sT : Nat → Int32), fs_m K i p ≤ m → fs_SQ mb vc K A n i p t S C wb sa st lf si sf so bf sr lt mk sm sF sT →
    ((∀ (post : Int32 → SX → Prop) (fuel σ : Nat), m < fuel → σ + m < 8192 → (∀ (pc ps tk fl : Int32) (wb wv sa st lf cp si sf so : Nat → Int32), post (-10) (nI mi, nI mb, nI mv, nI n, oc, sl, nI vc, nI bc, pc, ps, tk, fl, fs_F K, fs_F A, fs_F B, pa, rg, eo, nm, op, fs_F V, fs_F M, wb, wv, sa, st, lf, cp, si, sf, so)) → wX_serialise_38 post fuel (nI σ) (nI mi) (nI mb) (nI mv) (nI n) oc sl (nI vc) (nI bc) (nI i) (nI p) (nI t) 0 (fs_F K) (fs_F A) (fs_F B) pa rg eo nm op (fs_F V) (fs_F M) wb wv sa st lf cp si sf so) ∧ (∀ (post : Int32 → SY → Prop) (fuel σ : Nat), m < fuel → σ + m < 5000 → (∀ (ot tt wc : Int32) (bf wk sr lt mk sm sF sT : Nat → Int32), post 0 (nI mi, nI mb, nI mv, sl, nI n, nI vc, nI bc, ot, tt, wc, fs_F K, fs_F A, fs_F B, fs_F V, fs_F M, bf, wk, sr, lt, mk, sm, sF, sT)) → wY_lay_80 post 0 fuel (nI i) (nI σ) (nI mi) (nI mb) (nI mv) sl (nI n) (nI vc) (nI bc) (nI p) (nI t) (nI vc) (fs_F K) (fs_F A) (fs_F B) (fs_F V) (fs_F M) bf wk sr lt mk sm sF sT))
    ∨ (∃ (p1 t1 : Nat) (S1 C1 : Nat → Nat) (wb1 sa1 st1 lf1 si1 sf1 so1 bf1 sr1 lt1 mk1 sm1 sF1 sT1 : Nat → Int32), fs_SQ mb vc K A n n p1 t1 S1 C1 wb1 sa1 st1 lf1 si1 sf1 so1 bf1 sr1 lt1 mk1 sm1 sF1 sT1
      ∧ (∀ (post : Int32 → SX → Prop) (fuel σ : Nat), m < fuel → σ + m < 8192 → wX_serialise_73 post (nI mi) (nI mb) (nI mv) (nI n) oc sl (nI vc) (nI bc) (nI n) (nI p1) (nI t1) 0 (fs_F K) (fs_F A) (fs_F B) pa rg eo nm op (fs_F V) (fs_F M) wb1 wv sa1 st1 lf1 cp si1 sf1 so1 → wX_serialise_38 post fuel (nI σ) (nI mi) (nI mb) (nI mv) (nI n) oc sl (nI vc) (nI bc) (nI i) (nI p) (nI t) 0 (fs_F K) (fs_F A) (fs_F B) pa rg eo nm op (fs_F V) (fs_F M) wb wv sa st lf cp si sf so)
      ∧ (∀ (post : Int32 → SY → Prop) (fuel σ : Nat), m < fuel → σ + m < 5000 → wY_lay_114 post (nI n) (nI mi) (nI mb) (nI mv) sl (nI n) (nI vc) (nI bc) (nI p1) (nI t1) (nI vc) (fs_F K) (fs_F A) (fs_F B) (fs_F V) (fs_F M) bf1 wk sr1 lt1 mk1 sm1 sF1 sT1 → wY_lay_80 post 0 fuel (nI i) (nI σ) (nI mi) (nI mb) (nI mv) sl (nI n) (nI vc) (nI bc) (nI p) (nI t) (nI vc) (fs_F K) (fs_F A) (fs_F B) (fs_F V) (fs_F M) bf wk sr lt mk sm sF sT)) := by
  have b1 := R.1.1
  have b4 := R.1.2.2.2.1
  intro m
  induction m using Nat.strongRecOn with
  | ind m ih =>
    intro i p t S C wb sa st lf si sf so bf sr lt mk sm sF sT hm Q
    by_cases hi : i < n
    · have hmi := fs_mp (K := K) (p := p) (by omega) hi
      have xgo : ∀ (i1 : Nat) (ps1 tk1 : Int32) (wb1 sa1 st1 lf1 si1 sf1 so1 : Nat → Int32), (∀ post : SX → Prop, post (nI mi, nI mb, nI mv, nI n, oc, sl, nI vc, nI bc, nI i1, ps1, tk1, 0, fs_F K, fs_F A, fs_F B, pa, rg, eo, nm, op, fs_F V, fs_F M, wb1, wv, sa1, st1, lf1, cp, si1, sf1, so1) → wpX_layItem post (nI mi, nI mb, nI mv, nI n, oc, sl, nI vc, nI bc, nI i, nI p, nI t, 0, fs_F K, fs_F A, fs_F B, pa, rg, eo, nm, op, fs_F V, fs_F M, wb, wv, sa, st, lf, cp, si, sf, so)) → ∀ (post : Int32 → SX → Prop) (f σ : Nat), σ < 8192 → wX_serialise_38 post f (nI (σ + 1)) (nI mi) (nI mb) (nI mv) (nI n) oc sl (nI vc) (nI bc) (nI i1) ps1 tk1 0 (fs_F K) (fs_F A) (fs_F B) pa rg eo nm op (fs_F V) (fs_F M) wb1 wv sa1 st1 lf1 cp si1 sf1 so1 → wX_serialise_38 post (f + 1) (nI σ) (nI mi) (nI mb) (nI mv) (nI n) oc sl (nI vc) (nI bc) (nI i) (nI p) (nI t) 0 (fs_F K) (fs_F A) (fs_F B) pa rg eo nm op (fs_F V) (fs_F M) wb wv sa st lf cp si sf so := by
        intro i1 ps1 tk1 wb1 sa1 st1 lf1 si1 sf1 so1 hx post f σ hs h
        refine br_f (nI_ge (b := 8192) (by omega) (by decide)) (br_t rfl (br_f (nI_ge (by omega) (by omega)) (hx _ ?_)))
        exact nm_r (nI_1 σ) h
      have ygo : ∀ (j j1 : Nat) (hj : j < n) (hj1 : j1 ≤ n) (ot0 tt0 ot1 tt1 : Int32) (bf0 sr0 lt0 mk0 sm0 sF0 sT0 bf1 sr1 lt1 mk1 sm1 sF1 sT1 : Nat → Int32), (∀ post : Int32 → SY → Prop, post (nI j1) (nI mi, nI mb, nI mv, sl, nI n, nI vc, nI bc, ot1, tt1, nI vc, fs_F K, fs_F A, fs_F B, fs_F V, fs_F M, bf1, wk, sr1, lt1, mk1, sm1, sF1, sT1) → wpY_layItem post (nI mi, nI mb, nI mv, sl, nI n, nI vc, nI bc, ot0, tt0, nI vc, fs_F K, fs_F A, fs_F B, fs_F V, fs_F M, bf0, wk, sr0, lt0, mk0, sm0, sF0, sT0) (nI j) 0) → ∀ (post : Int32 → SY → Prop) (f σ : Nat), σ < 5000 → wY_lay_80 post 0 f (nI j1) (nI (σ + 1)) (nI mi) (nI mb) (nI mv) sl (nI n) (nI vc) (nI bc) ot1 tt1 (nI vc) (fs_F K) (fs_F A) (fs_F B) (fs_F V) (fs_F M) bf1 wk sr1 lt1 mk1 sm1 sF1 sT1 → wY_lay_80 post 0 (f + 1) (nI j) (nI σ) (nI mi) (nI mb) (nI mv) sl (nI n) (nI vc) (nI bc) ot0 tt0 (nI vc) (fs_F K) (fs_F A) (fs_F B) (fs_F V) (fs_F M) bf0 wk sr0 lt0 mk0 sm0 sF0 sT0 := by
        intro j j1 hj hj1 ot0 tt0 ot1 tt1 bf0 sr0 lt0 mk0 sm0 sF0 sT0 bf1 sr1 lt1 mk1 sm1 sF1 sT1 hy post f σ hs h
        refine br_f (nI_ge (b := 5000) (by omega) (by decide)) (br_f (nI_ge (by omega) (by omega)) (hy _ ?_))
        exact br_t (nI_pos' (by omega)) (nm_r (nI_1 σ) h)
      rcases sv_step R hi hwk Q with ⟨hx, hy⟩ | ⟨i1, p1, t1, S1, C1, wb1, sa1, st1, lf1, si1, sf1, so1, bf1, sr1, lt1, mk1, sm1, sF1, sT1, ⟨hm1, Q1⟩, hx, hy⟩ | ⟨e, hm1, hm2, he, Q1, hx, hy1, hy2⟩
      · refine Or.inl ⟨fun post fuel σ hf hs h => ?_, fun post fuel σ hf hs h => ?_⟩
        · obtain ⟨f, rfl⟩ : ∃ f, fuel = (f + 1) + 1 := ⟨fuel - 2, by omega⟩
          refine br_f (nI_ge (b := 8192) (by omega) (by decide)) (br_t rfl (br_f (nI_ge (by omega) (by omega)) (hx _ ?_)))
          intro pc ps tk wb wv sa st lf cp si sf so
          refine nm_r (nI_1 σ) ?_
          exact br_f (nI_ge (b := 8192) (by omega) (by decide)) (br_f (by decide) (br_f (by decide) (h _ _ _ _ _ _ _ _ _ _ _ _ _)))
        · obtain ⟨f, rfl⟩ : ∃ f, fuel = f + 1 := ⟨fuel - 1, by omega⟩
          refine br_f (nI_ge (b := 5000) (by omega) (by decide)) (br_f (nI_ge (by omega) (by omega)) (hy _ ?_))
          intro ot tt wc bf wk sr lt mk sm sF sT
          exact br_f (by decide) (h _ _ _ _ _ _ _ _ _ _ _)
      · rcases ih (m - 1) (by omega) i1 p1 t1 S1 C1 wb1 sa1 st1 lf1 si1 sf1 so1 bf1 sr1 lt1 mk1 sm1 sF1 sT1 (by omega) Q1 with ⟨gx, gy⟩ | ⟨p2, t2, S2, C2, wb2, sa2, st2, lf2, si2, sf2, so2, bf2, sr2, lt2, mk2, sm2, sF2, sT2, Q2, gx, gy⟩
        · refine Or.inl ⟨fun post fuel σ hf hs h => ?_, fun post fuel σ hf hs h => ?_⟩
          · obtain ⟨f, rfl⟩ : ∃ f, fuel = f + 1 := ⟨fuel - 1, by omega⟩
            exact xgo i1 _ _ _ _ _ _ _ _ _ hx post f σ (by omega) (gx post f (σ + 1) (by omega) (by omega) h)
          · obtain ⟨f, rfl⟩ : ∃ f, fuel = f + 1 := ⟨fuel - 1, by omega⟩
            exact ygo i i1 hi Q1.1 _ _ _ _ _ _ _ _ _ _ _ _ _ _ _ _ _ _ hy post f σ (by omega) (gy post f (σ + 1) (by omega) (by omega) h)
        · refine Or.inr ⟨p2, t2, S2, C2, wb2, sa2, st2, lf2, si2, sf2, so2, bf2, sr2, lt2, mk2, sm2, sF2, sT2, Q2, fun post fuel σ hf hs h => ?_, fun post fuel σ hf hs h => ?_⟩
          · obtain ⟨f, rfl⟩ : ∃ f, fuel = f + 1 := ⟨fuel - 1, by omega⟩
            exact xgo i1 _ _ _ _ _ _ _ _ _ hx post f σ (by omega) (gx post f (σ + 1) (by omega) (by omega) h)
          · obtain ⟨f, rfl⟩ : ∃ f, fuel = f + 1 := ⟨fuel - 1, by omega⟩
            exact ygo i i1 hi Q1.1 _ _ _ _ _ _ _ _ _ _ _ _ _ _ _ _ _ _ hy post f σ (by omega) (gy post f (σ + 1) (by omega) (by omega) h)
      · have hme := fs_mp (K := K) (p := p) (n := n) (by omega) he
        rcases ih (m - 2) (by omega) (e + 1) p t S C wb sa st lf si sf so bf sr lt mk sm sF sT (by omega) Q1 with ⟨gx, gy⟩ | ⟨p2, t2, S2, C2, wb2, sa2, st2, lf2, si2, sf2, so2, bf2, sr2, lt2, mk2, sm2, sF2, sT2, Q2, gx, gy⟩
        · refine Or.inl ⟨fun post fuel σ hf hs h => ?_, fun post fuel σ hf hs h => ?_⟩
          · obtain ⟨f, rfl⟩ : ∃ f, fuel = f + 1 := ⟨fuel - 1, by omega⟩
            exact xgo (e + 1) _ _ _ _ _ _ _ _ _ hx post f σ (by omega) (gx post f (σ + 1) (by omega) (by omega) h)
          · obtain ⟨f, rfl⟩ : ∃ f, fuel = (f + 1) + 1 := ⟨fuel - 2, by omega⟩
            exact ygo i e hi (by omega) _ _ _ _ _ _ _ _ _ _ _ _ _ _ _ _ _ _ hy1 post (f + 1) σ (by omega) (ygo e (e + 1) he (by omega) _ _ _ _ _ _ _ _ _ _ _ _ _ _ _ _ _ _ hy2 post f (σ + 1) (by omega) (gy post f (σ + 1 + 1) (by omega) (by omega) h))
        · refine Or.inr ⟨p2, t2, S2, C2, wb2, sa2, st2, lf2, si2, sf2, so2, bf2, sr2, lt2, mk2, sm2, sF2, sT2, Q2, fun post fuel σ hf hs h => ?_, fun post fuel σ hf hs h => ?_⟩
          · obtain ⟨f, rfl⟩ : ∃ f, fuel = f + 1 := ⟨fuel - 1, by omega⟩
            exact xgo (e + 1) _ _ _ _ _ _ _ _ _ hx post f σ (by omega) (gx post f (σ + 1) (by omega) (by omega) h)
          · obtain ⟨f, rfl⟩ : ∃ f, fuel = (f + 1) + 1 := ⟨fuel - 2, by omega⟩
            exact ygo i e hi (by omega) _ _ _ _ _ _ _ _ _ _ _ _ _ _ _ _ _ _ hy1 post (f + 1) σ (by omega) (ygo e (e + 1) he (by omega) _ _ _ _ _ _ _ _ _ _ _ _ _ _ _ _ _ _ hy2 post f (σ + 1) (by omega) (gy post f (σ + 1 + 1) (by omega) (by omega) h))
    · have e : i = n := by have := Q.1; omega
      subst e
      refine Or.inr ⟨p, t, S, C, wb, sa, st, lf, si, sf, so, bf, sr, lt, mk, sm, sF, sT, Q, fun post fuel σ hf hs h => ?_, fun post fuel σ hf hs h => ?_⟩
      · obtain ⟨f, rfl⟩ : ∃ f, fuel = f + 1 := ⟨fuel - 1, by omega⟩
        exact br_f (nI_ge (b := 8192) (by omega) (by decide)) (br_t rfl (br_t (nI_le (by omega) (by omega)) h))
      · obtain ⟨f, rfl⟩ : ∃ f, fuel = f + 1 := ⟨fuel - 1, by omega⟩
        exact br_f (nI_ge (b := 5000) (by omega) (by decide)) (br_t (nI_le (by omega) (by omega)) h)
end
end
section
/-! serialise: beginning and end -/
def fs_m1s (a : Nat → Int32) (k : Nat) : Nat → Int32 := fun q => if q < k then -1 else a q
theorem fs_m1s_s (a : Nat → Int32) (k : Nat) : upd (fs_m1s a k) k (-1) = fs_m1s a (k + 1) := by
  funext q
  unfold upd fs_m1s
  by_cases c : q = k
  · rw [if_pos c, if_pos (by omega)]
  · rw [if_neg c]
    by_cases d : q < k
    · rw [if_pos d, if_pos (by omega)]
    · rw [if_neg d, if_neg (by omega)]
theorem fs_m1s_0 (a : Nat → Int32) : fs_m1s a 0 = a := by
  funext q
  exact if_neg (by omega)
def fs_cp (a : Nat → Int32) (b : Nat → Int32) (k : Nat) : Nat → Int32 := fun q => if q < k then b q else a q
theorem fs_cp_s (a b : Nat → Int32) (k : Nat) : upd (fs_cp a b k) k (b k) = fs_cp a b (k + 1) := by
  funext q
  unfold upd fs_cp
  by_cases c : q = k
  · rw [if_pos c, if_pos (by omega), c]
  · rw [if_neg c]
    by_cases d : q < k
    · rw [if_pos d, if_pos (by omega)]
    · rw [if_neg d, if_neg (by omega)]
theorem fs_cp_0 (a b : Nat → Int32) : fs_cp a b 0 = a := by
  funext q
  exact if_neg (by omega)
section
variable {mi mb mv n vc bc : Nat} {oc sl pc ps tk fl : Int32} {K A B V M : Nat → Nat} {pa rg eo nm op wb wv sa st lf cp si sf so : Nat → Int32}
theorem xs_s16 {post : Int32 → SX → Prop} (h : ∃ m, wX_serialise_38 post m 0 (nI mi) (nI mb) (nI mv) (nI n) oc sl (nI vc) (nI bc) pc ps tk fl (fs_F K) (fs_F A) (fs_F B) pa rg eo nm op (fs_F V) (fs_F M) wb wv sa st lf cp (fs_m1s si 128) sf so) : ∃ m, wX_serialise_16 post (nI mi) (nI mb) (nI mv) (nI n) oc sl (nI vc) (nI bc) pc ps tk fl m 0 (fs_F K) (fs_F A) (fs_F B) pa rg eo nm op (fs_F V) (fs_F M) wb wv sa st lf cp si sf so := by
  have key : ∀ d k, k + d = 128 → wX_serialise_16 post (nI mi) (nI mb) (nI mv) (nI n) oc sl (nI vc) (nI bc) pc ps tk fl (d + 1) (nI k) (fs_F K) (fs_F A) (fs_F B) pa rg eo nm op (fs_F V) (fs_F M) wb wv sa st lf cp (fs_m1s si k) sf so := by
    intro d
    induction d with
    | zero =>
      intro k hk
      have : k = 128 := by omega
      subst this
      exact br_t (by decide) h
    | succ d ih =>
      intro k hk
      refine br_f (nI_ge (b := 128) (by omega) (by decide)) (And.intro (vp_in_nI (by omega) (by decide)) ?_)
      rw [nI_clamp (n := k) (by omega), fs_m1s_s]
      exact nm_e (nm_r (nI_1 k) (ih (k + 1) (by omega)))
  have h0 := key 128 0 (by omega)
  rw [fs_m1s_0] at h0
  exact ⟨_, h0⟩
theorem xs_s111 {post : Int32 → SX → Prop} {p : Nat} {g : Nat → Int32} (hp : p ≤ 128) (h : post 1 (nI mi, nI mb, nI mv, nI n, oc, sl, nI vc, nI p, pc, nI p, tk, fl, fs_F K, fs_F A, fs_F B, pa, rg, eo, nm, op, fs_F V, fs_cp g wb p, wb, wv, sa, st, lf, cp, si, sf, so)) : ∃ m, wX_serialise_111 post (nI mi) (nI mb) (nI mv) (nI n) oc sl (nI vc) (nI bc) pc (nI p) tk fl m 0 (fs_F K) (fs_F A) (fs_F B) pa rg eo nm op (fs_F V) g wb wv sa st lf cp si sf so := by
  have key : ∀ d k, k + d = p → wX_serialise_111 post (nI mi) (nI mb) (nI mv) (nI n) oc sl (nI vc) (nI bc) pc (nI p) tk fl (d + 1) (nI k) (fs_F K) (fs_F A) (fs_F B) pa rg eo nm op (fs_F V) (fs_cp g wb k) wb wv sa st lf cp si sf so := by
    intro d
    induction d with
    | zero =>
      intro k hk
      have : k = p := by omega
      subst this
      exact br_t (nI_le (by omega) (by omega)) h
    | succ d ih =>
      intro k hk
      have hv : vp_in (nI k) 128 := vp_in_nI (by omega) (by decide)
      refine br_f (nI_ge (by omega) (by omega)) (And.intro hv (And.intro hv ?_))
      rw [nI_clamp (n := k) (by omega), fs_cp_s]
      exact nm_e (nm_r (nI_1 k) (ih (k + 1) (by omega)))
  have h0 := key p 0 (by omega)
  rw [fs_cp_0] at h0
  exact ⟨_, h0⟩
end
section
variable {mi mb mv n vc bc : Nat} {sl ot tt wc : Int32} {K A B V M : Nat → Nat} {bf wk sr lt mk sm sF sT : Nat → Int32}
theorem ys_l28 {post : Int32 → SY → Prop} {gm : Int32} {c : Nat} (hc : c ≤ 64) (h : ∃ m, wY_lay_80 post gm m 0 0 (nI mi) (nI mb) (nI mv) sl (nI n) (nI vc) (nI bc) ot tt (nI c) (fs_F K) (fs_F A) (fs_F B) (fs_F V) (fs_F M) bf (fs_cp wk (fs_F V) c) sr lt mk (fs_m1s sm 128) sF sT) : ∃ m, wY_lay_28 post gm (nI mi) (nI mb) (nI mv) sl (nI n) (nI vc) (nI bc) ot tt (nI c) m 0 (fs_F K) (fs_F A) (fs_F B) (fs_F V) (fs_F M) bf wk sr lt mk sm sF sT := by
  have key2 : ∀ d k, k + d = 128 → wY_lay_56 post gm (nI mi) (nI mb) (nI mv) sl (nI n) (nI vc) (nI bc) ot tt (nI c) (d + 1) (nI k) (fs_F K) (fs_F A) (fs_F B) (fs_F V) (fs_F M) bf (fs_cp wk (fs_F V) c) sr lt mk (fs_m1s sm k) sF sT := by
    intro d
    induction d with
    | zero =>
      intro k hk
      have : k = 128 := by omega
      subst this
      exact br_t (by decide) h
    | succ d ih =>
      intro k hk
      refine br_f (nI_ge (b := 128) (by omega) (by decide)) (And.intro (vp_in_nI (by omega) (by decide)) ?_)
      rw [nI_clamp (n := k) (by omega), fs_m1s_s]
      exact nm_e (nm_r (nI_1 k) (ih (k + 1) (by omega)))
  have h2 := key2 128 0 (by omega)
  rw [fs_m1s_0] at h2
  have key : ∀ d k, k + d = c → wY_lay_28 post gm (nI mi) (nI mb) (nI mv) sl (nI n) (nI vc) (nI bc) ot tt (nI c) (d + 1) (nI k) (fs_F K) (fs_F A) (fs_F B) (fs_F V) (fs_F M) bf (fs_cp wk (fs_F V) k) sr lt mk sm sF sT := by
    intro d
    induction d with
    | zero =>
      intro k hk
      have : k = c := by omega
      subst this
      exact br_t (nI_le (by omega) (by omega)) ⟨_, h2⟩
    | succ d ih =>
      intro k hk
      have hv : vp_in (nI k) 64 := vp_in_nI (by omega) (by decide)
      refine br_f (nI_ge (by omega) (by omega)) (And.intro hv (And.intro hv ?_))
      rw [nI_clamp (n := k) (by omega), fs_cp_s]
      exact nm_e (nm_r (nI_1 k) (ih (k + 1) (by omega)))
  have h0 := key c 0 (by omega)
  rw [fs_cp_0] at h0
  exact ⟨_, h0⟩
theorem ys_s23 {post : Int32 → SY → Prop} {p : Nat} {g : Nat → Int32} (hp : p ≤ 128) (h : post 1 (nI mi, nI mb, nI mv, sl, nI n, nI vc, nI p, nI p, tt, wc, fs_F K, fs_F A, fs_F B, fs_F V, fs_cp g bf p, bf, wk, sr, lt, mk, sm, sF, sT)) : ∃ m, wY_serialise_23 post (nI mi) (nI mb) (nI mv) sl (nI n) (nI vc) (nI bc) (nI p) tt wc m 0 (fs_F K) (fs_F A) (fs_F B) (fs_F V) g bf wk sr lt mk sm sF sT := by
  have key : ∀ d k, k + d = p → wY_serialise_23 post (nI mi) (nI mb) (nI mv) sl (nI n) (nI vc) (nI bc) (nI p) tt wc (d + 1) (nI k) (fs_F K) (fs_F A) (fs_F B) (fs_F V) (fs_cp g bf k) bf wk sr lt mk sm sF sT := by
    intro d
    induction d with
    | zero =>
      intro k hk
      have : k = p := by omega
      subst this
      exact br_t (nI_le (by omega) (by omega)) h
    | succ d ih =>
      intro k hk
      have hv : vp_in (nI k) 128 := vp_in_nI (by omega) (by decide)
      refine br_f (nI_ge (by omega) (by omega)) (And.intro hv (And.intro hv ?_))
      rw [nI_clamp (n := k) (by omega), fs_cp_s]
      exact nm_e (nm_r (nI_1 k) (ih (k + 1) (by omega)))
  have h0 := key p 0 (by omega)
  rw [fs_cp_0] at h0
  exact ⟨_, h0⟩
end
section
variable {K A B : Nat → Nat} {n p : Nat} {si sf so sm sF sT wb bf f f' : Nat → Int32}
theorem fs_nt_xy (hn : n ≤ 32) (h : ∀ q, q < 128 → si q = sm q ∧ (sm q ≠ -1 → sf q = sF q ∧ so q = sT q)) {q g a b : Nat} : fs_nt K A n si sf so p q g a b ↔ fs_nt K A n sm sF sT p q g a b := by
  constructor
  · rintro ⟨h0, h1, h2, h3, h4, h5⟩
    have hq := h q h0
    have hne : sm q ≠ -1 := by rw [← hq.1, h1]; exact fs_neg1 g (by omega)
    have hq2 := hq.2 hne
    exact ⟨h0, by rw [← hq.1]; exact h1, by rw [← hq2.1]; exact h2, by rw [← hq2.2]; exact h3, h4, h5⟩
  · rintro ⟨h0, h1, h2, h3, h4, h5⟩
    have hq := h q h0
    have hne : sm q ≠ -1 := by rw [h1]; exact fs_neg1 g (by omega)
    have hq2 := hq.2 hne
    exact ⟨h0, by rw [hq.1]; exact h1, by rw [hq2.1]; exact h2, by rw [hq2.2]; exact h3, h4, h5⟩
theorem fs_NT_xy (hn : n ≤ 32) (h : ∀ q, q < 128 → si q = sm q ∧ (sm q ≠ -1 → sf q = sF q ∧ so q = sT q)) (hN : fs_NT K A n sm sF sT p) : fs_NT K A n si sf so p := by
  refine ⟨fun q hq => ?_, fun q g a b q' g' a' b' hlt h1 h2 => hN.2 q g a b q' g' a' b' hlt ((fs_nt_xy hn h).mp h1) ((fs_nt_xy hn h).mp h2)⟩
  rcases hN.1 q hq with e | ⟨g, a, b, e⟩
  · left; rw [(h q hq).1]; exact e
  · exact Or.inr ⟨g, a, b, (fs_nt_xy hn h).mpr e⟩
/-- both fillings give the same bits -/
theorem fs_inv_eq (hnt : ∀ q g a b, fs_nt K A n si sf so p q g a b ↔ fs_nt K A n sm sF sT p q g a b) (hx : fs_inv K A B n si sf so p wb 0 f) (hy : fs_inv K A B n sm sF sT p bf 0 f') (hb : ∀ q, q < p → wb q = bf q) : ∀ d q, q + d = p → 0 < d → f q = f' q := by
  intro d
  induction d using Nat.strongRecOn with
  | ind d ih =>
    intro q hq hd
    by_cases c : ∃ q0 g a b, fs_nt K A n sm sF sT p q0 g a b ∧ q0 ≤ q ∧ q < q0 + A (A g)
    · obtain ⟨q0, g, a, b, h1, h2, h3⟩ := c
      have e1 := hx.2 q0 g a b (Nat.zero_le _) ((hnt _ _ _ _).mpr h1) (q - q0) (by omega)
      have e2 := hy.2 q0 g a b (Nat.zero_le _) h1 (q - q0) (by omega)
      rw [show q0 + (q - q0) = q by omega] at e1 e2
      have hab := h1.2.2.2.2.2.2
      rw [e1, e2, fs_cs0_cg (a := f) (a' := f') (fun j j1 j2 => ih (p - j) (by omega) j (by omega) (by omega))]
    · rw [hx.1 q (fun q0 g a b _ h => ?_), hy.1 q (fun q0 g a b _ h => ?_)]
      · exact hb q (by omega)
      · exact Classical.byContradiction (fun z => c ⟨q0, g, a, b, h, by omega, by omega⟩)
      · exact Classical.byContradiction (fun z => c ⟨q0, g, a, b, (hnt _ _ _ _).mp h, by omega, by omega⟩)
theorem fs_inv_01 (hy : fs_inv K A B n sm sF sT p bf 0 f') (hb : ∀ q, q < p → bf q = 0 ∨ bf q = 1) (q : Nat) (hq : q < p) : f' q = 0 ∨ f' q = 1 := by
  by_cases c : ∃ q0 g a b, fs_nt K A n sm sF sT p q0 g a b ∧ q0 ≤ q ∧ q < q0 + A (A g)
  · obtain ⟨q0, g, a, b, h1, h2, h3⟩ := c
    have e2 := hy.2 q0 g a b (Nat.zero_le _) h1 (q - q0) (by omega)
    rw [show q0 + (q - q0) = q by omega] at e2
    rw [e2]
    exact fs_01 _
  · rw [hy.1 q (fun q0 g a b _ h => ?_)]
    · exact hb q hq
    · exact Classical.byContradiction (fun z => c ⟨q0, g, a, b, h, by omega, by omega⟩)
end
def fs_mg (f : Nat → Int32) (p : Nat) (M : Nat → Nat) : Nat → Nat := fun q => if q < p then (if f q = 1 then 1 else 0) else M q
theorem fs_mg1 {f : Nat → Int32} {p : Nat} {M : Nat → Nat} (hM : ∀ j, M j ≤ 1) (j : Nat) : fs_mg f p M j ≤ 1 := by
  unfold fs_mg
  split
  · split <;> omega
  · exact hM j
theorem fs_cp_mg {f g : Nat → Int32} {p : Nat} {M : Nat → Nat} (h : ∀ q, q < p → g q = f q ∧ (f q = 0 ∨ f q = 1)) : fs_cp (fs_F M) g p = fs_F (fs_mg f p M) := by
  funext q
  show (if q < p then g q else nI (M q)) = nI (if q < p then (if f q = 1 then 1 else 0) else M q)
  by_cases c : q < p
  · rw [if_pos c, if_pos c, (h q c).1]
    rcases (h q c).2 with e | e
    · rw [e, if_neg (by decide)]; rfl
    · rw [e, if_pos rfl]; rfl
  · rw [if_neg c, if_neg c]
theorem fs_YI0 {K A : Nat → Nat} {n : Nat} {S C : Nat → Nat} {sr mk sm sF sT : Nat → Int32} (h : ∀ q, q < 128 → sm q = -1) (hn : n ≤ 32) : fs_YI K A n 0 0 0 S C sr mk sm sF sT := by
  have no : ∀ q g a b, ¬ fs_nt K A n sm sF sT 0 q g a b := by
    rintro q g a b ⟨h0, h1, h2, h3, h4, h5⟩
    exact fs_neg1 g (by omega) (h1.symm.trans (h q h0))
  refine ⟨fun g _ _ hp => absurd hp.1 (Nat.not_lt_zero _), fun g hg => absurd hg List.not_mem_nil, fun g hg => absurd hg List.not_mem_nil, ⟨fun q hq => Or.inl (h q hq), fun q g a b q' g' a' b' _ h1 _ => absurd h1 (no _ _ _ _)⟩, fun g g' _ _ _ _ _ hp => absurd hp.1 (Nat.not_lt_zero _), fun g q o a b _ _ hp => absurd hp.1 (Nat.not_lt_zero _)⟩
theorem fs_m0 (K : Nat → Nat) : fs_m K 0 0 ≤ 4160 := by
  unfold fs_m
  omega
theorem i_vc_serialise {k : Nat} {u : SX} {v : SY} (I : i_Rel k u v) (hk : k + 4 ≤ 2051) : wpX_serialise (fun r u' => wpY_serialise (fun r' v' => r' = r ∧ i_Rel (k + 4) u' v') v) u := by
  refine zz_el (P := fun u v => wpX_serialise (fun r u' => wpY_serialise (fun r' v' => r' = r ∧ i_Rel (k + 4) u' v') v) u) I ?_
  intro mi mb mv n vc bc sl K A B V M oc pa rg eo nm op pc ps tk fl wb wv sa st lf cp si sf so ot tt wc bf wk sr lt mk sm sF sT R
  have R0 := R
  have Z0 := zz_in (k := k + 4) mi mb mv n vc bc sl K A B V M oc pa rg eo nm op pc ps tk fl wb wv sa st lf cp si sf so ot tt wc bf wk sr lt mk sm sF sT R
  obtain ⟨⟨b1, b2, b3, b4, b5, b6⟩, r1, r2, r3, r4, W, r6, r7, r8, r9, r10, r11, r12⟩ := R
  rcases r1 with hs | hs
  · subst hs
    exact br_t rfl (br_t rfl ⟨rfl, Z0⟩)
  clear Z0
  subst hs
  have Z : ∀ (pc' ps' tk' fl' : Int32) (wb' wv' sa' st' lf' cp' si' sf' so' : Nat → Int32) (ot' tt' wc' : Int32) (bf' wk' sr' lt' mk' sm' sF' sT' : Nat → Int32), i_Rel (k + 4) (nI mi, nI mb, nI mv, nI n, oc, 1, nI vc, nI bc, pc', ps', tk', fl', fs_F K, fs_F A, fs_F B, pa, rg, eo, nm, op, fs_F V, fs_F M, wb', wv', sa', st', lf', cp', si', sf', so') (nI mi, nI mb, nI mv, 1, nI n, nI vc, nI bc, ot', tt', wc', fs_F K, fs_F A, fs_F B, fs_F V, fs_F M, bf', wk', sr', lt', mk', sm', sF', sT') :=
    fun pc' ps' tk' fl' wb' wv' sa' st' lf' cp' si' sf' so' ot' tt' wc' bf' wk' sr' lt' mk' sm' sF' sT' => zz_in mi mb mv n vc bc 1 K A B V M oc pa rg eo nm op pc' ps' tk' fl' wb' wv' sa' st' lf' cp' si' sf' so' ot' tt' wc' bf' wk' sr' lt' mk' sm' sF' sT' R0
  have hsm : ∀ (a : Nat → Int32) q, q < 128 → fs_m1s a 128 q = -1 := fun a q hq => if_pos hq
  have hwk : ∀ j, j < vc → fs_cp wk (fs_F V) vc j = nI (V j) := fun j hj => if_pos hj
  have Q0 : fs_SQ mb vc K A n 0 0 0 (fun _ => 0) (fun _ => 0) wb sa st lf (fs_m1s si 128) sf so bf sr lt mk (fs_m1s sm 128) sF sT := by
    refine ⟨Nat.zero_le _, fun h => fs_nc0 W h, Nat.zero_le _, Nat.zero_le _, fs_YI0 (hsm sm) (by omega), fun q hq => absurd hq (Nat.not_lt_zero _), fun g _ _ hp => absurd hp.1 (Nat.not_lt_zero _), fun g hg => absurd hg List.not_mem_nil, fun g hg => absurd hg List.not_mem_nil, fun q hq => ⟨by rw [hsm si q hq, hsm sm q hq], fun z => absurd (hsm sm q hq) z⟩⟩
  have X0 : ∀ post : Int32 → SX → Prop, (∃ m, wX_serialise_38 post m 0 (nI mi) (nI mb) (nI mv) (nI n) oc 1 (nI vc) (nI bc) 0 0 0 0 (fs_F K) (fs_F A) (fs_F B) pa rg eo nm op (fs_F V) (fs_F M) wb wv sa st lf cp (fs_m1s si 128) sf so) → wpX_serialise post (nI mi, nI mb, nI mv, nI n, oc, 1, nI vc, nI bc, pc, ps, tk, fl, fs_F K, fs_F A, fs_F B, pa, rg, eo, nm, op, fs_F V, fs_F M, wb, wv, sa, st, lf, cp, si, sf, so) := by
    intro post h
    exact br_f (by decide) (xs_s16 h)
  have Y0 : ∀ post : Int32 → SY → Prop, (∃ m, wY_lay_80 (fun r_2 u => match u with | (f0, f1, f2, f3, f4, f5, f6, f7, f8, f9, a0, a1, a2, a3, a4, a5, a6, a7, a8, a9, a10, a11, a12) => (((r_2 = 0 → (post (-10) (f0, f1, f2, f3, f4, f5, f6, f7, f8, f9, a0, a1, a2, a3, a4, a5, a6, a7, a8, a9, a10, a11, a12))) ∧ (¬ r_2 = 0 → (∃ n23 : Nat, wY_serialise_23 post f0 f1 f2 f3 f4 f5 f6 f7 f8 f9 n23 0 a0 a1 a2 a3 a4 a5 a6 a7 a8 a9 a10 a11 a12))))) 0 m 0 0 (nI mi) (nI mb) (nI mv) 1 (nI n) (nI vc) (nI bc) 0 0 (nI vc) (fs_F K) (fs_F A) (fs_F B) (fs_F V) (fs_F M) bf (fs_cp wk (fs_F V) vc) sr lt mk (fs_m1s sm 128) sF sT) → wpY_serialise post (nI mi, nI mb, nI mv, 1, nI n, nI vc, nI bc, ot, tt, wc, fs_F K, fs_F A, fs_F B, fs_F V, fs_F M, bf, wk, sr, lt, mk, sm, sF, sT) := by
    intro post h
    refine br_f (by decide) ?_
    exact br_t rfl (ys_l28 (by omega) h)
  have L := sv_lock (sl := 1) (wv := wv) (cp := cp) R0 hwk 4160 0 0 0 (fun _ => 0) (fun _ => 0) wb sa st lf (fs_m1s si 128) sf so bf sr lt mk (fs_m1s sm 128) sF sT (fs_m0 K) Q0
  rw [nI_0] at L
  rcases L with ⟨hX, hY⟩ | ⟨p1, t1, S1, C1, wb1, sa1, st1, lf1, si1, sf1, so1, bf1, sr1, lt1, mk1, sm1, sF1, sT1, Q1, hX, hY⟩
  · refine X0 _ ⟨_, hX _ 4161 0 (by omega) (by omega) ?_⟩
    intro pc' ps' tk' fl' wb' wv' sa' st' lf' cp' si' sf' so'
    refine Y0 _ ⟨_, hY _ 4161 0 (by omega) (by omega) ?_⟩
    intro ot' tt' wc' bf' wk' sr' lt' mk' sm' sF' sT'
    exact br_t rfl ⟨rfl, Z _ _ _ _ _ _ _ _ _ _ _ _ _ _ _ _ _ _ _ _ _ _ _ _⟩
  · obtain ⟨q1, q2, q3, q4, I1, J1⟩ := Q1
    by_cases ht : t1 = vc
    · subst ht
      have hNx := fs_NT_xy (by omega) J1.2.2.2.2 I1.2.2.2.1
      refine X0 _ ⟨_, hX _ 4161 0 (by omega) (by omega) ?_⟩
      refine br_t rfl (br_f (nI_nlt (Nat.le_refl n) (by omega)) (br_t rfl ?_))
      refine xs_sums W (by omega) r2 (by omega) hNx ?_
      intro f hf
      refine xs_s111 (by omega) ?_
      refine Y0 _ ⟨_, hY _ 4161 0 (by omega) (by omega) ?_⟩
      refine br_f (nI_nlt (Nat.le_refl n) (by omega)) (br_t rfl ?_)
      refine ⟨129, ys_sums (bf0 := bf1) W (by omega) r2 (by omega) I1.2.2.2.1 ?_ (t := 128) (f := bf1) (by omega) (fs_inv_top W (by omega) (by omega))⟩
      intro f' hf'
      refine br_f (by decide) ?_
      refine ys_s23 (by omega) ⟨rfl, ?_⟩
      have he := fs_inv_eq (fun q g a b => fs_nt_xy (by omega) J1.2.2.2.2) hf hf' (fun q hq => (J1.1 q hq).1)
      have h01 := fs_inv_01 hf' (fun q hq => (J1.1 q hq).2)
      rw [fs_cp_mg (f := f') (g := f) (fun q hq => ⟨he (p1 - q) q (by omega) (by omega), h01 q hq⟩), fs_cp_mg (f := f') (g := f') (fun q hq => ⟨rfl, h01 q hq⟩)]
      exact zz_in mi mb mv n t1 p1 1 K A B V (fs_mg f' p1 M) oc pa rg eo nm op _ _ _ _ _ _ _ _ _ _ _ _ _ _ _ _ _ _ _ _ _ _ _ _ ⟨⟨b1, b2, b3, b4, b5, q3⟩, Or.inr rfl, r2, r3, fs_mg1 r4, W, r6, r7, r8, r9, r10, r11, r12⟩
    · have htn : ¬ nI t1 = nI vc := fun z => ht ((nI_eq (by omega) (by omega)).mp z)
      refine X0 _ ⟨_, hX _ 4161 0 (by omega) (by omega) ?_⟩
      refine br_t rfl (br_f (nI_nlt (Nat.le_refl n) (by omega)) (br_f htn ?_))
      refine Y0 _ ⟨_, hY _ 4161 0 (by omega) (by omega) ?_⟩
      refine br_f (nI_nlt (Nat.le_refl n) (by omega)) (br_f htn ?_)
      exact br_t rfl ⟨rfl, Z _ _ _ _ _ _ _ _ _ _ _ _ _ _ _ _ _ _ _ _ _ _ _ _⟩
end
section
/-! the component's readItem -/
section
variable {mi mb mv n vc bc : Nat} {oc sl pc ps tk fl : Int32} {K A B V M : Nat → Nat} {pa rg eo nm op wb wv sa st lf cp si sf so : Nat → Int32}
theorem xs_read {post : Int32 → SX → Prop} {p w : Nat} (hM : ∀ j, M j ≤ 1) (hbc : bc ≤ 128) (hw : w ≤ 16) (hp : p ≤ 128) (h1 : p + w ≤ bc → post (nI (fs_nb M p w)) (nI mi, nI mb, nI mv, nI n, oc, sl, nI vc, nI bc, pc, nI (p + w), tk, fl, fs_F K, fs_F A, fs_F B, pa, rg, eo, nm, op, fs_F V, fs_F M, wb, wv, sa, st, lf, cp, si, sf, so)) (h0 : bc < p + w → post (-1) (nI mi, nI mb, nI mv, nI n, oc, sl, nI vc, nI bc, pc, nI p, tk, 1, fs_F K, fs_F A, fs_F B, pa, rg, eo, nm, op, fs_F V, fs_F M, wb, wv, sa, st, lf, cp, si, sf, so)) : wpX_read post (nI mi, nI mb, nI mv, nI n, oc, sl, nI vc, nI bc, pc, nI p, tk, fl, fs_F K, fs_F A, fs_F B, pa, rg, eo, nm, op, fs_F V, fs_F M, wb, wv, sa, st, lf, cp, si, sf, so) (nI w) := by
  unfold wpX_read
  dsimp only
  rw [nI_add]
  refine pk_le (p + w) bc (fun c => ?_) h0
  exact xs_num hM (by omega) hw (nm_e (h1 c))
theorem xs_give {post : SX → Prop} {t : Nat} {z : Int32} (hmv : mv ≤ 64) (ht : t ≤ 64) (h1 : t < mv → post (nI mi, nI mb, nI mv, nI n, oc, sl, nI vc, nI bc, pc, ps, nI (t + 1), fl, fs_F K, fs_F A, fs_F B, pa, rg, eo, nm, op, fs_F V, fs_F M, wb, upd wv t z, sa, st, lf, cp, si, sf, so)) (h0 : mv ≤ t → post (nI mi, nI mb, nI mv, nI n, oc, sl, nI vc, nI bc, pc, ps, nI t, 1, fs_F K, fs_F A, fs_F B, pa, rg, eo, nm, op, fs_F V, fs_F M, wb, wv, sa, st, lf, cp, si, sf, so)) : wpX_give post (nI mi, nI mb, nI mv, nI n, oc, sl, nI vc, nI bc, pc, ps, nI t, fl, fs_F K, fs_F A, fs_F B, pa, rg, eo, nm, op, fs_F V, fs_F M, wb, wv, sa, st, lf, cp, si, sf, so) z := by
  unfold wpX_give
  dsimp only
  refine pk_lt t mv (fun c => And.intro (vp_in_nI (by omega) (by decide)) ?_) h0
  rw [nI_clamp (n := t) (by omega)]
  exact nm_e (nm_r (nI_1 t) (h1 c))
theorem xs_expect {post : SX → Prop} {p w x : Nat} (hM : ∀ j, M j ≤ 1) (hbc : bc ≤ 128) (hw : w ≤ 16) (hp : p ≤ 128) (hx : x < 2 ^ 31) (h1 : p + w ≤ bc → fs_nb M p w = x → post (nI mi, nI mb, nI mv, nI n, oc, sl, nI vc, nI bc, pc, nI (p + w), tk, fl, fs_F K, fs_F A, fs_F B, pa, rg, eo, nm, op, fs_F V, fs_F M, wb, wv, sa, st, lf, cp, si, sf, so)) (h0 : ¬ (p + w ≤ bc ∧ fs_nb M p w = x) → ∀ (pc ps tk : Int32) (wb wv sa st lf cp si sf so : Nat → Int32), post (nI mi, nI mb, nI mv, nI n, oc, sl, nI vc, nI bc, pc, ps, tk, 1, fs_F K, fs_F A, fs_F B, pa, rg, eo, nm, op, fs_F V, fs_F M, wb, wv, sa, st, lf, cp, si, sf, so)) : wpX_expect post (nI mi, nI mb, nI mv, nI n, oc, sl, nI vc, nI bc, pc, nI p, tk, fl, fs_F K, fs_F A, fs_F B, pa, rg, eo, nm, op, fs_F V, fs_F M, wb, wv, sa, st, lf, cp, si, sf, so) (nI w) (nI x) := by
  have hp16 := fs_p16 hw
  have hnb : fs_nb M p w < 2 ^ w := fs_nb_lt (fun j _ => hM _)
  unfold wpX_expect
  dsimp only
  refine xs_read hM hbc hw hp (fun c => ?_) (fun c => ?_)
  · exact pk_eq (fs_nb M p w) x (fun e => h1 c e) (fun e => h0 (fun z => e z.2) _ _ _ _ _ _ _ _ _ _ _ _)
  · exact br_c (fun _ => h0 (fun z => by omega) _ _ _ _ _ _ _ _ _ _ _ _) (fun _ => h0 (fun z => by omega) _ _ _ _ _ _ _ _ _ _ _ _)
theorem xs_slotN {post : Int32 → Prop} {g q : Nat} (hM : ∀ j, M j ≤ 1) (hg : g < 32) (hs : A g < 32) (hq : sa (A g) = nI q) (hw : A (A g) ≤ 16) (hqw : q + A (A g) ≤ 128) (h : post (nI (fs_nb M q (A (A g))))) : wpX_slotNumber post (nI mi, nI mb, nI mv, nI n, oc, sl, nI vc, nI bc, pc, ps, tk, fl, fs_F K, fs_F A, fs_F B, pa, rg, eo, nm, op, fs_F V, fs_F M, wb, wv, sa, st, lf, cp, si, sf, so) (nI g) := by
  have hv : vp_in (nI g) 32 := vp_in_nI hg (by decide)
  have hvs : vp_in (nI (A g)) 32 := vp_in_nI hs (by decide)
  unfold wpX_slotNumber
  dsimp only
  rw [fs_Fat (f := A) (i := g) (by omega)]
  refine And.intro hv (nm_e (And.intro hvs (And.intro hvs ?_)))
  rw [fs_Fat (f := A) (i := A g) (by omega), nI_clamp (n := A g) (by omega), hq]
  exact xs_num hM hqw hw h
theorem xs_lenE {post : Int32 → Prop} {g q a : Nat} (hM : ∀ j, M j ≤ 1) (hg : g < 32) (hs : A g < 32) (hq : sa (A g) = nI q) (hw : A (A g) ≤ 16) (hqw : q + A (A g) ≤ 128) (ha : st g = nI a) (h : post (nI (a + fs_nb M q (A (A g))))) : wpX_lengthEnd post (nI mi, nI mb, nI mv, nI n, oc, sl, nI vc, nI bc, pc, ps, tk, fl, fs_F K, fs_F A, fs_F B, pa, rg, eo, nm, op, fs_F V, fs_F M, wb, wv, sa, st, lf, cp, si, sf, so) (nI g) := by
  have hv : vp_in (nI g) 32 := vp_in_nI hg (by decide)
  unfold wpX_lengthEnd
  dsimp only
  rw [nI_clamp (n := g) (by omega), ha]
  refine And.intro hv (xs_slotN hM hg hs hq hw hqw ?_)
  rw [nI_add]
  exact h
theorem xs_fillOn {post : SX → Prop} {f g q a p e : Nat} (hM : ∀ j, M j ≤ 1) (hf : f < 32) (hpa : pa f = nI g) (hg : g < 32) (hs : A g < 32) (hq : sa (A g) = nI q) (hw : A (A g) ≤ 16) (hqw : q + A (A g) ≤ 128) (ha : st g = nI a) (ha1 : a ≤ 128) (hp : p ≤ 128) (heo : eo f = nI e)
    (h1 : p < a + fs_nb M q (A (A g)) → post (nI mi, nI mb, nI mv, nI n, oc, sl, nI vc, nI bc, nI (f + 1), nI p, tk, fl, fs_F K, fs_F A, fs_F B, pa, rg, eo, nm, op, fs_F V, fs_F M, wb, wv, sa, st, lf, cp, si, sf, so)) (h2 : p = a + fs_nb M q (A (A g)) → post (nI mi, nI mb, nI mv, nI n, oc, sl, nI vc, nI bc, nI (e + 1), nI p, tk, fl, fs_F K, fs_F A, fs_F B, pa, rg, eo, nm, op, fs_F V, fs_F M, wb, wv, sa, st, lf, cp, si, sf, so)) (h0 : a + fs_nb M q (A (A g)) < p → post (nI mi, nI mb, nI mv, nI n, oc, sl, nI vc, nI bc, pc, nI p, tk, 1, fs_F K, fs_F A, fs_F B, pa, rg, eo, nm, op, fs_F V, fs_F M, wb, wv, sa, st, lf, cp, si, sf, so)) : wpX_fillOn post (nI mi, nI mb, nI mv, nI n, oc, sl, nI vc, nI bc, pc, nI p, tk, fl, fs_F K, fs_F A, fs_F B, pa, rg, eo, nm, op, fs_F V, fs_F M, wb, wv, sa, st, lf, cp, si, sf, so) (nI f) := by
  have hv : vp_in (nI f) 32 := vp_in_nI hf (by decide)
  have hp16 := fs_p16 hw
  have hnb : fs_nb M q (A (A g)) < 2 ^ A (A g) := fs_nb_lt (fun j _ => hM _)
  unfold wpX_fillOn
  dsimp only
  rw [nI_clamp (n := f) (by omega), hpa, heo]
  refine And.intro hv (xs_lenE hM hg hs hq hw hqw ha ?_)
  refine pk_le p (a + fs_nb M q (A (A g))) (fun c => pk_le (a + fs_nb M q (A (A g))) p (fun d => And.intro hv (nm_r (nI_1 e) (h2 (by omega)))) (fun d => nm_r (nI_1 f) (h1 d))) h0
theorem xs_r1 {post : SX → Prop} {i p t : Nat} (hM : ∀ j, M j ≤ 1) (hi : i < 32) (hk : K i = 1) (hw : A i ≤ 16) (hbc : bc ≤ 128) (hp : p ≤ 128) (hmv : mv ≤ 64) (ht : t ≤ 64)
    (h1 : p + A i ≤ bc → t < mv → post (nI mi, nI mb, nI mv, nI n, oc, sl, nI vc, nI bc, nI (i + 1), nI (p + A i), nI (t + 1), 0, fs_F K, fs_F A, fs_F B, pa, rg, eo, nm, op, fs_F V, fs_F M, wb, upd wv t (nI (fs_nb M p (A i))), sa, st, lf, cp, si, sf, so)) (h0 : ¬ (p + A i ≤ bc ∧ t < mv) → ∀ (pc ps tk : Int32) (wb wv sa st lf cp si sf so : Nat → Int32), post (nI mi, nI mb, nI mv, nI n, oc, sl, nI vc, nI bc, pc, ps, tk, 1, fs_F K, fs_F A, fs_F B, pa, rg, eo, nm, op, fs_F V, fs_F M, wb, wv, sa, st, lf, cp, si, sf, so)) : wpX_readItem post (nI mi, nI mb, nI mv, nI n, oc, sl, nI vc, nI bc, nI i, nI p, nI t, 0, fs_F K, fs_F A, fs_F B, pa, rg, eo, nm, op, fs_F V, fs_F M, wb, wv, sa, st, lf, cp, si, sf, so) := by
  have hv : vp_in (nI i) 32 := vp_in_nI hi (by decide)
  unfold wpX_readItem
  dsimp only
  rw [fs_Fat (f := K) (by omega), hk]
  refine nm_r (nI_1 i) (And.intro hv (nm_e ?_))
  refine br_f (by decide) (br_f (by decide) (br_t (by decide) ?_))
  rw [fs_Fat (f := A) (by omega)]
  refine And.intro hv (xs_read hM hbc hw hp (fun c => ?_) (fun c => ?_))
  · exact xs_give hmv ht (fun d => h1 c d) (fun d => h0 (fun z => by omega) _ _ _ _ _ _ _ _ _ _ _ _)
  · exact xs_give hmv ht (fun d => h0 (fun z => by omega) _ _ _ _ _ _ _ _ _ _ _ _) (fun d => h0 (fun z => by omega) _ _ _ _ _ _ _ _ _ _ _ _)
theorem xs_r2 {post : SX → Prop} {i p : Nat} (hb : fs_bdd K A B) (hM : ∀ j, M j ≤ 1) (hi : i < 32) (hk : K i = 2) (hw : A i ≤ 16) (hbc : bc ≤ 128) (hp : p ≤ 128)
    (h1 : p + A i ≤ bc → fs_nb M p (A i) = B i → post (nI mi, nI mb, nI mv, nI n, oc, sl, nI vc, nI bc, nI (i + 1), nI (p + A i), tk, 0, fs_F K, fs_F A, fs_F B, pa, rg, eo, nm, op, fs_F V, fs_F M, wb, wv, sa, st, lf, cp, si, sf, so)) (h0 : ¬ (p + A i ≤ bc ∧ fs_nb M p (A i) = B i) → ∀ (pc ps tk : Int32) (wb wv sa st lf cp si sf so : Nat → Int32), post (nI mi, nI mb, nI mv, nI n, oc, sl, nI vc, nI bc, pc, ps, tk, 1, fs_F K, fs_F A, fs_F B, pa, rg, eo, nm, op, fs_F V, fs_F M, wb, wv, sa, st, lf, cp, si, sf, so)) : wpX_readItem post (nI mi, nI mb, nI mv, nI n, oc, sl, nI vc, nI bc, nI i, nI p, tk, 0, fs_F K, fs_F A, fs_F B, pa, rg, eo, nm, op, fs_F V, fs_F M, wb, wv, sa, st, lf, cp, si, sf, so) := by
  have hv : vp_in (nI i) 32 := vp_in_nI hi (by decide)
  have hB := (hb i).2.2
  unfold wpX_readItem
  dsimp only
  rw [fs_Fat (f := K) (by omega), hk]
  refine nm_r (nI_1 i) (And.intro hv (nm_e ?_))
  refine br_f (by decide) (br_f (by decide) (br_f (by decide) (br_t (by decide) ?_)))
  rw [fs_Fat (f := A) (by omega), fs_Fat (f := B) (by omega)]
  exact And.intro hv (And.intro hv (xs_expect hM hbc hw hp (by omega) h1 h0))
theorem xs_r3 {post : SX → Prop} {i p : Nat} (hM : ∀ j, M j ≤ 1) (hi : i < 32) (hk : K i = 3) (hw : A i ≤ 16) (hbc : bc ≤ 128) (hp : p ≤ 128)
    (h1 : p + A i ≤ bc → post (nI mi, nI mb, nI mv, nI n, oc, sl, nI vc, nI bc, nI (i + 1), nI (p + A i), tk, 0, fs_F K, fs_F A, fs_F B, pa, rg, eo, nm, op, fs_F V, fs_F M, wb, wv, upd sa i (nI p), st, lf, cp, si, sf, so)) (h0 : ¬ p + A i ≤ bc → ∀ (pc ps tk : Int32) (wb wv sa st lf cp si sf so : Nat → Int32), post (nI mi, nI mb, nI mv, nI n, oc, sl, nI vc, nI bc, pc, ps, tk, 1, fs_F K, fs_F A, fs_F B, pa, rg, eo, nm, op, fs_F V, fs_F M, wb, wv, sa, st, lf, cp, si, sf, so)) : wpX_readItem post (nI mi, nI mb, nI mv, nI n, oc, sl, nI vc, nI bc, nI i, nI p, tk, 0, fs_F K, fs_F A, fs_F B, pa, rg, eo, nm, op, fs_F V, fs_F M, wb, wv, sa, st, lf, cp, si, sf, so) := by
  have hv : vp_in (nI i) 32 := vp_in_nI hi (by decide)
  unfold wpX_readItem
  dsimp only
  rw [fs_Fat (f := K) (by omega), hk]
  refine nm_r (nI_1 i) (And.intro hv (nm_e ?_))
  refine br_f (by decide) (br_f (by decide) (br_f (by decide) (br_f (by decide) (br_t (by decide) ?_))))
  rw [fs_Fat (f := A) (by omega), nI_clamp (n := i) (by omega)]
  refine And.intro hv (nm_e (And.intro hv ?_))
  exact xs_read hM hbc hw hp (fun c => h1 c) (fun c => h0 (by omega) _ _ _ _ _ _ _ _ _ _ _ _)
theorem xs_r4 {post : SX → Prop} {i p : Nat} (hM : ∀ j, M j ≤ 1) (hi : i < 32) (hk : K i = 4) (hu : 2 ≤ A i) (hw : A i ≤ 16) (hbc : bc ≤ 128) (hp : p ≤ 128)
    (h1 : p + fs_pad (A i) p ≤ bc → fs_nb M p (fs_pad (A i) p) = 0 → post (nI mi, nI mb, nI mv, nI n, oc, sl, nI vc, nI bc, nI (i + 1), nI (p + fs_pad (A i) p), tk, 0, fs_F K, fs_F A, fs_F B, pa, rg, eo, nm, op, fs_F V, fs_F M, wb, wv, sa, st, lf, cp, si, sf, so)) (h0 : ¬ (p + fs_pad (A i) p ≤ bc ∧ fs_nb M p (fs_pad (A i) p) = 0) → ∀ (pc ps tk : Int32) (wb wv sa st lf cp si sf so : Nat → Int32), post (nI mi, nI mb, nI mv, nI n, oc, sl, nI vc, nI bc, pc, ps, tk, 1, fs_F K, fs_F A, fs_F B, pa, rg, eo, nm, op, fs_F V, fs_F M, wb, wv, sa, st, lf, cp, si, sf, so)) : wpX_readItem post (nI mi, nI mb, nI mv, nI n, oc, sl, nI vc, nI bc, nI i, nI p, tk, 0, fs_F K, fs_F A, fs_F B, pa, rg, eo, nm, op, fs_F V, fs_F M, wb, wv, sa, st, lf, cp, si, sf, so) := by
  have hv : vp_in (nI i) 32 := vp_in_nI hi (by decide)
  have hpl := fs_pad_lt (p := p) hu
  unfold wpX_readItem
  dsimp only
  rw [fs_Fat (f := K) (by omega), hk]
  refine nm_r (nI_1 i) (And.intro hv (nm_e ?_))
  refine br_f (by decide) (br_f (by decide) (br_f (by decide) (br_f (by decide) (br_f (by decide) (br_t (by decide) ?_)))))
  refine xs_pad hi hu hw hp ?_
  exact xs_expect (x := 0) hM hbc (by omega) hp (by omega) h1 h0
theorem xs_r166 {post : SX → Prop} {i p t : Nat} (hi : i < 32) (hk5 : 5 ≤ K i) (hk10 : K i ≤ 10) (h : wX_readItem_166 post (nI i) (nI mi) (nI mb) (nI mv) (nI n) oc sl (nI vc) (nI bc) (nI (i + 1)) (nI p) (nI t) 0 (fs_F K) (fs_F A) (fs_F B) pa rg eo nm op (fs_F V) (fs_F M) wb wv sa st lf cp si sf so) : wpX_readItem post (nI mi, nI mb, nI mv, nI n, oc, sl, nI vc, nI bc, nI i, nI p, nI t, 0, fs_F K, fs_F A, fs_F B, pa, rg, eo, nm, op, fs_F V, fs_F M, wb, wv, sa, st, lf, cp, si, sf, so) := by
  have hv : vp_in (nI i) 32 := vp_in_nI hi (by decide)
  unfold wpX_readItem
  dsimp only
  rw [fs_Fat (f := K) (by omega)]
  refine nm_r (nI_1 i) (And.intro hv (nm_e ?_))
  refine br_f (nI_nlt (b := 1) (by omega) (by omega)) (br_f (nI_nlt (a := 11) (by omega) (by decide)) ?_)
  refine pk_eq (K i) 1 (fun e => by omega) (fun _ => pk_eq (K i) 2 (fun e => by omega) (fun _ => pk_eq (K i) 3 (fun e => by omega) (fun _ => pk_eq (K i) 4 (fun e => by omega) (fun _ => ?_))))
  refine pk_eq (K i) 5 (fun e => h) (fun _ => pk_eq (K i) 6 (fun e => h) (fun _ => pk_eq (K i) 7 (fun e => h) (fun _ => pk_eq (K i) 8 (fun e => h) (fun _ => ?_))))
  exact pk_eq (K i) 9 (fun e => h) (fun _ => pk_eq (K i) 10 (fun e => h) (fun _ => pk_eq (K i) 11 (fun e => by omega) (fun _ => trivial)))
theorem xs_r5 {post : SX → Prop} {i p t : Nat} (hi : i < 32) (hk : K i = 5 ∨ K i = 6) (h1 : post (nI mi, nI mb, nI mv, nI n, oc, sl, nI vc, nI bc, nI (i + 1), nI p, nI t, 0, fs_F K, fs_F A, fs_F B, pa, rg, eo, nm, op, fs_F V, fs_F M, wb, wv, sa, upd st i (nI p), lf, cp, si, sf, so)) : wpX_readItem post (nI mi, nI mb, nI mv, nI n, oc, sl, nI vc, nI bc, nI i, nI p, nI t, 0, fs_F K, fs_F A, fs_F B, pa, rg, eo, nm, op, fs_F V, fs_F M, wb, wv, sa, st, lf, cp, si, sf, so) := by
  have hv : vp_in (nI i) 32 := vp_in_nI hi (by decide)
  have h18 : wX_readOpening_18 post (nI i) (nI mi) (nI mb) (nI mv) (nI n) oc sl (nI vc) (nI bc) (nI (i + 1)) (nI p) (nI t) 0 (fs_F K) (fs_F A) (fs_F B) pa rg eo nm op (fs_F V) (fs_F M) wb wv sa st lf cp si sf so := by
    unfold wX_readOpening_18
    rw [nI_clamp (n := i) (by omega)]
    exact And.intro hv (nm_e h1)
  refine xs_r166 hi (by omega) (by omega) ?_
  unfold wX_readItem_166 wpX_readOpening
  dsimp only
  rw [fs_Fat (f := K) (by omega)]
  refine And.intro hv (nm_e ?_)
  rcases hk with hk | hk
  · rw [hk]
    exact br_t (by decide) h18
  · rw [hk]
    exact br_f (by decide) (br_t (by decide) h18)
theorem xs_r8 {post : SX → Prop} {i p t g q a e : Nat} (hM : ∀ j, M j ≤ 1) (hi : i < 32) (hk : K i = 8) (hmv : mv ≤ 64) (ht : t ≤ 64) (hpa : pa i = nI g) (hg : g < 32) (hs : A g < 32) (hq : sa (A g) = nI q) (hw : A (A g) ≤ 16) (hqw : q + A (A g) ≤ 128) (ha : st g = nI a) (ha1 : a ≤ 128) (hp : p ≤ 128) (heo : eo i = nI e)
    (h1 : t < mv → p < a + fs_nb M q (A (A g)) → post (nI mi, nI mb, nI mv, nI n, oc, sl, nI vc, nI bc, nI (i + 1), nI p, nI (t + 1), 0, fs_F K, fs_F A, fs_F B, pa, rg, eo, nm, op, fs_F V, fs_F M, wb, upd wv t 0, sa, st, lf, upd cp i (nI t), si, sf, so)) (h2 : t < mv → p = a + fs_nb M q (A (A g)) → post (nI mi, nI mb, nI mv, nI n, oc, sl, nI vc, nI bc, nI (e + 1), nI p, nI (t + 1), 0, fs_F K, fs_F A, fs_F B, pa, rg, eo, nm, op, fs_F V, fs_F M, wb, upd wv t 0, sa, st, lf, upd cp i (nI t), si, sf, so))
    (h0 : ¬ (t < mv ∧ p ≤ a + fs_nb M q (A (A g))) → ∀ (pc ps tk : Int32) (wb wv sa st lf cp si sf so : Nat → Int32), post (nI mi, nI mb, nI mv, nI n, oc, sl, nI vc, nI bc, pc, ps, tk, 1, fs_F K, fs_F A, fs_F B, pa, rg, eo, nm, op, fs_F V, fs_F M, wb, wv, sa, st, lf, cp, si, sf, so)) : wpX_readItem post (nI mi, nI mb, nI mv, nI n, oc, sl, nI vc, nI bc, nI i, nI p, nI t, 0, fs_F K, fs_F A, fs_F B, pa, rg, eo, nm, op, fs_F V, fs_F M, wb, wv, sa, st, lf, cp, si, sf, so) := by
  have hv : vp_in (nI i) 32 := vp_in_nI hi (by decide)
  refine xs_r166 hi (by omega) (by omega) ?_
  unfold wX_readItem_166 wpX_readOpening
  dsimp only
  rw [fs_Fat (f := K) (by omega), hk]
  refine And.intro hv (nm_e (br_f (by decide) (br_f (by decide) (br_t (by decide) ?_))))
  unfold wpX_beginFill
  dsimp only
  rw [nI_clamp (n := i) (by omega)]
  refine And.intro hv (nm_e (xs_give hmv ht (fun c => ?_) (fun c => ?_)))
  · exact xs_fillOn hM hi hpa hg hs hq hw hqw ha ha1 hp heo (h1 c) (h2 c) (fun d => h0 (fun z => by omega) _ _ _ _ _ _ _ _ _ _ _ _)
  · have hf := h0 (fun z => by omega)
    exact xs_fillOn hM hi hpa hg hs hq hw hqw ha ha1 hp heo (fun _ => hf _ _ _ _ _ _ _ _ _ _ _ _) (fun _ => hf _ _ _ _ _ _ _ _ _ _ _ _) (fun _ => hf _ _ _ _ _ _ _ _ _ _ _ _)
theorem xs_r79 {post : SX → Prop} {i p t q : Nat} (hM : ∀ j, M j ≤ 1) (hn : n ≤ 32) (hb : fs_bdd K A B) (hpa : ∀ j, j < n → pa j = fs_oI (fs_stk K j).head?) (hi : i < n) (hk : K i = 7 ∨ K i = 9) (hmv : mv ≤ 64) (ht : t ≤ 64) (hs : A i < 32) (hq : sa (A i) = nI q) (hw : A (A i) ≤ 16) (hqw : q + A (A i) ≤ 128)
    (h7 : K i = 7 → t < mv → wpX_beginLoop post (nI mi, nI mb, nI mv, nI n, oc, sl, nI vc, nI bc, nI (i + 1), nI p, nI (t + 1), 0, fs_F K, fs_F A, fs_F B, pa, rg, eo, nm, op, fs_F V, fs_F M, wb, upd wv t (nI (fs_nb M q (A (A i)))), sa, st, lf, cp, si, sf, so) (nI i) (nI (fs_nb M q (A (A i)))))
    (h9 : K i = 9 → t < mv → wpX_enterCase post (nI mi, nI mb, nI mv, nI n, oc, sl, nI vc, nI bc, nI (i + 1), nI p, nI (t + 1), 0, fs_F K, fs_F A, fs_F B, pa, rg, eo, nm, op, fs_F V, fs_F M, wb, upd wv t (nI (fs_nb M q (A (A i)))), sa, st, lf, cp, si, sf, so) (nI i) (nI (fs_nb M q (A (A i)))))
    (h0 : mv ≤ t → ∀ (pc ps tk : Int32) (wb wv sa st lf cp si sf so : Nat → Int32), post (nI mi, nI mb, nI mv, nI n, oc, sl, nI vc, nI bc, pc, ps, tk, 1, fs_F K, fs_F A, fs_F B, pa, rg, eo, nm, op, fs_F V, fs_F M, wb, wv, sa, st, lf, cp, si, sf, so)) : wpX_readItem post (nI mi, nI mb, nI mv, nI n, oc, sl, nI vc, nI bc, nI i, nI p, nI t, 0, fs_F K, fs_F A, fs_F B, pa, rg, eo, nm, op, fs_F V, fs_F M, wb, wv, sa, st, lf, cp, si, sf, so) := by
  have hv : vp_in (nI i) 32 := vp_in_nI (by omega) (by decide)
  refine xs_r166 (by omega) (by omega) (by omega) ?_
  unfold wX_readItem_166 wpX_readOpening
  dsimp only
  rw [fs_Fat (f := K) (by omega)]
  refine And.intro hv (nm_e (pk_eq (K i) 5 (fun e => by omega) (fun _ => pk_eq (K i) 6 (fun e => by omega) (fun _ => pk_eq (K i) 8 (fun e => by omega) (fun _ => ?_)))))
  refine xs_slotN hM (by omega) hs hq hw hqw ?_
  refine xs_give hmv ht (fun c => pk_eq (K i) 9 (fun e => h9 e c) (fun e => h7 (by omega) c)) (fun c => ?_)
  have hf := h0 c
  refine pk_eq (K i) 9 (fun e => ?_) (fun e => ?_)
  · obtain ⟨o, ho⟩ := fs_lst_ex (fs_isC K A i (nI (fs_nb M q (A (A i))))) n
    exact xs_ent hn hb hpa hi ho (fun _ _ => hf _ _ _ _ _ _ _ _ _ _ _ _) (fun _ => hf _ _ _ _ _ _ _ _ _ _ _ _)
  · unfold wpX_beginLoop
    dsimp only
    exact And.intro hv (nm_e (br_c (fun _ => hf _ _ _ _ _ _ _ _ _ _ _ _) (fun _ => And.intro hv (nm_e (hf _ _ _ _ _ _ _ _ _ _ _ _)))))
end
end
section
/-! the component's readEnd -/
section
variable {mi mb mv n vc bc : Nat} {oc sl pc ps tk fl : Int32} {K A B V M : Nat → Nat} {pa rg eo nm op wb wv sa st lf cp si sf so : Nat → Int32}
theorem xs_re5 {post : SX → Prop} {i o p q a : Nat} (hM : ∀ j, M j ≤ 1) (hi : i < 32) (hk : K i = 11) (hA : A i = o) (ho : o < 32) (hko : K o = 5) (hs : A o < 32) (hq : sa (A o) = nI q) (hw : A (A o) ≤ 16) (hqw : q + A (A o) ≤ 128) (ha : st o = nI a) (ha1 : a ≤ 128) (hp : p ≤ 128)
    (h1 : p = a + fs_nb M q (A (A o)) → post (nI mi, nI mb, nI mv, nI n, oc, sl, nI vc, nI bc, nI (i + 1), nI p, tk, 0, fs_F K, fs_F A, fs_F B, pa, rg, eo, nm, op, fs_F V, fs_F M, wb, wv, sa, st, lf, cp, si, sf, so)) (h0 : p ≠ a + fs_nb M q (A (A o)) → ∀ (pc ps tk : Int32) (wb wv sa st lf cp si sf so : Nat → Int32), post (nI mi, nI mb, nI mv, nI n, oc, sl, nI vc, nI bc, pc, ps, tk, 1, fs_F K, fs_F A, fs_F B, pa, rg, eo, nm, op, fs_F V, fs_F M, wb, wv, sa, st, lf, cp, si, sf, so)) : wpX_readItem post (nI mi, nI mb, nI mv, nI n, oc, sl, nI vc, nI bc, nI i, nI p, tk, 0, fs_F K, fs_F A, fs_F B, pa, rg, eo, nm, op, fs_F V, fs_F M, wb, wv, sa, st, lf, cp, si, sf, so) := by
  have hp16 := fs_p16 hw
  have hnb : fs_nb M q (A (A o)) < 2 ^ A (A o) := fs_nb_lt (fun j _ => hM _)
  have hv : vp_in (nI i) 32 := vp_in_nI hi (by decide)
  have hvo : vp_in (nI o) 32 := vp_in_nI ho (by decide)
  unfold wpX_readItem
  dsimp only
  rw [fs_Fat (f := K) (by omega), hk]
  refine nm_r (nI_1 i) (And.intro hv (nm_e ?_))
  refine br_f (by decide) (br_f (by decide) (br_f (by decide) (br_f (by decide) (br_f (by decide) (br_f (by decide) (br_f (by decide) (br_f (by decide) (br_f (by decide) (br_f (by decide) (br_f (by decide) (br_f (by decide) (br_t (by decide) ?_))))))))))))
  refine And.intro hv ?_
  rw [fs_Fat (f := A) (by omega), hA]
  unfold wpX_readEnd
  dsimp only
  rw [fs_Fat (f := K) (i := o) (by omega), hko]
  refine And.intro hvo (nm_e ?_)
  refine br_f (by decide) (br_f (by decide) (br_t (by decide) ?_))
  refine xs_lenE hM ho hs hq hw hqw ha ?_
  exact pk_eq p (a + fs_nb M q (A (A o))) h1 (fun c => h0 c _ _ _ _ _ _ _ _ _ _ _ _)
theorem xs_re6 {post : SX → Prop} {i o p q a : Nat} (hM : ∀ j, M j ≤ 1) (hb : fs_bdd K A B) (hi : i < 32) (hk : K i = 11) (hA : A i = o) (ho : o < 32) (hko : K o = 6) (hs : A o < 32) (hq : sa (A o) = nI q) (hw1 : 1 ≤ A (A o)) (hw : A (A o) ≤ 16) (hB : B o < 2 ^ A (A o)) (hqw : q + A (A o) ≤ 128) (ha : st o = nI a) (hap : a ≤ p) (hp : p ≤ 128)
    (h1 : fs_cs0 (A (A o)) (B o) (fs_F M) a p = fs_nb M q (A (A o)) → post (nI mi, nI mb, nI mv, nI n, oc, sl, nI vc, nI bc, nI (i + 1), nI p, tk, 0, fs_F K, fs_F A, fs_F B, pa, rg, eo, nm, op, fs_F V, fs_F M, wb, wv, sa, st, lf, cp, si, sf, so)) (h0 : fs_cs0 (A (A o)) (B o) (fs_F M) a p ≠ fs_nb M q (A (A o)) → ∀ (pc ps tk : Int32) (wb wv sa st lf cp si sf so : Nat → Int32), post (nI mi, nI mb, nI mv, nI n, oc, sl, nI vc, nI bc, pc, ps, tk, 1, fs_F K, fs_F A, fs_F B, pa, rg, eo, nm, op, fs_F V, fs_F M, wb, wv, sa, st, lf, cp, si, sf, so)) : wpX_readItem post (nI mi, nI mb, nI mv, nI n, oc, sl, nI vc, nI bc, nI i, nI p, tk, 0, fs_F K, fs_F A, fs_F B, pa, rg, eo, nm, op, fs_F V, fs_F M, wb, wv, sa, st, lf, cp, si, sf, so) := by
  have hp16 := fs_p16 hw
  have hnb : fs_nb M q (A (A o)) < 2 ^ A (A o) := fs_nb_lt (fun j _ => hM _)
  have hck := fs_cs0_lt (a := fs_F M) hB a p
  have hv : vp_in (nI i) 32 := vp_in_nI hi (by decide)
  have hvo : vp_in (nI o) 32 := vp_in_nI ho (by decide)
  unfold wpX_readItem
  dsimp only
  rw [fs_Fat (f := K) (by omega), hk]
  refine nm_r (nI_1 i) (And.intro hv (nm_e ?_))
  refine br_f (by decide) (br_f (by decide) (br_f (by decide) (br_f (by decide) (br_f (by decide) (br_f (by decide) (br_f (by decide) (br_f (by decide) (br_f (by decide) (br_f (by decide) (br_f (by decide) (br_f (by decide) (br_t (by decide) ?_))))))))))))
  refine And.intro hv ?_
  rw [fs_Fat (f := A) (by omega), hA]
  unfold wpX_readEnd
  dsimp only
  rw [fs_Fat (f := K) (i := o) (by omega), hko]
  refine And.intro hvo (nm_e ?_)
  refine br_f (by decide) (br_f (by decide) (br_f (by decide) (br_t (by decide) ?_)))
  rw [nI_clamp (n := o) (by omega), ha]
  refine And.intro hvo (xs_ckM hb ho hs hw1 hw hB hap hp ?_)
  refine xs_slotN hM ho hs hq hw hqw ?_
  exact pk_eq _ (fs_nb M q (A (A o))) h1 (fun c => h0 c _ _ _ _ _ _ _ _ _ _ _ _)
theorem xs_re7 {post : SX → Prop} {i o : Nat} (hi : i < 32) (hk : K i = 11) (hA : A i = o) (ho : o < 32) (hko : K o = 7)
    (h0 : lf o - 1 ≤ 0 → post (nI mi, nI mb, nI mv, nI n, oc, sl, nI vc, nI bc, nI (i + 1), ps, tk, fl, fs_F K, fs_F A, fs_F B, pa, rg, eo, nm, op, fs_F V, fs_F M, wb, wv, sa, st, upd lf o (lf o - 1), cp, si, sf, so)) (h1 : ¬ lf o - 1 ≤ 0 → post (nI mi, nI mb, nI mv, nI n, oc, sl, nI vc, nI bc, nI (o + 1), ps, tk, fl, fs_F K, fs_F A, fs_F B, pa, rg, eo, nm, op, fs_F V, fs_F M, wb, wv, sa, st, upd lf o (lf o - 1), cp, si, sf, so)) : wpX_readItem post (nI mi, nI mb, nI mv, nI n, oc, sl, nI vc, nI bc, nI i, ps, tk, fl, fs_F K, fs_F A, fs_F B, pa, rg, eo, nm, op, fs_F V, fs_F M, wb, wv, sa, st, lf, cp, si, sf, so) := by
  have hv : vp_in (nI i) 32 := vp_in_nI hi (by decide)
  have hvo : vp_in (nI o) 32 := vp_in_nI ho (by decide)
  unfold wpX_readItem
  dsimp only
  rw [fs_Fat (f := K) (by omega), hk]
  refine nm_r (nI_1 i) (And.intro hv (nm_e ?_))
  refine br_f (by decide) (br_f (by decide) (br_f (by decide) (br_f (by decide) (br_f (by decide) (br_f (by decide) (br_f (by decide) (br_f (by decide) (br_f (by decide) (br_f (by decide) (br_f (by decide) (br_f (by decide) (br_t (by decide) ?_))))))))))))
  refine And.intro hv ?_
  rw [fs_Fat (f := A) (by omega), hA]
  unfold wpX_readEnd
  dsimp only
  rw [fs_Fat (f := K) (i := o) (by omega), hko]
  refine And.intro hvo (nm_e ?_)
  refine br_f (by decide) (br_f (by decide) (br_f (by decide) (br_f (by decide) (br_t (by decide) ?_))))
  exact xs_next ho h0 h1
theorem xs_re8 {post : SX → Prop} {i o p g q a e c : Nat} (hM : ∀ j, M j ≤ 1) (hi : i < 32) (hk : K i = 11) (hA : A i = o) (ho : o < 32) (hko : K o = 8) (hcp : cp o = nI c) (hc : c < 64) (hpa : pa o = nI g) (hg : g < 32) (hs : A g < 32) (hq : sa (A g) = nI q) (hw : A (A g) ≤ 16) (hqw : q + A (A g) ≤ 128) (ha : st g = nI a) (ha1 : a ≤ 128) (hp : p ≤ 128) (heo : eo o = nI e)
    (h1 : p < a + fs_nb M q (A (A g)) → post (nI mi, nI mb, nI mv, nI n, oc, sl, nI vc, nI bc, nI (o + 1), nI p, tk, 0, fs_F K, fs_F A, fs_F B, pa, rg, eo, nm, op, fs_F V, fs_F M, wb, upd wv c (wv c + 1), sa, st, lf, cp, si, sf, so)) (h2 : p = a + fs_nb M q (A (A g)) → post (nI mi, nI mb, nI mv, nI n, oc, sl, nI vc, nI bc, nI (e + 1), nI p, tk, 0, fs_F K, fs_F A, fs_F B, pa, rg, eo, nm, op, fs_F V, fs_F M, wb, upd wv c (wv c + 1), sa, st, lf, cp, si, sf, so))
    (h0 : a + fs_nb M q (A (A g)) < p → ∀ (pc ps tk : Int32) (wb wv sa st lf cp si sf so : Nat → Int32), post (nI mi, nI mb, nI mv, nI n, oc, sl, nI vc, nI bc, pc, ps, tk, 1, fs_F K, fs_F A, fs_F B, pa, rg, eo, nm, op, fs_F V, fs_F M, wb, wv, sa, st, lf, cp, si, sf, so)) : wpX_readItem post (nI mi, nI mb, nI mv, nI n, oc, sl, nI vc, nI bc, nI i, nI p, tk, 0, fs_F K, fs_F A, fs_F B, pa, rg, eo, nm, op, fs_F V, fs_F M, wb, wv, sa, st, lf, cp, si, sf, so) := by
  have hvc : vp_in (nI c) 64 := vp_in_nI hc (by decide)
  have hv : vp_in (nI i) 32 := vp_in_nI hi (by decide)
  have hvo : vp_in (nI o) 32 := vp_in_nI ho (by decide)
  unfold wpX_readItem
  dsimp only
  rw [fs_Fat (f := K) (by omega), hk]
  refine nm_r (nI_1 i) (And.intro hv (nm_e ?_))
  refine br_f (by decide) (br_f (by decide) (br_f (by decide) (br_f (by decide) (br_f (by decide) (br_f (by decide) (br_f (by decide) (br_f (by decide) (br_f (by decide) (br_f (by decide) (br_f (by decide) (br_f (by decide) (br_t (by decide) ?_))))))))))))
  refine And.intro hv ?_
  rw [fs_Fat (f := A) (by omega), hA]
  unfold wpX_readEnd
  dsimp only
  rw [fs_Fat (f := K) (i := o) (by omega), hko]
  refine And.intro hvo (nm_e ?_)
  refine br_f (by decide) (br_f (by decide) (br_f (by decide) (br_f (by decide) (br_f (by decide) (br_t (by decide) ?_)))))
  rw [nI_clamp (n := o) (by omega), hcp, nI_clamp (n := c) (by omega)]
  refine And.intro hvo (And.intro hvc (And.intro hvc (nm_e ?_)))
  exact xs_fillOn hM ho hpa hg hs hq hw hqw ha ha1 hp heo h1 h2 (fun d => h0 d _ _ _ _ _ _ _ _ _ _ _ _)
theorem xs_re9 {post : SX → Prop} {i o : Nat} (hi : i < 32) (hk : K i = 11) (hA : A i = o) (ho : o < 32) (hko : K o = 9) (h : post (nI mi, nI mb, nI mv, nI n, oc, sl, nI vc, nI bc, nI (i + 1), ps, tk, fl, fs_F K, fs_F A, fs_F B, pa, rg, eo, nm, op, fs_F V, fs_F M, wb, wv, sa, st, lf, cp, si, sf, so)) : wpX_readItem post (nI mi, nI mb, nI mv, nI n, oc, sl, nI vc, nI bc, nI i, ps, tk, fl, fs_F K, fs_F A, fs_F B, pa, rg, eo, nm, op, fs_F V, fs_F M, wb, wv, sa, st, lf, cp, si, sf, so) := by
  have hv : vp_in (nI i) 32 := vp_in_nI hi (by decide)
  have hvo : vp_in (nI o) 32 := vp_in_nI ho (by decide)
  unfold wpX_readItem
  dsimp only
  rw [fs_Fat (f := K) (by omega), hk]
  refine nm_r (nI_1 i) (And.intro hv (nm_e ?_))
  refine br_f (by decide) (br_f (by decide) (br_f (by decide) (br_f (by decide) (br_f (by decide) (br_f (by decide) (br_f (by decide) (br_f (by decide) (br_f (by decide) (br_f (by decide) (br_f (by decide) (br_f (by decide) (br_t (by decide) ?_))))))))))))
  refine And.intro hv ?_
  rw [fs_Fat (f := A) (by omega), hA]
  unfold wpX_readEnd
  dsimp only
  rw [fs_Fat (f := K) (i := o) (by omega), hko]
  refine And.intro hvo (nm_e ?_)
  refine br_f (by decide) (br_f (by decide) (br_f (by decide) (br_f (by decide) (br_f (by decide) (br_f (by decide) (br_t (by decide) ?_))))))
  exact h
theorem xs_re10 {post : SX → Prop} {i o w e : Nat} (hi : i < 32) (hk : K i = 11) (hA : A i = o) (ho : o < 32) (hko : K o = 10) (hpa : pa o = nI w) (hw : w < 32) (heo : eo w = nI e) (h : post (nI mi, nI mb, nI mv, nI n, oc, sl, nI vc, nI bc, nI (e + 1), ps, tk, fl, fs_F K, fs_F A, fs_F B, pa, rg, eo, nm, op, fs_F V, fs_F M, wb, wv, sa, st, lf, cp, si, sf, so)) : wpX_readItem post (nI mi, nI mb, nI mv, nI n, oc, sl, nI vc, nI bc, nI i, ps, tk, fl, fs_F K, fs_F A, fs_F B, pa, rg, eo, nm, op, fs_F V, fs_F M, wb, wv, sa, st, lf, cp, si, sf, so) := by
  have hv : vp_in (nI i) 32 := vp_in_nI hi (by decide)
  have hvo : vp_in (nI o) 32 := vp_in_nI ho (by decide)
  unfold wpX_readItem
  dsimp only
  rw [fs_Fat (f := K) (by omega), hk]
  refine nm_r (nI_1 i) (And.intro hv (nm_e ?_))
  refine br_f (by decide) (br_f (by decide) (br_f (by decide) (br_f (by decide) (br_f (by decide) (br_f (by decide) (br_f (by decide) (br_f (by decide) (br_f (by decide) (br_f (by decide) (br_f (by decide) (br_f (by decide) (br_t (by decide) ?_))))))))))))
  refine And.intro hv ?_
  rw [fs_Fat (f := A) (by omega), hA]
  unfold wpX_readEnd
  dsimp only
  rw [fs_Fat (f := K) (i := o) (by omega), hko]
  refine And.intro hvo (nm_e ?_)
  refine br_f (by decide) (br_f (by decide) (br_f (by decide) (br_f (by decide) (br_f (by decide) (br_f (by decide) (br_f (by decide) (br_t (by decide) ?_)))))))
  exact xs_leave ho hpa hw heo h
end
end
section
/-! the reference's items that take a value, guessing -/
section
variable {mi mb mv n vc bc : Nat} {sl ot tt wc : Int32} {K A B V M : Nat → Nat} {bf wk sr lt mk sm sF sT : Nat → Int32}
theorem yg_1 {post : Int32 → SY → Prop} {i p t : Nat} (hM : ∀ j, M j ≤ 1) (hi : i < 32) (hk : K i = 1) (hw1 : 1 ≤ A i) (hw : A i ≤ 16) (hbm : bc ≤ mb) (hmb : mb ≤ 128) (hp : p ≤ 128) (hmv : mv ≤ 64) (ht : t ≤ mv)
    (h1 : p + A i ≤ bc → t < mv → post (nI (i + 1)) (nI mi, nI mb, nI mv, sl, nI n, nI vc, nI bc, nI (p + A i), nI (t + 1), nI (t + 1), fs_F K, fs_F A, fs_F B, fs_F V, fs_F M, fs_w bf p (A i) (fs_nb M p (A i)), upd wk t (nI (fs_nb M p (A i))), upd sr i (nI p), lt, upd mk i (nI t), sm, sF, sT)) (h0 : ¬ (p + A i ≤ bc ∧ t < mv) → ∀ (ot tt wc : Int32) (bf wk sr lt mk sm sF sT : Nat → Int32), post (-1) (nI mi, nI mb, nI mv, sl, nI n, nI vc, nI bc, ot, tt, wc, fs_F K, fs_F A, fs_F B, fs_F V, fs_F M, bf, wk, sr, lt, mk, sm, sF, sT)) : wpY_layItem post (nI mi, nI mb, nI mv, sl, nI n, nI vc, nI bc, nI p, nI t, nI t, fs_F K, fs_F A, fs_F B, fs_F V, fs_F M, bf, wk, sr, lt, mk, sm, sF, sT) (nI i) 1 := by
  have hp16 := fs_p16 hw
  have hnb : fs_nb M p (A i) < 2 ^ A i := fs_nb_lt (fun j _ => hM _)
  refine ys_valG (G := fun x => x = fs_nb M p (A i) ∧ p + A i ≤ bc ∧ t < mv) (Bd := ¬ (p + A i ≤ bc ∧ t < mv)) hi (Or.inl hk) (fun post' g1 g0 => ?_) (fun x hx => ?_) h0
  · exact ys_gf hM (by omega) hmv (by omega) hi hk hw1 hw hp (fun c d => g1 _ ⟨rfl, c, d⟩) g0
  · obtain ⟨rfl, c, d⟩ := hx
    rw [hk]
    exact ys_177f hi (by omega) hw hmb hp (by omega) (nI_lt (by omega) (by omega)) pk_us (fun _ _ => h1 c d) (fun z => absurd ⟨hnb, by omega⟩ z)
theorem yg_7 {post : Int32 → SY → Prop} {i p t q e : Nat} (W : fs_WF K A B n) (hn : n ≤ 32) (hb : fs_bdd K A B) (hM : ∀ j, M j ≤ 1) (hi : i < 32) (hk : K i = 7) (hs : A i < 32) (hne : A i ≠ i) (hq : sr (A i) = nI q) (hw1 : 1 ≤ A (A i)) (hw : A (A i) ≤ 16) (hqw : q + A (A i) ≤ 128) (hbc : bc ≤ 128) (hmv : mv ≤ 64) (ht : t ≤ mv) (he : e < n) (hke : K e = 11) (hA : A e = i)
    (h1 : q + A (A i) ≤ bc → t < mv → 0 < fs_nb M q (A (A i)) → post (nI (i + 1)) (nI mi, nI mb, nI mv, sl, nI n, nI vc, nI bc, nI p, nI (t + 1), nI (t + 1), fs_F K, fs_F A, fs_F B, fs_F V, fs_F M, fs_w bf q (A (A i)) (fs_nb M q (A (A i))), upd wk t (nI (fs_nb M q (A (A i)))), upd sr i (nI p), upd lt i (nI (fs_nb M q (A (A i)))), upd mk i (nI t), sm, sF, sT))
    (h2 : q + A (A i) ≤ bc → t < mv → fs_nb M q (A (A i)) = 0 → post (nI (e + 1)) (nI mi, nI mb, nI mv, sl, nI n, nI vc, nI bc, nI p, nI (t + 1), nI (t + 1), fs_F K, fs_F A, fs_F B, fs_F V, fs_F M, fs_w bf q (A (A i)) (fs_nb M q (A (A i))), upd wk t (nI (fs_nb M q (A (A i)))), upd sr i (nI p), upd lt i (nI (fs_nb M q (A (A i)))), upd mk i (nI t), sm, sF, sT))
    (h0 : ¬ (q + A (A i) ≤ bc ∧ t < mv) → ∀ (ot tt wc : Int32) (bf wk sr lt mk sm sF sT : Nat → Int32), post (-1) (nI mi, nI mb, nI mv, sl, nI n, nI vc, nI bc, ot, tt, wc, fs_F K, fs_F A, fs_F B, fs_F V, fs_F M, bf, wk, sr, lt, mk, sm, sF, sT)) : wpY_layItem post (nI mi, nI mb, nI mv, sl, nI n, nI vc, nI bc, nI p, nI t, nI t, fs_F K, fs_F A, fs_F B, fs_F V, fs_F M, bf, wk, sr, lt, mk, sm, sF, sT) (nI i) 1 := by
  have hp16 := fs_p16 hw
  have hnb : fs_nb M q (A (A i)) < 2 ^ A (A i) := fs_nb_lt (fun j _ => hM _)
  have hq' : upd sr i (nI p) (A i) = nI q := by rw [pk_un hne]; exact hq
  refine ys_valG (G := fun x => x = fs_nb M q (A (A i)) ∧ q + A (A i) ≤ bc ∧ t < mv) (Bd := ¬ (q + A (A i) ≤ bc ∧ t < mv)) hi (Or.inr (Or.inl hk)) (fun post' g1 g0 => ?_) (fun x hx => ?_) h0
  · exact ys_gs hM (by omega) hmv (by omega) hi (Or.inl hk) hs hq' (by omega) hw1 hw (fun c d => g1 _ ⟨rfl, c, d⟩) g0
  · obtain ⟨rfl, c, d⟩ := hx
    rw [hk]
    refine ys_177s hi (Or.inl rfl) (by omega) hs hq' hw hqw (by omega) (nI_lt (by omega) (by omega)) pk_us (fun _ => ?_) (fun z => absurd hnb z)
    exact ys_273 W hn hb hi (by omega) (by omega) he hke hA (by omega) (h2 c d) (h1 c d)
theorem yg_9 {post : Int32 → SY → Prop} {i p t q : Nat} {o : Option Nat} (hn : n ≤ 32) (hb : fs_bdd K A B) (hM : ∀ j, M j ≤ 1) (hi : i < 32) (hk : K i = 9) (hs : A i < 32) (hne : A i ≠ i) (hq : sr (A i) = nI q) (hw1 : 1 ≤ A (A i)) (hw : A (A i) ≤ 16) (hqw : q + A (A i) ≤ 128) (hbc : bc ≤ 128) (hmv : mv ≤ 64) (ht : t ≤ mv) (ho : fs_lst (fs_isC K A i (nI (fs_nb M q (A (A i))))) n o)
    (h1 : ∀ c, o = some c → q + A (A i) ≤ bc → t < mv → post (nI (c + 1)) (nI mi, nI mb, nI mv, sl, nI n, nI vc, nI bc, nI p, nI (t + 1), nI (t + 1), fs_F K, fs_F A, fs_F B, fs_F V, fs_F M, fs_w bf q (A (A i)) (fs_nb M q (A (A i))), upd wk t (nI (fs_nb M q (A (A i)))), upd sr i (nI p), lt, upd mk i (nI t), sm, sF, sT))
    (h0 : ¬ (q + A (A i) ≤ bc ∧ t < mv ∧ o ≠ none) → ∀ (ot tt wc : Int32) (bf wk sr lt mk sm sF sT : Nat → Int32), post (-1) (nI mi, nI mb, nI mv, sl, nI n, nI vc, nI bc, ot, tt, wc, fs_F K, fs_F A, fs_F B, fs_F V, fs_F M, bf, wk, sr, lt, mk, sm, sF, sT)) : wpY_layItem post (nI mi, nI mb, nI mv, sl, nI n, nI vc, nI bc, nI p, nI t, nI t, fs_F K, fs_F A, fs_F B, fs_F V, fs_F M, bf, wk, sr, lt, mk, sm, sF, sT) (nI i) 1 := by
  have hp16 := fs_p16 hw
  have hnb : fs_nb M q (A (A i)) < 2 ^ A (A i) := fs_nb_lt (fun j _ => hM _)
  have hq' : upd sr i (nI p) (A i) = nI q := by rw [pk_un hne]; exact hq
  refine ys_valG (G := fun x => x = fs_nb M q (A (A i)) ∧ q + A (A i) ≤ bc ∧ t < mv) (Bd := ¬ (q + A (A i) ≤ bc ∧ t < mv)) hi (Or.inr (Or.inr (Or.inr hk))) (fun post' g1 g0 => ?_) (fun x hx => ?_) (fun z => h0 (fun y => z ⟨y.1, y.2.1⟩))
  · exact ys_gs hM (by omega) hmv (by omega) hi (Or.inr hk) hs hq' (by omega) hw1 hw (fun c d => g1 _ ⟨rfl, c, d⟩) g0
  · obtain ⟨rfl, c, d⟩ := hx
    rw [hk]
    refine ys_177s hi (Or.inr rfl) (by omega) hs hq' hw hqw (by omega) (nI_lt (by omega) (by omega)) pk_us (fun _ => ?_) (fun z => absurd hnb z)
    exact ys_273u hn hb hi ho (fun c' e' => h1 c' e' c d) (fun e' => h0 (fun y => y.2.2 e') _ _ _ _ _ _ _ _ _ _ _)
theorem yg_8 {post : Int32 → SY → Prop} {i p t g q a e : Nat} (W : fs_WF K A B n) (hn : n ≤ 32) (hb : fs_bdd K A B) (hM : ∀ j, M j ≤ 1) (hi : i < 32) (hk : K i = 8) (hg : (fs_stk K i).head? = some g) (hs : A g < 32) (hsi : A g ≠ i) (hq : sr (A g) = nI q) (hq1 : q ≤ 128) (ha : sr g = nI a) (ha1 : a ≤ p) (hp1 : p ≤ 128) (hw1 : 1 ≤ A (A g)) (hw : A (A g) ≤ 16) (hbc : bc ≤ 128) (hmv : mv ≤ 64) (ht : t ≤ mv) (he : e < n) (hke : K e = 11) (hA : A e = i)
    (h1 : fs_room M bc q (A (A g)) a p → t < mv → post (nI (i + 1)) (nI mi, nI mb, nI mv, sl, nI n, nI vc, nI bc, nI p, nI (t + 1), nI (t + 1), fs_F K, fs_F A, fs_F B, fs_F V, fs_F M, bf, upd wk t (nI 1), upd sr i (nI p), upd lt i (nI 1), upd mk i (nI t), sm, sF, sT))
    (h2 : ¬ fs_room M bc q (A (A g)) a p → t < mv → post (nI (e + 1)) (nI mi, nI mb, nI mv, sl, nI n, nI vc, nI bc, nI p, nI (t + 1), nI (t + 1), fs_F K, fs_F A, fs_F B, fs_F V, fs_F M, bf, upd wk t (nI 0), upd sr i (nI p), upd lt i (nI 0), upd mk i (nI t), sm, sF, sT))
    (h0 : mv ≤ t → ∀ (ot tt wc : Int32) (bf wk sr lt mk sm sF sT : Nat → Int32), post (-1) (nI mi, nI mb, nI mv, sl, nI n, nI vc, nI bc, ot, tt, wc, fs_F K, fs_F A, fs_F B, fs_F V, fs_F M, bf, wk, sr, lt, mk, sm, sF, sT)) : wpY_layItem post (nI mi, nI mb, nI mv, sl, nI n, nI vc, nI bc, nI p, nI t, nI t, fs_F K, fs_F A, fs_F B, fs_F V, fs_F M, bf, wk, sr, lt, mk, sm, sF, sT) (nI i) 1 := by
  have hgi := fs_hdlt hg
  have hq' : upd sr i (nI p) (A g) = nI q := by rw [pk_un hsi]; exact hq
  have ha' : upd sr i (nI p) g = nI a := by rw [pk_un (by omega)]; exact ha
  refine ys_valG (G := fun x => ((x = 1 ∧ fs_room M bc q (A (A g)) a p) ∨ (x = 0 ∧ ¬ fs_room M bc q (A (A g)) a p)) ∧ t < mv) (Bd := mv ≤ t) hi (Or.inr (Or.inr (Or.inl hk))) (fun post' g1 g0 => ?_) (fun x hx => ?_) h0
  · exact ys_gl hM hb hbc hmv (by omega) hi hk hg hs hq' hq1 ha' ha1 hp1 hw1 hw (fun x c d => g1 x ⟨c, d⟩) g0
  · obtain ⟨hx, d⟩ := hx
    rw [hk]
    refine ys_177l hi (by omega) (nI_lt (by omega) (by omega)) pk_us ?_
    rcases hx with ⟨rfl, c⟩ | ⟨rfl, c⟩
    · exact ys_273 W hn hb hi (by omega) (by omega) he hke hA (by omega) (fun z => by omega) (fun _ => h1 c d)
    · exact ys_273 W hn hb hi (by omega) (by omega) he hke hA (by omega) (fun _ => h2 c d) (fun z => by omega)
end
end
section
/-! parse: why the reference will answer BAD -/
def fs_R2 (K A : Nat → Nat) (M : Nat → Nat) (n i p : Nat) (S : Nat → Nat) (bf sm sF sT : Nat → Int32) (q : Nat) : Prop :=
  q < p ∧ bf q ≠ nI (M q) ∧ (∀ g, g < n → fs_nam (K g) → fs_pd K A g i → q < S (A g) ∨ S (A g) + A (A g) ≤ q) ∧ (∀ q0 o a b, fs_nt K A n sm sF sT p q0 o a b → q < q0 ∨ q0 + A (A o) ≤ q)
def fs_R3 (K A B : Nat → Nat) (M : Nat → Nat) (n i p : Nat) (S : Nat → Nat) (sm sF sT : Nat → Int32) (q0 o a b : Nat) : Prop :=
  fs_nt K A n sm sF sT p q0 o a b ∧ fs_cs0 (A (A o)) (B o) (fs_F M) a b ≠ fs_nb M q0 (A (A o)) ∧ (∀ g, g < n → fs_nam (K g) → fs_pd K A g i → S (A g) ≠ q0)
def fs_R4 (K A : Nat → Nat) (M : Nat → Nat) (n i p : Nat) (S : Nat → Nat) : Prop :=
  i < n ∧ K i = 11 ∧ K (A i) = 5 ∧ p ≠ S (A i) + fs_nb M (S (A (A i))) (A (A (A i)))
def fs_DR (K A B : Nat → Nat) (M : Nat → Nat) (n bc i p : Nat) (S : Nat → Nat) (bf sm sF sT : Nat → Int32) : Prop :=
  bc < p ∨ (∃ q, fs_R2 K A M n i p S bf sm sF sT q) ∨ (∃ q0 o a b, fs_R3 K A B M n i p S sm sF sT q0 o a b) ∨ fs_R4 K A M n i p S
def fs_DQ (mb mv bc : Nat) (K A B M : Nat → Nat) (n i p t : Nat) (S C : Nat → Nat) (bf sr mk sm sF sT : Nat → Int32) : Prop :=
  i ≤ n ∧ (i < n → K i ≠ 10) ∧ p ≤ mb ∧ t ≤ mv ∧ fs_YI K A n i p t S C sr mk sm sF sT ∧ fs_DR K A B M n bc i p S bf sm sF sT
section
variable {mb mv bc : Nat} {K A B M : Nat → Nat} {n i i' p p' t t' : Nat} {S C C' : Nat → Nat} {sr mk mk' bf bf' sm sF sT : Nat → Int32}
theorem fs_DA (W : fs_WF K A B n) (hn : n ≤ 32) (hi : i < n) (h11 : K i ≠ 11) (hST : fs_ST K A n i i') (hp : p ≤ p') (hp' : p' ≤ 128) (hN : fs_NT K A n sm sF sT p)
    (hbf : ∀ q, q < p → bf' q = bf q ∨ ∃ g, g < n ∧ fs_nam (K g) ∧ fs_pd K A g i ∧ S (A g) ≤ q ∧ q < S (A g) + A (A g)) (D : fs_DR K A B M n bc i p S bf sm sF sT) : fs_DR K A B M n bc i' p' (fs_u S i p) bf' sm sF sT := by
  rcases D with h | ⟨q, h1, h2, h3, h4⟩ | ⟨q0, o, a, b, h1, h2, h3⟩ | ⟨_, h, _⟩
  · exact Or.inl (by omega)
  · refine Or.inr (Or.inl ⟨q, by omega, ?_, fun g hg hna hpd => ?_, fun q0 o a b hnt => h4 q0 o a b (fs_nt_dn hn hp hp' hN hnt)⟩)
    · rcases hbf q h1 with e | ⟨g, g1, g2, g3, g4, g5⟩
      · rw [e]; exact h2
      · have := h3 g g1 g2 g3; omega
    · rcases fs_L3 W hi hg hna hST hpd with e | hpd0
      · rw [← e, fs_us]; exact Or.inl h1
      · have := hpd0.1
        rw [fs_un (by omega)]
        exact h3 g hg hna hpd0
  · refine Or.inr (Or.inr (Or.inl ⟨q0, o, a, b, fs_nt_up hp h1, h2, fun g hg hna hpd => ?_⟩))
    rcases fs_L3 W hi hg hna hST hpd with e | hpd0
    · rw [← e, fs_us]
      obtain ⟨_, _, _, _, i4, i5, i6, i7, i8⟩ := h1
      have hna6 := fs_nm W i4 (Or.inr (Or.inl i5))
      have hwd := fs_wd W (i := A o) (by omega) (by omega)
      omega
    · have := hpd0.1
      rw [fs_un (by omega)]
      exact h3 g hg hna hpd0
  · exact absurd h h11
theorem fs_DB (W : fs_WF K A B n) (hi : i < n) (h11 : K i = 11) (hST : fs_ST K A n i i') (hbf : ∀ q, q < p → bf' q = bf q ∨ ∃ g, g < n ∧ fs_nam (K g) ∧ fs_pd K A g i ∧ S (A g) ≤ q ∧ q < S (A g) + A (A g)) (h4 : ¬ fs_R4 K A M n i p S) (D : fs_DR K A B M n bc i p S bf sm sF sT) : fs_DR K A B M n bc i' p S bf' sm sF sT := by
  have pd0 : ∀ g, g < n → fs_nam (K g) → fs_pd K A g i' → fs_pd K A g i := by
    intro g hg hna hpd
    rcases fs_L3 W hi hg hna hST hpd with e | h
    · have := (fs_nm W hg hna).2.1
      rw [← e] at this
      omega
    · exact h
  rcases D with h | ⟨q, h1, h2, h3, h5⟩ | ⟨q0, o, a, b, h1, h2, h3⟩ | h
  · exact Or.inl h
  · refine Or.inr (Or.inl ⟨q, h1, ?_, fun g hg hna hpd => h3 g hg hna (pd0 g hg hna hpd), h5⟩)
    rcases hbf q h1 with e | ⟨g, g1, g2, g3, g4, g5⟩
    · rw [e]; exact h2
    · have := h3 g g1 g2 g3; omega
  · exact Or.inr (Or.inr (Or.inl ⟨q0, o, a, b, h1, h2, fun g hg hna hpd => h3 g hg hna (pd0 g hg hna hpd)⟩))
  · exact absurd h h4
theorem fs_DC (W : fs_WF K A B n) (hn : n ≤ 32) (hp128 : p ≤ 128) (hi : i < n) (h11 : K i = 11) (h6 : K (A i) = 6) (I : fs_YI K A n i p t S C sr mk sm sF sT) (D : fs_DR K A B M n bc i p S bf sm sF sT) :
    fs_DR K A B M n bc (i + 1) p S bf (upd sm (S (A (A i))) (nI (A i))) (upd sF (S (A (A i))) (nI (S (A i)))) (upd sT (S (A (A i))) (nI p)) := by
  have hST : fs_ST K A n i (i + 1) := Or.inr (Or.inl ⟨rfl, h11, by omega⟩)
  have hnew := (fs_YC W hn hp128 hi h11 h6 I).2
  obtain ⟨hgn, hgna, hgpd⟩ := fs_pdE W hi h11 (Or.inr h6)
  have pd0 : ∀ g, g < n → fs_nam (K g) → fs_pd K A g (i + 1) → fs_pd K A g i := by
    intro g hg hna hpd
    rcases fs_L3 W hi hg hna hST hpd with e | h
    · have := (fs_nm W hg hna).2.1
      rw [← e] at this
      omega
    · exact h
  rcases D with h | ⟨q, h1, h2, h3, h5⟩ | ⟨q0, o, a, b, h1, h2, h3⟩ | ⟨_, _, h, _⟩
  · exact Or.inl h
  · refine Or.inr (Or.inl ⟨q, h1, h2, fun g hg hna hpd => h3 g hg hna (pd0 g hg hna hpd), fun q0 o a b hnt => ?_⟩)
    by_cases c : q0 = S (A (A i))
    · subst c
      obtain ⟨rfl, _, _⟩ := fs_nt_u hn hp128 hnew hnt
      exact h3 (A i) hgn hgna hgpd
    · exact h5 q0 o a b ((fs_nt_off c).mp hnt)
  · have hne := h3 (A i) hgn hgna hgpd
    exact Or.inr (Or.inr (Or.inl ⟨q0, o, a, b, (fs_nt_off (fun z => hne z.symm)).mpr h1, h2, fun g hg hna hpd => h3 g hg hna (pd0 g hg hna hpd)⟩))
  · omega
/-- bits that differ from a number's -/
theorem fs_differ {q w x : Nat} (hx : x < 2 ^ w) (hM : ∀ j, M j ≤ 1) (h : fs_nb M q w ≠ x) : ∃ j, j < w ∧ fs_w bf q w x (q + j) ≠ nI (M (q + j)) := by
  refine Classical.byContradiction (fun z => h ?_)
  have e : ∀ j, j < w → M (q + j) = x / 2 ^ (w - 1 - j) % 2 := by
    intro j hj
    have h1 : fs_w bf q w x (q + j) = nI (M (q + j)) := Classical.byContradiction (fun y => z ⟨j, hj, y⟩)
    rw [fs_win (by omega) (by omega), show q + w - 1 - (q + j) = w - 1 - j by omega] at h1
    have h2 := hM (q + j)
    have h3 := Nat.mod_lt (x / 2 ^ (w - 1 - j)) (y := 2) (by decide)
    exact ((nI_eq (by omega) (by omega)).mp h1).symm
  rw [fs_nb_of e, Nat.mod_eq_of_lt hx]
/-- at the END of a LENGTH: the slot gets a number that the message hasn't -/
theorem fs_D4 (W : fs_WF K A B n) (hM : ∀ j, M j ≤ 1) (hi : i < n) (h4 : fs_R4 K A M n i p S) (I : fs_YI K A n i p t S C sr mk sm sF sT) (hx : p - S (A i) < 2 ^ A (A (A i))) : fs_DR K A B M n bc (i + 1) p S (fs_w bf (S (A (A i))) (A (A (A i))) (p - S (A i))) sm sF sT := by
  obtain ⟨_, h11, h5, hne⟩ := h4
  have hST : fs_ST K A n i (i + 1) := Or.inr (Or.inl ⟨rfl, h11, by omega⟩)
  obtain ⟨hgn, hgna, hgpd⟩ := fs_pdE W hi h11 (Or.inl h5)
  have hfin : ¬ fs_pd K A (A i) (i + 1) := fs_L5 W hi hST (Or.inr ⟨h11, rfl, Or.inl h5⟩)
  obtain ⟨y1, y2, y3, y4, y5, y6⟩ := I
  have e1 := y1 (A i) hgn hgna hgpd
  have e2 := y2 (A i) (fs_eo W hi h11) (Or.inl h5)
  obtain ⟨j, hj, hd⟩ := fs_differ (bf := bf) (q := S (A (A i))) hx hM (fun z => hne (by omega))
  refine Or.inr (Or.inl ⟨S (A (A i)) + j, by omega, hd, fun g hg hna hpd => ?_, fun q0 o a b hnt => ?_⟩)
  · have hg0 : g ≠ A i := by intro e; subst e; exact hfin hpd
    have hpd0 : fs_pd K A g i := by
      rcases fs_L3 W hi hg hna hST hpd with e | h
      · have := (fs_nm W hg hna).2.1
        rw [← e] at this
        omega
      · exact h
    have := y5 g (A i) hg hgn hna hgna hg0 hpd0 hgpd
    omega
  · have := y6 (A i) q0 o a b hgn hgna hgpd hnt
    omega
theorem fs_DQA (W : fs_WF K A B n) (hn : n ≤ 32) (hmb : mb ≤ 128) (hi : i < n) (h11 : K i ≠ 11) (hST : fs_ST K A n i i') (hp : p ≤ p') (hp' : p' ≤ mb) (hsl : K i ≤ 3 → p + 1 ≤ p') (hsl3 : K i = 3 → p + A i ≤ p') (ht : t ≤ t') (ht' : t' ≤ mv)
    (hm : (C' = C ∧ mk' = mk ∧ K i ≠ 8) ∨ (C' = fs_u C i t ∧ mk' = upd mk i (nI t) ∧ t < t'))
    (hbf : ∀ q, q < p → bf' q = bf q ∨ ∃ g, g < n ∧ fs_nam (K g) ∧ fs_pd K A g i ∧ S (A g) ≤ q ∧ q < S (A g) + A (A g)) (Q : fs_DQ mb mv bc K A B M n i p t S C bf sr mk sm sF sT) :
    fs_m K i' p' < fs_m K i p ∧ fs_DQ mb mv bc K A B M n i' p' t' (fs_u S i p) C' bf' (upd sr i (nI p)) mk' sm sF sT := by
  obtain ⟨_, _, _, _, I, D⟩ := Q
  exact ⟨fs_md W hn hi hST hp hsl (by omega), fs_le W hi hST, fun h => fs_nc W hi hST h, hp', ht', fs_YA W hn hi h11 hST hp (by omega) hsl3 ht hm I, fs_DA W hn hi h11 hST hp (by omega) I.2.2.2.1 hbf D⟩
theorem fs_DQB (W : fs_WF K A B n) (hn : n ≤ 32) (hmb : mb ≤ 128) (hi : i < n) (h11 : K i = 11) (h5 : K (A i) ≠ 5) (hST : fs_ST K A n i i') (Q : fs_DQ mb mv bc K A B M n i p t S C bf sr mk sm sF sT) :
    fs_m K i' p < fs_m K i p ∧ fs_DQ mb mv bc K A B M n i' p t S C bf sr mk sm sF sT := by
  obtain ⟨_, _, q3, q4, I, D⟩ := Q
  exact ⟨fs_md W hn hi hST (Nat.le_refl p) (fun h => by omega) (by omega), fs_le W hi hST, fun h => fs_nc W hi hST h, q3, q4, fs_YB W hi h11 hST I, fs_DB W hi h11 hST (fun _ _ => Or.inl rfl) (fun z => h5 z.2.2.1) D⟩
theorem fs_DQC (W : fs_WF K A B n) (hn : n ≤ 32) (hmb : mb ≤ 128) (hi : i < n) (h11 : K i = 11) (h6 : K (A i) = 6) (Q : fs_DQ mb mv bc K A B M n i p t S C bf sr mk sm sF sT) :
    fs_m K (i + 1) p < fs_m K i p ∧ fs_DQ mb mv bc K A B M n (i + 1) p t S C bf sr mk (upd sm (S (A (A i))) (nI (A i))) (upd sF (S (A (A i))) (nI (S (A i)))) (upd sT (S (A (A i))) (nI p)) := by
  have hST : fs_ST K A n i (i + 1) := Or.inr (Or.inl ⟨rfl, h11, by omega⟩)
  obtain ⟨_, _, q3, q4, I, D⟩ := Q
  exact ⟨fs_md W hn hi hST (Nat.le_refl p) (fun h => by omega) (by omega), fs_le W hi hST, fun h => fs_nc W hi hST h, q3, q4, (fs_YC W hn (by omega) hi h11 h6 I).1, fs_DC W hn (by omega) hi h11 h6 I D⟩
theorem fs_DQL (W : fs_WF K A B n) (hn : n ≤ 32) (hmb : mb ≤ 128) (hM : ∀ j, M j ≤ 1) (hi : i < n) (h11 : K i = 11) (h5 : K (A i) = 5) (hx : p - S (A i) < 2 ^ A (A (A i))) (Q : fs_DQ mb mv bc K A B M n i p t S C bf sr mk sm sF sT) :
    fs_m K (i + 1) p < fs_m K i p ∧ fs_DQ mb mv bc K A B M n (i + 1) p t S C (fs_w bf (S (A (A i))) (A (A (A i))) (p - S (A i))) sr mk sm sF sT := by
  have hST : fs_ST K A n i (i + 1) := Or.inr (Or.inl ⟨rfl, h11, by omega⟩)
  obtain ⟨_, _, q3, q4, I, D⟩ := Q
  refine ⟨fs_md W hn hi hST (Nat.le_refl p) (fun h => by omega) (by omega), fs_le W hi hST, fun h => fs_nc W hi hST h, q3, q4, fs_YB W hi h11 hST I, ?_⟩
  by_cases c : fs_R4 K A M n i p S
  · exact fs_D4 W hM hi c I hx
  · obtain ⟨hgn, hgna, hgpd⟩ := fs_pdE W hi h11 (Or.inl h5)
    refine fs_DB W hi h11 hST (fun q hq => ?_) c D
    by_cases d : S (A (A i)) ≤ q ∧ q < S (A (A i)) + A (A (A i))
    · exact Or.inr ⟨A i, hgn, hgna, hgpd, d.1, d.2⟩
    · exact Or.inl (fs_wout (by omega))
end
end
section
/-! the reference goes on after the component has failed -/
def fs_YS (mb mv bc n : Nat) (K A B M : Nat → Nat) : Prop := n ≤ 32 ∧ mb ≤ 128 ∧ mv ≤ 64 ∧ bc ≤ mb ∧ fs_bdd K A B ∧ (∀ j, M j ≤ 1) ∧ fs_WF K A B n ∧ fs_stk K n = []
theorem fs_app0 {bf : Nat → Int32} {p w x q : Nat} {P : Prop} (h : q < p) : fs_w bf p w x q = bf q ∨ P := Or.inl (fs_wout (Or.inl h))
section
variable {mi mb mv n vc bc : Nat} {sl ot tt wc : Int32} {K A B V M : Nat → Nat} {bf wk sr lt mk sm sF sT : Nat → Int32}
variable {i p t : Nat} {S C : Nat → Nat}
theorem fs_setS {g x q : Nat} (hg : g < n) (hna : fs_nam (K g)) (hpd : fs_pd K A g i) : fs_w bf (S (A g)) (A (A g)) x q = bf q ∨ ∃ g, g < n ∧ fs_nam (K g) ∧ fs_pd K A g i ∧ S (A g) ≤ q ∧ q < S (A g) + A (A g) := by
  by_cases d : S (A g) ≤ q ∧ q < S (A g) + A (A g)
  · exact Or.inr ⟨g, hg, hna, hpd, d.1, d.2⟩
  · exact Or.inl (fs_wout (by omega))
theorem dm_1 (Y : fs_YS mb mv bc n K A B M) (hi : i < n) (Q : fs_DQ mb mv bc K A B M n i p t S C bf sr mk sm sF sT) (hk : K i = 1) : (∀ post : Int32 → SY → Prop, (∀ (ot tt wc : Int32) (bf wk sr lt mk sm sF sT : Nat → Int32), post (-1) (nI mi, nI mb, nI mv, sl, nI n, nI vc, nI bc, ot, tt, wc, fs_F K, fs_F A, fs_F B, fs_F V, fs_F M, bf, wk, sr, lt, mk, sm, sF, sT)) → wpY_layItem post (nI mi, nI mb, nI mv, sl, nI n, nI vc, nI bc, nI p, nI t, nI t, fs_F K, fs_F A, fs_F B, fs_F V, fs_F M, bf, wk, sr, lt, mk, sm, sF, sT) (nI i) 1)
    ∨ (∃ (i1 p1 t1 : Nat) (S1 C1 : Nat → Nat) (bf1 wk1 sr1 lt1 mk1 sm1 sF1 sT1 : Nat → Int32), (fs_m K i1 p1 < fs_m K i p ∧ fs_DQ mb mv bc K A B M n i1 p1 t1 S1 C1 bf1 sr1 mk1 sm1 sF1 sT1) ∧ (∀ post : Int32 → SY → Prop, post (nI i1) (nI mi, nI mb, nI mv, sl, nI n, nI vc, nI bc, nI p1, nI t1, nI t1, fs_F K, fs_F A, fs_F B, fs_F V, fs_F M, bf1, wk1, sr1, lt1, mk1, sm1, sF1, sT1) → wpY_layItem post (nI mi, nI mb, nI mv, sl, nI n, nI vc, nI bc, nI p, nI t, nI t, fs_F K, fs_F A, fs_F B, fs_F V, fs_F M, bf, wk, sr, lt, mk, sm, sF, sT) (nI i) 1)) := by
  have Y0 := Y
  obtain ⟨hn, hmb, hmv, hbm, hb, hM, W, hstk⟩ := Y
  have Q0 := Q
  obtain ⟨q1, q2, q3, q4, I, D⟩ := Q
  have hwd := fs_wd W hi (by omega)
  have hST : fs_ST K A n i (i + 1) := Or.inl ⟨rfl, by omega⟩
  by_cases c : p + A i ≤ bc ∧ t < mv
  · refine Or.inr ⟨i + 1, p + A i, t + 1, fs_u S i p, fs_u C i t, _, _, _, lt, upd mk i (nI t), sm, sF, sT, ?_, fun post h => yg_1 hM (by omega) hk hwd.1 hwd.2 hbm hmb (by omega) hmv q4 (fun _ _ => h) (fun z => absurd c z)⟩
    exact fs_DQA W hn hmb hi (by omega) hST (by omega) (by omega) (fun _ => by omega) (fun _ => by omega) (by omega) (by omega) (Or.inr ⟨rfl, rfl, by omega⟩) (fun q hq => fs_app0 hq) Q0
  · exact Or.inl (fun post h => yg_1 hM (by omega) hk hwd.1 hwd.2 hbm hmb (by omega) hmv q4 (fun d e => absurd ⟨d, e⟩ c) (fun _ => h))
theorem dm_2 (Y : fs_YS mb mv bc n K A B M) (hi : i < n) (Q : fs_DQ mb mv bc K A B M n i p t S C bf sr mk sm sF sT) (hk : K i = 2) : (∀ post : Int32 → SY → Prop, (∀ (ot tt wc : Int32) (bf wk sr lt mk sm sF sT : Nat → Int32), post (-1) (nI mi, nI mb, nI mv, sl, nI n, nI vc, nI bc, ot, tt, wc, fs_F K, fs_F A, fs_F B, fs_F V, fs_F M, bf, wk, sr, lt, mk, sm, sF, sT)) → wpY_layItem post (nI mi, nI mb, nI mv, sl, nI n, nI vc, nI bc, nI p, nI t, nI t, fs_F K, fs_F A, fs_F B, fs_F V, fs_F M, bf, wk, sr, lt, mk, sm, sF, sT) (nI i) 1)
    ∨ (∃ (i1 p1 t1 : Nat) (S1 C1 : Nat → Nat) (bf1 wk1 sr1 lt1 mk1 sm1 sF1 sT1 : Nat → Int32), (fs_m K i1 p1 < fs_m K i p ∧ fs_DQ mb mv bc K A B M n i1 p1 t1 S1 C1 bf1 sr1 mk1 sm1 sF1 sT1) ∧ (∀ post : Int32 → SY → Prop, post (nI i1) (nI mi, nI mb, nI mv, sl, nI n, nI vc, nI bc, nI p1, nI t1, nI t1, fs_F K, fs_F A, fs_F B, fs_F V, fs_F M, bf1, wk1, sr1, lt1, mk1, sm1, sF1, sT1) → wpY_layItem post (nI mi, nI mb, nI mv, sl, nI n, nI vc, nI bc, nI p, nI t, nI t, fs_F K, fs_F A, fs_F B, fs_F V, fs_F M, bf, wk, sr, lt, mk, sm, sF, sT) (nI i) 1)) := by
  have Y0 := Y
  obtain ⟨hn, hmb, hmv, hbm, hb, hM, W, hstk⟩ := Y
  have Q0 := Q
  obtain ⟨q1, q2, q3, q4, I, D⟩ := Q
  have hwd := fs_wd W hi (by omega)
  have hST : fs_ST K A n i (i + 1) := Or.inl ⟨rfl, by omega⟩
  by_cases c : p + A i ≤ mb
  · refine Or.inr ⟨i + 1, p + A i, t, fs_u S i p, C, _, wk, _, lt, mk, sm, sF, sT, ?_, fun post h => ys_const hb (by omega) hk hwd.2 hmb (by omega) (fun _ => h) (fun z => by omega)⟩
    exact fs_DQA W hn hmb hi (by omega) hST (by omega) (by omega) (fun _ => by omega) (fun _ => by omega) (by omega) (by omega) (Or.inl ⟨rfl, rfl, by omega⟩) (fun q hq => fs_app0 hq) Q0
  · exact Or.inl (fun post h => ys_const hb (by omega) hk hwd.2 hmb (by omega) (fun d => absurd d c) (fun _ => h))
theorem dm_3 (Y : fs_YS mb mv bc n K A B M) (hi : i < n) (Q : fs_DQ mb mv bc K A B M n i p t S C bf sr mk sm sF sT) (hk : K i = 3) : (∀ post : Int32 → SY → Prop, (∀ (ot tt wc : Int32) (bf wk sr lt mk sm sF sT : Nat → Int32), post (-1) (nI mi, nI mb, nI mv, sl, nI n, nI vc, nI bc, ot, tt, wc, fs_F K, fs_F A, fs_F B, fs_F V, fs_F M, bf, wk, sr, lt, mk, sm, sF, sT)) → wpY_layItem post (nI mi, nI mb, nI mv, sl, nI n, nI vc, nI bc, nI p, nI t, nI t, fs_F K, fs_F A, fs_F B, fs_F V, fs_F M, bf, wk, sr, lt, mk, sm, sF, sT) (nI i) 1)
    ∨ (∃ (i1 p1 t1 : Nat) (S1 C1 : Nat → Nat) (bf1 wk1 sr1 lt1 mk1 sm1 sF1 sT1 : Nat → Int32), (fs_m K i1 p1 < fs_m K i p ∧ fs_DQ mb mv bc K A B M n i1 p1 t1 S1 C1 bf1 sr1 mk1 sm1 sF1 sT1) ∧ (∀ post : Int32 → SY → Prop, post (nI i1) (nI mi, nI mb, nI mv, sl, nI n, nI vc, nI bc, nI p1, nI t1, nI t1, fs_F K, fs_F A, fs_F B, fs_F V, fs_F M, bf1, wk1, sr1, lt1, mk1, sm1, sF1, sT1) → wpY_layItem post (nI mi, nI mb, nI mv, sl, nI n, nI vc, nI bc, nI p, nI t, nI t, fs_F K, fs_F A, fs_F B, fs_F V, fs_F M, bf, wk, sr, lt, mk, sm, sF, sT) (nI i) 1)) := by
  have Y0 := Y
  obtain ⟨hn, hmb, hmv, hbm, hb, hM, W, hstk⟩ := Y
  have Q0 := Q
  obtain ⟨q1, q2, q3, q4, I, D⟩ := Q
  have hwd := fs_wd W hi (by omega)
  have hST : fs_ST K A n i (i + 1) := Or.inl ⟨rfl, by omega⟩
  by_cases c : p + A i ≤ mb
  · refine Or.inr ⟨i + 1, p + A i, t, fs_u S i p, C, _, wk, _, lt, mk, sm, sF, sT, ?_, fun post h => ys_slot (by omega) hk hwd.2 hmb (by omega) (fun _ => h) (fun z => by omega)⟩
    exact fs_DQA W hn hmb hi (by omega) hST (by omega) (by omega) (fun _ => by omega) (fun _ => by omega) (by omega) (by omega) (Or.inl ⟨rfl, rfl, by omega⟩) (fun q hq => fs_app0 hq) Q0
  · exact Or.inl (fun post h => ys_slot (by omega) hk hwd.2 hmb (by omega) (fun d => absurd d c) (fun _ => h))
theorem dm_4 (Y : fs_YS mb mv bc n K A B M) (hi : i < n) (Q : fs_DQ mb mv bc K A B M n i p t S C bf sr mk sm sF sT) (hk : K i = 4) : (∀ post : Int32 → SY → Prop, (∀ (ot tt wc : Int32) (bf wk sr lt mk sm sF sT : Nat → Int32), post (-1) (nI mi, nI mb, nI mv, sl, nI n, nI vc, nI bc, ot, tt, wc, fs_F K, fs_F A, fs_F B, fs_F V, fs_F M, bf, wk, sr, lt, mk, sm, sF, sT)) → wpY_layItem post (nI mi, nI mb, nI mv, sl, nI n, nI vc, nI bc, nI p, nI t, nI t, fs_F K, fs_F A, fs_F B, fs_F V, fs_F M, bf, wk, sr, lt, mk, sm, sF, sT) (nI i) 1)
    ∨ (∃ (i1 p1 t1 : Nat) (S1 C1 : Nat → Nat) (bf1 wk1 sr1 lt1 mk1 sm1 sF1 sT1 : Nat → Int32), (fs_m K i1 p1 < fs_m K i p ∧ fs_DQ mb mv bc K A B M n i1 p1 t1 S1 C1 bf1 sr1 mk1 sm1 sF1 sT1) ∧ (∀ post : Int32 → SY → Prop, post (nI i1) (nI mi, nI mb, nI mv, sl, nI n, nI vc, nI bc, nI p1, nI t1, nI t1, fs_F K, fs_F A, fs_F B, fs_F V, fs_F M, bf1, wk1, sr1, lt1, mk1, sm1, sF1, sT1) → wpY_layItem post (nI mi, nI mb, nI mv, sl, nI n, nI vc, nI bc, nI p, nI t, nI t, fs_F K, fs_F A, fs_F B, fs_F V, fs_F M, bf, wk, sr, lt, mk, sm, sF, sT) (nI i) 1)) := by
  have Y0 := Y
  obtain ⟨hn, hmb, hmv, hbm, hb, hM, W, hstk⟩ := Y
  have Q0 := Q
  obtain ⟨q1, q2, q3, q4, I, D⟩ := Q
  have hwd := fs_al W hi hk
  have hST : fs_ST K A n i (i + 1) := Or.inl ⟨rfl, by omega⟩
  by_cases c : p + fs_pad (A i) p ≤ mb
  · refine Or.inr ⟨i + 1, p + fs_pad (A i) p, t, fs_u S i p, C, _, wk, _, lt, mk, sm, sF, sT, ?_, fun post h => ys_align (by omega) hk hwd.1 hwd.2 hmb q3 (fun _ => h) (fun z => by omega)⟩
    exact fs_DQA W hn hmb hi (by omega) hST (by omega) (by omega) (fun _ => by omega) (fun _ => by omega) (by omega) (by omega) (Or.inl ⟨rfl, rfl, by omega⟩) (fun q hq => fs_app0 hq) Q0
  · exact Or.inl (fun post h => ys_align (by omega) hk hwd.1 hwd.2 hmb q3 (fun d => absurd d c) (fun _ => h))
theorem dm_5 (Y : fs_YS mb mv bc n K A B M) (hi : i < n) (Q : fs_DQ mb mv bc K A B M n i p t S C bf sr mk sm sF sT) (hk : K i = 5 ∨ K i = 6) : (∀ post : Int32 → SY → Prop, (∀ (ot tt wc : Int32) (bf wk sr lt mk sm sF sT : Nat → Int32), post (-1) (nI mi, nI mb, nI mv, sl, nI n, nI vc, nI bc, ot, tt, wc, fs_F K, fs_F A, fs_F B, fs_F V, fs_F M, bf, wk, sr, lt, mk, sm, sF, sT)) → wpY_layItem post (nI mi, nI mb, nI mv, sl, nI n, nI vc, nI bc, nI p, nI t, nI t, fs_F K, fs_F A, fs_F B, fs_F V, fs_F M, bf, wk, sr, lt, mk, sm, sF, sT) (nI i) 1)
    ∨ (∃ (i1 p1 t1 : Nat) (S1 C1 : Nat → Nat) (bf1 wk1 sr1 lt1 mk1 sm1 sF1 sT1 : Nat → Int32), (fs_m K i1 p1 < fs_m K i p ∧ fs_DQ mb mv bc K A B M n i1 p1 t1 S1 C1 bf1 sr1 mk1 sm1 sF1 sT1) ∧ (∀ post : Int32 → SY → Prop, post (nI i1) (nI mi, nI mb, nI mv, sl, nI n, nI vc, nI bc, nI p1, nI t1, nI t1, fs_F K, fs_F A, fs_F B, fs_F V, fs_F M, bf1, wk1, sr1, lt1, mk1, sm1, sF1, sT1) → wpY_layItem post (nI mi, nI mb, nI mv, sl, nI n, nI vc, nI bc, nI p, nI t, nI t, fs_F K, fs_F A, fs_F B, fs_F V, fs_F M, bf, wk, sr, lt, mk, sm, sF, sT) (nI i) 1)) := by
  have Y0 := Y
  obtain ⟨hn, hmb, hmv, hbm, hb, hM, W, hstk⟩ := Y
  have Q0 := Q
  obtain ⟨q1, q2, q3, q4, I, D⟩ := Q
  have hST : fs_ST K A n i (i + 1) := Or.inl ⟨rfl, by omega⟩
  refine Or.inr ⟨i + 1, p, t, fs_u S i p, C, bf, wk, _, lt, mk, sm, sF, sT, ?_, fun post h => ys_open (by omega) hk h⟩
  exact fs_DQA W hn hmb hi (by omega) hST (by omega) (by omega) (fun _ => by omega) (fun _ => by omega) (by omega) (by omega) (Or.inl ⟨rfl, rfl, by omega⟩) (fun q hq => Or.inl rfl) Q0
theorem dm_7 (Y : fs_YS mb mv bc n K A B M) (hi : i < n) (Q : fs_DQ mb mv bc K A B M n i p t S C bf sr mk sm sF sT) (hk : K i = 7) : (∀ post : Int32 → SY → Prop, (∀ (ot tt wc : Int32) (bf wk sr lt mk sm sF sT : Nat → Int32), post (-1) (nI mi, nI mb, nI mv, sl, nI n, nI vc, nI bc, ot, tt, wc, fs_F K, fs_F A, fs_F B, fs_F V, fs_F M, bf, wk, sr, lt, mk, sm, sF, sT)) → wpY_layItem post (nI mi, nI mb, nI mv, sl, nI n, nI vc, nI bc, nI p, nI t, nI t, fs_F K, fs_F A, fs_F B, fs_F V, fs_F M, bf, wk, sr, lt, mk, sm, sF, sT) (nI i) 1)
    ∨ (∃ (i1 p1 t1 : Nat) (S1 C1 : Nat → Nat) (bf1 wk1 sr1 lt1 mk1 sm1 sF1 sT1 : Nat → Int32), (fs_m K i1 p1 < fs_m K i p ∧ fs_DQ mb mv bc K A B M n i1 p1 t1 S1 C1 bf1 sr1 mk1 sm1 sF1 sT1) ∧ (∀ post : Int32 → SY → Prop, post (nI i1) (nI mi, nI mb, nI mv, sl, nI n, nI vc, nI bc, nI p1, nI t1, nI t1, fs_F K, fs_F A, fs_F B, fs_F V, fs_F M, bf1, wk1, sr1, lt1, mk1, sm1, sF1, sT1) → wpY_layItem post (nI mi, nI mb, nI mv, sl, nI n, nI vc, nI bc, nI p, nI t, nI t, fs_F K, fs_F A, fs_F B, fs_F V, fs_F M, bf, wk, sr, lt, mk, sm, sF, sT) (nI i) 1)) := by
  have Y0 := Y
  obtain ⟨hn, hmb, hmv, hbm, hb, hM, W, hstk⟩ := Y
  have Q0 := Q
  obtain ⟨q1, q2, q3, q4, I, D⟩ := Q
  have hna : fs_nam (K i) := Or.inr (Or.inr (Or.inl hk))
  have hnm := fs_nm W hi hna
  have hwd := fs_wd W (i := A i) (by omega) (by omega)
  have hpd : fs_pd K A i i := ⟨hnm.1, Or.inl (Nat.le_refl i)⟩
  obtain ⟨y1, y2⟩ := I.1 i hi hna hpd
  obtain ⟨e, he, hke, hAe⟩ := fs_ex W hstk hi (by omega) (by omega)
  by_cases c : S (A i) + A (A i) ≤ bc ∧ t < mv
  · have go : ∀ i1, fs_ST K A n i i1 → (fs_nb M (S (A i)) (A (A i)) = 0 ∧ i1 = e + 1) ∨ (0 < fs_nb M (S (A i)) (A (A i)) ∧ i1 = i + 1) → (∀ post : Int32 → SY → Prop, (∀ (ot tt wc : Int32) (bf wk sr lt mk sm sF sT : Nat → Int32), post (-1) (nI mi, nI mb, nI mv, sl, nI n, nI vc, nI bc, ot, tt, wc, fs_F K, fs_F A, fs_F B, fs_F V, fs_F M, bf, wk, sr, lt, mk, sm, sF, sT)) → wpY_layItem post (nI mi, nI mb, nI mv, sl, nI n, nI vc, nI bc, nI p, nI t, nI t, fs_F K, fs_F A, fs_F B, fs_F V, fs_F M, bf, wk, sr, lt, mk, sm, sF, sT) (nI i) 1)
    ∨ (∃ (i1 p1 t1 : Nat) (S1 C1 : Nat → Nat) (bf1 wk1 sr1 lt1 mk1 sm1 sF1 sT1 : Nat → Int32), (fs_m K i1 p1 < fs_m K i p ∧ fs_DQ mb mv bc K A B M n i1 p1 t1 S1 C1 bf1 sr1 mk1 sm1 sF1 sT1) ∧ (∀ post : Int32 → SY → Prop, post (nI i1) (nI mi, nI mb, nI mv, sl, nI n, nI vc, nI bc, nI p1, nI t1, nI t1, fs_F K, fs_F A, fs_F B, fs_F V, fs_F M, bf1, wk1, sr1, lt1, mk1, sm1, sF1, sT1) → wpY_layItem post (nI mi, nI mb, nI mv, sl, nI n, nI vc, nI bc, nI p, nI t, nI t, fs_F K, fs_F A, fs_F B, fs_F V, fs_F M, bf, wk, sr, lt, mk, sm, sF, sT) (nI i) 1)) := by
      intro i1 hST hj
      refine Or.inr ⟨i1, p, t + 1, fs_u S i p, fs_u C i t, fs_w bf (S (A i)) (A (A i)) (fs_nb M (S (A i)) (A (A i))), upd wk t (nI (fs_nb M (S (A i)) (A (A i)))), upd sr i (nI p), upd lt i (nI (fs_nb M (S (A i)) (A (A i)))), upd mk i (nI t), sm, sF, sT, ?_, fun post h => ?_⟩
      rotate_left
      · rcases hj with ⟨z, rfl⟩ | ⟨z, rfl⟩
        · exact yg_7 W hn hb hM (by omega) hk (by omega) (by omega) y1 hwd.1 hwd.2 (by omega) (by omega) hmv q4 he hke hAe (fun _ _ z' => by omega) (fun _ _ _ => h) (fun z => absurd c z)
        · exact yg_7 W hn hb hM (by omega) hk (by omega) (by omega) y1 hwd.1 hwd.2 (by omega) (by omega) hmv q4 he hke hAe (fun _ _ _ => h) (fun _ _ z' => by omega) (fun z => absurd c z)
      · exact fs_DQA W hn hmb hi (by omega) hST (by omega) (by omega) (fun _ => by omega) (fun _ => by omega) (by omega) (by omega) (Or.inr ⟨rfl, rfl, by omega⟩) (fun q hq => fs_setS hi hna hpd) Q0
    by_cases z : fs_nb M (S (A i)) (A (A i)) = 0
    · exact go (e + 1) (Or.inr (Or.inr (Or.inl ⟨e, rfl, Or.inl hk, he, hke, hAe⟩))) (Or.inl ⟨z, rfl⟩)
    · exact go (i + 1) (Or.inl ⟨rfl, by omega⟩) (Or.inr ⟨by omega, rfl⟩)
  · exact Or.inl (fun post h => yg_7 W hn hb hM (by omega) hk (by omega) (by omega) y1 hwd.1 hwd.2 (by omega) (by omega) hmv q4 he hke hAe (fun d f _ => absurd ⟨d, f⟩ c) (fun d f _ => absurd ⟨d, f⟩ c) (fun _ => h))
theorem dm_9 (Y : fs_YS mb mv bc n K A B M) (hi : i < n) (Q : fs_DQ mb mv bc K A B M n i p t S C bf sr mk sm sF sT) (hk : K i = 9) : (∀ post : Int32 → SY → Prop, (∀ (ot tt wc : Int32) (bf wk sr lt mk sm sF sT : Nat → Int32), post (-1) (nI mi, nI mb, nI mv, sl, nI n, nI vc, nI bc, ot, tt, wc, fs_F K, fs_F A, fs_F B, fs_F V, fs_F M, bf, wk, sr, lt, mk, sm, sF, sT)) → wpY_layItem post (nI mi, nI mb, nI mv, sl, nI n, nI vc, nI bc, nI p, nI t, nI t, fs_F K, fs_F A, fs_F B, fs_F V, fs_F M, bf, wk, sr, lt, mk, sm, sF, sT) (nI i) 1)
    ∨ (∃ (i1 p1 t1 : Nat) (S1 C1 : Nat → Nat) (bf1 wk1 sr1 lt1 mk1 sm1 sF1 sT1 : Nat → Int32), (fs_m K i1 p1 < fs_m K i p ∧ fs_DQ mb mv bc K A B M n i1 p1 t1 S1 C1 bf1 sr1 mk1 sm1 sF1 sT1) ∧ (∀ post : Int32 → SY → Prop, post (nI i1) (nI mi, nI mb, nI mv, sl, nI n, nI vc, nI bc, nI p1, nI t1, nI t1, fs_F K, fs_F A, fs_F B, fs_F V, fs_F M, bf1, wk1, sr1, lt1, mk1, sm1, sF1, sT1) → wpY_layItem post (nI mi, nI mb, nI mv, sl, nI n, nI vc, nI bc, nI p, nI t, nI t, fs_F K, fs_F A, fs_F B, fs_F V, fs_F M, bf, wk, sr, lt, mk, sm, sF, sT) (nI i) 1)) := by
  have Y0 := Y
  obtain ⟨hn, hmb, hmv, hbm, hb, hM, W, hstk⟩ := Y
  have Q0 := Q
  obtain ⟨q1, q2, q3, q4, I, D⟩ := Q
  have hna : fs_nam (K i) := Or.inr (Or.inr (Or.inr hk))
  have hnm := fs_nm W hi hna
  have hwd := fs_wd W (i := A i) (by omega) (by omega)
  have hpd : fs_pd K A i i := ⟨hnm.1, Or.inl (Nat.le_refl i)⟩
  obtain ⟨y1, y2⟩ := I.1 i hi hna hpd
  obtain ⟨o, ho⟩ := fs_lst_ex (fs_isC K A i (nI (fs_nb M (S (A i)) (A (A i))))) n
  by_cases c : S (A i) + A (A i) ≤ bc ∧ t < mv ∧ o ≠ none
  · cases o with
    | none => exact absurd rfl c.2.2
    | some d =>
      have hC : fs_ST K A n i (d + 1) := Or.inr (Or.inr (Or.inr (Or.inr (Or.inl ⟨d, rfl, hk, ho.1, ho.2.1.1, fs_hd1 ho.2.1.2.2⟩))))
      refine Or.inr ⟨d + 1, p, t + 1, fs_u S i p, fs_u C i t, _, _, _, lt, upd mk i (nI t), sm, sF, sT, ?_, fun post h => yg_9 hn hb hM (by omega) hk (by omega) (by omega) y1 hwd.1 hwd.2 (by omega) (by omega) hmv q4 ho (fun c z _ _ => by injection z with z; subst z; exact h) (fun z => absurd c z)⟩
      exact fs_DQA W hn hmb hi (by omega) hC (by omega) (by omega) (fun _ => by omega) (fun _ => by omega) (by omega) (by omega) (Or.inr ⟨rfl, rfl, by omega⟩) (fun q hq => fs_setS hi hna hpd) Q0
  · refine Or.inl (fun post h => yg_9 hn hb hM (by omega) hk (by omega) (by omega) y1 hwd.1 hwd.2 (by omega) (by omega) hmv q4 ho (fun d z e f => absurd ⟨e, f, ?_⟩ c) (fun _ => h))
    intro z'
    rw [z'] at z
    cases z
theorem dm_8 (Y : fs_YS mb mv bc n K A B M) (hi : i < n) (Q : fs_DQ mb mv bc K A B M n i p t S C bf sr mk sm sF sT) (hk : K i = 8) : (∀ post : Int32 → SY → Prop, (∀ (ot tt wc : Int32) (bf wk sr lt mk sm sF sT : Nat → Int32), post (-1) (nI mi, nI mb, nI mv, sl, nI n, nI vc, nI bc, ot, tt, wc, fs_F K, fs_F A, fs_F B, fs_F V, fs_F M, bf, wk, sr, lt, mk, sm, sF, sT)) → wpY_layItem post (nI mi, nI mb, nI mv, sl, nI n, nI vc, nI bc, nI p, nI t, nI t, fs_F K, fs_F A, fs_F B, fs_F V, fs_F M, bf, wk, sr, lt, mk, sm, sF, sT) (nI i) 1)
    ∨ (∃ (i1 p1 t1 : Nat) (S1 C1 : Nat → Nat) (bf1 wk1 sr1 lt1 mk1 sm1 sF1 sT1 : Nat → Int32), (fs_m K i1 p1 < fs_m K i p ∧ fs_DQ mb mv bc K A B M n i1 p1 t1 S1 C1 bf1 sr1 mk1 sm1 sF1 sT1) ∧ (∀ post : Int32 → SY → Prop, post (nI i1) (nI mi, nI mb, nI mv, sl, nI n, nI vc, nI bc, nI p1, nI t1, nI t1, fs_F K, fs_F A, fs_F B, fs_F V, fs_F M, bf1, wk1, sr1, lt1, mk1, sm1, sF1, sT1) → wpY_layItem post (nI mi, nI mb, nI mv, sl, nI n, nI vc, nI bc, nI p, nI t, nI t, fs_F K, fs_F A, fs_F B, fs_F V, fs_F M, bf, wk, sr, lt, mk, sm, sF, sT) (nI i) 1)) := by
  have Y0 := Y
  obtain ⟨hn, hmb, hmv, hbm, hb, hM, W, hstk⟩ := Y
  have Q0 := Q
  obtain ⟨q1, q2, q3, q4, I, D⟩ := Q
  obtain ⟨g, hg, hg5⟩ := fs_fl W hi hk
  have hgm : g ∈ fs_stk K i := by rw [hg]; exact List.mem_cons_self
  have hgi := fs_lt hgm
  have hna : fs_nam (K g) := Or.inl hg5
  have hnm := fs_nm W (i := g) (by omega) hna
  have hwd := fs_wd W (i := A g) (by omega) (by omega)
  have hpd : fs_pd K A g i := ⟨by omega, Or.inr ⟨hgm, Or.inl hg5⟩⟩
  obtain ⟨y1, y2⟩ := I.1 g (by omega) hna hpd
  obtain ⟨z1, z2, z3⟩ := I.2.1 g hgm (Or.inl hg5)
  have hhd : (fs_stk K i).head? = some g := by rw [hg]; rfl
  obtain ⟨e, he, hke, hAe⟩ := fs_ex W hstk hi (by omega) (by omega)
  by_cases c : t < mv
  · by_cases r : fs_room M bc (S (A g)) (A (A g)) (S g) p
    · refine Or.inr ⟨i + 1, p, t + 1, fs_u S i p, fs_u C i t, bf, _, _, _, upd mk i (nI t), sm, sF, sT, ?_, fun post h => yg_8 W hn hb hM (by omega) hk hhd (by omega) (by omega) y1 (by omega) z1 z3 (by omega) hwd.1 hwd.2 (by omega) hmv q4 he hke hAe (fun _ _ => h) (fun z => absurd r z) (fun z => by omega)⟩
      exact fs_DQA W hn hmb hi (by omega) (Or.inl ⟨rfl, by omega⟩) (by omega) (by omega) (fun _ => by omega) (fun _ => by omega) (by omega) (by omega) (Or.inr ⟨rfl, rfl, by omega⟩) (fun q hq => Or.inl rfl) Q0
    · refine Or.inr ⟨e + 1, p, t + 1, fs_u S i p, fs_u C i t, bf, _, _, _, upd mk i (nI t), sm, sF, sT, ?_, fun post h => yg_8 W hn hb hM (by omega) hk hhd (by omega) (by omega) y1 (by omega) z1 z3 (by omega) hwd.1 hwd.2 (by omega) hmv q4 he hke hAe (fun z => absurd z r) (fun _ _ => h) (fun z => by omega)⟩
      exact fs_DQA W hn hmb hi (by omega) (Or.inr (Or.inr (Or.inl ⟨e, rfl, Or.inr hk, he, hke, hAe⟩))) (by omega) (by omega) (fun _ => by omega) (fun _ => by omega) (by omega) (by omega) (Or.inr ⟨rfl, rfl, by omega⟩) (fun q hq => Or.inl rfl) Q0
  · exact Or.inl (fun post h => yg_8 W hn hb hM (by omega) hk hhd (by omega) (by omega) y1 (by omega) z1 z3 (by omega) hwd.1 hwd.2 (by omega) hmv q4 he hke hAe (fun _ z => absurd z c) (fun _ z => absurd z c) (fun _ => h))
theorem dm_E (Y : fs_YS mb mv bc n K A B M) (hi : i < n) (Q : fs_DQ mb mv bc K A B M n i p t S C bf sr mk sm sF sT) (hk : K i = 11) : (∀ post : Int32 → SY → Prop, (∀ (ot tt wc : Int32) (bf wk sr lt mk sm sF sT : Nat → Int32), post (-1) (nI mi, nI mb, nI mv, sl, nI n, nI vc, nI bc, ot, tt, wc, fs_F K, fs_F A, fs_F B, fs_F V, fs_F M, bf, wk, sr, lt, mk, sm, sF, sT)) → wpY_layItem post (nI mi, nI mb, nI mv, sl, nI n, nI vc, nI bc, nI p, nI t, nI t, fs_F K, fs_F A, fs_F B, fs_F V, fs_F M, bf, wk, sr, lt, mk, sm, sF, sT) (nI i) 1)
    ∨ (∃ (i1 p1 t1 : Nat) (S1 C1 : Nat → Nat) (bf1 wk1 sr1 lt1 mk1 sm1 sF1 sT1 : Nat → Int32), (fs_m K i1 p1 < fs_m K i p ∧ fs_DQ mb mv bc K A B M n i1 p1 t1 S1 C1 bf1 sr1 mk1 sm1 sF1 sT1) ∧ (∀ post : Int32 → SY → Prop, post (nI i1) (nI mi, nI mb, nI mv, sl, nI n, nI vc, nI bc, nI p1, nI t1, nI t1, fs_F K, fs_F A, fs_F B, fs_F V, fs_F M, bf1, wk1, sr1, lt1, mk1, sm1, sF1, sT1) → wpY_layItem post (nI mi, nI mb, nI mv, sl, nI n, nI vc, nI bc, nI p, nI t, nI t, fs_F K, fs_F A, fs_F B, fs_F V, fs_F M, bf, wk, sr, lt, mk, sm, sF, sT) (nI i) 1)) := by
  have Y0 := Y
  obtain ⟨hn, hmb, hmv, hbm, hb, hM, W, hstk⟩ := Y
  have Q0 := Q
  obtain ⟨q1, q2, q3, q4, I, D⟩ := Q
  have hAi := fs_elt W hi hk
  have hop := fs_op (fs_eo W hi hk)
  have hk2 := fs_k W (i := A i) (by omega)
  by_cases k5 : K (A i) = 5
  · obtain ⟨hgn, hgna, hgpd⟩ := fs_pdE W hi hk (Or.inl k5)
    have hnm := fs_nm W hgn hgna
    have hwd := fs_wd W (i := A (A i)) (by omega) (by omega)
    obtain ⟨y1, y2⟩ := I.1 (A i) hgn hgna hgpd
    obtain ⟨z1, z2, z3⟩ := I.2.1 (A i) (fs_eo W hi hk) (Or.inl k5)
    by_cases c : p - S (A i) < 2 ^ A (A (A i))
    · exact Or.inr ⟨i + 1, p, t, S, C, _, wk, sr, lt, mk, sm, sF, sT, fs_DQL W hn hmb hM hi hk k5 c Q0, fun post h => ys_eL hb (by omega) hk rfl (by omega) k5 (by omega) y1 z1 z3 (by omega) hwd.2 (by omega) (fun _ => h) (fun z => absurd c z)⟩
    · exact Or.inl (fun post h => ys_eL hb (by omega) hk rfl (by omega) k5 (by omega) y1 z1 z3 (by omega) hwd.2 (by omega) (fun z => absurd z c) (fun _ => h))
  by_cases k6 : K (A i) = 6
  · obtain ⟨hgn, hgna, hgpd⟩ := fs_pdE W hi hk (Or.inr k6)
    have hnm := fs_nm W hgn hgna
    have hwd := fs_wd W (i := A (A i)) (by omega) (by omega)
    obtain ⟨y1, y2⟩ := I.1 (A i) hgn hgna hgpd
    obtain ⟨z1, z2, z3⟩ := I.2.1 (A i) (fs_eo W hi hk) (Or.inr k6)
    exact Or.inr ⟨i + 1, p, t, S, C, bf, wk, sr, lt, mk, _, _, _, fs_DQC W hn hmb hi hk k6 Q0, fun post h => ys_eS (by omega) hk rfl (by omega) k6 (by omega) y1 (by omega) z1 h⟩
  by_cases k7 : K (A i) = 7
  · by_cases z : lt (A i) - 1 ≤ 0
    · exact Or.inr ⟨i + 1, p, t, S, C, bf, wk, sr, _, mk, sm, sF, sT, fs_DQB W hn hmb hi hk (by omega) (Or.inr (Or.inl ⟨rfl, hk, by omega⟩)) Q0, fun post h => ys_eR (by omega) hk rfl (by omega) (Or.inl k7) (fun _ => h) (fun z' => absurd z z')⟩
    · exact Or.inr ⟨A i + 1, p, t, S, C, bf, wk, sr, _, mk, sm, sF, sT, fs_DQB W hn hmb hi hk (by omega) (Or.inr (Or.inr (Or.inr (Or.inl ⟨hk, Or.inl k7, rfl⟩)))) Q0, fun post h => ys_eR (by omega) hk rfl (by omega) (Or.inl k7) (fun z' => absurd z' z) (fun _ => h)⟩
  by_cases k8 : K (A i) = 8
  · obtain ⟨g, hg, hg5⟩ := fs_fl W (i := A i) (by omega) k8
    have hgm : g ∈ fs_stk K i := fs_tr (fs_eo W hi hk) (by rw [hg]; exact List.mem_cons_self)
    have hgi := fs_lt hgm
    have hgo := fs_top_lt hg
    have hna : fs_nam (K g) := Or.inl hg5
    have hnm := fs_nm W (i := g) (by omega) hna
    have hwd := fs_wd W (i := A g) (by omega) (by omega)
    have hpd : fs_pd K A g i := ⟨by omega, Or.inr ⟨hgm, Or.inl hg5⟩⟩
    obtain ⟨y1, y2⟩ := I.1 g (by omega) hna hpd
    obtain ⟨z1, z2, z3⟩ := I.2.1 g hgm (Or.inl hg5)
    obtain ⟨c1, c2⟩ := I.2.2.1 (A i) (fs_eo W hi hk) k8
    have hhd : (fs_stk K (A i)).head? = some g := by rw [hg]; rfl
    have Qn := fs_DQB W hn hmb hi hk (by omega) (Or.inr (Or.inl ⟨rfl, hk, by omega⟩) : fs_ST K A n i (i + 1)) Q0
    have Qb := fs_DQB W hn hmb hi hk (by omega) (Or.inr (Or.inr (Or.inr (Or.inl ⟨hk, Or.inr k8, rfl⟩))) : fs_ST K A n i (A i + 1)) Q0
    by_cases r : fs_room M bc (S (A g)) (A (A g)) (S g) p
    · by_cases z : upd lt (A i) (lt (A i) + 1) (A i) - 1 ≤ 0
      · exact Or.inr ⟨i + 1, p, t, S, C, bf, _, sr, _, mk, sm, sF, sT, Qn, fun post h => ys_eF hM hb (by omega) (by omega) hk rfl (by omega) k8 hhd (by omega) y1 (by omega) z1 z3 (by omega) hwd.1 hwd.2 c1 (by omega) (fun _ => ys_206 (by omega) (fun _ => h) (fun z' => absurd z z')) (fun z' => absurd r z')⟩
      · exact Or.inr ⟨A i + 1, p, t, S, C, bf, _, sr, _, mk, sm, sF, sT, Qb, fun post h => ys_eF hM hb (by omega) (by omega) hk rfl (by omega) k8 hhd (by omega) y1 (by omega) z1 z3 (by omega) hwd.1 hwd.2 c1 (by omega) (fun _ => ys_206 (by omega) (fun z' => absurd z' z) (fun _ => h)) (fun z' => absurd r z')⟩
    · by_cases z : lt (A i) - 1 ≤ 0
      · exact Or.inr ⟨i + 1, p, t, S, C, bf, _, sr, _, mk, sm, sF, sT, Qn, fun post h => ys_eF hM hb (by omega) (by omega) hk rfl (by omega) k8 hhd (by omega) y1 (by omega) z1 z3 (by omega) hwd.1 hwd.2 c1 (by omega) (fun z' => absurd z' r) (fun _ => ys_206 (by omega) (fun _ => h) (fun z' => absurd z z'))⟩
      · exact Or.inr ⟨A i + 1, p, t, S, C, bf, _, sr, _, mk, sm, sF, sT, Qb, fun post h => ys_eF hM hb (by omega) (by omega) hk rfl (by omega) k8 hhd (by omega) y1 (by omega) z1 z3 (by omega) hwd.1 hwd.2 c1 (by omega) (fun z' => absurd z' r) (fun _ => ys_206 (by omega) (fun z' => absurd z' z) (fun _ => h))⟩
  by_cases k9 : K (A i) = 9
  · exact Or.inr ⟨i + 1, p, t, S, C, bf, wk, sr, lt, mk, sm, sF, sT, fs_DQB W hn hmb hi hk (by omega) (Or.inr (Or.inl ⟨rfl, hk, by omega⟩)) Q0, fun post h => ys_eU (by omega) hk rfl (by omega) k9 h⟩
  have k10 : K (A i) = 10 := by omega
  obtain ⟨w, hw, hw9⟩ := fs_cs W (i := A i) (by omega) k10
  have hwi := fs_top_lt hw
  obtain ⟨e, he, hke, hAe⟩ := fs_ex W hstk (g := w) (by omega) (by omega) (by omega)
  have hhd : (fs_stk K (A i)).head? = some w := by rw [hw]; rfl
  exact Or.inr ⟨e, p, t, S, C, bf, wk, sr, lt, mk, sm, sF, sT, fs_DQB W hn hmb hi hk (by omega) (Or.inr (Or.inr (Or.inr (Or.inr (Or.inr ⟨w, e, hk, k10, hw, hw9, he, hke, hAe, rfl⟩))))) Q0, fun post h => ys_eC W hn hb (by omega) hk rfl (by omega) k10 hhd he hke hAe h⟩
theorem dm_step (Y : fs_YS mb mv bc n K A B M) (hi : i < n) (Q : fs_DQ mb mv bc K A B M n i p t S C bf sr mk sm sF sT) : (∀ post : Int32 → SY → Prop, (∀ (ot tt wc : Int32) (bf wk sr lt mk sm sF sT : Nat → Int32), post (-1) (nI mi, nI mb, nI mv, sl, nI n, nI vc, nI bc, ot, tt, wc, fs_F K, fs_F A, fs_F B, fs_F V, fs_F M, bf, wk, sr, lt, mk, sm, sF, sT)) → wpY_layItem post (nI mi, nI mb, nI mv, sl, nI n, nI vc, nI bc, nI p, nI t, nI t, fs_F K, fs_F A, fs_F B, fs_F V, fs_F M, bf, wk, sr, lt, mk, sm, sF, sT) (nI i) 1)
    ∨ (∃ (i1 p1 t1 : Nat) (S1 C1 : Nat → Nat) (bf1 wk1 sr1 lt1 mk1 sm1 sF1 sT1 : Nat → Int32), (fs_m K i1 p1 < fs_m K i p ∧ fs_DQ mb mv bc K A B M n i1 p1 t1 S1 C1 bf1 sr1 mk1 sm1 sF1 sT1) ∧ (∀ post : Int32 → SY → Prop, post (nI i1) (nI mi, nI mb, nI mv, sl, nI n, nI vc, nI bc, nI p1, nI t1, nI t1, fs_F K, fs_F A, fs_F B, fs_F V, fs_F M, bf1, wk1, sr1, lt1, mk1, sm1, sF1, sT1) → wpY_layItem post (nI mi, nI mb, nI mv, sl, nI n, nI vc, nI bc, nI p, nI t, nI t, fs_F K, fs_F A, fs_F B, fs_F V, fs_F M, bf, wk, sr, lt, mk, sm, sF, sT) (nI i) 1)) := by
  have hk := fs_k Y.2.2.2.2.2.2.1 hi
  have h10 := Q.2.1 hi
  have hc : K i = 1 ∨ K i = 2 ∨ K i = 3 ∨ K i = 4 ∨ (K i = 5 ∨ K i = 6) ∨ K i = 7 ∨ K i = 8 ∨ K i = 9 ∨ K i = 11 := by omega
  rcases hc with h | h | h | h | h | h | h | h | h
  · exact dm_1 Y hi Q h
  · exact dm_2 Y hi Q h
  · exact dm_3 Y hi Q h
  · exact dm_4 Y hi Q h
  · exact dm_5 Y hi Q h
  · exact dm_7 Y hi Q h
  · exact dm_8 Y hi Q h
  · exact dm_9 Y hi Q h
  · exact dm_E Y hi Q h
end
end
section
/-! the doomed run ends in BAD -/
section
variable {K A B M : Nat → Nat} {n bc p : Nat} {S : Nat → Nat} {bf sm sF sT f : Nat → Int32}
theorem fs_doom_end (W : fs_WF K A B n) (hn : n ≤ 32) (hM : ∀ j, M j ≤ 1) (hstk : fs_stk K n = []) (D : fs_DR K A B M n bc n p S bf sm sF sT) (hf : fs_inv K A B n sm sF sT p bf 0 f) : p ≠ bc ∨ ∃ q, q < p ∧ f q ≠ nI (M q) := by
  rcases D with h | ⟨q, h1, h2, h3, h4⟩ | ⟨q0, o, a, b, h1, h2, h3⟩ | ⟨h, _⟩
  · exact Or.inl (by omega)
  · refine Or.inr ⟨q, h1, ?_⟩
    rw [hf.1 q (fun q0 o a b _ hnt => h4 q0 o a b hnt)]
    exact h2
  · refine Classical.byContradiction (fun z => h2 ?_)
    have hall : ∀ q, q < p → f q = nI (M q) := fun q hq => Classical.byContradiction (fun y => z (Or.inr ⟨q, hq, y⟩))
    have e := hf.2 q0 o a b (Nat.zero_le _) h1
    obtain ⟨i0, _, _, _, i4, i5, i6, i7, i8⟩ := h1
    have hna6 := fs_nm W i4 (Or.inr (Or.inl i5))
    have hwd := fs_wd W (i := A o) (by omega) (by omega)
    have hB := fs_sB W i4 i5
    have ec : fs_cs0 (A (A o)) (B o) f a b = fs_cs0 (A (A o)) (B o) (fs_F M) a b := fs_cs0_cg (fun j j1 j2 => hall j (by omega))
    rw [ec] at e
    have hlt := fs_cs0_lt (a := fs_F M) hB a b
    have e2 : ∀ j, j < A (A o) → M (q0 + j) = fs_cs0 (A (A o)) (B o) (fs_F M) a b / 2 ^ (A (A o) - 1 - j) % 2 := by
      intro j hj
      have h4 := (hall (q0 + j) (by omega)).symm.trans (e j hj)
      have h5 := hM (q0 + j)
      have h6 := Nat.mod_lt (fs_cs0 (A (A o)) (B o) (fs_F M) a b / 2 ^ (A (A o) - 1 - j)) (y := 2) (by decide)
      exact (nI_eq (by omega) (by omega)).mp h4
    rw [fs_nb_of e2, Nat.mod_eq_of_lt hlt]
  · omega
end
section
variable {mi mb mv n vc bc : Nat} {sl ot tt wc : Int32} {K A B V M : Nat → Nat} {bf wk sr lt mk sm sF sT : Nat → Int32}
variable {i p t : Nat} {S C : Nat → Nat}
theorem dm_run (Y : fs_YS mb mv bc n K A B M) : ∀ (m i p t : Nat) (S C : Nat → Nat) (bf wk sr lt mk sm sF sT : Nat → Int32), fs_m K i p ≤ m → fs_DQ mb mv bc K A B M n i p t S C bf sr mk sm sF sT → ∀ (post : Int32 → SY → Prop) (fuel σ : Nat), m < fuel → σ + m < 5000 → (∀ (ot tt wc : Int32) (bf wk sr lt mk sm sF sT : Nat → Int32), post 0 (nI mi, nI mb, nI mv, sl, nI n, nI vc, nI bc, ot, tt, wc, fs_F K, fs_F A, fs_F B, fs_F V, fs_F M, bf, wk, sr, lt, mk, sm, sF, sT)) → (∀ (p1 : Nat) (tt wc : Int32) (bf wk sr lt mk sm sF sT : Nat → Int32), p1 ≤ 128 → (p1 ≠ bc ∨ ∃ q, q < p1 ∧ bf q ≠ nI (M q)) → post 1 (nI mi, nI mb, nI mv, sl, nI n, nI vc, nI bc, nI p1, tt, wc, fs_F K, fs_F A, fs_F B, fs_F V, fs_F M, bf, wk, sr, lt, mk, sm, sF, sT)) → wY_lay_80 post 1 fuel (nI i) (nI σ) (nI mi) (nI mb) (nI mv) sl (nI n) (nI vc) (nI bc) (nI p) (nI t) (nI t) (fs_F K) (fs_F A) (fs_F B) (fs_F V) (fs_F M) bf wk sr lt mk sm sF sT := by
  have Y0 := Y
  obtain ⟨hn, hmb, hmv, hbm, hb, hM, W, hstk⟩ := Y
  intro m
  induction m using Nat.strongRecOn with
  | ind m ih =>
    intro i p t S C bf wk sr lt mk sm sF sT hm Q post fuel σ hf hs h0 h1
    obtain ⟨f, rfl⟩ : ∃ f, fuel = f + 1 := ⟨fuel - 1, by omega⟩
    by_cases hi : i < n
    · have hmi := fs_mp (K := K) (p := p) hn hi
      refine br_f (nI_ge (b := 5000) (by omega) (by decide)) (br_f (nI_ge (by omega) (by omega)) ?_)
      rcases dm_step (wk := wk) (lt := lt) Y0 hi Q with hy | ⟨i1, p1, t1, S1, C1, bf1, wk1, sr1, lt1, mk1, sm1, sF1, sT1, ⟨hm1, Q1⟩, hy⟩
      · refine hy _ ?_
        intro ot tt wc bf wk sr lt mk sm sF sT
        exact br_f (by decide) (h0 _ _ _ _ _ _ _ _ _ _ _)
      · refine hy _ ?_
        have := Q1.1
        exact br_t (nI_pos' (by omega)) (nm_r (nI_1 σ) (ih (m - 1) (by omega) i1 p1 t1 S1 C1 bf1 wk1 sr1 lt1 mk1 sm1 sF1 sT1 (by omega) Q1 post f (σ + 1) (by omega) (by omega) h0 h1))
    · obtain ⟨q1, q2, q3, q4, I, D⟩ := Q
      have e : i = n := by omega
      subst e
      refine br_f (nI_ge (b := 5000) (by omega) (by decide)) (br_t (nI_le (by omega) (by omega)) ?_)
      refine br_f (nI_nlt (Nat.le_refl i) (by omega)) (br_t rfl ?_)
      refine ⟨129, ys_sums (bf0 := bf) W hn hb (by omega) I.2.2.2.1 ?_ (t := 128) (f := bf) (by omega) (fs_inv_top W hn (by omega))⟩
      intro f' hf'
      exact h1 _ _ _ _ _ _ _ _ _ _ _ (by omega) (fs_doom_end W hn hM hstk D hf')
end
end
section
/-! parse: the two states side by side, as long as the component hasn't failed -/
def fs_act (K C : Nat → Nat) (i q : Nat) : Prop := ∃ g, g ∈ fs_stk K i ∧ K g = 8 ∧ C g = q
def fs_VI (K C : Nat → Nat) (i p t : Nat) (U : Nat → Nat) (wv wk : Nat → Int32) : Prop :=
  ∀ q, q < t → U q + fs_m K i p ≤ 70000 ∧ wv q = nI (U q) ∧ (fs_act K C i q → wk q = nI (U q + 1)) ∧ (¬ fs_act K C i q → wk q = nI (U q))
def fs_BI (K A M : Nat → Nat) (n i p : Nat) (S : Nat → Nat) (bf sm sF sT : Nat → Int32) : Prop :=
  ∀ q, q < p → bf q = nI (M q) ∨ (∃ g, g < n ∧ fs_nam (K g) ∧ fs_pd K A g i ∧ S (A g) ≤ q ∧ q < S (A g) + A (A g)) ∨ (∃ q0 o a b, fs_nt K A n sm sF sT p q0 o a b ∧ q0 ≤ q ∧ q < q0 + A (A o))
def fs_KI (K A B M : Nat → Nat) (n p : Nat) (sm sF sT : Nat → Int32) : Prop :=
  ∀ q0 o a b, fs_nt K A n sm sF sT p q0 o a b → fs_cs0 (A (A o)) (B o) (fs_F M) a b = fs_nb M q0 (A (A o))
def fs_XI (K A : Nat → Nat) (n i : Nat) (S C : Nat → Nat) (sa st lf cp lt : Nat → Int32) : Prop :=
  (∀ g, g < n → fs_nam (K g) → fs_pd K A g i → sa (A g) = nI (S (A g)))
  ∧ (∀ g, g ∈ fs_stk K i → K g = 5 ∨ K g = 6 → st g = nI (S g))
  ∧ (∀ g, g ∈ fs_stk K i → K g = 7 → lf g = lt g)
  ∧ (∀ g, g ∈ fs_stk K i → K g = 8 → cp g = nI (C g) ∧ lt g = 1)
  ∧ (∀ g g', g ∈ fs_stk K i → g' ∈ fs_stk K i → K g = 8 → K g' = 8 → C g = C g' → g = g')
def fs_PQ (mv bc : Nat) (K A B M : Nat → Nat) (n i p t : Nat) (S C U : Nat → Nat) (wv sa st lf cp bf wk sr lt mk sm sF sT : Nat → Int32) : Prop :=
  i ≤ n ∧ (i < n → K i ≠ 10) ∧ p ≤ bc ∧ t ≤ mv ∧ fs_YI K A n i p t S C sr mk sm sF sT ∧ fs_XI K A n i S C sa st lf cp lt ∧ fs_VI K C i p t U wv wk ∧ fs_BI K A M n i p S bf sm sF sT ∧ fs_KI K A B M n p sm sF sT
section
variable {mv bc : Nat} {K A B M : Nat → Nat} {n i i' p p' t t' : Nat} {S C C' U U' : Nat → Nat} {wv sa st lf cp bf wk sr lt mk sm sF sT wv' sa' st' lf' cp' bf' wk' lt' mk' : Nat → Int32}
theorem fs_actA (W : fs_WF K A B n) (hi : i < n) (h11 : K i ≠ 11) (h8 : K i ≠ 8) (hST : fs_ST K A n i i') (hC : ∀ g, g ∈ fs_stk K i → C' g = C g) (q : Nat) : fs_act K C' i' q ↔ fs_act K C i q := by
  constructor
  · rintro ⟨g, h1, h2, h3⟩
    rcases fs_L1 W hi hST h1 (by omega) with ⟨e, _⟩ | h
    · subst e; exact absurd h2 h8
    · exact ⟨g, h, h2, by rw [← hC g h]; exact h3⟩
  · rintro ⟨g, h1, h2, h3⟩
    exact ⟨g, fs_L2 W hi hST h1 (fun z => absurd z h11), h2, by rw [hC g h1]; exact h3⟩
theorem fs_actB (W : fs_WF K A B n) (hi : i < n) (h11 : K i = 11) (h8 : K (A i) ≠ 8) (hST : fs_ST K A n i i') (q : Nat) : fs_act K C i' q ↔ fs_act K C i q := by
  constructor
  · rintro ⟨g, h1, h2, h3⟩
    rcases fs_L1 W hi hST h1 (by omega) with ⟨_, e⟩ | h
    · exact absurd h11 e
    · exact ⟨g, h, h2, h3⟩
  · rintro ⟨g, h1, h2, h3⟩
    exact ⟨g, fs_L2 W hi hST h1 (fun _ z => by subst z; exact h8 h2), h2, h3⟩
theorem fs_VI0 (hact : ∀ q, fs_act K C' i' q ↔ fs_act K C i q) (hm : fs_m K i' p' ≤ fs_m K i p) (V : fs_VI K C i p t U wv wk) : fs_VI K C' i' p' t U wv wk := by
  intro q hq
  obtain ⟨v1, v2, v3, v4⟩ := V q hq
  exact ⟨by omega, v2, fun h => v3 ((hact q).mp h), fun h => v4 (fun z => h ((hact q).mpr z))⟩
theorem fs_m_le (K : Nat → Nat) (i p : Nat) : fs_m K i p ≤ 4160 := by
  unfold fs_m
  omega
theorem fs_VI1 (W : fs_WF K A B n) (hi : i < n) (h11 : K i ≠ 11) (hST : fs_ST K A n i i') (hC : ∀ g, g ∈ fs_stk K i → C' g = C g) (hCt : ∀ g, g ∈ fs_stk K i → K g = 8 → C g < t) (hm : fs_m K i' p' ≤ fs_m K i p) {x y : Nat} (hx : x < 65537)
    (hy : (K i = 8 ∧ i ∈ fs_stk K i' ∧ C' i = t ∧ y = x + 1) ∨ (¬ (K i = 8 ∧ i ∈ fs_stk K i') ∧ y = x)) (V : fs_VI K C i p t U wv wk) : fs_VI K C' i' p' (t + 1) (fs_u U t x) (upd wv t (nI x)) (upd wk t (nI y)) := by
  intro q hq
  by_cases c : q = t
  · subst c
    have := fs_m_le K i' p'
    rw [fs_us, pk_us, pk_us]
    refine ⟨by omega, rfl, fun h => ?_, fun h => ?_⟩
    · rcases hy with ⟨_, _, _, e⟩ | ⟨hn8, e⟩
      · rw [e]
      · obtain ⟨g, g1, g2, g3⟩ := h
        rcases fs_L1 W hi hST g1 (by omega) with ⟨e1, _⟩ | h1
        · subst e1; exact absurd ⟨g2, g1⟩ hn8
        · have := hCt g h1 g2
          rw [hC g h1] at g3
          omega
    · rcases hy with ⟨e1, e2, e3, e⟩ | ⟨hn8, e⟩
      · exact absurd ⟨i, e2, e1, e3⟩ h
      · rw [e]
  · rw [fs_un c, pk_un c, pk_un c]
    obtain ⟨v1, v2, v3, v4⟩ := V q (by omega)
    have hact : fs_act K C' i' q ↔ fs_act K C i q := by
      constructor
      · rintro ⟨g, h1, h2, h3⟩
        rcases fs_L1 W hi hST h1 (by omega) with ⟨e, _⟩ | h
        · subst e
          rcases hy with ⟨_, _, e3, _⟩ | ⟨hn8, _⟩
          · omega
          · exact absurd ⟨h2, h1⟩ hn8
        · exact ⟨g, h, h2, by rw [← hC g h]; exact h3⟩
      · rintro ⟨g, h1, h2, h3⟩
        exact ⟨g, fs_L2 W hi hST h1 (fun z => absurd z h11), h2, by rw [hC g h1]; exact h3⟩
    exact ⟨by omega, v2, fun h => v3 (hact.mp h), fun h => v4 (fun z => h (hact.mpr z))⟩
theorem fs_BA (W : fs_WF K A B n) (hi : i < n) (h11 : K i ≠ 11) (hST : fs_ST K A n i i') (hp : p ≤ p') (hsealed : ∀ s, s < n → K s = 3 → fs_isN K A n s)
    (hb1 : ∀ q, q < p → bf' q = bf q ∨ bf' q = nI (M q)) (hb7 : K i = 7 ∨ K i = 9 → ∀ q, S (A i) ≤ q → q < S (A i) + A (A i) → bf' q = nI (M q)) (hb2 : ∀ q, p ≤ q → q < p' → bf' q = nI (M q) ∨ (K i = 3 ∧ q < p + A i))
    (D : fs_BI K A M n i p S bf sm sF sT) : fs_BI K A M n i' p' (fs_u S i p) bf' sm sF sT := by
  intro q hq
  by_cases c : q < p
  · rcases hb1 q c with e | e
    · rcases D q c with h | ⟨g, g1, g2, g3, g4, g5⟩ | ⟨q0, o, a, b, h1, h2, h3⟩
      · exact Or.inl (by rw [e]; exact h)
      · by_cases hf : fs_fin K A g i
        · rcases hf with ⟨f1, f2⟩ | ⟨f1, _⟩
          · subst f1
            exact Or.inl (hb7 f2 q g4 g5)
          · exact absurd f1 h11
        · have hlt := g3.1
          refine Or.inr (Or.inl ⟨g, g1, g2, fs_L4 W hi g1 g2 hST (Or.inr g3) hf, ?_⟩)
          rw [fs_un (by omega)]
          exact ⟨g4, g5⟩
      · exact Or.inr (Or.inr ⟨q0, o, a, b, fs_nt_up hp h1, h2, h3⟩)
    · exact Or.inl e
  · rcases hb2 q (by omega) hq with e | ⟨h3, hlt⟩
    · exact Or.inl e
    · obtain ⟨g, g1, g2, g3⟩ := hsealed i hi h3
      have hf : ¬ fs_fin K A g i := by
        rintro (⟨f1, f2⟩ | ⟨f1, _⟩)
        · subst f1; omega
        · exact h11 f1
      refine Or.inr (Or.inl ⟨g, g1, g2, fs_L4 W hi g1 g2 hST (Or.inl g3.symm) hf, ?_⟩)
      rw [g3, fs_us]
      exact ⟨by omega, hlt⟩
theorem fs_BB (W : fs_WF K A B n) (hi : i < n) (h11 : K i = 11) (h6 : K (A i) ≠ 6) (hST : fs_ST K A n i i')
    (hb1 : ∀ q, q < p → bf' q = bf q ∨ bf' q = nI (M q)) (hb5 : K (A i) = 5 → ∀ q, S (A (A i)) ≤ q → q < S (A (A i)) + A (A (A i)) → bf' q = nI (M q))
    (D : fs_BI K A M n i p S bf sm sF sT) : fs_BI K A M n i' p S bf' sm sF sT := by
  intro q hq
  rcases hb1 q hq with e | e
  · rcases D q hq with h | ⟨g, g1, g2, g3, g4, g5⟩ | h
    · exact Or.inl (by rw [e]; exact h)
    · by_cases hf : fs_fin K A g i
      · rcases hf with ⟨f1, f2⟩ | ⟨_, f2, f3⟩
        · subst f1; omega
        · subst f2
          exact Or.inl (hb5 (by omega) q g4 g5)
      · exact Or.inr (Or.inl ⟨g, g1, g2, fs_L4 W hi g1 g2 hST (Or.inr g3) hf, g4, g5⟩)
    · exact Or.inr (Or.inr h)
  · exact Or.inl e
theorem fs_XA (W : fs_WF K A B n) (hi : i < n) (h11 : K i ≠ 11) (hST : fs_ST K A n i i') (hC : ∀ j, j ≠ i → C' j = C j) (hCt : ∀ g, g ∈ fs_stk K i → K g = 8 → C g < t)
    (hsa : ∀ j, j ≠ i → sa' j = sa j) (hsai : K i = 3 → sa' i = nI p) (hst : ∀ j, j ≠ i → st' j = st j) (hsti : K i = 5 ∨ K i = 6 → st' i = nI p)
    (hlf : ∀ j, j ≠ i → lf' j = lf j) (hlt : ∀ j, j ≠ i → lt' j = lt j) (hlfi : K i = 7 → lf' i = lt' i) (hcp : ∀ j, j ≠ i → cp' j = cp j) (hcpi : K i = 8 → i ∈ fs_stk K i' → cp' i = nI (C' i) ∧ lt' i = 1 ∧ C' i = t)
    (X : fs_XI K A n i S C sa st lf cp lt) : fs_XI K A n i' (fs_u S i p) C' sa' st' lf' cp' lt' := by
  obtain ⟨j1, j2, j3, j4, j5⟩ := X
  refine ⟨fun g hg hna hpd => ?_, fun g hg hk => ?_, fun g hg hk => ?_, fun g hg hk => ?_, fun g g' hg hg' hk hk' he => ?_⟩
  · rcases fs_L3 W hi hg hna hST hpd with e | hpd0
    · have := (fs_nm W hg hna).2.1
      rw [← e] at this
      rw [← e, fs_us]
      exact hsai this
    · have := hpd0.1
      rw [fs_un (by omega), hsa _ (by omega)]
      exact j1 g hg hna hpd0
  · rcases fs_L1 W hi hST hg (by omega) with ⟨e, _⟩ | hg0
    · subst e
      rw [fs_us]
      exact hsti hk
    · have := fs_lt hg0
      rw [fs_un (by omega), hst _ (by omega)]
      exact j2 g hg0 hk
  · rcases fs_L1 W hi hST hg (by omega) with ⟨e, _⟩ | hg0
    · subst e
      exact hlfi hk
    · have := fs_lt hg0
      rw [hlf _ (by omega), hlt _ (by omega)]
      exact j3 g hg0 hk
  · rcases fs_L1 W hi hST hg (by omega) with ⟨e, _⟩ | hg0
    · subst e
      have := hcpi hk hg
      exact ⟨this.1, this.2.1⟩
    · have := fs_lt hg0
      rw [hcp _ (by omega), hlt _ (by omega), hC _ (by omega)]
      exact j4 g hg0 hk
  · rcases fs_L1 W hi hST hg (by omega) with ⟨e, _⟩ | hg0
    · subst e
      rcases fs_L1 W hi hST hg' (by omega) with ⟨e', _⟩ | hg0'
      · exact e'.symm
      · have h1 := (hcpi hk hg).2.2
        have h2 := fs_lt hg0'
        have h3 := hCt g' hg0' hk'
        rw [hC g' (by omega)] at he
        omega
    · have h2 := fs_lt hg0
      rcases fs_L1 W hi hST hg' (by omega) with ⟨e', _⟩ | hg0'
      · subst e'
        have h1 := (hcpi hk' hg').2.2
        have h3 := hCt g hg0 hk
        rw [hC g (by omega)] at he
        omega
      · have h4 := fs_lt hg0'
        rw [hC g (by omega), hC g' (by omega)] at he
        exact j5 g g' hg0 hg0' hk hk' he
theorem fs_XB (W : fs_WF K A B n) (hi : i < n) (h11 : K i = 11) (hST : fs_ST K A n i i')
    (hlf : ∀ j, j ≠ A i → lf' j = lf j) (hlt : ∀ j, j ≠ A i → lt' j = lt j) (hlfi : K (A i) = 7 → lf' (A i) = lt' (A i)) (hl8 : K (A i) = 8 → A i ∈ fs_stk K i' → lt' (A i) = 1)
    (X : fs_XI K A n i S C sa st lf cp lt) : fs_XI K A n i' S C sa st lf' cp lt' := by
  obtain ⟨j1, j2, j3, j4, j5⟩ := X
  have st0 : ∀ g, g ∈ fs_stk K i' → K g ≠ 10 → g ∈ fs_stk K i := by
    intro g hg h10
    rcases fs_L1 W hi hST hg h10 with ⟨_, e⟩ | h
    · exact absurd h11 e
    · exact h
  refine ⟨fun g hg hna hpd => ?_, fun g hg hk => j2 g (st0 g hg (by omega)) hk, fun g hg hk => ?_, fun g hg hk => ?_, fun g g' hg hg' hk hk' he => j5 g g' (st0 g hg (by omega)) (st0 g' hg' (by omega)) hk hk' he⟩
  · rcases fs_L3 W hi hg hna hST hpd with e | hpd0
    · have := (fs_nm W hg hna).2.1
      rw [← e] at this
      omega
    · exact j1 g hg hna hpd0
  · by_cases c : g = A i
    · subst c; exact hlfi hk
    · rw [hlf g c, hlt g c]
      exact j3 g (st0 g hg (by omega)) hk
  · have h4 := j4 g (st0 g hg (by omega)) hk
    by_cases c : g = A i
    · subst c; exact ⟨h4.1, hl8 hk hg⟩
    · rw [hlt g c]
      exact h4
/-- the next pair of states over an item that isn't an END and takes no value -/
theorem fs_PQA (W : fs_WF K A B n) (hn : n ≤ 32) (hbc : bc ≤ 128) (hi : i < n) (h11 : K i ≠ 11) (h8 : K i ≠ 8) (hST : fs_ST K A n i i') (hp : p ≤ p') (hp' : p' ≤ bc) (hsl : K i ≤ 3 → p + 1 ≤ p') (hsl3 : K i = 3 → p + A i ≤ p') (hsealed : ∀ s, s < n → K s = 3 → fs_isN K A n s) (h79 : K i ≠ 7 ∧ K i ≠ 9)
    (hsa : ∀ j, j ≠ i → sa' j = sa j) (hsai : K i = 3 → sa' i = nI p) (hst : ∀ j, j ≠ i → st' j = st j) (hsti : K i = 5 ∨ K i = 6 → st' i = nI p)
    (hb1 : ∀ q, q < p → bf' q = bf q ∨ bf' q = nI (M q)) (hb2 : ∀ q, p ≤ q → q < p' → bf' q = nI (M q) ∨ (K i = 3 ∧ q < p + A i))
    (Q : fs_PQ mv bc K A B M n i p t S C U wv sa st lf cp bf wk sr lt mk sm sF sT) :
    fs_m K i' p' < fs_m K i p ∧ fs_PQ mv bc K A B M n i' p' t (fs_u S i p) C U wv sa' st' lf cp bf' wk (upd sr i (nI p)) lt mk sm sF sT := by
  obtain ⟨_, _, _, q4, I, X, V, D, KK⟩ := Q
  have hm := fs_md W hn hi hST hp hsl (by omega)
  exact ⟨hm, fs_le W hi hST, fun h => fs_nc W hi hST h, hp', q4, fs_YA W hn hi h11 hST hp (by omega) hsl3 (Nat.le_refl t) (Or.inl ⟨rfl, rfl, h8⟩) I,
    fs_XA (t := t) W hi h11 hST (fun _ _ => rfl) (fun g hg hk => (I.2.2.1 g hg hk).2) hsa hsai hst hsti (fun _ _ => rfl) (fun _ _ => rfl) (fun h => absurd h h79.1) (fun _ _ => rfl) (fun h => absurd h h8) X,
    fs_VI0 (fs_actA W hi h11 h8 hST (fun _ _ => rfl)) (by omega) V, fs_BA W hi h11 hST hp hsealed hb1 (fun h => by omega) hb2 D, fun q0 o a b hnt => KK q0 o a b (fs_nt_dn hn hp (by omega) I.2.2.2.1 hnt)⟩
/-- the same, a value x taken -/
theorem fs_PQV (W : fs_WF K A B n) (hn : n ≤ 32) (hbc : bc ≤ 128) (hi : i < n) (h11 : K i ≠ 11) (h3 : K i ≠ 3) (h56 : ¬ (K i = 5 ∨ K i = 6)) (hST : fs_ST K A n i i') (hp : p ≤ p') (hp' : p' ≤ bc) (hsl : K i ≤ 3 → p + 1 ≤ p') (ht : t < mv) (hsealed : ∀ s, s < n → K s = 3 → fs_isN K A n s)
    (hlf : ∀ j, j ≠ i → lf' j = lf j) (hlt : ∀ j, j ≠ i → lt' j = lt j) (hlfi : K i = 7 → lf' i = lt' i) (hcp : ∀ j, j ≠ i → cp' j = cp j) (hcpi : K i = 8 → i ∈ fs_stk K i' → cp' i = nI t ∧ lt' i = 1)
    (hb1 : ∀ q, q < p → bf' q = bf q ∨ bf' q = nI (M q)) (hb7 : K i = 7 ∨ K i = 9 → ∀ q, S (A i) ≤ q → q < S (A i) + A (A i) → bf' q = nI (M q)) (hb2 : ∀ q, p ≤ q → q < p' → bf' q = nI (M q))
    {x y : Nat} (hx : x < 65537) (hy : (K i = 8 ∧ i ∈ fs_stk K i' ∧ y = x + 1) ∨ (¬ (K i = 8 ∧ i ∈ fs_stk K i') ∧ y = x))
    (Q : fs_PQ mv bc K A B M n i p t S C U wv sa st lf cp bf wk sr lt mk sm sF sT) :
    fs_m K i' p' < fs_m K i p ∧ fs_PQ mv bc K A B M n i' p' (t + 1) (fs_u S i p) (fs_u C i t) (fs_u U t x) (upd wv t (nI x)) sa st lf' cp' bf' (upd wk t (nI y)) (upd sr i (nI p)) lt' (upd mk i (nI t)) sm sF sT := by
  obtain ⟨_, _, _, q4, I, X, V, D, KK⟩ := Q
  have hm := fs_md W hn hi hST hp hsl (by omega)
  have hCt : ∀ g, g ∈ fs_stk K i → K g = 8 → C g < t := fun g hg hk => (I.2.2.1 g hg hk).2
  have hC : ∀ g, g ∈ fs_stk K i → fs_u C i t g = C g := fun g hg => fs_un (by have := fs_lt hg; omega)
  have hy' : (K i = 8 ∧ i ∈ fs_stk K i' ∧ fs_u C i t i = t ∧ y = x + 1) ∨ (¬ (K i = 8 ∧ i ∈ fs_stk K i') ∧ y = x) := by
    rcases hy with ⟨a, b, c⟩ | h
    · exact Or.inl ⟨a, b, fs_us, c⟩
    · exact Or.inr h
  exact ⟨hm, fs_le W hi hST, fun h => fs_nc W hi hST h, hp', by omega, fs_YA W hn hi h11 hST hp (by omega) (fun h => absurd h h3) (by omega) (Or.inr ⟨rfl, rfl, by omega⟩) I,
    fs_XA (t := t) W hi h11 hST (fun _ e => fs_un e) hCt (fun _ _ => rfl) (fun h => absurd h h3) (fun _ _ => rfl) (fun h => absurd h h56) hlf hlt hlfi hcp (fun h1 h2 => ⟨by rw [fs_us]; exact (hcpi h1 h2).1, (hcpi h1 h2).2, fs_us⟩) X,
    fs_VI1 W hi h11 hST hC hCt (by omega) hx hy' V, fs_BA W hi h11 hST hp hsealed hb1 hb7 (fun q h1 h2 => Or.inl (hb2 q h1 h2)) D, fun q0 o a b hnt => KK q0 o a b (fs_nt_dn hn hp (by omega) I.2.2.2.1 hnt)⟩
/-- over an END that isn't a SUM's -/
theorem fs_PQB (W : fs_WF K A B n) (hn : n ≤ 32) (hbc : bc ≤ 128) (hi : i < n) (h11 : K i = 11) (h6 : K (A i) ≠ 6) (hST : fs_ST K A n i i')
    (hlf : ∀ j, j ≠ A i → lf' j = lf j) (hlt : ∀ j, j ≠ A i → lt' j = lt j) (hlfi : K (A i) = 7 → lf' (A i) = lt' (A i)) (hl8 : K (A i) = 8 → A i ∈ fs_stk K i' → lt' (A i) = 1)
    (hb1 : ∀ q, q < p → bf' q = bf q ∨ bf' q = nI (M q)) (hb5 : K (A i) = 5 → ∀ q, S (A (A i)) ≤ q → q < S (A (A i)) + A (A (A i)) → bf' q = nI (M q))
    (hV : fs_m K i' p < fs_m K i p → fs_VI K C i' p t U' wv' wk')
    (Q : fs_PQ mv bc K A B M n i p t S C U wv sa st lf cp bf wk sr lt mk sm sF sT) :
    fs_m K i' p < fs_m K i p ∧ fs_PQ mv bc K A B M n i' p t S C U' wv' sa st lf' cp bf' wk' sr lt' mk sm sF sT := by
  obtain ⟨_, _, q3, q4, I, X, V, D, KK⟩ := Q
  have hm := fs_md W hn hi hST (Nat.le_refl p) (fun h => by omega) (by omega)
  exact ⟨hm, fs_le W hi hST, fun h => fs_nc W hi hST h, q3, q4, fs_YB W hi h11 hST I, fs_XB W hi h11 hST hlf hlt hlfi hl8 X, hV hm, fs_BB W hi h11 h6 hST hb1 hb5 D, KK⟩
theorem fs_PQC (W : fs_WF K A B n) (hn : n ≤ 32) (hbc : bc ≤ 128) (hi : i < n) (h11 : K i = 11) (h6 : K (A i) = 6) (hck : fs_cs0 (A (A (A i))) (B (A i)) (fs_F M) (S (A i)) p = fs_nb M (S (A (A i))) (A (A (A i))))
    (Q : fs_PQ mv bc K A B M n i p t S C U wv sa st lf cp bf wk sr lt mk sm sF sT) :
    fs_m K (i + 1) p < fs_m K i p ∧ fs_PQ mv bc K A B M n (i + 1) p t S C U wv sa st lf cp bf wk sr lt mk (upd sm (S (A (A i))) (nI (A i))) (upd sF (S (A (A i))) (nI (S (A i)))) (upd sT (S (A (A i))) (nI p)) := by
  have hST : fs_ST K A n i (i + 1) := Or.inr (Or.inl ⟨rfl, h11, by omega⟩)
  obtain ⟨_, _, q3, q4, I, X, V, D, KK⟩ := Q
  have hm := fs_md W hn hi hST (Nat.le_refl p) (fun h => by omega) (by omega)
  obtain ⟨I', hnew⟩ := fs_YC W hn (by omega) hi h11 h6 I
  refine ⟨hm, fs_le W hi hST, fun h => fs_nc W hi hST h, q3, q4, I', fs_XB W hi h11 hST (fun _ _ => rfl) (fun _ _ => rfl) (fun h => by omega) (fun h => by omega) X, fs_VI0 (fs_actB W hi h11 (by omega) hST) (by omega) V, ?_, ?_⟩
  · intro q hq
    rcases D q hq with h | ⟨g, g1, g2, g3, g4, g5⟩ | ⟨q0, o, a, b, h1, h2, h3⟩
    · exact Or.inl h
    · by_cases hf : fs_fin K A g i
      · rcases hf with ⟨f1, f2⟩ | ⟨_, f2, f3⟩
        · subst f1; omega
        · subst f2
          exact Or.inr (Or.inr ⟨_, _, _, _, hnew, g4, g5⟩)
      · exact Or.inr (Or.inl ⟨g, g1, g2, fs_L4 W hi g1 g2 hST (Or.inr g3) hf, g4, g5⟩)
    · by_cases c : q0 = S (A (A i))
      · obtain ⟨hgn, hgna, hgpd⟩ := fs_pdE W hi h11 (Or.inr h6)
        have hna6 := fs_nm W h1.2.2.2.2.1 (Or.inr (Or.inl h1.2.2.2.2.2.1))
        have hwd := fs_wd W (i := A o) (by have := h1.2.2.2.2.1; omega) (by omega)
        have hna6' := fs_nm W hgn hgna
        have hwd' := fs_wd W (i := A (A i)) (by omega) (by omega)
        have := I.2.2.2.2.2 (A i) q0 o a b hgn hgna hgpd h1
        omega
      · exact Or.inr (Or.inr ⟨q0, o, a, b, (fs_nt_off c).mpr h1, h2, h3⟩)
  · intro q0 o a b hnt
    by_cases c : q0 = S (A (A i))
    · subst c
      obtain ⟨rfl, rfl, rfl⟩ := fs_nt_u hn (by omega) hnew hnt
      exact hck
    · exact KK q0 o a b ((fs_nt_off c).mp hnt)
end
end
section
/-! when the component fails, the reference is doomed -/
section
variable {mb mv bc : Nat} {K A B M : Nat → Nat} {n i i' p p' t t' : Nat} {S C C' U U' : Nat → Nat} {wv sa st lf cp bf wk sr lt mk sm sF sT : Nat → Int32}
theorem fs_wnb {q w r : Nat} (hM : ∀ j, M j ≤ 1) (h1 : q ≤ r) (h2 : r < q + w) : fs_w bf q w (fs_nb M q w) r = nI (M r) := by
  rw [fs_win h1 h2]
  have e := fs_nb_bit (M := M) (p := q) (w := w) (fun j _ => hM _) (r - q) (by omega)
  rw [show w - 1 - (r - q) = q + w - 1 - r by omega, show q + (r - q) = r by omega] at e
  rw [e]
theorem fs_PDw (W : fs_WF K A B n) (hn : n ≤ 32) (hmb : mb ≤ 128) (hM : ∀ j, M j ≤ 1) (hi : i < n) (h11 : K i ≠ 11) (h3 : K i ≠ 3) (h8 : K i ≠ 8) (hST : fs_ST K A n i i') {w x : Nat} (hx : x < 2 ^ w) (hw1 : K i ≤ 3 → 1 ≤ w) (hpw : p + w ≤ mb) (hbad : ¬ (p + w ≤ bc ∧ fs_nb M p w = x))
    (Q : fs_PQ mv bc K A B M n i p t S C U wv sa st lf cp bf wk sr lt mk sm sF sT) :
    fs_m K i' (p + w) < fs_m K i p ∧ fs_DQ mb mv bc K A B M n i' (p + w) t (fs_u S i p) C (fs_w bf p w x) (upd sr i (nI p)) mk sm sF sT := by
  obtain ⟨_, _, _, q4, I, X, V, D, KK⟩ := Q
  refine ⟨fs_md W hn hi hST (by omega) (fun h => by have := hw1 h; omega) (by omega), fs_le W hi hST, fun h => fs_nc W hi hST h, hpw, q4, fs_YA W hn hi h11 hST (by omega) (by omega) (fun h => absurd h h3) (Nat.le_refl t) (Or.inl ⟨rfl, rfl, h8⟩) I, ?_⟩
  by_cases c : p + w ≤ bc
  · obtain ⟨j, hj, hd⟩ := fs_differ (bf := bf) (q := p) hx hM (fun z => hbad ⟨c, z⟩)
    refine Or.inr (Or.inl ⟨p + j, by omega, hd, fun g hg hna hpd => ?_, fun q0 o a b hnt => ?_⟩)
    · rcases fs_L3 W hi hg hna hST hpd with e | hpd0
      · have := (fs_nm W hg hna).2.1
        rw [← e] at this
        exact absurd this h3
      · have := hpd0.1
        have := (I.1 g hg hna hpd0).2
        rw [fs_un (by omega)]
        exact Or.inr (by omega)
    · have h := fs_nt_dn hn (by omega) (by omega) I.2.2.2.1 hnt
      have := h.2.2.2.2.2.2
      exact Or.inr (by omega)
  · exact Or.inl (by omega)
theorem fs_PDs (W : fs_WF K A B n) (hn : n ≤ 32) (hmb : mb ≤ 128) (hi : i < n) (h3 : K i = 3) (hpw : p + A i ≤ mb) (hbad : ¬ p + A i ≤ bc)
    (Q : fs_PQ mv bc K A B M n i p t S C U wv sa st lf cp bf wk sr lt mk sm sF sT) :
    fs_m K (i + 1) (p + A i) < fs_m K i p ∧ fs_DQ mb mv bc K A B M n (i + 1) (p + A i) t (fs_u S i p) C (fs_w bf p (A i) 0) (upd sr i (nI p)) mk sm sF sT := by
  have hST : fs_ST K A n i (i + 1) := Or.inl ⟨rfl, by omega⟩
  have hwd := fs_wd W hi (by omega)
  obtain ⟨_, _, _, q4, I, X, V, D, KK⟩ := Q
  exact ⟨fs_md W hn hi hST (by omega) (fun h => by omega) (by omega), fs_le W hi hST, fun h => fs_nc W hi hST h, hpw, q4, fs_YA W hn hi (by omega) hST (by omega) (by omega) (fun _ => by omega) (Nat.le_refl t) (Or.inl ⟨rfl, rfl, by omega⟩) I, Or.inl (by omega)⟩
theorem fs_PDc (W : fs_WF K A B n) (hn : n ≤ 32) (hbm : bc ≤ mb) (hmb : mb ≤ 128) (hi : i < n) (h11 : K i = 11) (h6 : K (A i) = 6) (hck : fs_cs0 (A (A (A i))) (B (A i)) (fs_F M) (S (A i)) p ≠ fs_nb M (S (A (A i))) (A (A (A i))))
    (Q : fs_PQ mv bc K A B M n i p t S C U wv sa st lf cp bf wk sr lt mk sm sF sT) :
    fs_m K (i + 1) p < fs_m K i p ∧ fs_DQ mb mv bc K A B M n (i + 1) p t S C bf sr mk (upd sm (S (A (A i))) (nI (A i))) (upd sF (S (A (A i))) (nI (S (A i)))) (upd sT (S (A (A i))) (nI p)) := by
  have hST : fs_ST K A n i (i + 1) := Or.inr (Or.inl ⟨rfl, h11, by omega⟩)
  obtain ⟨_, _, q3, q4, I, X, V, D, KK⟩ := Q
  obtain ⟨I', hnew⟩ := fs_YC W hn (by omega) hi h11 h6 I
  obtain ⟨hgn, hgna, hgpd⟩ := fs_pdE W hi h11 (Or.inr h6)
  have hfin : ¬ fs_pd K A (A i) (i + 1) := fs_L5 W hi hST (Or.inr ⟨h11, rfl, Or.inr h6⟩)
  have hnm := fs_nm W hgn hgna
  have hwd := fs_wd W (i := A (A i)) (by omega) (by omega)
  refine ⟨fs_md W hn hi hST (Nat.le_refl p) (fun h => by omega) (by omega), fs_le W hi hST, fun h => fs_nc W hi hST h, by omega, q4, I', Or.inr (Or.inr (Or.inl ⟨_, _, _, _, hnew, hck, fun g hg hna hpd => ?_⟩))⟩
  have hg0 : g ≠ A i := by intro e; subst e; exact hfin hpd
  have hnm' := fs_nm W hg hna
  have hwd' := fs_wd W (i := A g) (by omega) (by omega)
  rcases fs_L3 W hi hg hna hST hpd with e | hpd0
  · rw [← e] at hnm'
    omega
  · have := I.2.2.2.2.1 g (A i) hg hgn hna hgna hg0 hpd0 hgpd
    omega
/-- behind the END of a FILL stands the END of its LENGTH -/
theorem fs_fillnext (W : fs_WF K A B n) (hstk : fs_stk K n = []) {e f g : Nat} (he : e < n) (hke : K e = 11) (hAe : A e = f) (hf : K f = 8) (hg : fs_stk K f = g :: fs_stk K g) : e + 1 < n ∧ K (e + 1) = 11 ∧ A (e + 1) = g := by
  have hs : fs_stk K (e + 1) = g :: fs_stk K g := by
    have := fs_sE' hke (fs_en W he hke)
    rw [hAe, hg] at this
    exact this
  have hlt : e + 1 < n := by
    by_cases c : e + 1 = n
    · rw [c, hstk] at hs
      cases hs
    · omega
  have hk := fs_fe W hlt hke (by rw [hAe]; exact hf)
  have h2 := fs_en W hlt hk
  rw [hs] at h2
  injection h2 with h3 _
  exact ⟨hlt, hk, h3.symm⟩
theorem fs_PDf (W : fs_WF K A B n) (hn : n ≤ 32) (hbm : bc ≤ mb) (hmb : mb ≤ 128) (hstk : fs_stk K n = []) (hi : i < n) (h8 : K i = 8) {e g : Nat} (he : e < n) (hke : K e = 11) (hAe : A e = i) (hg : fs_stk K i = g :: fs_stk K g) (hg5 : K g = 5) (ht : t < mv) (hbad : S g + fs_nb M (S (A g)) (A (A g)) < p)
    (Q : fs_PQ mv bc K A B M n i p t S C U wv sa st lf cp bf wk sr lt mk sm sF sT) :
    fs_m K (e + 1) p < fs_m K i p ∧ fs_DQ mb mv bc K A B M n (e + 1) p (t + 1) (fs_u S i p) (fs_u C i t) bf (upd sr i (nI p)) (upd mk i (nI t)) sm sF sT := by
  have hST : fs_ST K A n i (e + 1) := Or.inr (Or.inr (Or.inl ⟨e, rfl, Or.inr h8, he, hke, hAe⟩))
  obtain ⟨n1, n2, n3⟩ := fs_fillnext W hstk he hke hAe h8 hg
  have hgi := fs_top_lt hg
  have hnm := fs_nm W (i := g) (by omega) (Or.inl hg5)
  obtain ⟨_, _, q3, q4, I, X, V, D, KK⟩ := Q
  refine ⟨fs_md W hn hi hST (Nat.le_refl p) (fun h => by omega) (by omega), fs_le W hi hST, fun h => fs_nc W hi hST h, by omega, by omega, fs_YA W hn hi (by omega) hST (Nat.le_refl p) (by omega) (fun h => by omega) (by omega) (Or.inr ⟨rfl, rfl, by omega⟩) I, Or.inr (Or.inr (Or.inr ⟨n1, n2, ?_, ?_⟩))⟩
  · rw [n3]; exact hg5
  · rw [n3, fs_un (by omega), fs_un (by omega)]
    omega
theorem fs_PDg (W : fs_WF K A B n) (hn : n ≤ 32) (hbm : bc ≤ mb) (hmb : mb ≤ 128) (hstk : fs_stk K n = []) (hi : i < n) (h11 : K i = 11) (h8 : K (A i) = 8) {g : Nat} (hg : fs_stk K (A i) = g :: fs_stk K g) (hg5 : K g = 5) (hbad : S g + fs_nb M (S (A g)) (A (A g)) < p)
    (Q : fs_PQ mv bc K A B M n i p t S C U wv sa st lf cp bf wk sr lt mk sm sF sT) :
    fs_m K (i + 1) p < fs_m K i p ∧ fs_DQ mb mv bc K A B M n (i + 1) p t S C bf sr mk sm sF sT := by
  have hST : fs_ST K A n i (i + 1) := Or.inr (Or.inl ⟨rfl, h11, by omega⟩)
  obtain ⟨n1, n2, n3⟩ := fs_fillnext W hstk hi h11 rfl h8 hg
  obtain ⟨_, _, q3, q4, I, X, V, D, KK⟩ := Q
  refine ⟨fs_md W hn hi hST (Nat.le_refl p) (fun h => by omega) (by omega), fs_le W hi hST, fun h => fs_nc W hi hST h, by omega, q4, fs_YB W hi h11 hST I, Or.inr (Or.inr (Or.inr ⟨n1, n2, ?_, ?_⟩))⟩
  · rw [n3]; exact hg5
  · rw [n3]
    omega
theorem fs_PDl (hbm : bc ≤ mb) (hi : i < n) (h11 : K i = 11) (h5 : K (A i) = 5) (hbad : p ≠ S (A i) + fs_nb M (S (A (A i))) (A (A (A i)))) (Q : fs_PQ mv bc K A B M n i p t S C U wv sa st lf cp bf wk sr lt mk sm sF sT) :
    fs_DQ mb mv bc K A B M n i p t S C bf sr mk sm sF sT := by
  obtain ⟨q1, q2, q3, q4, I, X, V, D, KK⟩ := Q
  exact ⟨q1, q2, by omega, q4, I, Or.inr (Or.inr (Or.inr ⟨hi, h11, h5, hbad⟩))⟩
/-- the counts at the END of a FILL -/
theorem fs_VIc (W : fs_WF K A B n) (hi : i < n) (h11 : K i = 11) (h8 : K (A i) = 8) (hm : fs_m K (A i + 1) p < fs_m K i p) (V : fs_VI K C i p t U wv wk) : fs_VI K C (A i + 1) p t (fs_u U (C (A i)) (U (C (A i)) + 1)) (upd wv (C (A i)) (wv (C (A i)) + 1)) (upd wk (C (A i)) (wk (C (A i)) + 1)) := by
  have hs : fs_stk K (A i + 1) = fs_stk K i := by rw [fs_sO (by omega) (by omega), ← fs_en W hi h11]
  have hact : ∀ q, fs_act K C (A i + 1) q ↔ fs_act K C i q := by
    intro q
    unfold fs_act
    rw [hs]
  intro q hq
  obtain ⟨v1, v2, v3, v4⟩ := V q hq
  by_cases c : q = C (A i)
  · subst c
    have ha : fs_act K C i (C (A i)) := ⟨A i, fs_eo W hi h11, h8, rfl⟩
    rw [fs_us, pk_us, pk_us, v2, v3 ha, nI_1, nI_1]
    exact ⟨by omega, rfl, fun _ => rfl, fun z => absurd ((hact _).mpr ha) z⟩
  · rw [fs_un c, pk_un c, pk_un c]
    exact ⟨by omega, v2, fun h => v3 ((hact q).mp h), fun h => v4 (fun z => h ((hact q).mpr z))⟩
theorem fs_VIx (W : fs_WF K A B n) (hi : i < n) (h11 : K i = 11) (h8 : K (A i) = 8) (hX : fs_XI K A n i S C sa st lf cp lt) (hm : fs_m K (i + 1) p < fs_m K i p) (V : fs_VI K C i p t U wv wk) : fs_VI K C (i + 1) p t (fs_u U (C (A i)) (U (C (A i)) + 1)) (upd wv (C (A i)) (wv (C (A i)) + 1)) wk := by
  have hST : fs_ST K A n i (i + 1) := Or.inr (Or.inl ⟨rfl, h11, by omega⟩)
  intro q hq
  obtain ⟨v1, v2, v3, v4⟩ := V q hq
  by_cases c : q = C (A i)
  · subst c
    have ha : fs_act K C i (C (A i)) := ⟨A i, fs_eo W hi h11, h8, rfl⟩
    rw [fs_us, pk_us, v2, v3 ha, nI_1]
    refine ⟨by omega, rfl, fun z => ?_, fun _ => rfl⟩
    obtain ⟨g, g1, g2, g3⟩ := z
    exfalso
    rcases fs_L1 W hi hST g1 (by omega) with ⟨_, e⟩ | h
    · exact e h11
    · have e := hX.2.2.2.2 g (A i) h (fs_eo W hi h11) g2 h8 g3
      subst e
      exact fs_cl h11 (fs_en W hi h11) (by omega) g1
  · rw [fs_un c, pk_un c]
    have hact : fs_act K C (i + 1) q ↔ fs_act K C i q := by
      constructor
      · rintro ⟨g, h1, h2, h3⟩
        rcases fs_L1 W hi hST h1 (by omega) with ⟨_, e⟩ | h
        · exact absurd h11 e
        · exact ⟨g, h, h2, h3⟩
      · rintro ⟨g, h1, h2, h3⟩
        exact ⟨g, fs_L2 W hi hST h1 (fun _ z => by subst z; exact c h3.symm), h2, h3⟩
    exact ⟨by omega, v2, fun h => v3 (hact.mp h), fun h => v4 (fun z => h (hact.mpr z))⟩
end
end
section
/-! parse: one item of both -/
section
variable {mi mb mv n vc bc : Nat} {oc sl pc ps tk fl : Int32} {K A B V M : Nat → Nat} {pa rg eo nm op wb wv sa st lf cp si sf so : Nat → Int32} {ot tt wc : Int32} {bf wk sr lt mk sm sF sT : Nat → Int32}
variable {i p t : Nat} {S C U : Nat → Nat}
theorem pr_1 (R : fs_Rel mi mb mv n vc bc 1 K A B V M oc pa rg eo nm op) (hi : i < n) (Q : fs_PQ mv bc K A B M n i p t S C U wv sa st lf cp bf wk sr lt mk sm sF sT) (hk : K i = 1) : ((∀ post : SX → Prop, (∀ (pc ps tk : Int32) (wb wv sa st lf cp si sf so : Nat → Int32), post (nI mi, nI mb, nI mv, nI n, oc, sl, nI vc, nI bc, pc, ps, tk, 1, fs_F K, fs_F A, fs_F B, pa, rg, eo, nm, op, fs_F V, fs_F M, wb, wv, sa, st, lf, cp, si, sf, so)) → wpX_readItem post (nI mi, nI mb, nI mv, nI n, oc, sl, nI vc, nI bc, nI i, nI p, nI t, 0, fs_F K, fs_F A, fs_F B, pa, rg, eo, nm, op, fs_F V, fs_F M, wb, wv, sa, st, lf, cp, si, sf, so)) ∧ ((∀ post : Int32 → SY → Prop, (∀ (ot tt wc : Int32) (bf wk sr lt mk sm sF sT : Nat → Int32), post (-1) (nI mi, nI mb, nI mv, sl, nI n, nI vc, nI bc, ot, tt, wc, fs_F K, fs_F A, fs_F B, fs_F V, fs_F M, bf, wk, sr, lt, mk, sm, sF, sT)) → wpY_layItem post (nI mi, nI mb, nI mv, sl, nI n, nI vc, nI bc, nI p, nI t, nI t, fs_F K, fs_F A, fs_F B, fs_F V, fs_F M, bf, wk, sr, lt, mk, sm, sF, sT) (nI i) 1)
    ∨ (∃ (i1 p1 t1 : Nat) (S1 C1 : Nat → Nat) (bf1 wk1 sr1 lt1 mk1 sm1 sF1 sT1 : Nat → Int32), (fs_m K i1 p1 < fs_m K i p ∧ fs_DQ mb mv bc K A B M n i1 p1 t1 S1 C1 bf1 sr1 mk1 sm1 sF1 sT1) ∧ (∀ post : Int32 → SY → Prop, post (nI i1) (nI mi, nI mb, nI mv, sl, nI n, nI vc, nI bc, nI p1, nI t1, nI t1, fs_F K, fs_F A, fs_F B, fs_F V, fs_F M, bf1, wk1, sr1, lt1, mk1, sm1, sF1, sT1) → wpY_layItem post (nI mi, nI mb, nI mv, sl, nI n, nI vc, nI bc, nI p, nI t, nI t, fs_F K, fs_F A, fs_F B, fs_F V, fs_F M, bf, wk, sr, lt, mk, sm, sF, sT) (nI i) 1))))
    ∨ (∃ (i1 p1 t1 : Nat) (S1 C1 U1 : Nat → Nat) (wv1 sa1 st1 lf1 cp1 bf1 wk1 sr1 lt1 mk1 sm1 sF1 sT1 : Nat → Int32), (fs_m K i1 p1 < fs_m K i p ∧ fs_PQ mv bc K A B M n i1 p1 t1 S1 C1 U1 wv1 sa1 st1 lf1 cp1 bf1 wk1 sr1 lt1 mk1 sm1 sF1 sT1) ∧ (∀ post : SX → Prop, post (nI mi, nI mb, nI mv, nI n, oc, sl, nI vc, nI bc, nI i1, nI p1, nI t1, 0, fs_F K, fs_F A, fs_F B, pa, rg, eo, nm, op, fs_F V, fs_F M, wb, wv1, sa1, st1, lf1, cp1, si, sf, so) → wpX_readItem post (nI mi, nI mb, nI mv, nI n, oc, sl, nI vc, nI bc, nI i, nI p, nI t, 0, fs_F K, fs_F A, fs_F B, pa, rg, eo, nm, op, fs_F V, fs_F M, wb, wv, sa, st, lf, cp, si, sf, so)) ∧ (∀ post : Int32 → SY → Prop, post (nI i1) (nI mi, nI mb, nI mv, sl, nI n, nI vc, nI bc, nI p1, nI t1, nI t1, fs_F K, fs_F A, fs_F B, fs_F V, fs_F M, bf1, wk1, sr1, lt1, mk1, sm1, sF1, sT1) → wpY_layItem post (nI mi, nI mb, nI mv, sl, nI n, nI vc, nI bc, nI p, nI t, nI t, fs_F K, fs_F A, fs_F B, fs_F V, fs_F M, bf, wk, sr, lt, mk, sm, sF, sT) (nI i) 1))
    ∨ (∃ e : Nat, fs_m K e p < fs_m K i p ∧ fs_m K (e + 1) p < fs_m K e p ∧ e < n ∧ fs_PQ mv bc K A B M n (e + 1) p t S C U wv sa st lf cp bf wk sr lt mk sm sF sT ∧ (∀ post : SX → Prop, post (nI mi, nI mb, nI mv, nI n, oc, sl, nI vc, nI bc, nI (e + 1), nI p, nI t, 0, fs_F K, fs_F A, fs_F B, pa, rg, eo, nm, op, fs_F V, fs_F M, wb, wv, sa, st, lf, cp, si, sf, so) → wpX_readItem post (nI mi, nI mb, nI mv, nI n, oc, sl, nI vc, nI bc, nI i, nI p, nI t, 0, fs_F K, fs_F A, fs_F B, pa, rg, eo, nm, op, fs_F V, fs_F M, wb, wv, sa, st, lf, cp, si, sf, so)) ∧ (∀ post : Int32 → SY → Prop, post (nI e) (nI mi, nI mb, nI mv, sl, nI n, nI vc, nI bc, nI p, nI t, nI t, fs_F K, fs_F A, fs_F B, fs_F V, fs_F M, bf, wk, sr, lt, mk, sm, sF, sT) → wpY_layItem post (nI mi, nI mb, nI mv, sl, nI n, nI vc, nI bc, nI p, nI t, nI t, fs_F K, fs_F A, fs_F B, fs_F V, fs_F M, bf, wk, sr, lt, mk, sm, sF, sT) (nI i) 1) ∧ (∀ post : Int32 → SY → Prop, post (nI (e + 1)) (nI mi, nI mb, nI mv, sl, nI n, nI vc, nI bc, nI p, nI t, nI t, fs_F K, fs_F A, fs_F B, fs_F V, fs_F M, bf, wk, sr, lt, mk, sm, sF, sT) → wpY_layItem post (nI mi, nI mb, nI mv, sl, nI n, nI vc, nI bc, nI p, nI t, nI t, fs_F K, fs_F A, fs_F B, fs_F V, fs_F M, bf, wk, sr, lt, mk, sm, sF, sT) (nI e) 1)) := by
  have R0 := R
  obtain ⟨⟨b1, b2, b3, b4, b5, b6⟩, r1, r2, r3, r4, W, r6, r7, r8, r9, r10, r11, r12⟩ := R
  have hstk := (r12 rfl).1
  have hsealed := (r12 rfl).2
  have hn : n ≤ 32 := by omega
  have Y0 : fs_YS mb mv bc n K A B M := ⟨hn, b2, b3, b6, r2, r4, W, hstk⟩
  have Q0 := Q
  obtain ⟨q1, q2, q3, q4, I, X, VV, D, KK⟩ := Q
  have hwd := fs_wd W hi (by omega)
  have hp16 := fs_p16 hwd.2
  have hnb : fs_nb M p (A i) < 2 ^ A i := fs_nb_lt (fun j _ => r4 _)
  by_cases c : p + A i ≤ bc ∧ t < mv
  · have hST : fs_ST K A n i (i + 1) := Or.inl ⟨rfl, by omega⟩
    refine Or.inr (Or.inl ⟨i + 1, p + A i, t + 1, fs_u S i p, fs_u C i t, _, upd wv t (nI (fs_nb M p (A i))), sa, st, lf, cp, fs_w bf p (A i) (fs_nb M p (A i)), upd wk t (nI (fs_nb M p (A i))), upd sr i (nI p), lt, upd mk i (nI t), sm, sF, sT, fs_PQV W hn (by omega) hi (by omega) (by omega) (by omega) hST (by omega) c.1 (fun _ => by omega) c.2 hsealed (fun _ _ => rfl) (fun _ _ => rfl) (fun h => by omega) (fun _ _ => rfl) (fun h => by omega) (fun q hq => Or.inl (fs_wout (Or.inl hq))) (fun h => by omega) (fun q h1 h2 => fs_wnb r4 h1 h2) (by omega) (Or.inr ⟨fun z => by omega, rfl⟩) Q0, fun post h => ?_, fun post h => ?_⟩)
    · exact xs_r1 r4 (by omega) hk hwd.2 (by omega) (by omega) b3 (by omega) (fun _ _ => h) (fun z => absurd c z)
    · exact yg_1 r4 (by omega) hk hwd.1 hwd.2 b6 b2 (by omega) b3 q4 (fun _ _ => h) (fun z => absurd c z)
  · refine Or.inl ⟨fun post h => ?_, Or.inl (fun post h => ?_)⟩
    · exact xs_r1 r4 (by omega) hk hwd.2 (by omega) (by omega) b3 (by omega) (fun d e => absurd ⟨d, e⟩ c) (fun _ => h)
    · exact yg_1 r4 (by omega) hk hwd.1 hwd.2 b6 b2 (by omega) b3 q4 (fun d e => absurd ⟨d, e⟩ c) (fun _ => h)
theorem pr_2 (R : fs_Rel mi mb mv n vc bc 1 K A B V M oc pa rg eo nm op) (hi : i < n) (Q : fs_PQ mv bc K A B M n i p t S C U wv sa st lf cp bf wk sr lt mk sm sF sT) (hk : K i = 2) : ((∀ post : SX → Prop, (∀ (pc ps tk : Int32) (wb wv sa st lf cp si sf so : Nat → Int32), post (nI mi, nI mb, nI mv, nI n, oc, sl, nI vc, nI bc, pc, ps, tk, 1, fs_F K, fs_F A, fs_F B, pa, rg, eo, nm, op, fs_F V, fs_F M, wb, wv, sa, st, lf, cp, si, sf, so)) → wpX_readItem post (nI mi, nI mb, nI mv, nI n, oc, sl, nI vc, nI bc, nI i, nI p, nI t, 0, fs_F K, fs_F A, fs_F B, pa, rg, eo, nm, op, fs_F V, fs_F M, wb, wv, sa, st, lf, cp, si, sf, so)) ∧ ((∀ post : Int32 → SY → Prop, (∀ (ot tt wc : Int32) (bf wk sr lt mk sm sF sT : Nat → Int32), post (-1) (nI mi, nI mb, nI mv, sl, nI n, nI vc, nI bc, ot, tt, wc, fs_F K, fs_F A, fs_F B, fs_F V, fs_F M, bf, wk, sr, lt, mk, sm, sF, sT)) → wpY_layItem post (nI mi, nI mb, nI mv, sl, nI n, nI vc, nI bc, nI p, nI t, nI t, fs_F K, fs_F A, fs_F B, fs_F V, fs_F M, bf, wk, sr, lt, mk, sm, sF, sT) (nI i) 1)
    ∨ (∃ (i1 p1 t1 : Nat) (S1 C1 : Nat → Nat) (bf1 wk1 sr1 lt1 mk1 sm1 sF1 sT1 : Nat → Int32), (fs_m K i1 p1 < fs_m K i p ∧ fs_DQ mb mv bc K A B M n i1 p1 t1 S1 C1 bf1 sr1 mk1 sm1 sF1 sT1) ∧ (∀ post : Int32 → SY → Prop, post (nI i1) (nI mi, nI mb, nI mv, sl, nI n, nI vc, nI bc, nI p1, nI t1, nI t1, fs_F K, fs_F A, fs_F B, fs_F V, fs_F M, bf1, wk1, sr1, lt1, mk1, sm1, sF1, sT1) → wpY_layItem post (nI mi, nI mb, nI mv, sl, nI n, nI vc, nI bc, nI p, nI t, nI t, fs_F K, fs_F A, fs_F B, fs_F V, fs_F M, bf, wk, sr, lt, mk, sm, sF, sT) (nI i) 1))))
    ∨ (∃ (i1 p1 t1 : Nat) (S1 C1 U1 : Nat → Nat) (wv1 sa1 st1 lf1 cp1 bf1 wk1 sr1 lt1 mk1 sm1 sF1 sT1 : Nat → Int32), (fs_m K i1 p1 < fs_m K i p ∧ fs_PQ mv bc K A B M n i1 p1 t1 S1 C1 U1 wv1 sa1 st1 lf1 cp1 bf1 wk1 sr1 lt1 mk1 sm1 sF1 sT1) ∧ (∀ post : SX → Prop, post (nI mi, nI mb, nI mv, nI n, oc, sl, nI vc, nI bc, nI i1, nI p1, nI t1, 0, fs_F K, fs_F A, fs_F B, pa, rg, eo, nm, op, fs_F V, fs_F M, wb, wv1, sa1, st1, lf1, cp1, si, sf, so) → wpX_readItem post (nI mi, nI mb, nI mv, nI n, oc, sl, nI vc, nI bc, nI i, nI p, nI t, 0, fs_F K, fs_F A, fs_F B, pa, rg, eo, nm, op, fs_F V, fs_F M, wb, wv, sa, st, lf, cp, si, sf, so)) ∧ (∀ post : Int32 → SY → Prop, post (nI i1) (nI mi, nI mb, nI mv, sl, nI n, nI vc, nI bc, nI p1, nI t1, nI t1, fs_F K, fs_F A, fs_F B, fs_F V, fs_F M, bf1, wk1, sr1, lt1, mk1, sm1, sF1, sT1) → wpY_layItem post (nI mi, nI mb, nI mv, sl, nI n, nI vc, nI bc, nI p, nI t, nI t, fs_F K, fs_F A, fs_F B, fs_F V, fs_F M, bf, wk, sr, lt, mk, sm, sF, sT) (nI i) 1))
    ∨ (∃ e : Nat, fs_m K e p < fs_m K i p ∧ fs_m K (e + 1) p < fs_m K e p ∧ e < n ∧ fs_PQ mv bc K A B M n (e + 1) p t S C U wv sa st lf cp bf wk sr lt mk sm sF sT ∧ (∀ post : SX → Prop, post (nI mi, nI mb, nI mv, nI n, oc, sl, nI vc, nI bc, nI (e + 1), nI p, nI t, 0, fs_F K, fs_F A, fs_F B, pa, rg, eo, nm, op, fs_F V, fs_F M, wb, wv, sa, st, lf, cp, si, sf, so) → wpX_readItem post (nI mi, nI mb, nI mv, nI n, oc, sl, nI vc, nI bc, nI i, nI p, nI t, 0, fs_F K, fs_F A, fs_F B, pa, rg, eo, nm, op, fs_F V, fs_F M, wb, wv, sa, st, lf, cp, si, sf, so)) ∧ (∀ post : Int32 → SY → Prop, post (nI e) (nI mi, nI mb, nI mv, sl, nI n, nI vc, nI bc, nI p, nI t, nI t, fs_F K, fs_F A, fs_F B, fs_F V, fs_F M, bf, wk, sr, lt, mk, sm, sF, sT) → wpY_layItem post (nI mi, nI mb, nI mv, sl, nI n, nI vc, nI bc, nI p, nI t, nI t, fs_F K, fs_F A, fs_F B, fs_F V, fs_F M, bf, wk, sr, lt, mk, sm, sF, sT) (nI i) 1) ∧ (∀ post : Int32 → SY → Prop, post (nI (e + 1)) (nI mi, nI mb, nI mv, sl, nI n, nI vc, nI bc, nI p, nI t, nI t, fs_F K, fs_F A, fs_F B, fs_F V, fs_F M, bf, wk, sr, lt, mk, sm, sF, sT) → wpY_layItem post (nI mi, nI mb, nI mv, sl, nI n, nI vc, nI bc, nI p, nI t, nI t, fs_F K, fs_F A, fs_F B, fs_F V, fs_F M, bf, wk, sr, lt, mk, sm, sF, sT) (nI e) 1)) := by
  have R0 := R
  obtain ⟨⟨b1, b2, b3, b4, b5, b6⟩, r1, r2, r3, r4, W, r6, r7, r8, r9, r10, r11, r12⟩ := R
  have hstk := (r12 rfl).1
  have hsealed := (r12 rfl).2
  have hn : n ≤ 32 := by omega
  have Y0 : fs_YS mb mv bc n K A B M := ⟨hn, b2, b3, b6, r2, r4, W, hstk⟩
  have Q0 := Q
  obtain ⟨q1, q2, q3, q4, I, X, VV, D, KK⟩ := Q
  have hwd := fs_wd W hi (by omega)
  have hB := fs_cB W hi hk
  have hST : fs_ST K A n i (i + 1) := Or.inl ⟨rfl, by omega⟩
  by_cases c : p + A i ≤ bc ∧ fs_nb M p (A i) = B i
  · refine Or.inr (Or.inl ⟨i + 1, p + A i, t, fs_u S i p, C, U, wv, sa, st, lf, cp, fs_w bf p (A i) (B i), wk, upd sr i (nI p), lt, mk, sm, sF, sT, fs_PQA W hn (by omega) hi (by omega) (by omega) hST (by omega) c.1 (fun _ => by omega) (fun h => by omega) hsealed ⟨by omega, by omega⟩ (fun _ _ => rfl) (fun h => by omega) (fun _ _ => rfl) (fun h => by omega) (fun q hq => Or.inl (fs_wout (Or.inl hq))) (fun q h1 h2 => Or.inl (by rw [← c.2]; exact fs_wnb r4 h1 h2)) Q0, fun post h => ?_, fun post h => ?_⟩)
    · exact xs_r2 r2 r4 (by omega) hk hwd.2 (by omega) (by omega) (fun _ _ => h) (fun z => absurd c z)
    · exact ys_const r2 (by omega) hk hwd.2 b2 (by omega) (fun _ => h) (fun z => by omega)
  · refine Or.inl ⟨fun post h => ?_, ?_⟩
    · exact xs_r2 r2 r4 (by omega) hk hwd.2 (by omega) (by omega) (fun d e => absurd ⟨d, e⟩ c) (fun _ => h)
    · by_cases d : p + A i ≤ mb
      · exact Or.inr ⟨i + 1, p + A i, t, fs_u S i p, C, fs_w bf p (A i) (B i), wk, upd sr i (nI p), lt, mk, sm, sF, sT, fs_PDw W hn b2 r4 hi (by omega) (by omega) (by omega) hST hB (fun _ => by omega) d c Q0, fun post h => ys_const r2 (by omega) hk hwd.2 b2 (by omega) (fun _ => h) (fun z => by omega)⟩
      · exact Or.inl (fun post h => ys_const r2 (by omega) hk hwd.2 b2 (by omega) (fun z => absurd z d) (fun _ => h))
theorem pr_3 (R : fs_Rel mi mb mv n vc bc 1 K A B V M oc pa rg eo nm op) (hi : i < n) (Q : fs_PQ mv bc K A B M n i p t S C U wv sa st lf cp bf wk sr lt mk sm sF sT) (hk : K i = 3) : ((∀ post : SX → Prop, (∀ (pc ps tk : Int32) (wb wv sa st lf cp si sf so : Nat → Int32), post (nI mi, nI mb, nI mv, nI n, oc, sl, nI vc, nI bc, pc, ps, tk, 1, fs_F K, fs_F A, fs_F B, pa, rg, eo, nm, op, fs_F V, fs_F M, wb, wv, sa, st, lf, cp, si, sf, so)) → wpX_readItem post (nI mi, nI mb, nI mv, nI n, oc, sl, nI vc, nI bc, nI i, nI p, nI t, 0, fs_F K, fs_F A, fs_F B, pa, rg, eo, nm, op, fs_F V, fs_F M, wb, wv, sa, st, lf, cp, si, sf, so)) ∧ ((∀ post : Int32 → SY → Prop, (∀ (ot tt wc : Int32) (bf wk sr lt mk sm sF sT : Nat → Int32), post (-1) (nI mi, nI mb, nI mv, sl, nI n, nI vc, nI bc, ot, tt, wc, fs_F K, fs_F A, fs_F B, fs_F V, fs_F M, bf, wk, sr, lt, mk, sm, sF, sT)) → wpY_layItem post (nI mi, nI mb, nI mv, sl, nI n, nI vc, nI bc, nI p, nI t, nI t, fs_F K, fs_F A, fs_F B, fs_F V, fs_F M, bf, wk, sr, lt, mk, sm, sF, sT) (nI i) 1)
    ∨ (∃ (i1 p1 t1 : Nat) (S1 C1 : Nat → Nat) (bf1 wk1 sr1 lt1 mk1 sm1 sF1 sT1 : Nat → Int32), (fs_m K i1 p1 < fs_m K i p ∧ fs_DQ mb mv bc K A B M n i1 p1 t1 S1 C1 bf1 sr1 mk1 sm1 sF1 sT1) ∧ (∀ post : Int32 → SY → Prop, post (nI i1) (nI mi, nI mb, nI mv, sl, nI n, nI vc, nI bc, nI p1, nI t1, nI t1, fs_F K, fs_F A, fs_F B, fs_F V, fs_F M, bf1, wk1, sr1, lt1, mk1, sm1, sF1, sT1) → wpY_layItem post (nI mi, nI mb, nI mv, sl, nI n, nI vc, nI bc, nI p, nI t, nI t, fs_F K, fs_F A, fs_F B, fs_F V, fs_F M, bf, wk, sr, lt, mk, sm, sF, sT) (nI i) 1))))
    ∨ (∃ (i1 p1 t1 : Nat) (S1 C1 U1 : Nat → Nat) (wv1 sa1 st1 lf1 cp1 bf1 wk1 sr1 lt1 mk1 sm1 sF1 sT1 : Nat → Int32), (fs_m K i1 p1 < fs_m K i p ∧ fs_PQ mv bc K A B M n i1 p1 t1 S1 C1 U1 wv1 sa1 st1 lf1 cp1 bf1 wk1 sr1 lt1 mk1 sm1 sF1 sT1) ∧ (∀ post : SX → Prop, post (nI mi, nI mb, nI mv, nI n, oc, sl, nI vc, nI bc, nI i1, nI p1, nI t1, 0, fs_F K, fs_F A, fs_F B, pa, rg, eo, nm, op, fs_F V, fs_F M, wb, wv1, sa1, st1, lf1, cp1, si, sf, so) → wpX_readItem post (nI mi, nI mb, nI mv, nI n, oc, sl, nI vc, nI bc, nI i, nI p, nI t, 0, fs_F K, fs_F A, fs_F B, pa, rg, eo, nm, op, fs_F V, fs_F M, wb, wv, sa, st, lf, cp, si, sf, so)) ∧ (∀ post : Int32 → SY → Prop, post (nI i1) (nI mi, nI mb, nI mv, sl, nI n, nI vc, nI bc, nI p1, nI t1, nI t1, fs_F K, fs_F A, fs_F B, fs_F V, fs_F M, bf1, wk1, sr1, lt1, mk1, sm1, sF1, sT1) → wpY_layItem post (nI mi, nI mb, nI mv, sl, nI n, nI vc, nI bc, nI p, nI t, nI t, fs_F K, fs_F A, fs_F B, fs_F V, fs_F M, bf, wk, sr, lt, mk, sm, sF, sT) (nI i) 1))
    ∨ (∃ e : Nat, fs_m K e p < fs_m K i p ∧ fs_m K (e + 1) p < fs_m K e p ∧ e < n ∧ fs_PQ mv bc K A B M n (e + 1) p t S C U wv sa st lf cp bf wk sr lt mk sm sF sT ∧ (∀ post : SX → Prop, post (nI mi, nI mb, nI mv, nI n, oc, sl, nI vc, nI bc, nI (e + 1), nI p, nI t, 0, fs_F K, fs_F A, fs_F B, pa, rg, eo, nm, op, fs_F V, fs_F M, wb, wv, sa, st, lf, cp, si, sf, so) → wpX_readItem post (nI mi, nI mb, nI mv, nI n, oc, sl, nI vc, nI bc, nI i, nI p, nI t, 0, fs_F K, fs_F A, fs_F B, pa, rg, eo, nm, op, fs_F V, fs_F M, wb, wv, sa, st, lf, cp, si, sf, so)) ∧ (∀ post : Int32 → SY → Prop, post (nI e) (nI mi, nI mb, nI mv, sl, nI n, nI vc, nI bc, nI p, nI t, nI t, fs_F K, fs_F A, fs_F B, fs_F V, fs_F M, bf, wk, sr, lt, mk, sm, sF, sT) → wpY_layItem post (nI mi, nI mb, nI mv, sl, nI n, nI vc, nI bc, nI p, nI t, nI t, fs_F K, fs_F A, fs_F B, fs_F V, fs_F M, bf, wk, sr, lt, mk, sm, sF, sT) (nI i) 1) ∧ (∀ post : Int32 → SY → Prop, post (nI (e + 1)) (nI mi, nI mb, nI mv, sl, nI n, nI vc, nI bc, nI p, nI t, nI t, fs_F K, fs_F A, fs_F B, fs_F V, fs_F M, bf, wk, sr, lt, mk, sm, sF, sT) → wpY_layItem post (nI mi, nI mb, nI mv, sl, nI n, nI vc, nI bc, nI p, nI t, nI t, fs_F K, fs_F A, fs_F B, fs_F V, fs_F M, bf, wk, sr, lt, mk, sm, sF, sT) (nI e) 1)) := by
  have R0 := R
  obtain ⟨⟨b1, b2, b3, b4, b5, b6⟩, r1, r2, r3, r4, W, r6, r7, r8, r9, r10, r11, r12⟩ := R
  have hstk := (r12 rfl).1
  have hsealed := (r12 rfl).2
  have hn : n ≤ 32 := by omega
  have Y0 : fs_YS mb mv bc n K A B M := ⟨hn, b2, b3, b6, r2, r4, W, hstk⟩
  have Q0 := Q
  obtain ⟨q1, q2, q3, q4, I, X, VV, D, KK⟩ := Q
  have hwd := fs_wd W hi (by omega)
  have hST : fs_ST K A n i (i + 1) := Or.inl ⟨rfl, by omega⟩
  by_cases c : p + A i ≤ bc
  · refine Or.inr (Or.inl ⟨i + 1, p + A i, t, fs_u S i p, C, U, wv, upd sa i (nI p), st, lf, cp, fs_w bf p (A i) 0, wk, upd sr i (nI p), lt, mk, sm, sF, sT, fs_PQA W hn (by omega) hi (by omega) (by omega) hST (by omega) c (fun _ => by omega) (fun _ => by omega) hsealed ⟨by omega, by omega⟩ (fun _ e => pk_un e) (fun _ => pk_us) (fun _ _ => rfl) (fun h => by omega) (fun q hq => Or.inl (fs_wout (Or.inl hq))) (fun q h1 h2 => Or.inr ⟨hk, h2⟩) Q0, fun post h => ?_, fun post h => ?_⟩)
    · exact xs_r3 r4 (by omega) hk hwd.2 (by omega) (by omega) (fun _ => h) (fun z => absurd c z)
    · exact ys_slot (by omega) hk hwd.2 b2 (by omega) (fun _ => h) (fun z => by omega)
  · refine Or.inl ⟨fun post h => ?_, ?_⟩
    · exact xs_r3 r4 (by omega) hk hwd.2 (by omega) (by omega) (fun d => absurd d c) (fun _ => h)
    · by_cases d : p + A i ≤ mb
      · exact Or.inr ⟨i + 1, p + A i, t, fs_u S i p, C, fs_w bf p (A i) 0, wk, upd sr i (nI p), lt, mk, sm, sF, sT, fs_PDs W hn b2 hi hk d c Q0, fun post h => ys_slot (by omega) hk hwd.2 b2 (by omega) (fun _ => h) (fun z => by omega)⟩
      · exact Or.inl (fun post h => ys_slot (by omega) hk hwd.2 b2 (by omega) (fun z => absurd z d) (fun _ => h))
theorem pr_4 (R : fs_Rel mi mb mv n vc bc 1 K A B V M oc pa rg eo nm op) (hi : i < n) (Q : fs_PQ mv bc K A B M n i p t S C U wv sa st lf cp bf wk sr lt mk sm sF sT) (hk : K i = 4) : ((∀ post : SX → Prop, (∀ (pc ps tk : Int32) (wb wv sa st lf cp si sf so : Nat → Int32), post (nI mi, nI mb, nI mv, nI n, oc, sl, nI vc, nI bc, pc, ps, tk, 1, fs_F K, fs_F A, fs_F B, pa, rg, eo, nm, op, fs_F V, fs_F M, wb, wv, sa, st, lf, cp, si, sf, so)) → wpX_readItem post (nI mi, nI mb, nI mv, nI n, oc, sl, nI vc, nI bc, nI i, nI p, nI t, 0, fs_F K, fs_F A, fs_F B, pa, rg, eo, nm, op, fs_F V, fs_F M, wb, wv, sa, st, lf, cp, si, sf, so)) ∧ ((∀ post : Int32 → SY → Prop, (∀ (ot tt wc : Int32) (bf wk sr lt mk sm sF sT : Nat → Int32), post (-1) (nI mi, nI mb, nI mv, sl, nI n, nI vc, nI bc, ot, tt, wc, fs_F K, fs_F A, fs_F B, fs_F V, fs_F M, bf, wk, sr, lt, mk, sm, sF, sT)) → wpY_layItem post (nI mi, nI mb, nI mv, sl, nI n, nI vc, nI bc, nI p, nI t, nI t, fs_F K, fs_F A, fs_F B, fs_F V, fs_F M, bf, wk, sr, lt, mk, sm, sF, sT) (nI i) 1)
    ∨ (∃ (i1 p1 t1 : Nat) (S1 C1 : Nat → Nat) (bf1 wk1 sr1 lt1 mk1 sm1 sF1 sT1 : Nat → Int32), (fs_m K i1 p1 < fs_m K i p ∧ fs_DQ mb mv bc K A B M n i1 p1 t1 S1 C1 bf1 sr1 mk1 sm1 sF1 sT1) ∧ (∀ post : Int32 → SY → Prop, post (nI i1) (nI mi, nI mb, nI mv, sl, nI n, nI vc, nI bc, nI p1, nI t1, nI t1, fs_F K, fs_F A, fs_F B, fs_F V, fs_F M, bf1, wk1, sr1, lt1, mk1, sm1, sF1, sT1) → wpY_layItem post (nI mi, nI mb, nI mv, sl, nI n, nI vc, nI bc, nI p, nI t, nI t, fs_F K, fs_F A, fs_F B, fs_F V, fs_F M, bf, wk, sr, lt, mk, sm, sF, sT) (nI i) 1))))
    ∨ (∃ (i1 p1 t1 : Nat) (S1 C1 U1 : Nat → Nat) (wv1 sa1 st1 lf1 cp1 bf1 wk1 sr1 lt1 mk1 sm1 sF1 sT1 : Nat → Int32), (fs_m K i1 p1 < fs_m K i p ∧ fs_PQ mv bc K A B M n i1 p1 t1 S1 C1 U1 wv1 sa1 st1 lf1 cp1 bf1 wk1 sr1 lt1 mk1 sm1 sF1 sT1) ∧ (∀ post : SX → Prop, post (nI mi, nI mb, nI mv, nI n, oc, sl, nI vc, nI bc, nI i1, nI p1, nI t1, 0, fs_F K, fs_F A, fs_F B, pa, rg, eo, nm, op, fs_F V, fs_F M, wb, wv1, sa1, st1, lf1, cp1, si, sf, so) → wpX_readItem post (nI mi, nI mb, nI mv, nI n, oc, sl, nI vc, nI bc, nI i, nI p, nI t, 0, fs_F K, fs_F A, fs_F B, pa, rg, eo, nm, op, fs_F V, fs_F M, wb, wv, sa, st, lf, cp, si, sf, so)) ∧ (∀ post : Int32 → SY → Prop, post (nI i1) (nI mi, nI mb, nI mv, sl, nI n, nI vc, nI bc, nI p1, nI t1, nI t1, fs_F K, fs_F A, fs_F B, fs_F V, fs_F M, bf1, wk1, sr1, lt1, mk1, sm1, sF1, sT1) → wpY_layItem post (nI mi, nI mb, nI mv, sl, nI n, nI vc, nI bc, nI p, nI t, nI t, fs_F K, fs_F A, fs_F B, fs_F V, fs_F M, bf, wk, sr, lt, mk, sm, sF, sT) (nI i) 1))
    ∨ (∃ e : Nat, fs_m K e p < fs_m K i p ∧ fs_m K (e + 1) p < fs_m K e p ∧ e < n ∧ fs_PQ mv bc K A B M n (e + 1) p t S C U wv sa st lf cp bf wk sr lt mk sm sF sT ∧ (∀ post : SX → Prop, post (nI mi, nI mb, nI mv, nI n, oc, sl, nI vc, nI bc, nI (e + 1), nI p, nI t, 0, fs_F K, fs_F A, fs_F B, pa, rg, eo, nm, op, fs_F V, fs_F M, wb, wv, sa, st, lf, cp, si, sf, so) → wpX_readItem post (nI mi, nI mb, nI mv, nI n, oc, sl, nI vc, nI bc, nI i, nI p, nI t, 0, fs_F K, fs_F A, fs_F B, pa, rg, eo, nm, op, fs_F V, fs_F M, wb, wv, sa, st, lf, cp, si, sf, so)) ∧ (∀ post : Int32 → SY → Prop, post (nI e) (nI mi, nI mb, nI mv, sl, nI n, nI vc, nI bc, nI p, nI t, nI t, fs_F K, fs_F A, fs_F B, fs_F V, fs_F M, bf, wk, sr, lt, mk, sm, sF, sT) → wpY_layItem post (nI mi, nI mb, nI mv, sl, nI n, nI vc, nI bc, nI p, nI t, nI t, fs_F K, fs_F A, fs_F B, fs_F V, fs_F M, bf, wk, sr, lt, mk, sm, sF, sT) (nI i) 1) ∧ (∀ post : Int32 → SY → Prop, post (nI (e + 1)) (nI mi, nI mb, nI mv, sl, nI n, nI vc, nI bc, nI p, nI t, nI t, fs_F K, fs_F A, fs_F B, fs_F V, fs_F M, bf, wk, sr, lt, mk, sm, sF, sT) → wpY_layItem post (nI mi, nI mb, nI mv, sl, nI n, nI vc, nI bc, nI p, nI t, nI t, fs_F K, fs_F A, fs_F B, fs_F V, fs_F M, bf, wk, sr, lt, mk, sm, sF, sT) (nI e) 1)) := by
  have R0 := R
  obtain ⟨⟨b1, b2, b3, b4, b5, b6⟩, r1, r2, r3, r4, W, r6, r7, r8, r9, r10, r11, r12⟩ := R
  have hstk := (r12 rfl).1
  have hsealed := (r12 rfl).2
  have hn : n ≤ 32 := by omega
  have Y0 : fs_YS mb mv bc n K A B M := ⟨hn, b2, b3, b6, r2, r4, W, hstk⟩
  have Q0 := Q
  obtain ⟨q1, q2, q3, q4, I, X, VV, D, KK⟩ := Q
  have hwd := fs_al W hi hk
  have hpl := fs_pad_lt (p := p) hwd.1
  have hST : fs_ST K A n i (i + 1) := Or.inl ⟨rfl, by omega⟩
  by_cases c : p + fs_pad (A i) p ≤ bc ∧ fs_nb M p (fs_pad (A i) p) = 0
  · refine Or.inr (Or.inl ⟨i + 1, p + fs_pad (A i) p, t, fs_u S i p, C, U, wv, sa, st, lf, cp, fs_w bf p (fs_pad (A i) p) 0, wk, upd sr i (nI p), lt, mk, sm, sF, sT, fs_PQA W hn (by omega) hi (by omega) (by omega) hST (by omega) c.1 (fun _ => by omega) (fun h => by omega) hsealed ⟨by omega, by omega⟩ (fun _ _ => rfl) (fun h => by omega) (fun _ _ => rfl) (fun h => by omega) (fun q hq => Or.inl (fs_wout (Or.inl hq))) (fun q h1 h2 => Or.inl (by have := fs_wnb (bf := bf) r4 h1 h2; rw [c.2] at this; exact this)) Q0, fun post h => ?_, fun post h => ?_⟩)
    · exact xs_r4 r4 (by omega) hk hwd.1 hwd.2 (by omega) (by omega) (fun _ _ => h) (fun z => absurd c z)
    · exact ys_align (by omega) hk hwd.1 hwd.2 b2 (by omega) (fun _ => h) (fun z => by omega)
  · refine Or.inl ⟨fun post h => ?_, ?_⟩
    · exact xs_r4 r4 (by omega) hk hwd.1 hwd.2 (by omega) (by omega) (fun d e => absurd ⟨d, e⟩ c) (fun _ => h)
    · by_cases d : p + fs_pad (A i) p ≤ mb
      · exact Or.inr ⟨i + 1, p + fs_pad (A i) p, t, fs_u S i p, C, fs_w bf p (fs_pad (A i) p) 0, wk, upd sr i (nI p), lt, mk, sm, sF, sT, fs_PDw W hn b2 r4 hi (by omega) (by omega) (by omega) hST (Nat.two_pow_pos _) (fun _ => by omega) d c Q0, fun post h => ys_align (by omega) hk hwd.1 hwd.2 b2 (by omega) (fun _ => h) (fun z => by omega)⟩
      · exact Or.inl (fun post h => ys_align (by omega) hk hwd.1 hwd.2 b2 (by omega) (fun z => absurd z d) (fun _ => h))
theorem pr_5 (R : fs_Rel mi mb mv n vc bc 1 K A B V M oc pa rg eo nm op) (hi : i < n) (Q : fs_PQ mv bc K A B M n i p t S C U wv sa st lf cp bf wk sr lt mk sm sF sT) (hk : K i = 5 ∨ K i = 6) : ((∀ post : SX → Prop, (∀ (pc ps tk : Int32) (wb wv sa st lf cp si sf so : Nat → Int32), post (nI mi, nI mb, nI mv, nI n, oc, sl, nI vc, nI bc, pc, ps, tk, 1, fs_F K, fs_F A, fs_F B, pa, rg, eo, nm, op, fs_F V, fs_F M, wb, wv, sa, st, lf, cp, si, sf, so)) → wpX_readItem post (nI mi, nI mb, nI mv, nI n, oc, sl, nI vc, nI bc, nI i, nI p, nI t, 0, fs_F K, fs_F A, fs_F B, pa, rg, eo, nm, op, fs_F V, fs_F M, wb, wv, sa, st, lf, cp, si, sf, so)) ∧ ((∀ post : Int32 → SY → Prop, (∀ (ot tt wc : Int32) (bf wk sr lt mk sm sF sT : Nat → Int32), post (-1) (nI mi, nI mb, nI mv, sl, nI n, nI vc, nI bc, ot, tt, wc, fs_F K, fs_F A, fs_F B, fs_F V, fs_F M, bf, wk, sr, lt, mk, sm, sF, sT)) → wpY_layItem post (nI mi, nI mb, nI mv, sl, nI n, nI vc, nI bc, nI p, nI t, nI t, fs_F K, fs_F A, fs_F B, fs_F V, fs_F M, bf, wk, sr, lt, mk, sm, sF, sT) (nI i) 1)
    ∨ (∃ (i1 p1 t1 : Nat) (S1 C1 : Nat → Nat) (bf1 wk1 sr1 lt1 mk1 sm1 sF1 sT1 : Nat → Int32), (fs_m K i1 p1 < fs_m K i p ∧ fs_DQ mb mv bc K A B M n i1 p1 t1 S1 C1 bf1 sr1 mk1 sm1 sF1 sT1) ∧ (∀ post : Int32 → SY → Prop, post (nI i1) (nI mi, nI mb, nI mv, sl, nI n, nI vc, nI bc, nI p1, nI t1, nI t1, fs_F K, fs_F A, fs_F B, fs_F V, fs_F M, bf1, wk1, sr1, lt1, mk1, sm1, sF1, sT1) → wpY_layItem post (nI mi, nI mb, nI mv, sl, nI n, nI vc, nI bc, nI p, nI t, nI t, fs_F K, fs_F A, fs_F B, fs_F V, fs_F M, bf, wk, sr, lt, mk, sm, sF, sT) (nI i) 1))))
    ∨ (∃ (i1 p1 t1 : Nat) (S1 C1 U1 : Nat → Nat) (wv1 sa1 st1 lf1 cp1 bf1 wk1 sr1 lt1 mk1 sm1 sF1 sT1 : Nat → Int32), (fs_m K i1 p1 < fs_m K i p ∧ fs_PQ mv bc K A B M n i1 p1 t1 S1 C1 U1 wv1 sa1 st1 lf1 cp1 bf1 wk1 sr1 lt1 mk1 sm1 sF1 sT1) ∧ (∀ post : SX → Prop, post (nI mi, nI mb, nI mv, nI n, oc, sl, nI vc, nI bc, nI i1, nI p1, nI t1, 0, fs_F K, fs_F A, fs_F B, pa, rg, eo, nm, op, fs_F V, fs_F M, wb, wv1, sa1, st1, lf1, cp1, si, sf, so) → wpX_readItem post (nI mi, nI mb, nI mv, nI n, oc, sl, nI vc, nI bc, nI i, nI p, nI t, 0, fs_F K, fs_F A, fs_F B, pa, rg, eo, nm, op, fs_F V, fs_F M, wb, wv, sa, st, lf, cp, si, sf, so)) ∧ (∀ post : Int32 → SY → Prop, post (nI i1) (nI mi, nI mb, nI mv, sl, nI n, nI vc, nI bc, nI p1, nI t1, nI t1, fs_F K, fs_F A, fs_F B, fs_F V, fs_F M, bf1, wk1, sr1, lt1, mk1, sm1, sF1, sT1) → wpY_layItem post (nI mi, nI mb, nI mv, sl, nI n, nI vc, nI bc, nI p, nI t, nI t, fs_F K, fs_F A, fs_F B, fs_F V, fs_F M, bf, wk, sr, lt, mk, sm, sF, sT) (nI i) 1))
    ∨ (∃ e : Nat, fs_m K e p < fs_m K i p ∧ fs_m K (e + 1) p < fs_m K e p ∧ e < n ∧ fs_PQ mv bc K A B M n (e + 1) p t S C U wv sa st lf cp bf wk sr lt mk sm sF sT ∧ (∀ post : SX → Prop, post (nI mi, nI mb, nI mv, nI n, oc, sl, nI vc, nI bc, nI (e + 1), nI p, nI t, 0, fs_F K, fs_F A, fs_F B, pa, rg, eo, nm, op, fs_F V, fs_F M, wb, wv, sa, st, lf, cp, si, sf, so) → wpX_readItem post (nI mi, nI mb, nI mv, nI n, oc, sl, nI vc, nI bc, nI i, nI p, nI t, 0, fs_F K, fs_F A, fs_F B, pa, rg, eo, nm, op, fs_F V, fs_F M, wb, wv, sa, st, lf, cp, si, sf, so)) ∧ (∀ post : Int32 → SY → Prop, post (nI e) (nI mi, nI mb, nI mv, sl, nI n, nI vc, nI bc, nI p, nI t, nI t, fs_F K, fs_F A, fs_F B, fs_F V, fs_F M, bf, wk, sr, lt, mk, sm, sF, sT) → wpY_layItem post (nI mi, nI mb, nI mv, sl, nI n, nI vc, nI bc, nI p, nI t, nI t, fs_F K, fs_F A, fs_F B, fs_F V, fs_F M, bf, wk, sr, lt, mk, sm, sF, sT) (nI i) 1) ∧ (∀ post : Int32 → SY → Prop, post (nI (e + 1)) (nI mi, nI mb, nI mv, sl, nI n, nI vc, nI bc, nI p, nI t, nI t, fs_F K, fs_F A, fs_F B, fs_F V, fs_F M, bf, wk, sr, lt, mk, sm, sF, sT) → wpY_layItem post (nI mi, nI mb, nI mv, sl, nI n, nI vc, nI bc, nI p, nI t, nI t, fs_F K, fs_F A, fs_F B, fs_F V, fs_F M, bf, wk, sr, lt, mk, sm, sF, sT) (nI e) 1)) := by
  have R0 := R
  obtain ⟨⟨b1, b2, b3, b4, b5, b6⟩, r1, r2, r3, r4, W, r6, r7, r8, r9, r10, r11, r12⟩ := R
  have hstk := (r12 rfl).1
  have hsealed := (r12 rfl).2
  have hn : n ≤ 32 := by omega
  have Y0 : fs_YS mb mv bc n K A B M := ⟨hn, b2, b3, b6, r2, r4, W, hstk⟩
  have Q0 := Q
  obtain ⟨q1, q2, q3, q4, I, X, VV, D, KK⟩ := Q
  have hST : fs_ST K A n i (i + 1) := Or.inl ⟨rfl, by omega⟩
  refine Or.inr (Or.inl ⟨i + 1, p, t, fs_u S i p, C, U, wv, sa, upd st i (nI p), lf, cp, bf, wk, upd sr i (nI p), lt, mk, sm, sF, sT, fs_PQA W hn (by omega) hi (by omega) (by omega) hST (by omega) q3 (fun _ => by omega) (fun h => by omega) hsealed ⟨by omega, by omega⟩ (fun _ _ => rfl) (fun h => by omega) (fun _ e => pk_un e) (fun _ => pk_us) (fun q hq => Or.inl rfl) (fun q h1 h2 => by omega) Q0, fun post h => ?_, fun post h => ?_⟩)
  · exact xs_r5 (by omega) hk h
  · exact ys_open (by omega) hk h
theorem pr_7 (R : fs_Rel mi mb mv n vc bc 1 K A B V M oc pa rg eo nm op) (hi : i < n) (Q : fs_PQ mv bc K A B M n i p t S C U wv sa st lf cp bf wk sr lt mk sm sF sT) (hk : K i = 7) : ((∀ post : SX → Prop, (∀ (pc ps tk : Int32) (wb wv sa st lf cp si sf so : Nat → Int32), post (nI mi, nI mb, nI mv, nI n, oc, sl, nI vc, nI bc, pc, ps, tk, 1, fs_F K, fs_F A, fs_F B, pa, rg, eo, nm, op, fs_F V, fs_F M, wb, wv, sa, st, lf, cp, si, sf, so)) → wpX_readItem post (nI mi, nI mb, nI mv, nI n, oc, sl, nI vc, nI bc, nI i, nI p, nI t, 0, fs_F K, fs_F A, fs_F B, pa, rg, eo, nm, op, fs_F V, fs_F M, wb, wv, sa, st, lf, cp, si, sf, so)) ∧ ((∀ post : Int32 → SY → Prop, (∀ (ot tt wc : Int32) (bf wk sr lt mk sm sF sT : Nat → Int32), post (-1) (nI mi, nI mb, nI mv, sl, nI n, nI vc, nI bc, ot, tt, wc, fs_F K, fs_F A, fs_F B, fs_F V, fs_F M, bf, wk, sr, lt, mk, sm, sF, sT)) → wpY_layItem post (nI mi, nI mb, nI mv, sl, nI n, nI vc, nI bc, nI p, nI t, nI t, fs_F K, fs_F A, fs_F B, fs_F V, fs_F M, bf, wk, sr, lt, mk, sm, sF, sT) (nI i) 1)
    ∨ (∃ (i1 p1 t1 : Nat) (S1 C1 : Nat → Nat) (bf1 wk1 sr1 lt1 mk1 sm1 sF1 sT1 : Nat → Int32), (fs_m K i1 p1 < fs_m K i p ∧ fs_DQ mb mv bc K A B M n i1 p1 t1 S1 C1 bf1 sr1 mk1 sm1 sF1 sT1) ∧ (∀ post : Int32 → SY → Prop, post (nI i1) (nI mi, nI mb, nI mv, sl, nI n, nI vc, nI bc, nI p1, nI t1, nI t1, fs_F K, fs_F A, fs_F B, fs_F V, fs_F M, bf1, wk1, sr1, lt1, mk1, sm1, sF1, sT1) → wpY_layItem post (nI mi, nI mb, nI mv, sl, nI n, nI vc, nI bc, nI p, nI t, nI t, fs_F K, fs_F A, fs_F B, fs_F V, fs_F M, bf, wk, sr, lt, mk, sm, sF, sT) (nI i) 1))))
    ∨ (∃ (i1 p1 t1 : Nat) (S1 C1 U1 : Nat → Nat) (wv1 sa1 st1 lf1 cp1 bf1 wk1 sr1 lt1 mk1 sm1 sF1 sT1 : Nat → Int32), (fs_m K i1 p1 < fs_m K i p ∧ fs_PQ mv bc K A B M n i1 p1 t1 S1 C1 U1 wv1 sa1 st1 lf1 cp1 bf1 wk1 sr1 lt1 mk1 sm1 sF1 sT1) ∧ (∀ post : SX → Prop, post (nI mi, nI mb, nI mv, nI n, oc, sl, nI vc, nI bc, nI i1, nI p1, nI t1, 0, fs_F K, fs_F A, fs_F B, pa, rg, eo, nm, op, fs_F V, fs_F M, wb, wv1, sa1, st1, lf1, cp1, si, sf, so) → wpX_readItem post (nI mi, nI mb, nI mv, nI n, oc, sl, nI vc, nI bc, nI i, nI p, nI t, 0, fs_F K, fs_F A, fs_F B, pa, rg, eo, nm, op, fs_F V, fs_F M, wb, wv, sa, st, lf, cp, si, sf, so)) ∧ (∀ post : Int32 → SY → Prop, post (nI i1) (nI mi, nI mb, nI mv, sl, nI n, nI vc, nI bc, nI p1, nI t1, nI t1, fs_F K, fs_F A, fs_F B, fs_F V, fs_F M, bf1, wk1, sr1, lt1, mk1, sm1, sF1, sT1) → wpY_layItem post (nI mi, nI mb, nI mv, sl, nI n, nI vc, nI bc, nI p, nI t, nI t, fs_F K, fs_F A, fs_F B, fs_F V, fs_F M, bf, wk, sr, lt, mk, sm, sF, sT) (nI i) 1))
    ∨ (∃ e : Nat, fs_m K e p < fs_m K i p ∧ fs_m K (e + 1) p < fs_m K e p ∧ e < n ∧ fs_PQ mv bc K A B M n (e + 1) p t S C U wv sa st lf cp bf wk sr lt mk sm sF sT ∧ (∀ post : SX → Prop, post (nI mi, nI mb, nI mv, nI n, oc, sl, nI vc, nI bc, nI (e + 1), nI p, nI t, 0, fs_F K, fs_F A, fs_F B, pa, rg, eo, nm, op, fs_F V, fs_F M, wb, wv, sa, st, lf, cp, si, sf, so) → wpX_readItem post (nI mi, nI mb, nI mv, nI n, oc, sl, nI vc, nI bc, nI i, nI p, nI t, 0, fs_F K, fs_F A, fs_F B, pa, rg, eo, nm, op, fs_F V, fs_F M, wb, wv, sa, st, lf, cp, si, sf, so)) ∧ (∀ post : Int32 → SY → Prop, post (nI e) (nI mi, nI mb, nI mv, sl, nI n, nI vc, nI bc, nI p, nI t, nI t, fs_F K, fs_F A, fs_F B, fs_F V, fs_F M, bf, wk, sr, lt, mk, sm, sF, sT) → wpY_layItem post (nI mi, nI mb, nI mv, sl, nI n, nI vc, nI bc, nI p, nI t, nI t, fs_F K, fs_F A, fs_F B, fs_F V, fs_F M, bf, wk, sr, lt, mk, sm, sF, sT) (nI i) 1) ∧ (∀ post : Int32 → SY → Prop, post (nI (e + 1)) (nI mi, nI mb, nI mv, sl, nI n, nI vc, nI bc, nI p, nI t, nI t, fs_F K, fs_F A, fs_F B, fs_F V, fs_F M, bf, wk, sr, lt, mk, sm, sF, sT) → wpY_layItem post (nI mi, nI mb, nI mv, sl, nI n, nI vc, nI bc, nI p, nI t, nI t, fs_F K, fs_F A, fs_F B, fs_F V, fs_F M, bf, wk, sr, lt, mk, sm, sF, sT) (nI e) 1)) := by
  have R0 := R
  obtain ⟨⟨b1, b2, b3, b4, b5, b6⟩, r1, r2, r3, r4, W, r6, r7, r8, r9, r10, r11, r12⟩ := R
  have hstk := (r12 rfl).1
  have hsealed := (r12 rfl).2
  have hn : n ≤ 32 := by omega
  have Y0 : fs_YS mb mv bc n K A B M := ⟨hn, b2, b3, b6, r2, r4, W, hstk⟩
  have Q0 := Q
  obtain ⟨q1, q2, q3, q4, I, X, VV, D, KK⟩ := Q
  have hna : fs_nam (K i) := Or.inr (Or.inr (Or.inl hk))
  have hnm := fs_nm W hi hna
  have hwd := fs_wd W (i := A i) (by omega) (by omega)
  have hpd : fs_pd K A i i := ⟨hnm.1, Or.inl (Nat.le_refl i)⟩
  obtain ⟨y1, y2⟩ := I.1 i hi hna hpd
  have y3 := X.1 i hi hna hpd
  obtain ⟨e, he, hke, hAe⟩ := fs_ex W hstk hi (by omega) (by omega)
  have heo : eo i = nI e := by have := r10 e he hke; rw [hAe] at this; exact this
  have hp16 := fs_p16 hwd.2
  have hnb : fs_nb M (S (A i)) (A (A i)) < 2 ^ A (A i) := fs_nb_lt (fun j _ => r4 _)
  by_cases c : t < mv
  · have go : ∀ i1, fs_ST K A n i i1 → (fs_nb M (S (A i)) (A (A i)) = 0 ∧ i1 = e + 1) ∨ (0 < fs_nb M (S (A i)) (A (A i)) ∧ i1 = i + 1) → ((∀ post : SX → Prop, (∀ (pc ps tk : Int32) (wb wv sa st lf cp si sf so : Nat → Int32), post (nI mi, nI mb, nI mv, nI n, oc, sl, nI vc, nI bc, pc, ps, tk, 1, fs_F K, fs_F A, fs_F B, pa, rg, eo, nm, op, fs_F V, fs_F M, wb, wv, sa, st, lf, cp, si, sf, so)) → wpX_readItem post (nI mi, nI mb, nI mv, nI n, oc, sl, nI vc, nI bc, nI i, nI p, nI t, 0, fs_F K, fs_F A, fs_F B, pa, rg, eo, nm, op, fs_F V, fs_F M, wb, wv, sa, st, lf, cp, si, sf, so)) ∧ ((∀ post : Int32 → SY → Prop, (∀ (ot tt wc : Int32) (bf wk sr lt mk sm sF sT : Nat → Int32), post (-1) (nI mi, nI mb, nI mv, sl, nI n, nI vc, nI bc, ot, tt, wc, fs_F K, fs_F A, fs_F B, fs_F V, fs_F M, bf, wk, sr, lt, mk, sm, sF, sT)) → wpY_layItem post (nI mi, nI mb, nI mv, sl, nI n, nI vc, nI bc, nI p, nI t, nI t, fs_F K, fs_F A, fs_F B, fs_F V, fs_F M, bf, wk, sr, lt, mk, sm, sF, sT) (nI i) 1)
    ∨ (∃ (i1 p1 t1 : Nat) (S1 C1 : Nat → Nat) (bf1 wk1 sr1 lt1 mk1 sm1 sF1 sT1 : Nat → Int32), (fs_m K i1 p1 < fs_m K i p ∧ fs_DQ mb mv bc K A B M n i1 p1 t1 S1 C1 bf1 sr1 mk1 sm1 sF1 sT1) ∧ (∀ post : Int32 → SY → Prop, post (nI i1) (nI mi, nI mb, nI mv, sl, nI n, nI vc, nI bc, nI p1, nI t1, nI t1, fs_F K, fs_F A, fs_F B, fs_F V, fs_F M, bf1, wk1, sr1, lt1, mk1, sm1, sF1, sT1) → wpY_layItem post (nI mi, nI mb, nI mv, sl, nI n, nI vc, nI bc, nI p, nI t, nI t, fs_F K, fs_F A, fs_F B, fs_F V, fs_F M, bf, wk, sr, lt, mk, sm, sF, sT) (nI i) 1))))
    ∨ (∃ (i1 p1 t1 : Nat) (S1 C1 U1 : Nat → Nat) (wv1 sa1 st1 lf1 cp1 bf1 wk1 sr1 lt1 mk1 sm1 sF1 sT1 : Nat → Int32), (fs_m K i1 p1 < fs_m K i p ∧ fs_PQ mv bc K A B M n i1 p1 t1 S1 C1 U1 wv1 sa1 st1 lf1 cp1 bf1 wk1 sr1 lt1 mk1 sm1 sF1 sT1) ∧ (∀ post : SX → Prop, post (nI mi, nI mb, nI mv, nI n, oc, sl, nI vc, nI bc, nI i1, nI p1, nI t1, 0, fs_F K, fs_F A, fs_F B, pa, rg, eo, nm, op, fs_F V, fs_F M, wb, wv1, sa1, st1, lf1, cp1, si, sf, so) → wpX_readItem post (nI mi, nI mb, nI mv, nI n, oc, sl, nI vc, nI bc, nI i, nI p, nI t, 0, fs_F K, fs_F A, fs_F B, pa, rg, eo, nm, op, fs_F V, fs_F M, wb, wv, sa, st, lf, cp, si, sf, so)) ∧ (∀ post : Int32 → SY → Prop, post (nI i1) (nI mi, nI mb, nI mv, sl, nI n, nI vc, nI bc, nI p1, nI t1, nI t1, fs_F K, fs_F A, fs_F B, fs_F V, fs_F M, bf1, wk1, sr1, lt1, mk1, sm1, sF1, sT1) → wpY_layItem post (nI mi, nI mb, nI mv, sl, nI n, nI vc, nI bc, nI p, nI t, nI t, fs_F K, fs_F A, fs_F B, fs_F V, fs_F M, bf, wk, sr, lt, mk, sm, sF, sT) (nI i) 1))
    ∨ (∃ e : Nat, fs_m K e p < fs_m K i p ∧ fs_m K (e + 1) p < fs_m K e p ∧ e < n ∧ fs_PQ mv bc K A B M n (e + 1) p t S C U wv sa st lf cp bf wk sr lt mk sm sF sT ∧ (∀ post : SX → Prop, post (nI mi, nI mb, nI mv, nI n, oc, sl, nI vc, nI bc, nI (e + 1), nI p, nI t, 0, fs_F K, fs_F A, fs_F B, pa, rg, eo, nm, op, fs_F V, fs_F M, wb, wv, sa, st, lf, cp, si, sf, so) → wpX_readItem post (nI mi, nI mb, nI mv, nI n, oc, sl, nI vc, nI bc, nI i, nI p, nI t, 0, fs_F K, fs_F A, fs_F B, pa, rg, eo, nm, op, fs_F V, fs_F M, wb, wv, sa, st, lf, cp, si, sf, so)) ∧ (∀ post : Int32 → SY → Prop, post (nI e) (nI mi, nI mb, nI mv, sl, nI n, nI vc, nI bc, nI p, nI t, nI t, fs_F K, fs_F A, fs_F B, fs_F V, fs_F M, bf, wk, sr, lt, mk, sm, sF, sT) → wpY_layItem post (nI mi, nI mb, nI mv, sl, nI n, nI vc, nI bc, nI p, nI t, nI t, fs_F K, fs_F A, fs_F B, fs_F V, fs_F M, bf, wk, sr, lt, mk, sm, sF, sT) (nI i) 1) ∧ (∀ post : Int32 → SY → Prop, post (nI (e + 1)) (nI mi, nI mb, nI mv, sl, nI n, nI vc, nI bc, nI p, nI t, nI t, fs_F K, fs_F A, fs_F B, fs_F V, fs_F M, bf, wk, sr, lt, mk, sm, sF, sT) → wpY_layItem post (nI mi, nI mb, nI mv, sl, nI n, nI vc, nI bc, nI p, nI t, nI t, fs_F K, fs_F A, fs_F B, fs_F V, fs_F M, bf, wk, sr, lt, mk, sm, sF, sT) (nI e) 1)) := by
      intro i1 hST hj
      refine Or.inr (Or.inl ⟨i1, p, t + 1, fs_u S i p, fs_u C i t, _, upd wv t (nI (fs_nb M (S (A i)) (A (A i)))), sa, st, upd lf i (nI (fs_nb M (S (A i)) (A (A i)))), cp, fs_w bf (S (A i)) (A (A i)) (fs_nb M (S (A i)) (A (A i))), upd wk t (nI (fs_nb M (S (A i)) (A (A i)))), upd sr i (nI p), upd lt i (nI (fs_nb M (S (A i)) (A (A i)))), upd mk i (nI t), sm, sF, sT, fs_PQV W hn (by omega) hi (by omega) (by omega) (by omega) hST (by omega) q3 (fun _ => by omega) c hsealed (fun _ e => pk_un e) (fun _ e => pk_un e) (fun _ => by rw [pk_us, pk_us]) (fun _ _ => rfl) (fun h => by omega) (fun q hq => ?_) (fun _ q h1 h2 => fs_wnb r4 h1 h2) (fun q h1 h2 => by omega) (by omega) (Or.inr ⟨fun z => by omega, rfl⟩) Q0, fun post h => ?_, fun post h => ?_⟩)
      · by_cases d : S (A i) ≤ q ∧ q < S (A i) + A (A i)
        · exact Or.inr (fs_wnb r4 d.1 d.2)
        · exact Or.inl (fs_wout (by omega))
      · refine xs_r79 (q := S (A i)) r4 hn r2 r8 hi (Or.inl hk) b3 (by omega) (by omega) y3 hwd.2 (by omega) (fun _ _ => ?_) (fun h => by omega) (fun h => by omega)
        rcases hj with ⟨z, rfl⟩ | ⟨z, rfl⟩
        · exact xs_loop (by omega) (by omega) heo (fun _ => h) (fun z' => by omega)
        · exact xs_loop (by omega) (by omega) heo (fun z' => by omega) (fun _ => h)
      · rcases hj with ⟨z, rfl⟩ | ⟨z, rfl⟩
        · exact yg_7 W hn r2 r4 (by omega) hk (by omega) (by omega) y1 hwd.1 hwd.2 (by omega) (by omega) b3 q4 he hke hAe (fun _ _ z' => by omega) (fun _ _ _ => h) (fun z => absurd ⟨by omega, c⟩ z)
        · exact yg_7 W hn r2 r4 (by omega) hk (by omega) (by omega) y1 hwd.1 hwd.2 (by omega) (by omega) b3 q4 he hke hAe (fun _ _ _ => h) (fun _ _ z' => by omega) (fun z => absurd ⟨by omega, c⟩ z)
    by_cases z : fs_nb M (S (A i)) (A (A i)) = 0
    · exact go (e + 1) (Or.inr (Or.inr (Or.inl ⟨e, rfl, Or.inl hk, he, hke, hAe⟩))) (Or.inl ⟨z, rfl⟩)
    · exact go (i + 1) (Or.inl ⟨rfl, by omega⟩) (Or.inr ⟨by omega, rfl⟩)
  · refine Or.inl ⟨fun post h => ?_, Or.inl (fun post h => ?_)⟩
    · exact xs_r79 (q := S (A i)) r4 hn r2 r8 hi (Or.inl hk) b3 (by omega) (by omega) y3 hwd.2 (by omega) (fun _ z => absurd z c) (fun h => by omega) (fun _ => h)
    · exact yg_7 W hn r2 r4 (by omega) hk (by omega) (by omega) y1 hwd.1 hwd.2 (by omega) (by omega) b3 q4 he hke hAe (fun _ z _ => absurd z c) (fun _ z _ => absurd z c) (fun _ => h)
theorem pr_9 (R : fs_Rel mi mb mv n vc bc 1 K A B V M oc pa rg eo nm op) (hi : i < n) (Q : fs_PQ mv bc K A B M n i p t S C U wv sa st lf cp bf wk sr lt mk sm sF sT) (hk : K i = 9) : ((∀ post : SX → Prop, (∀ (pc ps tk : Int32) (wb wv sa st lf cp si sf so : Nat → Int32), post (nI mi, nI mb, nI mv, nI n, oc, sl, nI vc, nI bc, pc, ps, tk, 1, fs_F K, fs_F A, fs_F B, pa, rg, eo, nm, op, fs_F V, fs_F M, wb, wv, sa, st, lf, cp, si, sf, so)) → wpX_readItem post (nI mi, nI mb, nI mv, nI n, oc, sl, nI vc, nI bc, nI i, nI p, nI t, 0, fs_F K, fs_F A, fs_F B, pa, rg, eo, nm, op, fs_F V, fs_F M, wb, wv, sa, st, lf, cp, si, sf, so)) ∧ ((∀ post : Int32 → SY → Prop, (∀ (ot tt wc : Int32) (bf wk sr lt mk sm sF sT : Nat → Int32), post (-1) (nI mi, nI mb, nI mv, sl, nI n, nI vc, nI bc, ot, tt, wc, fs_F K, fs_F A, fs_F B, fs_F V, fs_F M, bf, wk, sr, lt, mk, sm, sF, sT)) → wpY_layItem post (nI mi, nI mb, nI mv, sl, nI n, nI vc, nI bc, nI p, nI t, nI t, fs_F K, fs_F A, fs_F B, fs_F V, fs_F M, bf, wk, sr, lt, mk, sm, sF, sT) (nI i) 1)
    ∨ (∃ (i1 p1 t1 : Nat) (S1 C1 : Nat → Nat) (bf1 wk1 sr1 lt1 mk1 sm1 sF1 sT1 : Nat → Int32), (fs_m K i1 p1 < fs_m K i p ∧ fs_DQ mb mv bc K A B M n i1 p1 t1 S1 C1 bf1 sr1 mk1 sm1 sF1 sT1) ∧ (∀ post : Int32 → SY → Prop, post (nI i1) (nI mi, nI mb, nI mv, sl, nI n, nI vc, nI bc, nI p1, nI t1, nI t1, fs_F K, fs_F A, fs_F B, fs_F V, fs_F M, bf1, wk1, sr1, lt1, mk1, sm1, sF1, sT1) → wpY_layItem post (nI mi, nI mb, nI mv, sl, nI n, nI vc, nI bc, nI p, nI t, nI t, fs_F K, fs_F A, fs_F B, fs_F V, fs_F M, bf, wk, sr, lt, mk, sm, sF, sT) (nI i) 1))))
    ∨ (∃ (i1 p1 t1 : Nat) (S1 C1 U1 : Nat → Nat) (wv1 sa1 st1 lf1 cp1 bf1 wk1 sr1 lt1 mk1 sm1 sF1 sT1 : Nat → Int32), (fs_m K i1 p1 < fs_m K i p ∧ fs_PQ mv bc K A B M n i1 p1 t1 S1 C1 U1 wv1 sa1 st1 lf1 cp1 bf1 wk1 sr1 lt1 mk1 sm1 sF1 sT1) ∧ (∀ post : SX → Prop, post (nI mi, nI mb, nI mv, nI n, oc, sl, nI vc, nI bc, nI i1, nI p1, nI t1, 0, fs_F K, fs_F A, fs_F B, pa, rg, eo, nm, op, fs_F V, fs_F M, wb, wv1, sa1, st1, lf1, cp1, si, sf, so) → wpX_readItem post (nI mi, nI mb, nI mv, nI n, oc, sl, nI vc, nI bc, nI i, nI p, nI t, 0, fs_F K, fs_F A, fs_F B, pa, rg, eo, nm, op, fs_F V, fs_F M, wb, wv, sa, st, lf, cp, si, sf, so)) ∧ (∀ post : Int32 → SY → Prop, post (nI i1) (nI mi, nI mb, nI mv, sl, nI n, nI vc, nI bc, nI p1, nI t1, nI t1, fs_F K, fs_F A, fs_F B, fs_F V, fs_F M, bf1, wk1, sr1, lt1, mk1, sm1, sF1, sT1) → wpY_layItem post (nI mi, nI mb, nI mv, sl, nI n, nI vc, nI bc, nI p, nI t, nI t, fs_F K, fs_F A, fs_F B, fs_F V, fs_F M, bf, wk, sr, lt, mk, sm, sF, sT) (nI i) 1))
    ∨ (∃ e : Nat, fs_m K e p < fs_m K i p ∧ fs_m K (e + 1) p < fs_m K e p ∧ e < n ∧ fs_PQ mv bc K A B M n (e + 1) p t S C U wv sa st lf cp bf wk sr lt mk sm sF sT ∧ (∀ post : SX → Prop, post (nI mi, nI mb, nI mv, nI n, oc, sl, nI vc, nI bc, nI (e + 1), nI p, nI t, 0, fs_F K, fs_F A, fs_F B, pa, rg, eo, nm, op, fs_F V, fs_F M, wb, wv, sa, st, lf, cp, si, sf, so) → wpX_readItem post (nI mi, nI mb, nI mv, nI n, oc, sl, nI vc, nI bc, nI i, nI p, nI t, 0, fs_F K, fs_F A, fs_F B, pa, rg, eo, nm, op, fs_F V, fs_F M, wb, wv, sa, st, lf, cp, si, sf, so)) ∧ (∀ post : Int32 → SY → Prop, post (nI e) (nI mi, nI mb, nI mv, sl, nI n, nI vc, nI bc, nI p, nI t, nI t, fs_F K, fs_F A, fs_F B, fs_F V, fs_F M, bf, wk, sr, lt, mk, sm, sF, sT) → wpY_layItem post (nI mi, nI mb, nI mv, sl, nI n, nI vc, nI bc, nI p, nI t, nI t, fs_F K, fs_F A, fs_F B, fs_F V, fs_F M, bf, wk, sr, lt, mk, sm, sF, sT) (nI i) 1) ∧ (∀ post : Int32 → SY → Prop, post (nI (e + 1)) (nI mi, nI mb, nI mv, sl, nI n, nI vc, nI bc, nI p, nI t, nI t, fs_F K, fs_F A, fs_F B, fs_F V, fs_F M, bf, wk, sr, lt, mk, sm, sF, sT) → wpY_layItem post (nI mi, nI mb, nI mv, sl, nI n, nI vc, nI bc, nI p, nI t, nI t, fs_F K, fs_F A, fs_F B, fs_F V, fs_F M, bf, wk, sr, lt, mk, sm, sF, sT) (nI e) 1)) := by
  have R0 := R
  obtain ⟨⟨b1, b2, b3, b4, b5, b6⟩, r1, r2, r3, r4, W, r6, r7, r8, r9, r10, r11, r12⟩ := R
  have hstk := (r12 rfl).1
  have hsealed := (r12 rfl).2
  have hn : n ≤ 32 := by omega
  have Y0 : fs_YS mb mv bc n K A B M := ⟨hn, b2, b3, b6, r2, r4, W, hstk⟩
  have Q0 := Q
  obtain ⟨q1, q2, q3, q4, I, X, VV, D, KK⟩ := Q
  have hna : fs_nam (K i) := Or.inr (Or.inr (Or.inr hk))
  have hnm := fs_nm W hi hna
  have hwd := fs_wd W (i := A i) (by omega) (by omega)
  have hpd : fs_pd K A i i := ⟨hnm.1, Or.inl (Nat.le_refl i)⟩
  obtain ⟨y1, y2⟩ := I.1 i hi hna hpd
  have y3 := X.1 i hi hna hpd
  have hp16 := fs_p16 hwd.2
  have hnb : fs_nb M (S (A i)) (A (A i)) < 2 ^ A (A i) := fs_nb_lt (fun j _ => r4 _)
  obtain ⟨o, ho⟩ := fs_lst_ex (fs_isC K A i (nI (fs_nb M (S (A i)) (A (A i))))) n
  by_cases c : t < mv
  · cases o with
    | none =>
      refine Or.inl ⟨fun post h => ?_, Or.inl (fun post h => ?_)⟩
      · refine xs_r79 (q := S (A i)) r4 hn r2 r8 hi (Or.inr hk) b3 (by omega) (by omega) y3 hwd.2 (by omega) (fun h => by omega) (fun _ _ => ?_) (fun h => by omega)
        exact xs_ent hn r2 r8 hi ho (fun c z => by cases z) (fun _ => h _ _ _ _ _ _ _ _ _ _ _ _)
      · exact yg_9 hn r2 r4 (by omega) hk (by omega) (by omega) y1 hwd.1 hwd.2 (by omega) (by omega) b3 q4 ho (fun c z _ _ => by cases z) (fun _ => h)
    | some d =>
      have hC : fs_ST K A n i (d + 1) := Or.inr (Or.inr (Or.inr (Or.inr (Or.inl ⟨d, rfl, hk, ho.1, ho.2.1.1, fs_hd1 ho.2.1.2.2⟩))))
      refine Or.inr (Or.inl ⟨d + 1, p, t + 1, fs_u S i p, fs_u C i t, _, upd wv t (nI (fs_nb M (S (A i)) (A (A i)))), sa, st, lf, cp, fs_w bf (S (A i)) (A (A i)) (fs_nb M (S (A i)) (A (A i))), upd wk t (nI (fs_nb M (S (A i)) (A (A i)))), upd sr i (nI p), lt, upd mk i (nI t), sm, sF, sT, fs_PQV W hn (by omega) hi (by omega) (by omega) (by omega) hC (by omega) q3 (fun _ => by omega) c hsealed (fun _ _ => rfl) (fun _ _ => rfl) (fun h => by omega) (fun _ _ => rfl) (fun h => by omega) (fun q hq => ?_) (fun _ q h1 h2 => fs_wnb r4 h1 h2) (fun q h1 h2 => by omega) (by omega) (Or.inr ⟨fun z => by omega, rfl⟩) Q0, fun post h => ?_, fun post h => ?_⟩)
      · by_cases d : S (A i) ≤ q ∧ q < S (A i) + A (A i)
        · exact Or.inr (fs_wnb r4 d.1 d.2)
        · exact Or.inl (fs_wout (by omega))
      · refine xs_r79 (q := S (A i)) r4 hn r2 r8 hi (Or.inr hk) b3 (by omega) (by omega) y3 hwd.2 (by omega) (fun h => by omega) (fun _ _ => ?_) (fun h => by omega)
        exact xs_ent hn r2 r8 hi ho (fun c z => by injection z with z; subst z; exact h) (fun z => by cases z)
      · exact yg_9 hn r2 r4 (by omega) hk (by omega) (by omega) y1 hwd.1 hwd.2 (by omega) (by omega) b3 q4 ho (fun c z _ _ => by injection z with z; subst z; exact h) (fun z => absurd ⟨by omega, c, fun z => by cases z⟩ z)
  · refine Or.inl ⟨fun post h => ?_, Or.inl (fun post h => ?_)⟩
    · exact xs_r79 (q := S (A i)) r4 hn r2 r8 hi (Or.inr hk) b3 (by omega) (by omega) y3 hwd.2 (by omega) (fun h => by omega) (fun _ z => absurd z c) (fun _ => h)
    · exact yg_9 hn r2 r4 (by omega) hk (by omega) (by omega) y1 hwd.1 hwd.2 (by omega) (by omega) b3 q4 ho (fun _ _ _ z => absurd z c) (fun _ => h)
theorem pr_8 (R : fs_Rel mi mb mv n vc bc 1 K A B V M oc pa rg eo nm op) (hi : i < n) (Q : fs_PQ mv bc K A B M n i p t S C U wv sa st lf cp bf wk sr lt mk sm sF sT) (hk : K i = 8) : ((∀ post : SX → Prop, (∀ (pc ps tk : Int32) (wb wv sa st lf cp si sf so : Nat → Int32), post (nI mi, nI mb, nI mv, nI n, oc, sl, nI vc, nI bc, pc, ps, tk, 1, fs_F K, fs_F A, fs_F B, pa, rg, eo, nm, op, fs_F V, fs_F M, wb, wv, sa, st, lf, cp, si, sf, so)) → wpX_readItem post (nI mi, nI mb, nI mv, nI n, oc, sl, nI vc, nI bc, nI i, nI p, nI t, 0, fs_F K, fs_F A, fs_F B, pa, rg, eo, nm, op, fs_F V, fs_F M, wb, wv, sa, st, lf, cp, si, sf, so)) ∧ ((∀ post : Int32 → SY → Prop, (∀ (ot tt wc : Int32) (bf wk sr lt mk sm sF sT : Nat → Int32), post (-1) (nI mi, nI mb, nI mv, sl, nI n, nI vc, nI bc, ot, tt, wc, fs_F K, fs_F A, fs_F B, fs_F V, fs_F M, bf, wk, sr, lt, mk, sm, sF, sT)) → wpY_layItem post (nI mi, nI mb, nI mv, sl, nI n, nI vc, nI bc, nI p, nI t, nI t, fs_F K, fs_F A, fs_F B, fs_F V, fs_F M, bf, wk, sr, lt, mk, sm, sF, sT) (nI i) 1)
    ∨ (∃ (i1 p1 t1 : Nat) (S1 C1 : Nat → Nat) (bf1 wk1 sr1 lt1 mk1 sm1 sF1 sT1 : Nat → Int32), (fs_m K i1 p1 < fs_m K i p ∧ fs_DQ mb mv bc K A B M n i1 p1 t1 S1 C1 bf1 sr1 mk1 sm1 sF1 sT1) ∧ (∀ post : Int32 → SY → Prop, post (nI i1) (nI mi, nI mb, nI mv, sl, nI n, nI vc, nI bc, nI p1, nI t1, nI t1, fs_F K, fs_F A, fs_F B, fs_F V, fs_F M, bf1, wk1, sr1, lt1, mk1, sm1, sF1, sT1) → wpY_layItem post (nI mi, nI mb, nI mv, sl, nI n, nI vc, nI bc, nI p, nI t, nI t, fs_F K, fs_F A, fs_F B, fs_F V, fs_F M, bf, wk, sr, lt, mk, sm, sF, sT) (nI i) 1))))
    ∨ (∃ (i1 p1 t1 : Nat) (S1 C1 U1 : Nat → Nat) (wv1 sa1 st1 lf1 cp1 bf1 wk1 sr1 lt1 mk1 sm1 sF1 sT1 : Nat → Int32), (fs_m K i1 p1 < fs_m K i p ∧ fs_PQ mv bc K A B M n i1 p1 t1 S1 C1 U1 wv1 sa1 st1 lf1 cp1 bf1 wk1 sr1 lt1 mk1 sm1 sF1 sT1) ∧ (∀ post : SX → Prop, post (nI mi, nI mb, nI mv, nI n, oc, sl, nI vc, nI bc, nI i1, nI p1, nI t1, 0, fs_F K, fs_F A, fs_F B, pa, rg, eo, nm, op, fs_F V, fs_F M, wb, wv1, sa1, st1, lf1, cp1, si, sf, so) → wpX_readItem post (nI mi, nI mb, nI mv, nI n, oc, sl, nI vc, nI bc, nI i, nI p, nI t, 0, fs_F K, fs_F A, fs_F B, pa, rg, eo, nm, op, fs_F V, fs_F M, wb, wv, sa, st, lf, cp, si, sf, so)) ∧ (∀ post : Int32 → SY → Prop, post (nI i1) (nI mi, nI mb, nI mv, sl, nI n, nI vc, nI bc, nI p1, nI t1, nI t1, fs_F K, fs_F A, fs_F B, fs_F V, fs_F M, bf1, wk1, sr1, lt1, mk1, sm1, sF1, sT1) → wpY_layItem post (nI mi, nI mb, nI mv, sl, nI n, nI vc, nI bc, nI p, nI t, nI t, fs_F K, fs_F A, fs_F B, fs_F V, fs_F M, bf, wk, sr, lt, mk, sm, sF, sT) (nI i) 1))
    ∨ (∃ e : Nat, fs_m K e p < fs_m K i p ∧ fs_m K (e + 1) p < fs_m K e p ∧ e < n ∧ fs_PQ mv bc K A B M n (e + 1) p t S C U wv sa st lf cp bf wk sr lt mk sm sF sT ∧ (∀ post : SX → Prop, post (nI mi, nI mb, nI mv, nI n, oc, sl, nI vc, nI bc, nI (e + 1), nI p, nI t, 0, fs_F K, fs_F A, fs_F B, pa, rg, eo, nm, op, fs_F V, fs_F M, wb, wv, sa, st, lf, cp, si, sf, so) → wpX_readItem post (nI mi, nI mb, nI mv, nI n, oc, sl, nI vc, nI bc, nI i, nI p, nI t, 0, fs_F K, fs_F A, fs_F B, pa, rg, eo, nm, op, fs_F V, fs_F M, wb, wv, sa, st, lf, cp, si, sf, so)) ∧ (∀ post : Int32 → SY → Prop, post (nI e) (nI mi, nI mb, nI mv, sl, nI n, nI vc, nI bc, nI p, nI t, nI t, fs_F K, fs_F A, fs_F B, fs_F V, fs_F M, bf, wk, sr, lt, mk, sm, sF, sT) → wpY_layItem post (nI mi, nI mb, nI mv, sl, nI n, nI vc, nI bc, nI p, nI t, nI t, fs_F K, fs_F A, fs_F B, fs_F V, fs_F M, bf, wk, sr, lt, mk, sm, sF, sT) (nI i) 1) ∧ (∀ post : Int32 → SY → Prop, post (nI (e + 1)) (nI mi, nI mb, nI mv, sl, nI n, nI vc, nI bc, nI p, nI t, nI t, fs_F K, fs_F A, fs_F B, fs_F V, fs_F M, bf, wk, sr, lt, mk, sm, sF, sT) → wpY_layItem post (nI mi, nI mb, nI mv, sl, nI n, nI vc, nI bc, nI p, nI t, nI t, fs_F K, fs_F A, fs_F B, fs_F V, fs_F M, bf, wk, sr, lt, mk, sm, sF, sT) (nI e) 1)) := by
  have R0 := R
  obtain ⟨⟨b1, b2, b3, b4, b5, b6⟩, r1, r2, r3, r4, W, r6, r7, r8, r9, r10, r11, r12⟩ := R
  have hstk := (r12 rfl).1
  have hsealed := (r12 rfl).2
  have hn : n ≤ 32 := by omega
  have Y0 : fs_YS mb mv bc n K A B M := ⟨hn, b2, b3, b6, r2, r4, W, hstk⟩
  have Q0 := Q
  obtain ⟨q1, q2, q3, q4, I, X, VV, D, KK⟩ := Q
  obtain ⟨g, hg, hg5⟩ := fs_fl W hi hk
  have hgm : g ∈ fs_stk K i := by rw [hg]; exact List.mem_cons_self
  have hgi := fs_lt hgm
  have hna : fs_nam (K g) := Or.inl hg5
  have hnm := fs_nm W (i := g) (by omega) hna
  have hwd := fs_wd W (i := A g) (by omega) (by omega)
  have hpd : fs_pd K A g i := ⟨by omega, Or.inr ⟨hgm, Or.inl hg5⟩⟩
  obtain ⟨y1, y2⟩ := I.1 g (by omega) hna hpd
  obtain ⟨z1, z2, z3⟩ := I.2.1 g hgm (Or.inl hg5)
  have y3 := X.1 g (by omega) hna hpd
  have z4 := X.2.1 g hgm (Or.inl hg5)
  have hhd : (fs_stk K i).head? = some g := by rw [hg]; rfl
  have hpa : pa i = nI g := by rw [r8 i hi, hhd]; rfl
  obtain ⟨e, he, hke, hAe⟩ := fs_ex W hstk hi (by omega) (by omega)
  have heo : eo i = nI e := by have := r10 e he hke; rw [hAe] at this; exact this
  by_cases c : t < mv
  · by_cases l1 : p < S g + fs_nb M (S (A g)) (A (A g))
    · have hST : fs_ST K A n i (i + 1) := Or.inl ⟨rfl, by omega⟩
      have hm : i ∈ fs_stk K (i + 1) := by rw [fs_sO (by omega) (by omega)]; exact List.mem_cons_self
      refine Or.inr (Or.inl ⟨i + 1, p, t + 1, fs_u S i p, fs_u C i t, _, upd wv t (nI 0), sa, st, lf, upd cp i (nI t), bf, upd wk t (nI 1), upd sr i (nI p), upd lt i (nI 1), upd mk i (nI t), sm, sF, sT, fs_PQV W hn (by omega) hi (by omega) (by omega) (by omega) hST (by omega) q3 (fun _ => by omega) c hsealed (fun _ _ => rfl) (fun _ e => pk_un e) (fun h => by omega) (fun _ e => pk_un e) (fun _ _ => ⟨pk_us, pk_us⟩) (fun q hq => Or.inl rfl) (fun h => by omega) (fun q h1 h2 => by omega) (x := 0) (y := 1) (by omega) (Or.inl ⟨hk, hm, rfl⟩) Q0, fun post h => ?_, fun post h => ?_⟩)
      · exact xs_r8 r4 (by omega) hk b3 (by omega) hpa (by omega) (by omega) y3 hwd.2 (by omega) z4 (by omega) (by omega) heo (fun _ _ => h) (fun _ z => by omega) (fun z => absurd ⟨c, by omega⟩ z)
      · exact yg_8 W hn r2 r4 (by omega) hk hhd (by omega) (by omega) y1 (by omega) z1 z3 (by omega) hwd.1 hwd.2 (by omega) b3 q4 he hke hAe (fun _ _ => h) (fun z => absurd ⟨by omega, l1⟩ z) (fun z => by omega)
    by_cases l2 : p = S g + fs_nb M (S (A g)) (A (A g))
    · have hST : fs_ST K A n i (e + 1) := Or.inr (Or.inr (Or.inl ⟨e, rfl, Or.inr hk, he, hke, hAe⟩))
      have hm : i ∉ fs_stk K (e + 1) := fs_cl hke (by rw [← hAe]; exact fs_en W he hke) (by omega)
      refine Or.inr (Or.inl ⟨e + 1, p, t + 1, fs_u S i p, fs_u C i t, _, upd wv t (nI 0), sa, st, lf, upd cp i (nI t), bf, upd wk t (nI 0), upd sr i (nI p), upd lt i (nI 0), upd mk i (nI t), sm, sF, sT, fs_PQV W hn (by omega) hi (by omega) (by omega) (by omega) hST (by omega) q3 (fun _ => by omega) c hsealed (fun _ _ => rfl) (fun _ e => pk_un e) (fun h => by omega) (fun _ e => pk_un e) (fun _ z => absurd z hm) (fun q hq => Or.inl rfl) (fun h => by omega) (fun q h1 h2 => by omega) (x := 0) (y := 0) (by omega) (Or.inr ⟨fun z => hm z.2, rfl⟩) Q0, fun post h => ?_, fun post h => ?_⟩)
      · exact xs_r8 r4 (by omega) hk b3 (by omega) hpa (by omega) (by omega) y3 hwd.2 (by omega) z4 (by omega) (by omega) heo (fun _ z => by omega) (fun _ _ => h) (fun z => absurd ⟨c, by omega⟩ z)
      · exact yg_8 W hn r2 r4 (by omega) hk hhd (by omega) (by omega) y1 (by omega) z1 z3 (by omega) hwd.1 hwd.2 (by omega) b3 q4 he hke hAe (fun z => absurd z.2 l1) (fun _ _ => h) (fun z => by omega)
    · refine Or.inl ⟨fun post h => ?_, Or.inr ⟨e + 1, p, t + 1, fs_u S i p, fs_u C i t, bf, upd wk t (nI 0), upd sr i (nI p), upd lt i (nI 0), upd mk i (nI t), sm, sF, sT, fs_PDf W hn b6 b2 hstk hi hk he hke hAe hg hg5 c (by omega) Q0, fun post h => ?_⟩⟩
      · exact xs_r8 r4 (by omega) hk b3 (by omega) hpa (by omega) (by omega) y3 hwd.2 (by omega) z4 (by omega) (by omega) heo (fun _ z => absurd z l1) (fun _ z => absurd z l2) (fun _ => h)
      · exact yg_8 W hn r2 r4 (by omega) hk hhd (by omega) (by omega) y1 (by omega) z1 z3 (by omega) hwd.1 hwd.2 (by omega) b3 q4 he hke hAe (fun z => absurd z.2 l1) (fun _ _ => h) (fun z => by omega)
  · refine Or.inl ⟨fun post h => ?_, Or.inl (fun post h => ?_)⟩
    · exact xs_r8 r4 (by omega) hk b3 (by omega) hpa (by omega) (by omega) y3 hwd.2 (by omega) z4 (by omega) (by omega) heo (fun z _ => absurd z c) (fun z _ => absurd z c) (fun _ => h)
    · exact yg_8 W hn r2 r4 (by omega) hk hhd (by omega) (by omega) y1 (by omega) z1 z3 (by omega) hwd.1 hwd.2 (by omega) b3 q4 he hke hAe (fun _ z => absurd z c) (fun _ z => absurd z c) (fun _ => h)
end
end
section
section
variable {mi mb mv n vc bc : Nat} {oc sl pc ps tk fl : Int32} {K A B V M : Nat → Nat} {pa rg eo nm op wb wv sa st lf cp si sf so : Nat → Int32} {ot tt wc : Int32} {bf wk sr lt mk sm sF sT : Nat → Int32}
variable {i p t : Nat} {S C U : Nat → Nat}
theorem pr_E (R : fs_Rel mi mb mv n vc bc 1 K A B V M oc pa rg eo nm op) (hi : i < n) (Q : fs_PQ mv bc K A B M n i p t S C U wv sa st lf cp bf wk sr lt mk sm sF sT) (hk : K i = 11) : ((∀ post : SX → Prop, (∀ (pc ps tk : Int32) (wb wv sa st lf cp si sf so : Nat → Int32), post (nI mi, nI mb, nI mv, nI n, oc, sl, nI vc, nI bc, pc, ps, tk, 1, fs_F K, fs_F A, fs_F B, pa, rg, eo, nm, op, fs_F V, fs_F M, wb, wv, sa, st, lf, cp, si, sf, so)) → wpX_readItem post (nI mi, nI mb, nI mv, nI n, oc, sl, nI vc, nI bc, nI i, nI p, nI t, 0, fs_F K, fs_F A, fs_F B, pa, rg, eo, nm, op, fs_F V, fs_F M, wb, wv, sa, st, lf, cp, si, sf, so)) ∧ ((∀ post : Int32 → SY → Prop, (∀ (ot tt wc : Int32) (bf wk sr lt mk sm sF sT : Nat → Int32), post (-1) (nI mi, nI mb, nI mv, sl, nI n, nI vc, nI bc, ot, tt, wc, fs_F K, fs_F A, fs_F B, fs_F V, fs_F M, bf, wk, sr, lt, mk, sm, sF, sT)) → wpY_layItem post (nI mi, nI mb, nI mv, sl, nI n, nI vc, nI bc, nI p, nI t, nI t, fs_F K, fs_F A, fs_F B, fs_F V, fs_F M, bf, wk, sr, lt, mk, sm, sF, sT) (nI i) 1)
    ∨ (∃ (i1 p1 t1 : Nat) (S1 C1 : Nat → Nat) (bf1 wk1 sr1 lt1 mk1 sm1 sF1 sT1 : Nat → Int32), (fs_m K i1 p1 < fs_m K i p ∧ fs_DQ mb mv bc K A B M n i1 p1 t1 S1 C1 bf1 sr1 mk1 sm1 sF1 sT1) ∧ (∀ post : Int32 → SY → Prop, post (nI i1) (nI mi, nI mb, nI mv, sl, nI n, nI vc, nI bc, nI p1, nI t1, nI t1, fs_F K, fs_F A, fs_F B, fs_F V, fs_F M, bf1, wk1, sr1, lt1, mk1, sm1, sF1, sT1) → wpY_layItem post (nI mi, nI mb, nI mv, sl, nI n, nI vc, nI bc, nI p, nI t, nI t, fs_F K, fs_F A, fs_F B, fs_F V, fs_F M, bf, wk, sr, lt, mk, sm, sF, sT) (nI i) 1))))
    ∨ (∃ (i1 p1 t1 : Nat) (S1 C1 U1 : Nat → Nat) (wv1 sa1 st1 lf1 cp1 bf1 wk1 sr1 lt1 mk1 sm1 sF1 sT1 : Nat → Int32), (fs_m K i1 p1 < fs_m K i p ∧ fs_PQ mv bc K A B M n i1 p1 t1 S1 C1 U1 wv1 sa1 st1 lf1 cp1 bf1 wk1 sr1 lt1 mk1 sm1 sF1 sT1) ∧ (∀ post : SX → Prop, post (nI mi, nI mb, nI mv, nI n, oc, sl, nI vc, nI bc, nI i1, nI p1, nI t1, 0, fs_F K, fs_F A, fs_F B, pa, rg, eo, nm, op, fs_F V, fs_F M, wb, wv1, sa1, st1, lf1, cp1, si, sf, so) → wpX_readItem post (nI mi, nI mb, nI mv, nI n, oc, sl, nI vc, nI bc, nI i, nI p, nI t, 0, fs_F K, fs_F A, fs_F B, pa, rg, eo, nm, op, fs_F V, fs_F M, wb, wv, sa, st, lf, cp, si, sf, so)) ∧ (∀ post : Int32 → SY → Prop, post (nI i1) (nI mi, nI mb, nI mv, sl, nI n, nI vc, nI bc, nI p1, nI t1, nI t1, fs_F K, fs_F A, fs_F B, fs_F V, fs_F M, bf1, wk1, sr1, lt1, mk1, sm1, sF1, sT1) → wpY_layItem post (nI mi, nI mb, nI mv, sl, nI n, nI vc, nI bc, nI p, nI t, nI t, fs_F K, fs_F A, fs_F B, fs_F V, fs_F M, bf, wk, sr, lt, mk, sm, sF, sT) (nI i) 1))
    ∨ (∃ e : Nat, fs_m K e p < fs_m K i p ∧ fs_m K (e + 1) p < fs_m K e p ∧ e < n ∧ fs_PQ mv bc K A B M n (e + 1) p t S C U wv sa st lf cp bf wk sr lt mk sm sF sT ∧ (∀ post : SX → Prop, post (nI mi, nI mb, nI mv, nI n, oc, sl, nI vc, nI bc, nI (e + 1), nI p, nI t, 0, fs_F K, fs_F A, fs_F B, pa, rg, eo, nm, op, fs_F V, fs_F M, wb, wv, sa, st, lf, cp, si, sf, so) → wpX_readItem post (nI mi, nI mb, nI mv, nI n, oc, sl, nI vc, nI bc, nI i, nI p, nI t, 0, fs_F K, fs_F A, fs_F B, pa, rg, eo, nm, op, fs_F V, fs_F M, wb, wv, sa, st, lf, cp, si, sf, so)) ∧ (∀ post : Int32 → SY → Prop, post (nI e) (nI mi, nI mb, nI mv, sl, nI n, nI vc, nI bc, nI p, nI t, nI t, fs_F K, fs_F A, fs_F B, fs_F V, fs_F M, bf, wk, sr, lt, mk, sm, sF, sT) → wpY_layItem post (nI mi, nI mb, nI mv, sl, nI n, nI vc, nI bc, nI p, nI t, nI t, fs_F K, fs_F A, fs_F B, fs_F V, fs_F M, bf, wk, sr, lt, mk, sm, sF, sT) (nI i) 1) ∧ (∀ post : Int32 → SY → Prop, post (nI (e + 1)) (nI mi, nI mb, nI mv, sl, nI n, nI vc, nI bc, nI p, nI t, nI t, fs_F K, fs_F A, fs_F B, fs_F V, fs_F M, bf, wk, sr, lt, mk, sm, sF, sT) → wpY_layItem post (nI mi, nI mb, nI mv, sl, nI n, nI vc, nI bc, nI p, nI t, nI t, fs_F K, fs_F A, fs_F B, fs_F V, fs_F M, bf, wk, sr, lt, mk, sm, sF, sT) (nI e) 1)) := by
  have R0 := R
  obtain ⟨⟨b1, b2, b3, b4, b5, b6⟩, r1, r2, r3, r4, W, r6, r7, r8, r9, r10, r11, r12⟩ := R
  have hstk := (r12 rfl).1
  have hsealed := (r12 rfl).2
  have hn : n ≤ 32 := by omega
  have Y0 : fs_YS mb mv bc n K A B M := ⟨hn, b2, b3, b6, r2, r4, W, hstk⟩
  have Q0 := Q
  obtain ⟨q1, q2, q3, q4, I, X, VV, D, KK⟩ := Q
  have hAi := fs_elt W hi hk
  have hop := fs_op (fs_eo W hi hk)
  have hk2 := fs_k W (i := A i) (by omega)
  by_cases k5 : K (A i) = 5
  · obtain ⟨hgn, hgna, hgpd⟩ := fs_pdE W hi hk (Or.inl k5)
    have hnm := fs_nm W hgn hgna
    have hwd := fs_wd W (i := A (A i)) (by omega) (by omega)
    obtain ⟨y1, y2⟩ := I.1 (A i) hgn hgna hgpd
    obtain ⟨z1, z2, z3⟩ := I.2.1 (A i) (fs_eo W hi hk) (Or.inl k5)
    have y3 := X.1 (A i) hgn hgna hgpd
    have z4 := X.2.1 (A i) (fs_eo W hi hk) (Or.inl k5)
    have hST : fs_ST K A n i (i + 1) := Or.inr (Or.inl ⟨rfl, hk, by omega⟩)
    have hnb : fs_nb M (S (A (A i))) (A (A (A i))) < 2 ^ A (A (A i)) := fs_nb_lt (fun j _ => r4 _)
    by_cases c : p = S (A i) + fs_nb M (S (A (A i))) (A (A (A i)))
    · have ex : p - S (A i) = fs_nb M (S (A (A i))) (A (A (A i))) := by omega
      have hmt : ∀ q, S (A (A i)) ≤ q → q < S (A (A i)) + A (A (A i)) → fs_w bf (S (A (A i))) (A (A (A i))) (p - S (A i)) q = nI (M q) := by
        intro q h1 h2
        rw [ex]
        exact fs_wnb r4 h1 h2
      refine Or.inr (Or.inl ⟨i + 1, p, t, S, C, U, wv, sa, st, lf, cp, fs_w bf (S (A (A i))) (A (A (A i))) (p - S (A i)), wk, sr, lt, mk, sm, sF, sT, fs_PQB W hn (by omega) hi hk (by omega) hST (fun _ _ => rfl) (fun _ _ => rfl) (fun h => by omega) (fun h => by omega) (fun q hq => ?_) (fun _ => hmt) (fun hm => fs_VI0 (fs_actB W hi hk (by omega) hST) (by omega) VV) Q0, fun post h => ?_, fun post h => ?_⟩)
      · by_cases d : S (A (A i)) ≤ q ∧ q < S (A (A i)) + A (A (A i))
        · exact Or.inr (hmt q d.1 d.2)
        · exact Or.inl (fs_wout (by omega))
      · exact xs_re5 r4 (by omega) hk rfl (by omega) k5 (by omega) y3 hwd.2 (by omega) z4 (by omega) (by omega) (fun _ => h) (fun z => absurd c z)
      · exact ys_eL r2 (by omega) hk rfl (by omega) k5 (by omega) y1 z1 z3 (by omega) hwd.2 (by omega) (fun _ => h) (fun z => absurd (by omega) z)
    · refine Or.inl ⟨fun post h => ?_, dm_step Y0 hi (fs_PDl b6 hi hk k5 c Q0)⟩
      exact xs_re5 r4 (by omega) hk rfl (by omega) k5 (by omega) y3 hwd.2 (by omega) z4 (by omega) (by omega) (fun z => absurd z c) (fun _ => h)
  by_cases k6 : K (A i) = 6
  · obtain ⟨hgn, hgna, hgpd⟩ := fs_pdE W hi hk (Or.inr k6)
    have hnm := fs_nm W hgn hgna
    have hwd := fs_wd W (i := A (A i)) (by omega) (by omega)
    have hB := fs_sB W hgn k6
    obtain ⟨y1, y2⟩ := I.1 (A i) hgn hgna hgpd
    obtain ⟨z1, z2, z3⟩ := I.2.1 (A i) (fs_eo W hi hk) (Or.inr k6)
    have y3 := X.1 (A i) hgn hgna hgpd
    have z4 := X.2.1 (A i) (fs_eo W hi hk) (Or.inr k6)
    by_cases c : fs_cs0 (A (A (A i))) (B (A i)) (fs_F M) (S (A i)) p = fs_nb M (S (A (A i))) (A (A (A i)))
    · refine Or.inr (Or.inl ⟨i + 1, p, t, S, C, U, wv, sa, st, lf, cp, bf, wk, sr, lt, mk, _, _, _, fs_PQC W hn (by omega) hi hk k6 c Q0, fun post h => ?_, fun post h => ?_⟩)
      · exact xs_re6 r4 r2 (by omega) hk rfl (by omega) k6 (by omega) y3 hwd.1 hwd.2 hB (by omega) z4 z3 (by omega) (fun _ => h) (fun z => absurd c z)
      · exact ys_eS (by omega) hk rfl (by omega) k6 (by omega) y1 (by omega) z1 h
    · refine Or.inl ⟨fun post h => ?_, Or.inr ⟨i + 1, p, t, S, C, bf, wk, sr, lt, mk, _, _, _, fs_PDc W hn b6 b2 hi hk k6 c Q0, fun post h => ?_⟩⟩
      · exact xs_re6 r4 r2 (by omega) hk rfl (by omega) k6 (by omega) y3 hwd.1 hwd.2 hB (by omega) z4 z3 (by omega) (fun z => absurd z c) (fun _ => h)
      · exact ys_eS (by omega) hk rfl (by omega) k6 (by omega) y1 (by omega) z1 h
  by_cases k7 : K (A i) = 7
  · have hl := X.2.2.1 (A i) (fs_eo W hi hk) k7
    have go : ∀ i1, fs_ST K A n i i1 → (lt (A i) - 1 ≤ 0 ∧ i1 = i + 1) ∨ (¬ lt (A i) - 1 ≤ 0 ∧ i1 = A i + 1) → ((∀ post : SX → Prop, (∀ (pc ps tk : Int32) (wb wv sa st lf cp si sf so : Nat → Int32), post (nI mi, nI mb, nI mv, nI n, oc, sl, nI vc, nI bc, pc, ps, tk, 1, fs_F K, fs_F A, fs_F B, pa, rg, eo, nm, op, fs_F V, fs_F M, wb, wv, sa, st, lf, cp, si, sf, so)) → wpX_readItem post (nI mi, nI mb, nI mv, nI n, oc, sl, nI vc, nI bc, nI i, nI p, nI t, 0, fs_F K, fs_F A, fs_F B, pa, rg, eo, nm, op, fs_F V, fs_F M, wb, wv, sa, st, lf, cp, si, sf, so)) ∧ ((∀ post : Int32 → SY → Prop, (∀ (ot tt wc : Int32) (bf wk sr lt mk sm sF sT : Nat → Int32), post (-1) (nI mi, nI mb, nI mv, sl, nI n, nI vc, nI bc, ot, tt, wc, fs_F K, fs_F A, fs_F B, fs_F V, fs_F M, bf, wk, sr, lt, mk, sm, sF, sT)) → wpY_layItem post (nI mi, nI mb, nI mv, sl, nI n, nI vc, nI bc, nI p, nI t, nI t, fs_F K, fs_F A, fs_F B, fs_F V, fs_F M, bf, wk, sr, lt, mk, sm, sF, sT) (nI i) 1)
    ∨ (∃ (i1 p1 t1 : Nat) (S1 C1 : Nat → Nat) (bf1 wk1 sr1 lt1 mk1 sm1 sF1 sT1 : Nat → Int32), (fs_m K i1 p1 < fs_m K i p ∧ fs_DQ mb mv bc K A B M n i1 p1 t1 S1 C1 bf1 sr1 mk1 sm1 sF1 sT1) ∧ (∀ post : Int32 → SY → Prop, post (nI i1) (nI mi, nI mb, nI mv, sl, nI n, nI vc, nI bc, nI p1, nI t1, nI t1, fs_F K, fs_F A, fs_F B, fs_F V, fs_F M, bf1, wk1, sr1, lt1, mk1, sm1, sF1, sT1) → wpY_layItem post (nI mi, nI mb, nI mv, sl, nI n, nI vc, nI bc, nI p, nI t, nI t, fs_F K, fs_F A, fs_F B, fs_F V, fs_F M, bf, wk, sr, lt, mk, sm, sF, sT) (nI i) 1))))
    ∨ (∃ (i1 p1 t1 : Nat) (S1 C1 U1 : Nat → Nat) (wv1 sa1 st1 lf1 cp1 bf1 wk1 sr1 lt1 mk1 sm1 sF1 sT1 : Nat → Int32), (fs_m K i1 p1 < fs_m K i p ∧ fs_PQ mv bc K A B M n i1 p1 t1 S1 C1 U1 wv1 sa1 st1 lf1 cp1 bf1 wk1 sr1 lt1 mk1 sm1 sF1 sT1) ∧ (∀ post : SX → Prop, post (nI mi, nI mb, nI mv, nI n, oc, sl, nI vc, nI bc, nI i1, nI p1, nI t1, 0, fs_F K, fs_F A, fs_F B, pa, rg, eo, nm, op, fs_F V, fs_F M, wb, wv1, sa1, st1, lf1, cp1, si, sf, so) → wpX_readItem post (nI mi, nI mb, nI mv, nI n, oc, sl, nI vc, nI bc, nI i, nI p, nI t, 0, fs_F K, fs_F A, fs_F B, pa, rg, eo, nm, op, fs_F V, fs_F M, wb, wv, sa, st, lf, cp, si, sf, so)) ∧ (∀ post : Int32 → SY → Prop, post (nI i1) (nI mi, nI mb, nI mv, sl, nI n, nI vc, nI bc, nI p1, nI t1, nI t1, fs_F K, fs_F A, fs_F B, fs_F V, fs_F M, bf1, wk1, sr1, lt1, mk1, sm1, sF1, sT1) → wpY_layItem post (nI mi, nI mb, nI mv, sl, nI n, nI vc, nI bc, nI p, nI t, nI t, fs_F K, fs_F A, fs_F B, fs_F V, fs_F M, bf, wk, sr, lt, mk, sm, sF, sT) (nI i) 1))
    ∨ (∃ e : Nat, fs_m K e p < fs_m K i p ∧ fs_m K (e + 1) p < fs_m K e p ∧ e < n ∧ fs_PQ mv bc K A B M n (e + 1) p t S C U wv sa st lf cp bf wk sr lt mk sm sF sT ∧ (∀ post : SX → Prop, post (nI mi, nI mb, nI mv, nI n, oc, sl, nI vc, nI bc, nI (e + 1), nI p, nI t, 0, fs_F K, fs_F A, fs_F B, pa, rg, eo, nm, op, fs_F V, fs_F M, wb, wv, sa, st, lf, cp, si, sf, so) → wpX_readItem post (nI mi, nI mb, nI mv, nI n, oc, sl, nI vc, nI bc, nI i, nI p, nI t, 0, fs_F K, fs_F A, fs_F B, pa, rg, eo, nm, op, fs_F V, fs_F M, wb, wv, sa, st, lf, cp, si, sf, so)) ∧ (∀ post : Int32 → SY → Prop, post (nI e) (nI mi, nI mb, nI mv, sl, nI n, nI vc, nI bc, nI p, nI t, nI t, fs_F K, fs_F A, fs_F B, fs_F V, fs_F M, bf, wk, sr, lt, mk, sm, sF, sT) → wpY_layItem post (nI mi, nI mb, nI mv, sl, nI n, nI vc, nI bc, nI p, nI t, nI t, fs_F K, fs_F A, fs_F B, fs_F V, fs_F M, bf, wk, sr, lt, mk, sm, sF, sT) (nI i) 1) ∧ (∀ post : Int32 → SY → Prop, post (nI (e + 1)) (nI mi, nI mb, nI mv, sl, nI n, nI vc, nI bc, nI p, nI t, nI t, fs_F K, fs_F A, fs_F B, fs_F V, fs_F M, bf, wk, sr, lt, mk, sm, sF, sT) → wpY_layItem post (nI mi, nI mb, nI mv, sl, nI n, nI vc, nI bc, nI p, nI t, nI t, fs_F K, fs_F A, fs_F B, fs_F V, fs_F M, bf, wk, sr, lt, mk, sm, sF, sT) (nI e) 1)) := by
      intro i1 hST hj
      refine Or.inr (Or.inl ⟨i1, p, t, S, C, U, wv, sa, st, upd lf (A i) (lf (A i) - 1), cp, bf, wk, sr, upd lt (A i) (lt (A i) - 1), mk, sm, sF, sT, fs_PQB W hn (by omega) hi hk (by omega) hST (fun _ e => pk_un e) (fun _ e => pk_un e) (fun _ => by rw [pk_us, pk_us, hl]) (fun h => by omega) (fun q hq => Or.inl rfl) (fun h => by omega) (fun hm => fs_VI0 (fs_actB W hi hk (by omega) hST) (by omega) VV) Q0, fun post h => ?_, fun post h => ?_⟩)
      · rcases hj with ⟨z, rfl⟩ | ⟨z, rfl⟩
        · exact xs_re7 (by omega) hk rfl (by omega) k7 (fun _ => h) (fun z' => absurd (by rw [hl]; exact z) z')
        · exact xs_re7 (by omega) hk rfl (by omega) k7 (fun z' => absurd (by rw [← hl]; exact z') z) (fun _ => h)
      · rcases hj with ⟨z, rfl⟩ | ⟨z, rfl⟩
        · exact ys_eR (by omega) hk rfl (by omega) (Or.inl k7) (fun _ => h) (fun z' => absurd z z')
        · exact ys_eR (by omega) hk rfl (by omega) (Or.inl k7) (fun z' => absurd z' z) (fun _ => h)
    by_cases z : lt (A i) - 1 ≤ 0
    · exact go (i + 1) (Or.inr (Or.inl ⟨rfl, hk, by omega⟩)) (Or.inl ⟨z, rfl⟩)
    · exact go (A i + 1) (Or.inr (Or.inr (Or.inr (Or.inl ⟨hk, Or.inl k7, rfl⟩)))) (Or.inr ⟨z, rfl⟩)
  by_cases k8 : K (A i) = 8
  · obtain ⟨g, hg, hg5⟩ := fs_fl W (i := A i) (by omega) k8
    have hgm : g ∈ fs_stk K i := fs_tr (fs_eo W hi hk) (by rw [hg]; exact List.mem_cons_self)
    have hgi := fs_lt hgm
    have hgo := fs_top_lt hg
    have hna : fs_nam (K g) := Or.inl hg5
    have hnm := fs_nm W (i := g) (by omega) hna
    have hwd := fs_wd W (i := A g) (by omega) (by omega)
    have hpd : fs_pd K A g i := ⟨by omega, Or.inr ⟨hgm, Or.inl hg5⟩⟩
    obtain ⟨y1, y2⟩ := I.1 g (by omega) hna hpd
    obtain ⟨z1, z2, z3⟩ := I.2.1 g hgm (Or.inl hg5)
    have y3 := X.1 g (by omega) hna hpd
    have z4 := X.2.1 g hgm (Or.inl hg5)
    obtain ⟨c1, c2⟩ := I.2.2.1 (A i) (fs_eo W hi hk) k8
    obtain ⟨c3, c4⟩ := X.2.2.2.1 (A i) (fs_eo W hi hk) k8
    have hhd : (fs_stk K (A i)).head? = some g := by rw [hg]; rfl
    have hpa : pa (A i) = nI g := by rw [r8 (A i) (by omega), hhd]; rfl
    have heo : eo (A i) = nI i := r10 i hi hk
    have hv1 : upd lt (A i) (lt (A i) + 1) (A i) - 1 = 1 := by rw [pk_us, c4]; decide
    by_cases l1 : p < S g + fs_nb M (S (A g)) (A (A g))
    · have hST : fs_ST K A n i (A i + 1) := Or.inr (Or.inr (Or.inr (Or.inl ⟨hk, Or.inr k8, rfl⟩)))
      refine Or.inr (Or.inl ⟨A i + 1, p, t, S, C, _, upd wv (C (A i)) (wv (C (A i)) + 1), sa, st, lf, cp, bf, upd wk (C (A i)) (wk (C (A i)) + 1), sr, upd (upd lt (A i) (lt (A i) + 1)) (A i) (upd lt (A i) (lt (A i) + 1) (A i) - 1), mk, sm, sF, sT, fs_PQB W hn (by omega) hi hk (by omega) hST (fun _ _ => rfl) (fun _ e => by rw [pk_un e, pk_un e]) (fun h => by omega) (fun _ _ => by rw [pk_us]; exact hv1) (fun q hq => Or.inl rfl) (fun h => by omega) (fun hm => fs_VIc W hi hk k8 hm VV) Q0, fun post h => ?_, fun post h => ?_⟩)
      · exact xs_re8 r4 (by omega) hk rfl (by omega) k8 c3 (by omega) hpa (by omega) (by omega) y3 hwd.2 (by omega) z4 (by omega) (by omega) heo (fun _ => h) (fun z => by omega) (fun z => by omega)
      · refine ys_eF r4 r2 (by omega) (by omega) hk rfl (by omega) k8 hhd (by omega) y1 (by omega) z1 z3 (by omega) hwd.1 hwd.2 c1 (by omega) (fun _ => ?_) (fun z => absurd ⟨by omega, l1⟩ z)
        exact ys_206 (by omega) (fun z => absurd z (by rw [hv1]; decide)) (fun _ => h)
    by_cases l2 : p = S g + fs_nb M (S (A g)) (A (A g))
    · have hST : fs_ST K A n i (i + 1) := Or.inr (Or.inl ⟨rfl, hk, by omega⟩)
      have hm : A i ∉ fs_stk K (i + 1) := fs_cl hk (fs_en W hi hk) (by omega)
      refine Or.inr (Or.inl ⟨i + 1, p, t, S, C, _, upd wv (C (A i)) (wv (C (A i)) + 1), sa, st, lf, cp, bf, wk, sr, upd lt (A i) (lt (A i) - 1), mk, sm, sF, sT, fs_PQB W hn (by omega) hi hk (by omega) hST (fun _ _ => rfl) (fun _ e => pk_un e) (fun h => by omega) (fun _ z => absurd z hm) (fun q hq => Or.inl rfl) (fun h => by omega) (fun hm => fs_VIx W hi hk k8 X hm VV) Q0, fun post h => ?_, fun post h => ?_⟩)
      · exact xs_re8 r4 (by omega) hk rfl (by omega) k8 c3 (by omega) hpa (by omega) (by omega) y3 hwd.2 (by omega) z4 (by omega) (by omega) heo (fun z => by omega) (fun _ => h) (fun z => by omega)
      · refine ys_eF r4 r2 (by omega) (by omega) hk rfl (by omega) k8 hhd (by omega) y1 (by omega) z1 z3 (by omega) hwd.1 hwd.2 c1 (by omega) (fun z => absurd z.2 l1) (fun _ => ?_)
        exact ys_206 (by omega) (fun _ => h) (fun z => absurd (by rw [c4]; decide) z)
    · refine Or.inl ⟨fun post h => ?_, Or.inr ⟨i + 1, p, t, S, C, bf, wk, sr, upd lt (A i) (lt (A i) - 1), mk, sm, sF, sT, fs_PDg W hn b6 b2 hstk hi hk k8 hg hg5 (by omega) Q0, fun post h => ?_⟩⟩
      · exact xs_re8 r4 (by omega) hk rfl (by omega) k8 c3 (by omega) hpa (by omega) (by omega) y3 hwd.2 (by omega) z4 (by omega) (by omega) heo (fun z => absurd z l1) (fun z => absurd z l2) (fun _ => h)
      · refine ys_eF r4 r2 (by omega) (by omega) hk rfl (by omega) k8 hhd (by omega) y1 (by omega) z1 z3 (by omega) hwd.1 hwd.2 c1 (by omega) (fun z => absurd z.2 l1) (fun _ => ?_)
        exact ys_206 (by omega) (fun _ => h) (fun z => absurd (by rw [c4]; decide) z)
  by_cases k9 : K (A i) = 9
  · have hST : fs_ST K A n i (i + 1) := Or.inr (Or.inl ⟨rfl, hk, by omega⟩)
    refine Or.inr (Or.inl ⟨i + 1, p, t, S, C, U, wv, sa, st, lf, cp, bf, wk, sr, lt, mk, sm, sF, sT, fs_PQB W hn (by omega) hi hk (by omega) hST (fun _ _ => rfl) (fun _ _ => rfl) (fun h => by omega) (fun h => by omega) (fun q hq => Or.inl rfl) (fun h => by omega) (fun hm => fs_VI0 (fs_actB W hi hk (by omega) hST) (by omega) VV) Q0, fun post h => ?_, fun post h => ?_⟩)
    · exact xs_re9 (by omega) hk rfl (by omega) k9 h
    · exact ys_eU (by omega) hk rfl (by omega) k9 h
  have k10 : K (A i) = 10 := by omega
  obtain ⟨w, hw, hw9⟩ := fs_cs W (i := A i) (by omega) k10
  have hwi := fs_top_lt hw
  obtain ⟨e, he, hke, hAe⟩ := fs_ex W hstk (g := w) (by omega) (by omega) (by omega)
  have heo : eo w = nI e := by have := r10 e he hke; rw [hAe] at this; exact this
  have hpa : pa (A i) = nI w := by rw [r8 (A i) (by omega), hw]; rfl
  have hhd : (fs_stk K (A i)).head? = some w := by rw [hw]; rfl
  have hST1 : fs_ST K A n i e := Or.inr (Or.inr (Or.inr (Or.inr (Or.inr ⟨w, e, hk, k10, hw, hw9, he, hke, hAe, rfl⟩))))
  have hST2 : fs_ST K A n e (e + 1) := Or.inr (Or.inl ⟨rfl, hke, by rw [hAe]; omega⟩)
  obtain ⟨m1, Q1⟩ := fs_PQB W hn (by omega) hi hk (by omega) hST1 (fun _ _ => rfl) (fun _ _ => rfl) (fun h => by omega) (fun h => by omega) (fun q hq => Or.inl rfl) (fun h => by omega) (fun hm => fs_VI0 (fs_actB W hi hk (by omega) hST1) (by omega) VV) Q0
  obtain ⟨m2, Q2⟩ := fs_PQB W hn (by omega) he hke (by rw [hAe]; omega) hST2 (fun _ _ => rfl) (fun _ _ => rfl) (fun h => by rw [hAe] at h; omega) (fun h => by rw [hAe] at h; omega) (fun q hq => Or.inl rfl) (fun h => by rw [hAe] at h; omega) (fun hm => fs_VI0 (fs_actB W he hke (by rw [hAe]; omega) hST2) (by omega) Q1.2.2.2.2.2.2.1) Q1
  refine Or.inr (Or.inr ⟨e, m1, m2, he, Q2, fun post h => ?_, fun post h => ?_, fun post h => ?_⟩)
  · exact xs_re10 (by omega) hk rfl (by omega) k10 hpa (by omega) heo h
  · exact ys_eC W hn r2 (by omega) hk rfl (by omega) k10 hhd he hke hAe h
  · exact ys_eU (by omega) hke hAe (by omega) hw9 h
theorem pr_step (R : fs_Rel mi mb mv n vc bc 1 K A B V M oc pa rg eo nm op) (hi : i < n) (Q : fs_PQ mv bc K A B M n i p t S C U wv sa st lf cp bf wk sr lt mk sm sF sT) : ((∀ post : SX → Prop, (∀ (pc ps tk : Int32) (wb wv sa st lf cp si sf so : Nat → Int32), post (nI mi, nI mb, nI mv, nI n, oc, sl, nI vc, nI bc, pc, ps, tk, 1, fs_F K, fs_F A, fs_F B, pa, rg, eo, nm, op, fs_F V, fs_F M, wb, wv, sa, st, lf, cp, si, sf, so)) → wpX_readItem post (nI mi, nI mb, nI mv, nI n, oc, sl, nI vc, nI bc, nI i, nI p, nI t, 0, fs_F K, fs_F A, fs_F B, pa, rg, eo, nm, op, fs_F V, fs_F M, wb, wv, sa, st, lf, cp, si, sf, so)) ∧ ((∀ post : Int32 → SY → Prop, (∀ (ot tt wc : Int32) (bf wk sr lt mk sm sF sT : Nat → Int32), post (-1) (nI mi, nI mb, nI mv, sl, nI n, nI vc, nI bc, ot, tt, wc, fs_F K, fs_F A, fs_F B, fs_F V, fs_F M, bf, wk, sr, lt, mk, sm, sF, sT)) → wpY_layItem post (nI mi, nI mb, nI mv, sl, nI n, nI vc, nI bc, nI p, nI t, nI t, fs_F K, fs_F A, fs_F B, fs_F V, fs_F M, bf, wk, sr, lt, mk, sm, sF, sT) (nI i) 1)
    ∨ (∃ (i1 p1 t1 : Nat) (S1 C1 : Nat → Nat) (bf1 wk1 sr1 lt1 mk1 sm1 sF1 sT1 : Nat → Int32), (fs_m K i1 p1 < fs_m K i p ∧ fs_DQ mb mv bc K A B M n i1 p1 t1 S1 C1 bf1 sr1 mk1 sm1 sF1 sT1) ∧ (∀ post : Int32 → SY → Prop, post (nI i1) (nI mi, nI mb, nI mv, sl, nI n, nI vc, nI bc, nI p1, nI t1, nI t1, fs_F K, fs_F A, fs_F B, fs_F V, fs_F M, bf1, wk1, sr1, lt1, mk1, sm1, sF1, sT1) → wpY_layItem post (nI mi, nI mb, nI mv, sl, nI n, nI vc, nI bc, nI p, nI t, nI t, fs_F K, fs_F A, fs_F B, fs_F V, fs_F M, bf, wk, sr, lt, mk, sm, sF, sT) (nI i) 1))))
    ∨ (∃ (i1 p1 t1 : Nat) (S1 C1 U1 : Nat → Nat) (wv1 sa1 st1 lf1 cp1 bf1 wk1 sr1 lt1 mk1 sm1 sF1 sT1 : Nat → Int32), (fs_m K i1 p1 < fs_m K i p ∧ fs_PQ mv bc K A B M n i1 p1 t1 S1 C1 U1 wv1 sa1 st1 lf1 cp1 bf1 wk1 sr1 lt1 mk1 sm1 sF1 sT1) ∧ (∀ post : SX → Prop, post (nI mi, nI mb, nI mv, nI n, oc, sl, nI vc, nI bc, nI i1, nI p1, nI t1, 0, fs_F K, fs_F A, fs_F B, pa, rg, eo, nm, op, fs_F V, fs_F M, wb, wv1, sa1, st1, lf1, cp1, si, sf, so) → wpX_readItem post (nI mi, nI mb, nI mv, nI n, oc, sl, nI vc, nI bc, nI i, nI p, nI t, 0, fs_F K, fs_F A, fs_F B, pa, rg, eo, nm, op, fs_F V, fs_F M, wb, wv, sa, st, lf, cp, si, sf, so)) ∧ (∀ post : Int32 → SY → Prop, post (nI i1) (nI mi, nI mb, nI mv, sl, nI n, nI vc, nI bc, nI p1, nI t1, nI t1, fs_F K, fs_F A, fs_F B, fs_F V, fs_F M, bf1, wk1, sr1, lt1, mk1, sm1, sF1, sT1) → wpY_layItem post (nI mi, nI mb, nI mv, sl, nI n, nI vc, nI bc, nI p, nI t, nI t, fs_F K, fs_F A, fs_F B, fs_F V, fs_F M, bf, wk, sr, lt, mk, sm, sF, sT) (nI i) 1))
    ∨ (∃ e : Nat, fs_m K e p < fs_m K i p ∧ fs_m K (e + 1) p < fs_m K e p ∧ e < n ∧ fs_PQ mv bc K A B M n (e + 1) p t S C U wv sa st lf cp bf wk sr lt mk sm sF sT ∧ (∀ post : SX → Prop, post (nI mi, nI mb, nI mv, nI n, oc, sl, nI vc, nI bc, nI (e + 1), nI p, nI t, 0, fs_F K, fs_F A, fs_F B, pa, rg, eo, nm, op, fs_F V, fs_F M, wb, wv, sa, st, lf, cp, si, sf, so) → wpX_readItem post (nI mi, nI mb, nI mv, nI n, oc, sl, nI vc, nI bc, nI i, nI p, nI t, 0, fs_F K, fs_F A, fs_F B, pa, rg, eo, nm, op, fs_F V, fs_F M, wb, wv, sa, st, lf, cp, si, sf, so)) ∧ (∀ post : Int32 → SY → Prop, post (nI e) (nI mi, nI mb, nI mv, sl, nI n, nI vc, nI bc, nI p, nI t, nI t, fs_F K, fs_F A, fs_F B, fs_F V, fs_F M, bf, wk, sr, lt, mk, sm, sF, sT) → wpY_layItem post (nI mi, nI mb, nI mv, sl, nI n, nI vc, nI bc, nI p, nI t, nI t, fs_F K, fs_F A, fs_F B, fs_F V, fs_F M, bf, wk, sr, lt, mk, sm, sF, sT) (nI i) 1) ∧ (∀ post : Int32 → SY → Prop, post (nI (e + 1)) (nI mi, nI mb, nI mv, sl, nI n, nI vc, nI bc, nI p, nI t, nI t, fs_F K, fs_F A, fs_F B, fs_F V, fs_F M, bf, wk, sr, lt, mk, sm, sF, sT) → wpY_layItem post (nI mi, nI mb, nI mv, sl, nI n, nI vc, nI bc, nI p, nI t, nI t, fs_F K, fs_F A, fs_F B, fs_F V, fs_F M, bf, wk, sr, lt, mk, sm, sF, sT) (nI e) 1)) := by
  have hk := fs_k R.2.2.2.2.2.1 hi
  have h10 := Q.2.1 hi
  have hc : K i = 1 ∨ K i = 2 ∨ K i = 3 ∨ K i = 4 ∨ (K i = 5 ∨ K i = 6) ∨ K i = 7 ∨ K i = 8 ∨ K i = 9 ∨ K i = 11 := by omega
  rcases hc with h | h | h | h | h | h | h | h | h
  · exact pr_1 R hi Q h
  · exact pr_2 R hi Q h
  · exact pr_3 R hi Q h
  · exact pr_4 R hi Q h
  · exact pr_5 R hi Q h
  · exact pr_7 R hi Q h
  · exact pr_8 R hi Q h
  · exact pr_9 R hi Q h
  · exact pr_E R hi Q h
theorem pr_lock (R : fs_Rel mi mb mv n vc bc 1 K A B V M oc pa rg eo nm op) : ∀ (m i p t : Nat) (S C U : Nat → Nat) (wv sa st lf cp bf wk sr lt mk sm sF sT : Nat → Int32), fs_m K i p ≤ m → fs_PQ mv bc K A B M n i p t S C U wv sa st lf cp bf wk sr lt mk sm sF sT →
    ((∀ (post : Int32 → SX → Prop) (fuel σ : Nat), m < fuel → σ + m < 8192 → (∀ (pc ps tk fl : Int32) (wb wv sa st lf cp si sf so : Nat → Int32), post (-10) (nI mi, nI mb, nI mv, nI n, oc, sl, nI vc, nI bc, pc, ps, tk, fl, fs_F K, fs_F A, fs_F B, pa, rg, eo, nm, op, fs_F V, fs_F M, wb, wv, sa, st, lf, cp, si, sf, so)) → wX_parse_16 post fuel (nI σ) (nI mi) (nI mb) (nI mv) (nI n) oc sl (nI vc) (nI bc) (nI i) (nI p) (nI t) 0 (fs_F K) (fs_F A) (fs_F B) pa rg eo nm op (fs_F V) (fs_F M) wb wv sa st lf cp si sf so) ∧ (∀ (post : Int32 → SY → Prop) (fuel σ : Nat), m < fuel → σ + m < 5000 → (∀ (ot tt wc : Int32) (bf wk sr lt mk sm sF sT : Nat → Int32), post 0 (nI mi, nI mb, nI mv, sl, nI n, nI vc, nI bc, ot, tt, wc, fs_F K, fs_F A, fs_F B, fs_F V, fs_F M, bf, wk, sr, lt, mk, sm, sF, sT)) → (∀ (p1 : Nat) (tt wc : Int32) (bf wk sr lt mk sm sF sT : Nat → Int32), p1 ≤ 128 → (p1 ≠ bc ∨ ∃ q, q < p1 ∧ bf q ≠ nI (M q)) → post 1 (nI mi, nI mb, nI mv, sl, nI n, nI vc, nI bc, nI p1, tt, wc, fs_F K, fs_F A, fs_F B, fs_F V, fs_F M, bf, wk, sr, lt, mk, sm, sF, sT)) → wY_lay_80 post 1 fuel (nI i) (nI σ) (nI mi) (nI mb) (nI mv) sl (nI n) (nI vc) (nI bc) (nI p) (nI t) (nI t) (fs_F K) (fs_F A) (fs_F B) (fs_F V) (fs_F M) bf wk sr lt mk sm sF sT))
    ∨ (∃ (p1 t1 : Nat) (S1 C1 U1 : Nat → Nat) (wv1 sa1 st1 lf1 cp1 bf1 wk1 sr1 lt1 mk1 sm1 sF1 sT1 : Nat → Int32), fs_PQ mv bc K A B M n n p1 t1 S1 C1 U1 wv1 sa1 st1 lf1 cp1 bf1 wk1 sr1 lt1 mk1 sm1 sF1 sT1
      ∧ (∀ (post : Int32 → SX → Prop) (fuel σ : Nat), m < fuel → σ + m < 8192 → wX_parse_51 post (nI mi) (nI mb) (nI mv) (nI n) oc sl (nI vc) (nI bc) (nI n) (nI p1) (nI t1) 0 (fs_F K) (fs_F A) (fs_F B) pa rg eo nm op (fs_F V) (fs_F M) wb wv1 sa1 st1 lf1 cp1 si sf so → wX_parse_16 post fuel (nI σ) (nI mi) (nI mb) (nI mv) (nI n) oc sl (nI vc) (nI bc) (nI i) (nI p) (nI t) 0 (fs_F K) (fs_F A) (fs_F B) pa rg eo nm op (fs_F V) (fs_F M) wb wv sa st lf cp si sf so)
      ∧ (∀ (post : Int32 → SY → Prop) (fuel σ : Nat), m < fuel → σ + m < 5000 → wY_lay_114 post (nI n) (nI mi) (nI mb) (nI mv) sl (nI n) (nI vc) (nI bc) (nI p1) (nI t1) (nI t1) (fs_F K) (fs_F A) (fs_F B) (fs_F V) (fs_F M) bf1 wk1 sr1 lt1 mk1 sm1 sF1 sT1 → wY_lay_80 post 1 fuel (nI i) (nI σ) (nI mi) (nI mb) (nI mv) sl (nI n) (nI vc) (nI bc) (nI p) (nI t) (nI t) (fs_F K) (fs_F A) (fs_F B) (fs_F V) (fs_F M) bf wk sr lt mk sm sF sT)) := by
  have R0 := R
  obtain ⟨⟨b1, b2, b3, b4, b5, b6⟩, r1, r2, r3, r4, W, r6, r7, r8, r9, r10, r11, r12⟩ := R
  have hstk := (r12 rfl).1
  have hn : n ≤ 32 := by omega
  have Y0 : fs_YS mb mv bc n K A B M := ⟨hn, b2, b3, b6, r2, r4, W, hstk⟩
  intro m
  induction m using Nat.strongRecOn with
  | ind m ih =>
    intro i p t S C U wv sa st lf cp bf wk sr lt mk sm sF sT hm Q
    by_cases hi : i < n
    · have hmi := fs_mp (K := K) (p := p) hn hi
      have xgo : ∀ (i1 : Nat) (ps1 tk1 : Int32) (wv1 sa1 st1 lf1 cp1 : Nat → Int32), (∀ post : SX → Prop, post (nI mi, nI mb, nI mv, nI n, oc, sl, nI vc, nI bc, nI i1, ps1, tk1, 0, fs_F K, fs_F A, fs_F B, pa, rg, eo, nm, op, fs_F V, fs_F M, wb, wv1, sa1, st1, lf1, cp1, si, sf, so) → wpX_readItem post (nI mi, nI mb, nI mv, nI n, oc, sl, nI vc, nI bc, nI i, nI p, nI t, 0, fs_F K, fs_F A, fs_F B, pa, rg, eo, nm, op, fs_F V, fs_F M, wb, wv, sa, st, lf, cp, si, sf, so)) → ∀ (post : Int32 → SX → Prop) (f σ : Nat), σ < 8192 → wX_parse_16 post f (nI (σ + 1)) (nI mi) (nI mb) (nI mv) (nI n) oc sl (nI vc) (nI bc) (nI i1) ps1 tk1 0 (fs_F K) (fs_F A) (fs_F B) pa rg eo nm op (fs_F V) (fs_F M) wb wv1 sa1 st1 lf1 cp1 si sf so → wX_parse_16 post (f + 1) (nI σ) (nI mi) (nI mb) (nI mv) (nI n) oc sl (nI vc) (nI bc) (nI i) (nI p) (nI t) 0 (fs_F K) (fs_F A) (fs_F B) pa rg eo nm op (fs_F V) (fs_F M) wb wv sa st lf cp si sf so := by
        intro i1 ps1 tk1 wv1 sa1 st1 lf1 cp1 hx post f σ hs h
        refine br_f (nI_ge (b := 8192) (by omega) (by decide)) (br_t rfl (br_f (nI_ge (by omega) (by omega)) (hx _ ?_)))
        exact nm_r (nI_1 σ) h
      have ygo : ∀ (j j1 : Nat) (hj : j < n) (hj1 : j1 ≤ n) (ot0 tt0 wc0 ot1 tt1 wc1 : Int32) (bf0 wk0 sr0 lt0 mk0 sm0 sF0 sT0 bf1 wk1 sr1 lt1 mk1 sm1 sF1 sT1 : Nat → Int32), (∀ post : Int32 → SY → Prop, post (nI j1) (nI mi, nI mb, nI mv, sl, nI n, nI vc, nI bc, ot1, tt1, wc1, fs_F K, fs_F A, fs_F B, fs_F V, fs_F M, bf1, wk1, sr1, lt1, mk1, sm1, sF1, sT1) → wpY_layItem post (nI mi, nI mb, nI mv, sl, nI n, nI vc, nI bc, ot0, tt0, wc0, fs_F K, fs_F A, fs_F B, fs_F V, fs_F M, bf0, wk0, sr0, lt0, mk0, sm0, sF0, sT0) (nI j) 1) → ∀ (post : Int32 → SY → Prop) (f σ : Nat), σ < 5000 → wY_lay_80 post 1 f (nI j1) (nI (σ + 1)) (nI mi) (nI mb) (nI mv) sl (nI n) (nI vc) (nI bc) ot1 tt1 wc1 (fs_F K) (fs_F A) (fs_F B) (fs_F V) (fs_F M) bf1 wk1 sr1 lt1 mk1 sm1 sF1 sT1 → wY_lay_80 post 1 (f + 1) (nI j) (nI σ) (nI mi) (nI mb) (nI mv) sl (nI n) (nI vc) (nI bc) ot0 tt0 wc0 (fs_F K) (fs_F A) (fs_F B) (fs_F V) (fs_F M) bf0 wk0 sr0 lt0 mk0 sm0 sF0 sT0 := by
        intro j j1 hj hj1 ot0 tt0 wc0 ot1 tt1 wc1 bf0 wk0 sr0 lt0 mk0 sm0 sF0 sT0 bf1 wk1 sr1 lt1 mk1 sm1 sF1 sT1 hy post f σ hs h
        refine br_f (nI_ge (b := 5000) (by omega) (by decide)) (br_f (nI_ge (by omega) (by omega)) (hy _ ?_))
        exact br_t (nI_pos' (by omega)) (nm_r (nI_1 σ) h)
      rcases pr_step R0 hi Q with ⟨hx, hy⟩ | ⟨i1, p1, t1, S1, C1, U1, wv1, sa1, st1, lf1, cp1, bf1, wk1, sr1, lt1, mk1, sm1, sF1, sT1, ⟨hm1, Q1⟩, hx, hy⟩ | ⟨e, hm1, hm2, he, Q1, hx, hy1, hy2⟩
      · refine Or.inl ⟨fun post fuel σ hf hs h => ?_, fun post fuel σ hf hs h h1 => ?_⟩
        · obtain ⟨f, rfl⟩ : ∃ f, fuel = (f + 1) + 1 := ⟨fuel - 2, by omega⟩
          refine br_f (nI_ge (b := 8192) (by omega) (by decide)) (br_t rfl (br_f (nI_ge (by omega) (by omega)) (hx _ ?_)))
          intro pc ps tk wb wv sa st lf cp si sf so
          refine nm_r (nI_1 σ) ?_
          exact br_f (nI_ge (b := 8192) (by omega) (by decide)) (br_f (by decide) (br_f (by decide) (h _ _ _ _ _ _ _ _ _ _ _ _ _)))
        · obtain ⟨f, rfl⟩ : ∃ f, fuel = f + 1 := ⟨fuel - 1, by omega⟩
          rcases hy with hy | ⟨i1, p1, t1, S1, C1, bf1, wk1, sr1, lt1, mk1, sm1, sF1, sT1, ⟨hm1, Q1⟩, hy⟩
          · refine br_f (nI_ge (b := 5000) (by omega) (by decide)) (br_f (nI_ge (by omega) (by omega)) (hy _ ?_))
            intro ot tt wc bf wk sr lt mk sm sF sT
            exact br_f (by decide) (h _ _ _ _ _ _ _ _ _ _ _)
          · exact ygo i i1 hi Q1.1 _ _ _ _ _ _ _ _ _ _ _ _ _ _ _ _ _ _ _ _ _ _ hy post f σ (by omega) (dm_run Y0 (m - 1) i1 p1 t1 S1 C1 bf1 wk1 sr1 lt1 mk1 sm1 sF1 sT1 (by omega) Q1 post f (σ + 1) (by omega) (by omega) h h1)
      · rcases ih (m - 1) (by omega) i1 p1 t1 S1 C1 U1 wv1 sa1 st1 lf1 cp1 bf1 wk1 sr1 lt1 mk1 sm1 sF1 sT1 (by omega) Q1 with ⟨gx, gy⟩ | ⟨p2, t2, S2, C2, U2, wv2, sa2, st2, lf2, cp2, bf2, wk2, sr2, lt2, mk2, sm2, sF2, sT2, Q2, gx, gy⟩
        · refine Or.inl ⟨fun post fuel σ hf hs h => ?_, fun post fuel σ hf hs h h1 => ?_⟩
          · obtain ⟨f, rfl⟩ : ∃ f, fuel = f + 1 := ⟨fuel - 1, by omega⟩
            exact xgo i1 _ _ _ _ _ _ _ hx post f σ (by omega) (gx post f (σ + 1) (by omega) (by omega) h)
          · obtain ⟨f, rfl⟩ : ∃ f, fuel = f + 1 := ⟨fuel - 1, by omega⟩
            exact ygo i i1 hi Q1.1 _ _ _ _ _ _ _ _ _ _ _ _ _ _ _ _ _ _ _ _ _ _ hy post f σ (by omega) (gy post f (σ + 1) (by omega) (by omega) h h1)
        · refine Or.inr ⟨p2, t2, S2, C2, U2, wv2, sa2, st2, lf2, cp2, bf2, wk2, sr2, lt2, mk2, sm2, sF2, sT2, Q2, fun post fuel σ hf hs h => ?_, fun post fuel σ hf hs h => ?_⟩
          · obtain ⟨f, rfl⟩ : ∃ f, fuel = f + 1 := ⟨fuel - 1, by omega⟩
            exact xgo i1 _ _ _ _ _ _ _ hx post f σ (by omega) (gx post f (σ + 1) (by omega) (by omega) h)
          · obtain ⟨f, rfl⟩ : ∃ f, fuel = f + 1 := ⟨fuel - 1, by omega⟩
            exact ygo i i1 hi Q1.1 _ _ _ _ _ _ _ _ _ _ _ _ _ _ _ _ _ _ _ _ _ _ hy post f σ (by omega) (gy post f (σ + 1) (by omega) (by omega) h)
      · have hme := fs_mp (K := K) (p := p) (n := n) hn he
        rcases ih (m - 2) (by omega) (e + 1) p t S C U wv sa st lf cp bf wk sr lt mk sm sF sT (by omega) Q1 with ⟨gx, gy⟩ | ⟨p2, t2, S2, C2, U2, wv2, sa2, st2, lf2, cp2, bf2, wk2, sr2, lt2, mk2, sm2, sF2, sT2, Q2, gx, gy⟩
        · refine Or.inl ⟨fun post fuel σ hf hs h => ?_, fun post fuel σ hf hs h h1 => ?_⟩
          · obtain ⟨f, rfl⟩ : ∃ f, fuel = f + 1 := ⟨fuel - 1, by omega⟩
            exact xgo (e + 1) _ _ _ _ _ _ _ hx post f σ (by omega) (gx post f (σ + 1) (by omega) (by omega) h)
          · obtain ⟨f, rfl⟩ : ∃ f, fuel = (f + 1) + 1 := ⟨fuel - 2, by omega⟩
            exact ygo i e hi (by omega) _ _ _ _ _ _ _ _ _ _ _ _ _ _ _ _ _ _ _ _ _ _ hy1 post (f + 1) σ (by omega) (ygo e (e + 1) he (by omega) _ _ _ _ _ _ _ _ _ _ _ _ _ _ _ _ _ _ _ _ _ _ hy2 post f (σ + 1) (by omega) (gy post f (σ + 1 + 1) (by omega) (by omega) h h1))
        · refine Or.inr ⟨p2, t2, S2, C2, U2, wv2, sa2, st2, lf2, cp2, bf2, wk2, sr2, lt2, mk2, sm2, sF2, sT2, Q2, fun post fuel σ hf hs h => ?_, fun post fuel σ hf hs h => ?_⟩
          · obtain ⟨f, rfl⟩ : ∃ f, fuel = f + 1 := ⟨fuel - 1, by omega⟩
            exact xgo (e + 1) _ _ _ _ _ _ _ hx post f σ (by omega) (gx post f (σ + 1) (by omega) (by omega) h)
          · obtain ⟨f, rfl⟩ : ∃ f, fuel = (f + 1) + 1 := ⟨fuel - 2, by omega⟩
            exact ygo i e hi (by omega) _ _ _ _ _ _ _ _ _ _ _ _ _ _ _ _ _ _ _ _ _ _ hy1 post (f + 1) σ (by omega) (ygo e (e + 1) he (by omega) _ _ _ _ _ _ _ _ _ _ _ _ _ _ _ _ _ _ _ _ _ _ hy2 post f (σ + 1) (by omega) (gy post f (σ + 1 + 1) (by omega) (by omega) h))
    · have e : i = n := by have := Q.1; omega
      subst e
      refine Or.inr ⟨p, t, S, C, U, wv, sa, st, lf, cp, bf, wk, sr, lt, mk, sm, sF, sT, Q, fun post fuel σ hf hs h => ?_, fun post fuel σ hf hs h => ?_⟩
      · obtain ⟨f, rfl⟩ : ∃ f, fuel = f + 1 := ⟨fuel - 1, by omega⟩
        exact br_f (nI_ge (b := 8192) (by omega) (by decide)) (br_t rfl (br_t (nI_le (by omega) (by omega)) h))
      · obtain ⟨f, rfl⟩ : ∃ f, fuel = f + 1 := ⟨fuel - 1, by omega⟩
        exact br_f (nI_ge (b := 5000) (by omega) (by decide)) (br_t (nI_le (by omega) (by omega)) h)
end
end
section
/-! parse: beginning and end -/
section
variable {K A B M : Nat → Nat} {n p : Nat} {S : Nat → Nat} {bf sm sF sT f : Nat → Int32}
theorem fs_sim_end (W : fs_WF K A B n) (hM : ∀ j, M j ≤ 1) (hstk : fs_stk K n = []) (D : fs_BI K A M n n p S bf sm sF sT) (KK : fs_KI K A B M n p sm sF sT) (hf : fs_inv K A B n sm sF sT p bf 0 f) : ∀ d q, q + d = p → 0 < d → f q = nI (M q) := by
  intro d
  induction d using Nat.strongRecOn with
  | ind d ih =>
    intro q hq hd
    by_cases c : ∃ q0 g a b, fs_nt K A n sm sF sT p q0 g a b ∧ q0 ≤ q ∧ q < q0 + A (A g)
    · obtain ⟨q0, g, a, b, h1, h2, h3⟩ := c
      have e2 := hf.2 q0 g a b (Nat.zero_le _) h1 (q - q0) (by omega)
      rw [show q0 + (q - q0) = q by omega] at e2
      have hab := h1.2.2.2.2.2.2
      have ec : fs_cs0 (A (A g)) (B g) f a b = fs_cs0 (A (A g)) (B g) (fs_F M) a b := fs_cs0_cg (fun j j1 j2 => ih (p - j) (by omega) j (by omega) (by omega))
      rw [e2, ec, KK q0 g a b h1]
      have e := fs_nb_bit (M := M) (p := q0) (w := A (A g)) (fun j _ => hM _) (q - q0) (by omega)
      rw [show q0 + (q - q0) = q by omega] at e
      rw [e]
    · rw [hf.1 q (fun q0 g a b _ h => Classical.byContradiction (fun z => c ⟨q0, g, a, b, h, by omega, by omega⟩))]
      rcases D q (by omega) with h | ⟨g, g1, g2, g3, g4, g5⟩ | h
      · exact h
      · exact absurd g3 (fs_pd_end hstk g1)
      · exact absurd h c
end
section
variable {mi mb mv n vc bc : Nat} {oc sl pc ps tk fl : Int32} {K A B V M : Nat → Nat} {pa rg eo nm op wb wv sa st lf cp si sf so : Nat → Int32}
theorem xs_p85 {post : Int32 → SX → Prop} {t : Nat} {g : Nat → Int32} (ht : t ≤ 64) (h : post 1 (nI mi, nI mb, nI mv, nI n, oc, sl, nI t, nI bc, pc, ps, nI t, fl, fs_F K, fs_F A, fs_F B, pa, rg, eo, nm, op, fs_cp g wv t, fs_F M, wb, wv, sa, st, lf, cp, si, sf, so)) : ∃ m, wX_parse_85 post (nI mi) (nI mb) (nI mv) (nI n) oc sl (nI vc) (nI bc) pc ps (nI t) fl m 0 (fs_F K) (fs_F A) (fs_F B) pa rg eo nm op g (fs_F M) wb wv sa st lf cp si sf so := by
  have key : ∀ d k, k + d = t → wX_parse_85 post (nI mi) (nI mb) (nI mv) (nI n) oc sl (nI vc) (nI bc) pc ps (nI t) fl (d + 1) (nI k) (fs_F K) (fs_F A) (fs_F B) pa rg eo nm op (fs_cp g wv k) (fs_F M) wb wv sa st lf cp si sf so := by
    intro d
    induction d with
    | zero =>
      intro k hk
      have : k = t := by omega
      subst this
      exact br_t (nI_le (by omega) (by omega)) h
    | succ d ih =>
      intro k hk
      have hv : vp_in (nI k) 64 := vp_in_nI (by omega) (by decide)
      refine br_f (nI_ge (by omega) (by omega)) (And.intro hv (And.intro hv ?_))
      rw [nI_clamp (n := k) (by omega), fs_cp_s]
      exact nm_e (nm_r (nI_1 k) (ih (k + 1) (by omega)))
  have h0 := key t 0 (by omega)
  rw [fs_cp_0] at h0
  exact ⟨_, h0⟩
end
section
variable {mi mb mv n vc bc : Nat} {sl ot tt wc : Int32} {K A B V M : Nat → Nat} {bf wk sr lt mk sm sF sT : Nat → Int32}
theorem ys_p68 {post : Int32 → SY → Prop} {t : Nat} {g : Nat → Int32} (ht : t ≤ 64) (h : post 1 (nI mi, nI mb, nI mv, sl, nI n, nI t, nI bc, ot, tt, nI t, fs_F K, fs_F A, fs_F B, fs_cp g wk t, fs_F M, bf, wk, sr, lt, mk, sm, sF, sT)) : ∃ m, wY_parse_68 post (nI mi) (nI mb) (nI mv) sl (nI n) (nI vc) (nI bc) ot tt (nI t) m 0 (fs_F K) (fs_F A) (fs_F B) g (fs_F M) bf wk sr lt mk sm sF sT := by
  have key : ∀ d k, k + d = t → wY_parse_68 post (nI mi) (nI mb) (nI mv) sl (nI n) (nI vc) (nI bc) ot tt (nI t) (d + 1) (nI k) (fs_F K) (fs_F A) (fs_F B) (fs_cp g wk k) (fs_F M) bf wk sr lt mk sm sF sT := by
    intro d
    induction d with
    | zero =>
      intro k hk
      have : k = t := by omega
      subst this
      exact br_t (nI_le (by omega) (by omega)) h
    | succ d ih =>
      intro k hk
      have hv : vp_in (nI k) 64 := vp_in_nI (by omega) (by decide)
      refine br_f (nI_ge (by omega) (by omega)) (And.intro hv (And.intro hv ?_))
      rw [nI_clamp (n := k) (by omega), fs_cp_s]
      exact nm_e (nm_r (nI_1 k) (ih (k + 1) (by omega)))
  have h0 := key t 0 (by omega)
  rw [fs_cp_0] at h0
  exact ⟨_, h0⟩
theorem ys_p34 {post : Int32 → SY → Prop} {p : Nat} (hp : p ≤ 128) (h1 : (∀ q, q < p → bf q = nI (M q)) → ∃ m, wY_parse_68 post (nI mi) (nI mb) (nI mv) sl (nI n) (nI vc) (nI bc) (nI p) tt wc m 0 (fs_F K) (fs_F A) (fs_F B) (fs_F V) (fs_F M) bf wk sr lt mk sm sF sT) (h0 : (∃ q, q < p ∧ bf q ≠ nI (M q)) → post (-10) (nI mi, nI mb, nI mv, sl, nI n, nI vc, nI bc, nI p, tt, wc, fs_F K, fs_F A, fs_F B, fs_F V, fs_F M, bf, wk, sr, lt, mk, sm, sF, sT)) : ∃ m, wY_parse_34 post (nI mi) (nI mb) (nI mv) sl (nI n) (nI vc) (nI bc) (nI p) tt wc (fs_F K) (fs_F A) (fs_F B) (fs_F V) (fs_F M) bf wk sr lt mk sm sF sT m 0 := by
  have key : ∀ d k, k + d = p → (∀ q, q < k → bf q = nI (M q)) → wY_parse_34 post (nI mi) (nI mb) (nI mv) sl (nI n) (nI vc) (nI bc) (nI p) tt wc (fs_F K) (fs_F A) (fs_F B) (fs_F V) (fs_F M) bf wk sr lt mk sm sF sT (d + 1) (nI k) := by
    intro d
    induction d with
    | zero =>
      intro k hk hq
      have : k = p := by omega
      subst this
      exact br_t (nI_le (by omega) (by omega)) (h1 hq)
    | succ d ih =>
      intro k hk hq
      have hv : vp_in (nI k) 128 := vp_in_nI (by omega) (by decide)
      refine br_f (nI_ge (by omega) (by omega)) (And.intro hv (And.intro hv ?_))
      rw [nI_clamp (n := k) (by omega), fs_Fa]
      refine br_c (fun e => nm_r (nI_1 k) (ih (k + 1) (by omega) (fun q hq1 => ?_))) (fun e => h0 ⟨k, by omega, fun z => e z.symm⟩)
      by_cases c : q = k
      · subst c; exact e.symm
      · exact hq q (by omega)
  exact ⟨_, key p 0 (by omega) (fun q hq => absurd hq (Nat.not_lt_zero q))⟩
end
def fs_vg (U : Nat → Nat) (t : Nat) (V : Nat → Nat) : Nat → Nat := fun q => if q < t then U q else V q
theorem fs_cp_vg {U V : Nat → Nat} {g : Nat → Int32} {t : Nat} (h : ∀ q, q < t → g q = nI (U q)) : fs_cp (fs_F V) g t = fs_F (fs_vg U t V) := by
  funext q
  show (if q < t then g q else nI (V q)) = nI (if q < t then U q else V q)
  by_cases c : q < t
  · rw [if_pos c, if_pos c]; exact h q c
  · rw [if_neg c, if_neg c]
theorem i_vc_parse {k : Nat} {u : SX} {v : SY} (I : i_Rel k u v) (hk : k + 4 ≤ 2051) : wpX_parse (fun r u' => wpY_parse (fun r' v' => r' = r ∧ i_Rel (k + 4) u' v') v) u := by
  refine zz_el (P := fun u v => wpX_parse (fun r u' => wpY_parse (fun r' v' => r' = r ∧ i_Rel (k + 4) u' v') v) u) I ?_
  intro mi mb mv n vc bc sl K A B V M oc pa rg eo nm op pc ps tk fl wb wv sa st lf cp si sf so ot tt wc bf wk sr lt mk sm sF sT R
  have R0 := R
  have Z0 := zz_in (k := k + 4) mi mb mv n vc bc sl K A B V M oc pa rg eo nm op pc ps tk fl wb wv sa st lf cp si sf so ot tt wc bf wk sr lt mk sm sF sT R
  obtain ⟨⟨b1, b2, b3, b4, b5, b6⟩, r1, r2, r3, r4, W, r6, r7, r8, r9, r10, r11, r12⟩ := R
  rcases r1 with hs | hs
  · subst hs
    exact br_t rfl (br_t rfl ⟨rfl, Z0⟩)
  clear Z0
  subst hs
  have hstk := (r12 rfl).1
  have Z : ∀ (pc' ps' tk' fl' : Int32) (wb' wv' sa' st' lf' cp' si' sf' so' : Nat → Int32) (ot' tt' wc' : Int32) (bf' wk' sr' lt' mk' sm' sF' sT' : Nat → Int32), i_Rel (k + 4) (nI mi, nI mb, nI mv, nI n, oc, 1, nI vc, nI bc, pc', ps', tk', fl', fs_F K, fs_F A, fs_F B, pa, rg, eo, nm, op, fs_F V, fs_F M, wb', wv', sa', st', lf', cp', si', sf', so') (nI mi, nI mb, nI mv, 1, nI n, nI vc, nI bc, ot', tt', wc', fs_F K, fs_F A, fs_F B, fs_F V, fs_F M, bf', wk', sr', lt', mk', sm', sF', sT') :=
    fun pc' ps' tk' fl' wb' wv' sa' st' lf' cp' si' sf' so' ot' tt' wc' bf' wk' sr' lt' mk' sm' sF' sT' => zz_in mi mb mv n vc bc 1 K A B V M oc pa rg eo nm op pc' ps' tk' fl' wb' wv' sa' st' lf' cp' si' sf' so' ot' tt' wc' bf' wk' sr' lt' mk' sm' sF' sT' R0
  have hsm : ∀ (a : Nat → Int32) q, q < 128 → fs_m1s a 128 q = -1 := fun a q hq => if_pos hq
  have Q0 : fs_PQ mv bc K A B M n 0 0 0 (fun _ => 0) (fun _ => 0) (fun _ => 0) wv sa st lf cp bf (fs_cp wk (fs_F V) 0) sr lt mk (fs_m1s sm 128) sF sT := by
    have I0 := fs_YI0 (K := K) (A := A) (n := n) (S := fun _ => 0) (C := fun _ => 0) (sr := sr) (mk := mk) (sF := sF) (sT := sT) (hsm sm) (by omega)
    refine ⟨Nat.zero_le _, fun h => fs_nc0 W h, Nat.zero_le _, Nat.zero_le _, I0, ⟨fun g _ _ hp => absurd hp.1 (Nat.not_lt_zero _), fun g hg => absurd hg List.not_mem_nil, fun g hg => absurd hg List.not_mem_nil, fun g hg => absurd hg List.not_mem_nil, fun g g' hg => absurd hg List.not_mem_nil⟩, fun q hq => absurd hq (Nat.not_lt_zero _), fun q hq => absurd hq (Nat.not_lt_zero _), ?_⟩
    rintro q g a b ⟨h0, h1, h2, h3, h4, h5⟩
    exact absurd (h1.symm.trans (hsm sm q h0)) (fs_neg1 g (by omega))
  have X0 : ∀ post : Int32 → SX → Prop, (∃ m, wX_parse_16 post m 0 (nI mi) (nI mb) (nI mv) (nI n) oc 1 (nI vc) (nI bc) 0 0 0 0 (fs_F K) (fs_F A) (fs_F B) pa rg eo nm op (fs_F V) (fs_F M) wb wv sa st lf cp si sf so) → wpX_parse post (nI mi, nI mb, nI mv, nI n, oc, 1, nI vc, nI bc, pc, ps, tk, fl, fs_F K, fs_F A, fs_F B, pa, rg, eo, nm, op, fs_F V, fs_F M, wb, wv, sa, st, lf, cp, si, sf, so) := by
    intro post h
    exact br_f (by decide) h
  have Y0 : ∀ post : Int32 → SY → Prop, (∃ m, wY_lay_80 (fun r_2 u => match u with | (f0, f1, f2, f3, f4, f5, f6, f7, f8, f9, a0, a1, a2, a3, a4, a5, a6, a7, a8, a9, a10, a11, a12) => (((r_2 = 0 → (post (-10) (f0, f1, f2, f3, f4, f5, f6, f7, f8, f9, a0, a1, a2, a3, a4, a5, a6, a7, a8, a9, a10, a11, a12))) ∧ (¬ r_2 = 0 → (((f7 = f6 → (∃ n34 : Nat, wY_parse_34 post f0 f1 f2 f3 f4 f5 f6 f7 f8 f9 a0 a1 a2 a3 a4 a5 a6 a7 a8 a9 a10 a11 a12 n34 0)) ∧ (¬ f7 = f6 → (post (-10) (f0, f1, f2, f3, f4, f5, f6, f7, f8, f9, a0, a1, a2, a3, a4, a5, a6, a7, a8, a9, a10, a11, a12))))))))) 1 m 0 0 (nI mi) (nI mb) (nI mv) 1 (nI n) (nI vc) (nI bc) 0 0 (nI 0) (fs_F K) (fs_F A) (fs_F B) (fs_F V) (fs_F M) bf (fs_cp wk (fs_F V) 0) sr lt mk (fs_m1s sm 128) sF sT) → wpY_parse post (nI mi, nI mb, nI mv, 1, nI n, nI vc, nI bc, ot, tt, wc, fs_F K, fs_F A, fs_F B, fs_F V, fs_F M, bf, wk, sr, lt, mk, sm, sF, sT) := by
    intro post h
    refine br_f (by decide) ?_
    exact br_f (by decide) (ys_l28 (c := 0) (by omega) h)
  have L := pr_lock (sl := 1) (wb := wb) (si := si) (sf := sf) (so := so) R0 4160 0 0 0 (fun _ => 0) (fun _ => 0) (fun _ => 0) wv sa st lf cp bf (fs_cp wk (fs_F V) 0) sr lt mk (fs_m1s sm 128) sF sT (fs_m0 K) Q0
  rw [nI_0] at L Y0
  rcases L with ⟨hX, hY⟩ | ⟨p1, t1, S1, C1, U1, wv1, sa1, st1, lf1, cp1, bf1, wk1, sr1, lt1, mk1, sm1, sF1, sT1, Q1, hX, hY⟩
  · refine X0 _ ⟨_, hX _ 4161 0 (by omega) (by omega) ?_⟩
    intro pc' ps' tk' fl' wb' wv' sa' st' lf' cp' si' sf' so'
    refine Y0 _ ⟨_, hY _ 4161 0 (by omega) (by omega) ?_ ?_⟩
    · intro ot' tt' wc' bf' wk' sr' lt' mk' sm' sF' sT'
      exact br_t rfl ⟨rfl, Z _ _ _ _ _ _ _ _ _ _ _ _ _ _ _ _ _ _ _ _ _ _ _ _⟩
    · intro p1 tt' wc' bf' wk' sr' lt' mk' sm' sF' sT' hp1 hbad
      refine br_f (by decide) ?_
      refine pk_eq p1 bc (fun e => ?_) (fun e => ⟨rfl, Z _ _ _ _ _ _ _ _ _ _ _ _ _ _ _ _ _ _ _ _ _ _ _ _⟩)
      have hb2 : ∃ q, q < p1 ∧ bf' q ≠ nI (M q) := by
        rcases hbad with z | z
        · exact absurd e z
        · exact z
      refine ys_p34 hp1 (fun z => ?_) (fun _ => ⟨rfl, Z _ _ _ _ _ _ _ _ _ _ _ _ _ _ _ _ _ _ _ _ _ _ _ _⟩)
      obtain ⟨q, h1, h2⟩ := hb2
      exact absurd (z q h1) h2
  · obtain ⟨q1, q2, q3, q4, I1, X1, V1, D1, K1⟩ := Q1
    by_cases hp : p1 = bc
    · have hU : ∀ q, q < t1 → U1 q < 2 ^ 30 ∧ wv1 q = nI (U1 q) ∧ wk1 q = nI (U1 q) := by
        intro q hq
        obtain ⟨v1, v2, v3, v4⟩ := V1 q hq
        refine ⟨by omega, v2, v4 ?_⟩
        rintro ⟨g, g1, _⟩
        rw [hstk] at g1
        exact absurd g1 List.not_mem_nil
      refine X0 _ ⟨_, hX _ 4161 0 (by omega) (by omega) ?_⟩
      refine br_t rfl (br_f (nI_nlt (Nat.le_refl n) (by omega)) (br_t (by rw [hp]) ?_))
      refine xs_p85 (by omega) ?_
      refine Y0 _ ⟨_, hY _ 4161 0 (by omega) (by omega) ?_⟩
      refine br_f (nI_nlt (Nat.le_refl n) (by omega)) (br_t rfl ?_)
      refine ⟨129, ys_sums (bf0 := bf1) W (by omega) r2 (by omega) I1.2.2.2.1 ?_ (t := 128) (f := bf1) (by omega) (fs_inv_top W (by omega) (by omega))⟩
      intro f' hf'
      have hall := fs_sim_end W r4 hstk D1 K1 hf'
      refine br_f (by decide) (br_t (by rw [hp]) ?_)
      refine ys_p34 (by omega) (fun _ => ?_) (fun z => ?_)
      · refine ys_p68 (by omega) ⟨rfl, ?_⟩
        rw [fs_cp_vg (fun q hq => (hU q hq).2.1), fs_cp_vg (fun q hq => (hU q hq).2.2)]
        refine zz_in mi mb mv n t1 bc 1 K A B (fs_vg U1 t1 V) M oc pa rg eo nm op _ _ _ _ _ _ _ _ _ _ _ _ _ _ _ _ _ _ _ _ _ _ _ _ ⟨⟨b1, b2, b3, b4, q4, b6⟩, Or.inr rfl, r2, fun j => ?_, r4, W, r6, r7, r8, r9, r10, r11, r12⟩
        unfold fs_vg
        split
        · next c => exact (hU j c).1
        · exact r3 j
      · obtain ⟨q, h1, h2⟩ := z
        exact absurd (hall (p1 - q) q (by omega) (by omega)) h2
    · have hpn : ¬ nI p1 = nI bc := fun z => hp ((nI_eq (by omega) (by omega)).mp z)
      refine X0 _ ⟨_, hX _ 4161 0 (by omega) (by omega) ?_⟩
      refine br_t rfl (br_f (nI_nlt (Nat.le_refl n) (by omega)) (br_f hpn ?_))
      refine Y0 _ ⟨_, hY _ 4161 0 (by omega) (by omega) ?_⟩
      refine br_f (nI_nlt (Nat.le_refl n) (by omega)) (br_t rfl ?_)
      refine ⟨129, ys_sums (bf0 := bf1) W (by omega) r2 (by omega) I1.2.2.2.1 ?_ (t := 128) (f := bf1) (by omega) (fs_inv_top W (by omega) (by omega))⟩
      intro f' hf'
      exact br_f (by decide) (br_f hpn ⟨rfl, Z _ _ _ _ _ _ _ _ _ _ _ _ _ _ _ _ _ _ _ _ _ _ _ _⟩)
end
