section
/-! rows pasted from the kit (PURE-ROWS, BITS): a starting text -/
theorem pk_us {f : Nat → Int32} {k : Nat} {x : Int32} : upd f k x k = x := if_pos rfl
theorem pk_un {f : Nat → Int32} {k j : Nat} {x : Int32} (h : j ≠ k) : upd f k x j = f j := if_neg h
theorem pk_sub {a b : Nat} (h : b ≤ a) : nI a - nI b = nI (a - b) := by
  obtain ⟨c, rfl⟩ : ∃ c, a = c + b := ⟨a - b, by omega⟩
  rw [← nI_add, Int32.add_sub_cancel, Nat.add_sub_cancel]
theorem pk_m1 (n : Nat) : nI (n + 1) + (-1) = nI n := by
  rw [← nI_1, Int32.add_assoc, show (1 : Int32) + (-1) = 0 from rfl, Int32.add_zero]
theorem pk_mul (a b : Nat) : nI a * nI b = nI (a * b) := (Int32.ofNat_mul a b).symm
theorem pk_ix (x : Int32) {n : Nat} (hn : n < 2 ^ 31) : x < 0 ∨ nI n ≤ x ∨ ∃ j : Nat, j < n ∧ x = nI j := by
  by_cases h : x < 0
  · exact Or.inl h
  · obtain ⟨j, hj, rfl⟩ := nI_of h
    by_cases h2 : j < n
    · exact Or.inr (Or.inr ⟨j, h2, rfl⟩)
    · exact Or.inr (Or.inl (nI_le (by omega) hj))
theorem pk_le {x y : Int32} {A B : Prop} (a b : Nat) (f : a ≤ b → A) (g : b < a → B) (hx : x = nI a := by rfl) (hy : y = nI b := by rfl) (ha : a < 2 ^ 31 := by omega) (hb : b < 2 ^ 31 := by omega) : (x ≤ y → A) ∧ (¬ x ≤ y → B) := by
  subst hx hy
  rw [nI_leI ha hb]
  exact ⟨f, fun z => g (by omega)⟩
theorem pk_lt {x y : Int32} {A B : Prop} (a b : Nat) (f : a < b → A) (g : b ≤ a → B) (hx : x = nI a := by rfl) (hy : y = nI b := by rfl) (ha : a < 2 ^ 31 := by omega) (hb : b < 2 ^ 31 := by omega) : (x < y → A) ∧ (¬ x < y → B) := by
  subst hx hy
  rw [nI_ltI ha hb]
  exact ⟨f, fun z => g (by omega)⟩
theorem pk_eq {x y : Int32} {A B : Prop} (a b : Nat) (f : a = b → A) (g : a ≠ b → B) (hx : x = nI a := by rfl) (hy : y = nI b := by rfl) (ha : a < 2 ^ 31 := by omega) (hb : b < 2 ^ 31 := by omega) : (x = y → A) ∧ (¬ x = y → B) := by
  subst hx hy
  rw [nI_eq ha hb]
  exact ⟨f, g⟩
theorem pk_in {x : Int32} (n N : Nat) (h : n < N) (hx : x = nI n := by rfl) (hN : N < 2 ^ 31 := by omega) : vp_in x N := by
  subst hx
  exact vp_in_nI h hN
theorem pk_cl {x : Int32} (n : Nat) (hx : x = nI n := by rfl) (h : n < 2 ^ 31 := by omega) : x.toNatClampNeg = n := by
  subst hx
  exact nI_clamp h
def bt (x : Int32) (i : Nat) : Bool := x.toBitVec.getLsbD i
theorem b_ext {x y : Int32} (h : ∀ i, i < 32 → bt x i = bt y i) : x = y := Int32.toBitVec_inj.mp (BitVec.eq_of_getLsbD_eq (fun i hi => h i hi))
theorem b_or (x y : Int32) (i : Nat) : bt (x ||| y) i = (bt x i || bt y i) := by unfold bt; rw [Int32.toBitVec_or, BitVec.getLsbD_or]
theorem b_and (x y : Int32) (i : Nat) : bt (x &&& y) i = (bt x i && bt y i) := by unfold bt; rw [Int32.toBitVec_and, BitVec.getLsbD_and]
theorem b_big {x : Int32} {i : Nat} (h : 32 ≤ i) : bt x i = false := BitVec.getLsbD_of_ge _ _ h
theorem b_0 (i : Nat) : bt 0 i = false := BitVec.getLsbD_zero
theorem s_l : ∀ n, n < 32 → ((nI n &&& 31).toBitVec.smod 32).toNat = n := by decide +kernel
theorem s_u : ∀ n, n < 32 → (((nI n).toUInt32 &&& Int32.toUInt32 31).toBitVec % 32).toNat = n := by decide +kernel
theorem b_shl (n : Nat) (hn : n < 32) (x : Int32) {i : Nat} (hi : i < 32) : bt (x <<< (nI n &&& 31)) i = (decide (n ≤ i) && bt x (i - n)) := by
  unfold bt
  rw [Int32.toBitVec_shiftLeft]
  show (x.toBitVec <<< ((nI n &&& 31).toBitVec.smod 32).toNat).getLsbD i = _
  rw [s_l n hn, BitVec.getLsbD_shiftLeft]
  rcases Nat.lt_or_ge i n with h | h
  · simp [h, Nat.not_le.mpr h]
  · simp [hi, h, Nat.not_lt.mpr h]
theorem b_ushr (n : Nat) (hn : n < 32) (x : Int32) (i : Nat) : bt ((x.toUInt32 >>> ((nI n).toUInt32 &&& Int32.toUInt32 31)).toInt32) i = bt x (n + i) := by
  show (x.toUInt32 >>> ((nI n).toUInt32 &&& Int32.toUInt32 31)).toBitVec.getLsbD i = x.toUInt32.toBitVec.getLsbD (n + i)
  rw [UInt32.toBitVec_shiftRight]
  show (x.toUInt32.toBitVec >>> (((nI n).toUInt32 &&& Int32.toUInt32 31).toBitVec % 32).toNat).getLsbD i = _
  rw [s_u n hn, BitVec.getLsbD_ushiftRight]
end
section
/-! finite sums over the naturals -/
def sg_sm (f : Nat → Nat) : Nat → Nat
  | 0 => 0
  | n + 1 => sg_sm f n + f n
theorem sg_cg {f g : Nat → Nat} {n : Nat} (h : ∀ i, i < n → f i = g i) : sg_sm f n = sg_sm g n := by
  induction n with
  | zero => rfl
  | succ n ih =>
    show sg_sm f n + f n = sg_sm g n + g n
    rw [ih (fun i hi => h i (by omega)), h n (by omega)]
theorem sg_le {f g : Nat → Nat} {n : Nat} (h : ∀ i, i < n → f i ≤ g i) : sg_sm f n ≤ sg_sm g n := by
  induction n with
  | zero => exact Nat.le_refl _
  | succ n ih =>
    show sg_sm f n + f n ≤ sg_sm g n + g n
    have a := ih (fun i hi => h i (by omega))
    have b := h n (by omega)
    omega
theorem sg_ad (f g : Nat → Nat) (n : Nat) : sg_sm (fun i => f i + g i) n = sg_sm f n + sg_sm g n := by
  induction n with
  | zero => rfl
  | succ n ih =>
    show sg_sm (fun i => f i + g i) n + (f n + g n) = sg_sm f n + f n + (sg_sm g n + g n)
    omega
theorem sg_z (n : Nat) : sg_sm (fun _ => 0) n = 0 := by
  induction n with
  | zero => rfl
  | succ n ih =>
    show sg_sm (fun _ => 0) n + 0 = 0
    omega
theorem sg_k (n : Nat) : sg_sm (fun _ => 1) n = n := by
  induction n with
  | zero => rfl
  | succ n ih =>
    show sg_sm (fun _ => 1) n + 1 = n + 1
    omega
theorem sg_sw (f : Nat → Nat → Nat) (m n : Nat) : sg_sm (fun i => sg_sm (fun j => f i j) m) n = sg_sm (fun j => sg_sm (fun i => f i j) n) m := by
  induction n with
  | zero => exact (sg_z m).symm
  | succ n ih =>
    show sg_sm (fun i => sg_sm (fun j => f i j) m) n + sg_sm (fun j => f n j) m = sg_sm (fun j => sg_sm (fun i => f i j) n + f n j) m
    rw [sg_ad, ih]
/-- one place changed -/
theorem sg_up {f g : Nat → Nat} {n : Nat} (k : Nat) (hk : k < n) (h : ∀ i, i < n → i ≠ k → f i = g i) : sg_sm f n + g k = sg_sm g n + f k := by
  induction n with
  | zero => omega
  | succ n ih =>
    show sg_sm f n + f n + g k = sg_sm g n + g n + f k
    by_cases e : k = n
    · subst e
      have := sg_cg (f := f) (g := g) (n := k) (fun i hi => h i (by omega) (by omega))
      omega
    · have a := ih (by omega) (fun i hi => h i (by omega))
      have b := h n (by omega) (by omega)
      omega
theorem sg_one {f : Nat → Nat} {n : Nat} (k : Nat) (hk : k < n) : f k ≤ sg_sm f n := by
  induction n with
  | zero => omega
  | succ n ih =>
    show f k ≤ sg_sm f n + f n
    by_cases e : k = n
    · subst e; omega
    · have := ih (by omega); omega
theorem sg_two {f : Nat → Nat} {n : Nat} (j k : Nat) (hj : j < n) (hk : k < n) (e : j ≠ k) : f j + f k ≤ sg_sm f n := by
  induction n with
  | zero => omega
  | succ n ih =>
    show f j + f k ≤ sg_sm f n + f n
    by_cases e1 : k = n
    · have := sg_one (f := f) (n := n) j (by omega)
      subst e1; omega
    · by_cases e2 : j = n
      · have := sg_one (f := f) (n := n) k (by omega)
        subst e2; omega
      · have := ih (by omega) (by omega); omega
/-- a sum of noughts and ones with a nought in it -/
theorem sg_lt {f : Nat → Nat} {n : Nat} (k : Nat) (hk : k < n) (h0 : f k = 0) (h1 : ∀ i, i < n → f i ≤ 1) : sg_sm f n < n := by
  have a := sg_up (f := f) (g := fun i => if i = k then 1 else f i) (n := n) k hk (fun i _ hne => (if_neg hne).symm)
  have b := sg_le (f := fun i => if i = k then 1 else f i) (g := fun _ => 1) (n := n) (fun i hi => by
    show (if i = k then 1 else f i) ≤ 1
    split
    · exact Nat.le_refl _
    · exact h1 i hi)
  rw [sg_k] at b
  simp only [if_pos] at a
  omega
/-- a sum below another, strictly so at one place -/
theorem sg_ls {f g : Nat → Nat} {n : Nat} (k : Nat) (hk : k < n) (h0 : f k < g k) (h1 : ∀ i, i < n → f i ≤ g i) : sg_sm f n < sg_sm g n := by
  have a := sg_up (f := f) (g := fun i => if i = k then f k + 1 else f i) (n := n) k hk (fun i _ hne => (if_neg hne).symm)
  have b := sg_le (f := fun i => if i = k then f k + 1 else f i) (g := g) (n := n) (fun i hi => by
    show (if i = k then f k + 1 else f i) ≤ g i
    split
    · rename_i e; subst e; exact h0
    · exact h1 i hi)
  simp only [if_pos] at a
  omega
end
section
/-! ===== the invariant: references, users, ranks, values ===== -/
def sp_e (r : Int32) (o : Nat) : Nat := if r = nI o then 1 else 0
def sp_pg (ob : Nat → Int32) (o : Nat) : Nat := sg_sm (fun p => sp_e (ob p) o) 64
def sp_c (tk sh : Nat → Int32) (o q : Nat) : Nat := if tk q = 0 then 0 else sp_e (sh q) o
def sp_ch (tk sh : Nat → Int32) (o : Nat) : Nat := sg_sm (sp_c tk sh o) 130
def sp_ct (ob tk sh : Nat → Int32) (x : Int32) (o : Nat) : Nat := sp_pg ob o + sp_ch tk sh o + sp_e x o
def sp_rf (tk : Nat → Int32) (r : Int32) : Prop := r = -1 ∨ ∃ o, o < 130 ∧ r = nI o ∧ tk o ≠ 0
def sp_A (ob tk sh : Nat → Int32) (x : Int32) : Prop := (∀ p, p < 64 → sp_rf tk (ob p)) ∧ (∀ q, q < 130 → tk q ≠ 0 → sp_rf tk (sh q)) ∧ sp_rf tk x
def sp_U (ob tk sh us : Nat → Int32) (x : Int32) : Prop := ∀ o, o < 130 → tk o ≠ 0 → us o = nI (sp_ct ob tk sh x o) ∧ 0 < sp_ct ob tk sh x o
def sp_K (tk sh : Nat → Int32) (rk : Nat → Nat) : Prop := (∀ q, q < 130 → rk q < 130) ∧ ∀ q o, q < 130 → o < 130 → tk q ≠ 0 → sh q = nI o → rk o < rk q
def sp_vl (V : Nat → Nat → Int32) (r : Int32) (c : Nat) : Int32 := if r < 0 then 0 else V r.toNatClampNeg c
def sp_b (h : Int32) (c : Nat) : Int32 := ((h.toUInt32 >>> ((nI c).toUInt32 &&& Int32.toUInt32 31)).toInt32) &&& 1
def sp_V (tk hd ce sh : Nat → Int32) (V : Nat → Nat → Int32) : Prop := ∀ q c, q < 130 → c < 4 → tk q ≠ 0 → V q c = if sp_b (hd q) c = 0 then sp_vl V (sh q) c else ce (4 * q + c)
def sp_I (ob tk hd ce sh us : Nat → Int32) (V : Nat → Nat → Int32) (rk : Nat → Nat) (x : Int32) : Prop := sp_A ob tk sh x ∧ sp_U ob tk sh us x ∧ sp_K tk sh rk ∧ sp_V tk hd ce sh V
/-- folded: no object that another object uses has one user -/
def sp_F (tk sh us : Nat → Int32) : Prop := ∀ q, q < 130 → tk q ≠ 0 → ¬ sh q < 0 → us (sh q).toNatClampNeg ≠ 1
/-- how many objects are taken -/
def sp_T (tk : Nat → Int32) : Nat := sg_sm (fun q => if tk q = 0 then 0 else 1) 130
/-! == small facts == -/
theorem sp_31 {o : Nat} (h : o < 130) : o < 2 ^ 31 := Nat.lt_trans h (by decide)
theorem sp_m1 : (-1 : Int32) < 0 := by decide
theorem sp_ne1 {o : Nat} (h : o < 130) : nI o ≠ -1 := fun z => nI_pos (sp_31 h) (by rw [z]; exact sp_m1)
theorem sp_es (o : Nat) : sp_e (nI o) o = 1 := if_pos rfl
theorem sp_en {r : Int32} {o : Nat} (h : r ≠ nI o) : sp_e r o = 0 := if_neg h
theorem sp_en2 {a b : Nat} (ha : a < 130) (hb : b < 130) (h : a ≠ b) : sp_e (nI a) b = 0 := if_neg (fun z => h ((nI_eq (sp_31 ha) (sp_31 hb)).mp z))
theorem sp_em {o : Nat} (h : o < 130) : sp_e (-1) o = 0 := if_neg (fun z => sp_ne1 h z.symm)
theorem sp_e0 {r : Int32} {o : Nat} (h : sp_e r o = 0) : r ≠ nI o := fun z => by
  rw [z, sp_es] at h
  exact absurd h (by decide)
theorem sp_e1 (r : Int32) (o : Nat) : sp_e r o ≤ 1 := by
  unfold sp_e
  split <;> decide
theorem sp_c0 {tk sh : Nat → Int32} {o q : Nat} (h : tk q = 0) : sp_c tk sh o q = 0 := if_pos h
theorem sp_c1 {tk sh : Nat → Int32} {o q : Nat} (h : tk q ≠ 0) : sp_c tk sh o q = sp_e (sh q) o := if_neg h
theorem sp_cle (tk sh : Nat → Int32) (o q : Nat) : sp_c tk sh o q ≤ 1 := by
  unfold sp_c
  split
  · exact Nat.zero_le _
  · exact sp_e1 _ _
theorem sp_ctb (ob tk sh : Nat → Int32) (x : Int32) (o : Nat) : sp_ct ob tk sh x o < 200 := by
  have a := sg_le (f := fun p => sp_e (ob p) o) (g := fun _ => 1) (n := 64) (fun i _ => sp_e1 _ _)
  have b := sg_le (f := sp_c tk sh o) (g := fun _ => 1) (n := 130) (fun i _ => sp_cle _ _ _ _)
  rw [sg_k] at a b
  have c := sp_e1 x o
  unfold sp_ct sp_pg sp_ch
  omega
theorem sp_rfu {tk : Nat → Int32} {r z : Int32} {o : Nat} (h : sp_rf tk r) (he : r ≠ nI o) : sp_rf (upd tk o z) r := by
  rcases h with h | ⟨m, hm, rfl, ht⟩
  · exact Or.inl h
  · exact Or.inr ⟨m, hm, rfl, by rw [pk_un (fun e => he (by rw [e]))]; exact ht⟩
theorem sp_tku {tk : Nat → Int32} {o q : Nat} (h : upd tk o 0 q ≠ 0) : q ≠ o ∧ tk q ≠ 0 := by
  by_cases e : q = o
  · subst e
    exact absurd pk_us h
  · rw [pk_un e] at h
    exact ⟨e, h⟩
/-- a reference doesn't lead to a free object -/
theorem sp_nf {tk : Nat → Int32} {r : Int32} {n : Nat} (h : sp_rf tk r) (hn : n < 130) (h0 : tk n = 0) : r ≠ nI n := by
  rcases h with rfl | ⟨m, hm, rfl, ht⟩
  · exact fun z => sp_ne1 hn z.symm
  · intro z
    have := (nI_eq (sp_31 hm) (sp_31 hn)).mp z
    subst this
    exact ht h0
theorem sp_rft {tk : Nat → Int32} {n : Nat} (h : sp_rf tk (nI n)) (hn : n < 130) : tk n ≠ 0 := fun z => sp_nf h hn z rfl
theorem sp_pgz {ob : Nat → Int32} {o : Nat} (h : ∀ p, p < 64 → ob p ≠ nI o) : sp_pg ob o = 0 := by
  unfold sp_pg
  rw [sg_cg (g := fun _ => 0) (fun i hi => sp_en (h i hi))]
  exact sg_z 64
theorem sp_chz {tk sh : Nat → Int32} {o : Nat} (h : ∀ q, q < 130 → tk q ≠ 0 → sh q ≠ nI o) : sp_ch tk sh o = 0 := by
  unfold sp_ch
  rw [sg_cg (g := fun _ => 0) (fun i hi => by
    by_cases z : tk i = 0
    · exact sp_c0 z
    · rw [sp_c1 z]; exact sp_en (h i hi z))]
  exact sg_z 130
theorem sp_pgp {ob : Nat → Int32} {o p : Nat} (hp : p < 64) (h : ob p = nI o) : 1 ≤ sp_pg ob o := by
  have a : sp_e (ob p) o ≤ sp_pg ob o := sg_one (f := fun p => sp_e (ob p) o) p hp
  rw [h, sp_es] at a
  exact a
theorem sp_chp {tk sh : Nat → Int32} {o q : Nat} (hq : q < 130) (ht : tk q ≠ 0) (h : sh q = nI o) : 1 ≤ sp_ch tk sh o := by
  have a : sp_c tk sh o q ≤ sp_ch tk sh o := sg_one (f := sp_c tk sh o) q hq
  rw [sp_c1 ht, h, sp_es] at a
  exact a
theorem sp_pg0 {ob : Nat → Int32} {o : Nat} (h : sp_pg ob o = 0) : ∀ p, p < 64 → ob p ≠ nI o := fun p hp z => by
  have := sp_pgp hp z
  omega
theorem sp_ch0 {tk sh : Nat → Int32} {o : Nat} (h : sp_ch tk sh o = 0) : ∀ q, q < 130 → tk q ≠ 0 → sh q ≠ nI o := fun q hq ht z => by
  have := sp_chp hq ht z
  omega
theorem sp_pg1 {ob : Nat → Int32} {o p : Nat} (hp : p < 64) (h : ob p = nI o) (h1 : sp_pg ob o = 1) : ∀ p', p' < 64 → p' ≠ p → ob p' ≠ nI o := fun p' hp' hne z => by
  have a : sp_e (ob p') o + sp_e (ob p) o ≤ sp_pg ob o := sg_two (f := fun p => sp_e (ob p) o) p' p hp' hp hne
  rw [h, z, sp_es] at a
  omega
theorem sp_ch1 {tk sh : Nat → Int32} {o q : Nat} (hq : q < 130) (ht : tk q ≠ 0) (h : sh q = nI o) (h1 : sp_ch tk sh o = 1) : ∀ q', q' < 130 → tk q' ≠ 0 → q' ≠ q → sh q' ≠ nI o := fun q' hq' ht' hne z => by
  have a : sp_c tk sh o q' + sp_c tk sh o q ≤ sp_ch tk sh o := sg_two (f := sp_c tk sh o) q' q hq' hq hne
  rw [sp_c1 ht, sp_c1 ht', h, z, sp_es] at a
  omega
theorem sp_pg_up {ob : Nat → Int32} {p : Nat} (hp : p < 64) (r : Int32) (m : Nat) : sp_pg (upd ob p r) m + sp_e (ob p) m = sp_pg ob m + sp_e r m := by
  have a := sg_up (f := fun i => sp_e (upd ob p r i) m) (g := fun i => sp_e (ob i) m) (n := 64) p hp (fun i _ hne => by
    show sp_e (upd ob p r i) m = sp_e (ob i) m
    rw [pk_un hne])
  rw [pk_us] at a
  exact a
theorem sp_ch_sh {tk sh : Nat → Int32} {q : Nat} (hq : q < 130) (ht : tk q ≠ 0) (r : Int32) (m : Nat) : sp_ch tk (upd sh q r) m + sp_e (sh q) m = sp_ch tk sh m + sp_e r m := by
  have a := sg_up (f := sp_c tk (upd sh q r) m) (g := sp_c tk sh m) (n := 130) q hq (fun i _ hne => by
    unfold sp_c
    rw [pk_un hne])
  rw [sp_c1 ht, sp_c1 ht, pk_us] at a
  exact a
theorem sp_ch_tk {tk sh : Nat → Int32} {q : Nat} (hq : q < 130) (ht : tk q ≠ 0) (m : Nat) : sp_ch (upd tk q 0) sh m + sp_e (sh q) m = sp_ch tk sh m := by
  have a := sg_up (f := sp_c (upd tk q 0) sh m) (g := sp_c tk sh m) (n := 130) q hq (fun i _ hne => by
    unfold sp_c
    rw [pk_un hne])
  rw [sp_c1 ht, sp_c0 (tk := upd tk q 0) pk_us] at a
  exact a
theorem sp_ch_new {tk sh : Nat → Int32} {q : Nat} (hq : q < 130) (ht : tk q = 0) (r : Int32) (m : Nat) : sp_ch (upd tk q 1) (upd sh q r) m = sp_ch tk sh m + sp_e r m := by
  have a := sg_up (f := sp_c (upd tk q 1) (upd sh q r) m) (g := sp_c tk sh m) (n := 130) q hq (fun i _ hne => by
    unfold sp_c
    rw [pk_un hne, pk_un hne])
  rw [sp_c0 ht, sp_c1 (tk := upd tk q 1) (by rw [pk_us]; decide), pk_us] at a
  exact a
theorem sp_Km {tk tk' sh : Nat → Int32} {rk : Nat → Nat} (h : sp_K tk sh rk) (ht : ∀ q, tk' q ≠ 0 → tk q ≠ 0) : sp_K tk' sh rk :=
  ⟨h.1, fun q o hq ho z e => h.2 q o hq ho (ht q z) e⟩
theorem sp_vlm (V : Nat → Nat → Int32) (c : Nat) : sp_vl V (-1) c = 0 := if_pos sp_m1
theorem sp_vln (V : Nat → Nat → Int32) {o : Nat} (ho : o < 130) (c : Nat) : sp_vl V (nI o) c = V o c := by
  unfold sp_vl
  rw [if_neg (nI_pos (sp_31 ho)), nI_clamp (sp_31 ho)]
theorem sp_vlc {tk : Nat → Int32} {V V' : Nat → Nat → Int32} {r : Int32} {c : Nat} (hr : sp_rf tk r) (h : ∀ m, m < 130 → tk m ≠ 0 → r = nI m → V' m c = V m c) : sp_vl V' r c = sp_vl V r c := by
  rcases hr with rfl | ⟨m, hm, rfl, ht⟩
  · rw [sp_vlm, sp_vlm]
  · rw [sp_vln _ hm, sp_vln _ hm]
    exact h m hm ht rfl
/-! == bits == -/
theorem sp_t1 : bt 1 0 = true := by decide +kernel
theorem sp_t2 : ∀ i, i < 32 → 0 < i → bt 1 i = false := by decide +kernel
theorem sp_b0 (h : Int32) {c : Nat} (hc : c < 32) : sp_b h c = 0 ↔ bt h c = false := by
  have e : bt (sp_b h c) 0 = bt h c := by
    unfold sp_b
    rw [b_and, b_ushr c hc, sp_t1, Bool.and_true, Nat.add_zero]
  constructor
  · intro z
    rw [← e, z]
    exact b_0 0
  · intro z
    refine b_ext (fun i hi => ?_)
    rw [b_0]
    by_cases hi0 : i = 0
    · subst hi0
      rw [e, z]
    · unfold sp_b
      rw [b_and, sp_t2 i hi (by omega), Bool.and_false]
theorem sp_bor (x y : Int32) {c : Nat} (hc : c < 32) : sp_b (x ||| y) c = 0 ↔ sp_b x c = 0 ∧ sp_b y c = 0 := by
  rw [sp_b0 _ hc, sp_b0 _ hc, sp_b0 _ hc, b_or]
  cases bt x c <;> cases bt y c <;> simp
theorem sp_b15 : ∀ c, c < 4 → sp_b 15 c ≠ 0 := by decide +kernel
theorem sp_bz : ∀ c, c < 4 → sp_b 0 c = 0 := by decide +kernel
theorem sp_bs : ∀ c, c < 4 → sp_b ((1 : Int32) <<< (nI c &&& 31)) c ≠ 0 := by decide +kernel
theorem sp_bn : ∀ c, c < 4 → ∀ d, d < 4 → d ≠ c → sp_b ((1 : Int32) <<< (nI c &&& 31)) d = 0 := by decide +kernel
end
section
/-! ===== what each step of the component does to the invariant ===== -/
section
variable {ob tk hd ce sh us : Nat → Int32} {V : Nat → Nat → Int32} {rk : Nat → Nat}
theorem sp_dec {o : Nat} (h : sp_I ob tk hd ce sh us V rk (nI o)) (ho : o < 130) (hc : sp_ct ob tk sh (nI o) o ≠ 1) : sp_I ob tk hd ce sh (upd us o (us o - 1)) V rk (-1) := by
  obtain ⟨hA, hU, hK, hV⟩ := h
  refine ⟨⟨hA.1, hA.2.1, Or.inl rfl⟩, fun m hm hmt => ?_, hK, hV⟩
  obtain ⟨u1, u2⟩ := hU m hm hmt
  by_cases e : m = o
  · subst e
    have e1 : sp_ct ob tk sh (nI m) m = sp_ct ob tk sh (-1) m + 1 := by
      unfold sp_ct
      rw [sp_es, sp_em hm]
    rw [pk_us, u1, e1, nI_pred]
    exact ⟨rfl, by omega⟩
  · have e1 : sp_ct ob tk sh (nI o) m = sp_ct ob tk sh (-1) m := by
      unfold sp_ct
      rw [sp_en2 ho hm (Ne.symm e), sp_em hm]
    rw [pk_un e, ← e1]
    exact ⟨u1, u2⟩
theorem sp_die {o : Nat} (h : sp_I ob tk hd ce sh us V rk (nI o)) (ho : o < 130) (hc : sp_ct ob tk sh (nI o) o = 1) (w : Int32) : sp_I ob (upd tk o 0) hd ce sh (upd us o w) V rk (sh o) := by
  obtain ⟨hA, hU, hK, hV⟩ := h
  have ht : tk o ≠ 0 := sp_rft hA.2.2 ho
  have hp0 : sp_pg ob o = 0 := by
    unfold sp_ct at hc
    rw [sp_es] at hc
    omega
  have hc0 : sp_ch tk sh o = 0 := by
    unfold sp_ct at hc
    rw [sp_es] at hc
    omega
  have n1 := sp_pg0 hp0
  have n2 := sp_ch0 hc0
  refine ⟨⟨fun p hp => sp_rfu (hA.1 p hp) (n1 p hp), fun q hq hqt => ?_, sp_rfu (hA.2.1 o ho ht) (n2 o ho ht)⟩, fun m hm hmt => ?_, sp_Km hK (fun q z => (sp_tku z).2), fun q c hq hc' z => hV q c hq hc' (sp_tku z).2⟩
  · exact sp_rfu (hA.2.1 q hq (sp_tku hqt).2) (n2 q hq (sp_tku hqt).2)
  · obtain ⟨hne, hmt'⟩ := sp_tku hmt
    obtain ⟨u1, u2⟩ := hU m hm hmt'
    have e1 : sp_ct ob (upd tk o 0) sh (sh o) m = sp_ct ob tk sh (nI o) m := by
      unfold sp_ct
      have a := sp_ch_tk (sh := sh) ho ht m
      rw [sp_en2 ho hm (Ne.symm hne)]
      omega
    rw [pk_un hne, e1]
    exact ⟨u1, u2⟩
theorem sp_lead0 {p : Nat} (h : sp_I ob tk hd ce sh us V rk (-1)) (hp : p < 64) : sp_I (upd ob p (-1)) tk hd ce sh us V rk (ob p) := by
  obtain ⟨hA, hU, hK, hV⟩ := h
  refine ⟨⟨fun i hi => ?_, hA.2.1, hA.1 p hp⟩, fun m hm hmt => ?_, hK, hV⟩
  · by_cases e : i = p
    · subst e
      rw [pk_us]
      exact Or.inl rfl
    · rw [pk_un e]
      exact hA.1 i hi
  · have e1 : sp_ct (upd ob p (-1)) tk sh (ob p) m = sp_ct ob tk sh (-1) m := by
      unfold sp_ct
      have a := sp_pg_up (ob := ob) hp (-1) m
      omega
    rw [e1]
    exact hU m hm hmt
theorem sp_lead1 {p r : Nat} (h : sp_I ob tk hd ce sh us V rk (-1)) (hp : p < 64) (hr : r < 130) (ht : tk r ≠ 0) : sp_I (upd ob p (nI r)) tk hd ce sh (upd us r (us r + 1)) V rk (ob p) := by
  obtain ⟨hA, hU, hK, hV⟩ := h
  refine ⟨⟨fun i hi => ?_, hA.2.1, hA.1 p hp⟩, fun m hm hmt => ?_, hK, hV⟩
  · by_cases e : i = p
    · subst e
      rw [pk_us]
      exact Or.inr ⟨r, hr, rfl, ht⟩
    · rw [pk_un e]
      exact hA.1 i hi
  · obtain ⟨u1, u2⟩ := hU m hm hmt
    have a := sp_pg_up (ob := ob) hp (nI r) m
    by_cases e : m = r
    · subst e
      have e1 : sp_ct (upd ob p (nI m)) tk sh (ob p) m = sp_ct ob tk sh (-1) m + 1 := by
        unfold sp_ct
        rw [sp_es] at a
        rw [sp_em hm]
        omega
      rw [pk_us, u1, e1, nI_1]
      exact ⟨rfl, by omega⟩
    · have e1 : sp_ct (upd ob p (nI r)) tk sh (ob p) m = sp_ct ob tk sh (-1) m := by
        unfold sp_ct
        rw [sp_en2 hr hm (Ne.symm e)] at a
        rw [sp_em hm]
        omega
      rw [pk_un e, e1]
      exact ⟨u1, u2⟩
theorem sp_drop {o : Nat} (h : sp_I ob tk hd ce sh us V rk (-1)) (ho : o < 130) (ht : tk o ≠ 0) (hb : ∀ c, c < 4 → sp_b (hd o) c ≠ 0) : sp_I ob tk hd ce (upd sh o (-1)) us V rk (sh o) := by
  obtain ⟨hA, hU, hK, hV⟩ := h
  refine ⟨⟨hA.1, fun q hq hqt => ?_, hA.2.1 o ho ht⟩, fun m hm hmt => ?_, ⟨hK.1, fun q m hq hm hqt e => ?_⟩, fun q c hq hc hqt => ?_⟩
  · by_cases e : q = o
    · subst e
      rw [pk_us]
      exact Or.inl rfl
    · rw [pk_un e]
      exact hA.2.1 q hq hqt
  · have e1 : sp_ct ob tk (upd sh o (-1)) (sh o) m = sp_ct ob tk sh (-1) m := by
      unfold sp_ct
      have a := sp_ch_sh (sh := sh) ho ht (-1) m
      omega
    rw [e1]
    exact hU m hm hmt
  · by_cases e' : q = o
    · subst e'
      rw [pk_us] at e
      exact absurd e.symm (sp_ne1 hm)
    · rw [pk_un e'] at e
      exact hK.2 q m hq hm hqt e
  · by_cases e' : q = o
    · subst e'
      rw [if_neg (hb c hc)]
      have := hV q c hq hc hqt
      rw [if_neg (hb c hc)] at this
      exact this
    · rw [pk_un e']
      exact hV q c hq hc hqt
theorem sp_fld {ce' : Nat → Int32} {o b : Nat} (h : sp_I ob tk hd ce sh us V rk (-1)) (ho : o < 130) (hb : b < 130) (hto : tk o ≠ 0) (hs : sh o = nI b) (hu : us b = 1)
    (hc1 : ∀ c, c < 4 → ce' (4 * o + c) = if sp_b (hd o) c = 0 then (if sp_b (hd b) c = 0 then ce (4 * o + c) else ce (4 * b + c)) else ce (4 * o + c))
    (hc2 : ∀ q c, c < 4 → q ≠ o → ce' (4 * q + c) = ce (4 * q + c)) :
    sp_I ob (upd tk b 0) (upd hd o (hd o ||| hd b)) ce' (upd sh o (sh b)) (upd us b 0) V rk (-1) := by
  obtain ⟨hA, hU, hK, hV⟩ := h
  have hrb : sp_rf tk (sh o) := hA.2.1 o ho hto
  have hbt : tk b ≠ 0 := by
    rw [hs] at hrb
    exact sp_rft hrb hb
  have hr1 : rk b < rk o := hK.2 o b ho hb hto hs
  have hob : b ≠ o := fun e => by
    rw [e] at hr1
    omega
  have hct : sp_ct ob tk sh (-1) b = 1 := by
    obtain ⟨u1, -⟩ := hU b hb hbt
    rw [hu] at u1
    have hlt := sp_ctb ob tk sh (-1) b
    exact ((nI_eq (a := 1) (by decide) (by omega)).mp u1).symm
  have hch : 1 ≤ sp_ch tk sh b := sp_chp ho hto hs
  have hp0 : sp_pg ob b = 0 := by
    unfold sp_ct at hct
    omega
  have hc0 : sp_ch tk sh b = 1 := by
    unfold sp_ct at hct
    omega
  have n1 := sp_pg0 hp0
  have n2 := sp_ch1 ho hto hs hc0
  have n3 : sh b ≠ nI b := fun e => by
    have := hK.2 b b hb hb hbt e
    omega
  refine ⟨⟨fun p hp => sp_rfu (hA.1 p hp) (n1 p hp), fun q hq hqt => ?_, Or.inl rfl⟩, fun m hm hmt => ?_, ⟨hK.1, fun q m hq hm hqt e => ?_⟩, fun q c hq hc hqt => ?_⟩
  · obtain ⟨hqb, hqt⟩ := sp_tku hqt
    by_cases e : q = o
    · subst e
      rw [pk_us]
      exact sp_rfu (hA.2.1 b hb hbt) n3
    · rw [pk_un e]
      exact sp_rfu (hA.2.1 q hq hqt) (n2 q hq hqt e)
  · obtain ⟨hmb, hmt⟩ := sp_tku hmt
    have e1 : sp_ct ob (upd tk b 0) (upd sh o (sh b)) (-1) m = sp_ct ob tk sh (-1) m := by
      unfold sp_ct
      have a := sp_ch_sh (sh := sh) ho hto (sh b) m
      have a2 := sp_ch_tk (sh := upd sh o (sh b)) hb hbt m
      rw [pk_un hob] at a2
      rw [hs, sp_en2 hb hm (Ne.symm hmb)] at a
      omega
    rw [e1, pk_un hmb]
    exact hU m hm hmt
  · obtain ⟨hqb, hqt⟩ := sp_tku hqt
    by_cases e' : q = o
    · subst e'
      rw [pk_us] at e
      have := hK.2 b m hb hm hbt e
      omega
    · rw [pk_un e'] at e
      exact hK.2 q m hq hm hqt e
  · obtain ⟨hqb, hqt⟩ := sp_tku hqt
    by_cases e' : q = o
    · subst e'
      rw [pk_us, pk_us, hc1 c hc]
      have v1 := hV q c hq hc hqt
      have v2 := hV b c hb hc hbt
      rw [hs, sp_vln _ hb] at v1
      by_cases z1 : sp_b (hd q) c = 0
      · rw [if_pos z1] at v1
        rw [if_pos z1]
        by_cases z2 : sp_b (hd b) c = 0
        · rw [if_pos z2] at v2
          rw [if_pos ((sp_bor _ _ (by omega)).mpr ⟨z1, z2⟩), v1, v2]
        · rw [if_neg z2] at v2
          rw [if_neg (fun z => z2 ((sp_bor _ _ (by omega)).mp z).2), if_neg z2, v1, v2]
      · rw [if_neg z1] at v1
        rw [if_neg (fun z => z1 ((sp_bor _ _ (by omega)).mp z).1), if_neg z1, v1]
    · rw [pk_un e', pk_un e', hc2 q c hc e']
      exact hV q c hq hc hqt
/-- ranks brought below 130 -/
theorem sp_norm {R : Nat → Nat} (h : ∀ q o, q < 130 → o < 130 → tk q ≠ 0 → sh q = nI o → R o < R q) : ∃ r, sp_K tk sh r := by
  refine ⟨fun q => sg_sm (fun i => if R i < R q then 1 else 0) 130, fun q hq => ?_, fun q o hq ho ht e => ?_⟩
  · refine sg_lt q hq ?_ (fun i _ => ?_)
    · show (if R q < R q then 1 else 0) = 0
      rw [if_neg (by omega)]
    · show (if R i < R q then 1 else 0) ≤ 1
      split <;> omega
  · have hlt := h q o hq ho ht e
    refine sg_ls o ho ?_ (fun i _ => ?_)
    · show (if R o < R o then 1 else 0) < (if R o < R q then 1 else 0)
      rw [if_neg (by omega), if_pos hlt]
      omega
    · show (if R i < R o then 1 else 0) ≤ (if R i < R q then 1 else 0)
      by_cases z : R i < R o
      · rw [if_pos z, if_pos (by omega)]
        omega
      · rw [if_neg z]
        omega
def sp_nV (V : Nat → Nat → Int32) (n : Nat) (r : Int32) : Nat → Nat → Int32 := fun q c => if q = n then sp_vl V r c else V q c
theorem sp_new {n p : Nat} (h : sp_I ob tk hd ce sh us V rk (-1)) (hn : n < 130) (h0 : tk n = 0) (hp : p < 64) :
    ∃ rk', sp_I (upd ob p (nI n)) (upd tk n 1) (upd hd n 0) ce (upd sh n (ob p)) (upd us n 1) (sp_nV V n (ob p)) rk' (-1) := by
  obtain ⟨hA, hU, hK, hV⟩ := h
  have h10 : (1 : Int32) ≠ 0 := by decide
  have tu : ∀ q, upd tk n 1 q ≠ 0 → q = n ∨ (q ≠ n ∧ tk q ≠ 0) := fun q z => by
    by_cases e : q = n
    · exact Or.inl e
    · rw [pk_un e] at z
      exact Or.inr ⟨e, z⟩
  have nob : ∀ i, i < 64 → ob i ≠ nI n := fun i hi => sp_nf (hA.1 i hi) hn h0
  have nsh : ∀ q, q < 130 → tk q ≠ 0 → sh q ≠ nI n := fun q hq ht => sp_nf (hA.2.1 q hq ht) hn h0
  have vv : ∀ r c, sp_rf tk r → sp_vl (sp_nV V n (ob p)) r c = sp_vl V r c := fun r c hr => sp_vlc hr (fun m hm hmt e => if_neg (fun z => hmt (by rw [z]; exact h0)))
  obtain ⟨rk', hK'⟩ := sp_norm (tk := upd tk n 1) (sh := upd sh n (ob p)) (R := fun q => if q = n then 200 else rk q) (fun q o hq ho ht e => by
    rcases tu q ht with z | ⟨z, hqt⟩
    · subst z
      rw [pk_us] at e
      have hoq : o ≠ q := fun z => nob p hp (by rw [e, z])
      show (if o = q then 200 else rk o) < (if q = q then 200 else rk q)
      rw [if_neg hoq, if_pos rfl]
      have := hK.1 o ho
      omega
    · rw [pk_un z] at e
      have hon : o ≠ n := fun z' => nsh q hq hqt (by rw [e, z'])
      show (if o = n then 200 else rk o) < (if q = n then 200 else rk q)
      rw [if_neg hon, if_neg z]
      exact hK.2 q o hq ho hqt e)
  refine ⟨rk', ⟨fun i hi => ?_, fun q hq hqt => ?_, Or.inl rfl⟩, fun m hm hmt => ?_, hK', fun q c hq hc hqt => ?_⟩
  · by_cases e : i = p
    · subst e
      rw [pk_us]
      exact Or.inr ⟨n, hn, rfl, by rw [pk_us]; exact h10⟩
    · rw [pk_un e]
      exact sp_rfu (hA.1 i hi) (nob i hi)
  · rcases tu q hqt with z | ⟨z, hqt⟩
    · subst z
      rw [pk_us]
      exact sp_rfu (hA.1 p hp) (nob p hp)
    · rw [pk_un z]
      exact sp_rfu (hA.2.1 q hq hqt) (nsh q hq hqt)
  · have a := sp_pg_up (ob := ob) hp (nI n) m
    have b := sp_ch_new (sh := sh) hn h0 (ob p) m
    rcases tu m hmt with z | ⟨z, hmt⟩
    · subst z
      rw [sp_es, sp_pgz nob, sp_en (nob p hp)] at a
      rw [sp_chz nsh, sp_en (nob p hp)] at b
      have e1 : sp_ct (upd ob p (nI m)) (upd tk m 1) (upd sh m (ob p)) (-1) m = 1 := by
        unfold sp_ct
        rw [sp_em hm]
        omega
      rw [e1, pk_us]
      exact ⟨rfl, by decide⟩
    · have e1 : sp_ct (upd ob p (nI n)) (upd tk n 1) (upd sh n (ob p)) (-1) m = sp_ct ob tk sh (-1) m := by
        unfold sp_ct
        rw [sp_en2 hn hm (Ne.symm z)] at a
        omega
      rw [e1, pk_un z]
      exact hU m hm hmt
  · rcases tu q hqt with z | ⟨z, hqt⟩
    · subst z
      rw [pk_us, pk_us, if_pos (sp_bz c hc), vv _ _ (hA.1 p hp)]
      exact if_pos rfl
    · rw [pk_un z, pk_un z, vv _ _ (hA.2.1 q hq hqt), ← hV q c hq hc hqt]
      exact if_neg z
def sp_w (V : Nat → Nat → Int32) (o c : Nat) (v : Int32) : Nat → Nat → Int32 := fun q d => if q = o ∧ d = c then v else V q d
theorem sp_wr {o c : Nat} (h : sp_I ob tk hd ce sh us V rk (-1)) (ho : o < 130) (hc : c < 4) (hn : ∀ q, q < 130 → tk q ≠ 0 → sh q ≠ nI o) (v : Int32) :
    sp_I ob tk (upd hd o (hd o ||| ((1 : Int32) <<< (nI c &&& 31)))) (upd ce (4 * o + c) v) sh us (sp_w V o c v) rk (-1) := by
  obtain ⟨hA, hU, hK, hV⟩ := h
  refine ⟨hA, hU, hK, fun q d hq hd' hqt => ?_⟩
  have vv : sp_vl (sp_w V o c v) (sh q) d = sp_vl V (sh q) d := sp_vlc (hA.2.1 q hq hqt) (fun m hm hmt e => if_neg (fun z => hn q hq hqt (by rw [e, z.1])))
  rw [vv]
  have v1 := hV q d hq hd' hqt
  by_cases e : q = o
  · subst e
    rw [pk_us]
    by_cases e2 : d = c
    · subst e2
      rw [if_neg (fun z => sp_bs d hc ((sp_bor _ _ (by omega)).mp z).2), pk_us]
      exact if_pos ⟨rfl, rfl⟩
    · rw [pk_un (by omega)]
      have w1 : sp_w V q c v q d = V q d := if_neg (fun z => e2 z.2)
      rw [w1, v1]
      have bn := sp_bn c hc d hd' e2
      by_cases z1 : sp_b (hd q) d = 0
      · rw [if_pos z1, if_pos ((sp_bor _ _ (by omega)).mpr ⟨z1, bn⟩)]
      · rw [if_neg z1, if_neg (fun z => z1 ((sp_bor _ _ (by omega)).mp z).1)]
  · have w1 : sp_w V o c v q d = V q d := if_neg (fun z => e z.1)
    rw [w1, pk_un e, pk_un (by omega)]
    exact v1
/-- two pages swapped -/
theorem sp_swap {a b : Nat} (h : sp_I ob tk hd ce sh us V rk (-1)) (ha : a < 64) (hb : b < 64) : sp_I (upd (upd ob a (ob b)) b (ob a)) tk hd ce sh us V rk (-1) := by
  obtain ⟨hA, hU, hK, hV⟩ := h
  refine ⟨⟨fun i hi => ?_, hA.2.1, Or.inl rfl⟩, fun m hm hmt => ?_, hK, hV⟩
  · by_cases e : i = b
    · subst e
      rw [pk_us]
      exact hA.1 a ha
    · rw [pk_un e]
      by_cases e2 : i = a
      · subst e2
        rw [pk_us]
        exact hA.1 b hb
      · rw [pk_un e2]
        exact hA.1 i hi
  · have e1 : sp_ct (upd (upd ob a (ob b)) b (ob a)) tk sh (-1) m = sp_ct ob tk sh (-1) m := by
      unfold sp_ct
      have p1 := sp_pg_up (ob := ob) ha (ob b) m
      have p2 := sp_pg_up (ob := upd ob a (ob b)) hb (ob a) m
      by_cases e : b = a
      · subst e
        rw [pk_us] at p2
        omega
      · rw [pk_un e] at p2
        omega
    rw [e1]
    exact hU m hm hmt
/-! == counting == -/
theorem sp_e130 (r : Int32) : sg_sm (fun o => sp_e r o) 130 ≤ 1 := by
  by_cases h : ∃ k, k < 130 ∧ r = nI k
  · obtain ⟨k, hk, rfl⟩ := h
    have a := sg_up (f := fun o => sp_e (nI k) o) (g := fun _ => 0) (n := 130) k hk (fun i hi hne => sp_en2 hk hi (Ne.symm hne))
    rw [sg_z] at a
    have b := sp_e1 (nI k) k
    omega
  · rw [sg_cg (g := fun _ => 0) (fun i hi => sp_en (fun z => h ⟨i, hi, z⟩)), sg_z]
    omega
theorem sp_few (h : sp_I ob tk hd ce sh us V rk (-1)) (hF : sp_F tk sh us) : sp_T tk ≤ 128 := by
  obtain ⟨hA, hU, hK, hV⟩ := h
  have s1 : sg_sm (sp_pg ob) 130 ≤ 64 := by
    have a : sg_sm (sp_pg ob) 130 = sg_sm (fun p => sg_sm (fun o => sp_e (ob p) o) 130) 64 := sg_sw (fun o p => sp_e (ob p) o) 64 130
    have b := sg_le (f := fun p => sg_sm (fun o => sp_e (ob p) o) 130) (g := fun _ => 1) (n := 64) (fun p _ => sp_e130 (ob p))
    rw [sg_k] at b
    omega
  have s2 : sg_sm (sp_ch tk sh) 130 ≤ sp_T tk := by
    have a : sg_sm (sp_ch tk sh) 130 = sg_sm (fun q => sg_sm (fun o => sp_c tk sh o q) 130) 130 := sg_sw (fun o q => sp_c tk sh o q) 130 130
    rw [a]
    refine sg_le (fun q _ => ?_)
    show sg_sm (fun o => sp_c tk sh o q) 130 ≤ if tk q = 0 then 0 else 1
    by_cases z : tk q = 0
    · rw [if_pos z, sg_cg (g := fun _ => 0) (fun i _ => sp_c0 z), sg_z]
      exact Nat.le_refl _
    · rw [if_neg z, sg_cg (g := fun o => sp_e (sh q) o) (fun i _ => sp_c1 z)]
      exact sp_e130 _
  have s3 : sg_sm (fun o => (if tk o = 0 then 0 else 1) + (if tk o = 0 then 0 else 1)) 130 ≤ sg_sm (fun o => (sp_pg ob o + sp_pg ob o) + sp_ch tk sh o) 130 := by
    refine sg_le (fun o ho => ?_)
    show (if tk o = 0 then 0 else 1) + (if tk o = 0 then 0 else 1) ≤ (sp_pg ob o + sp_pg ob o) + sp_ch tk sh o
    by_cases z : tk o = 0
    · rw [if_pos z]
      omega
    · rw [if_neg z]
      obtain ⟨u1, u2⟩ := hU o ho z
      have u3 : sp_ct ob tk sh (-1) o = sp_pg ob o + sp_ch tk sh o := by
        unfold sp_ct
        rw [sp_em ho]
        omega
      by_cases hp : sp_pg ob o = 0
      · by_cases hc1 : sp_ch tk sh o = 1
        · exfalso
          have hq : ∃ q, q < 130 ∧ tk q ≠ 0 ∧ sh q = nI o := by
            refine Classical.byContradiction (fun nq => ?_)
            have := sp_chz (tk := tk) (sh := sh) (o := o) (fun q hq hqt e => nq ⟨q, hq, hqt, e⟩)
            omega
          obtain ⟨q, hq, hqt, e⟩ := hq
          have f := hF q hq hqt (by rw [e]; exact nI_pos (sp_31 ho))
          rw [e, nI_clamp (sp_31 ho), u1, u3, hp, hc1] at f
          exact f rfl
        · omega
      · omega
  rw [sg_ad, sg_ad, sg_ad] at s3
  have s4 : sg_sm (fun o => if tk o = 0 then 0 else 1) 130 = sp_T tk := rfl
  rw [s4] at s3
  omega
theorem sp_free (h : sp_I ob tk hd ce sh us V rk (-1)) (hF : sp_F tk sh us) : ∃ n, n < 130 ∧ tk n = 0 ∧ ∀ j, j < n → tk j ≠ 0 := by
  have hT := sp_few h hF
  have ex : ∃ n, n < 130 ∧ tk n = 0 := by
    refine Classical.byContradiction (fun nq => ?_)
    have a : sp_T tk = sg_sm (fun _ => 1) 130 := sg_cg (fun i hi => if_neg (fun z => nq ⟨i, hi, z⟩))
    rw [sg_k] at a
    omega
  obtain ⟨n, hn, hz⟩ := ex
  have lst : ∀ k, (∃ n, n < k ∧ n < 130 ∧ tk n = 0) → ∃ n, n < 130 ∧ tk n = 0 ∧ ∀ j, j < n → tk j ≠ 0 := by
    intro k
    induction k with
    | zero =>
      intro ⟨n, hn, _⟩
      omega
    | succ k ih =>
      intro ⟨n, hn, hn2, hn3⟩
      by_cases z : ∃ m, m < k ∧ m < 130 ∧ tk m = 0
      · exact ih z
      · exact ⟨n, hn2, hn3, fun j hj hj0 => z ⟨j, by omega, by omega, hj0⟩⟩
  exact lst (n + 1) ⟨n, by omega, hn, hz⟩
theorem sp_Tdie {o : Nat} (ho : o < 130) (ht : tk o ≠ 0) : sp_T (upd tk o 0) + 1 = sp_T tk := by
  have a := sg_up (f := fun q => if upd tk o 0 q = 0 then 0 else 1) (g := fun q => if tk q = 0 then 0 else 1) (n := 130) o ho (fun i _ hne => by
    show (if upd tk o 0 i = 0 then 0 else 1) = if tk i = 0 then 0 else 1
    rw [pk_un hne])
  simp only [pk_us, if_pos, if_neg ht] at a
  exact a
theorem sp_Tz (h : sp_T tk = 0) : ∀ q, q < 130 → tk q = 0 := by
  intro q hq
  refine Classical.byContradiction (fun z => ?_)
  have a := sg_one (f := fun q => if tk q = 0 then 0 else 1) (n := 130) q hq
  simp only [if_neg z] at a
  unfold sp_T at h
  omega
end
end
section
/-! ===== the component's own methods, each against the invariant ===== -/
theorem sp_n0 : vp_nar .boolean 0 = 0 := by decide
theorem sp_n1 : vp_nar .boolean 1 = 1 := by decide
theorem sp_4 (o c : Nat) : 4 * nI o + nI c = nI (4 * o + c) := by
  show nI 4 * nI o + nI c = _
  rw [pk_mul, nI_add]
theorem sp_8 (o c : Nat) : 8 * nI o + nI c = nI (8 * o + c) := by
  show nI 8 * nI o + nI c = _
  rw [pk_mul, nI_add]
theorem sp_vi {o : Nat} (h : o < 130) : vp_in (nI o) 130 := vp_in_nI h (by decide)
theorem sp_Tle (tk : Nat → Int32) : sp_T tk ≤ 130 := by
  have b := sg_le (f := fun q => if tk q = 0 then 0 else 1) (g := fun _ => 1) (n := 130) (fun i _ => by
    show (if tk i = 0 then 0 else 1) ≤ 1
    split <;> omega)
  rw [sg_k] at b
  exact b
section
variable {ob ps hd ce sh : Nat → Int32} {V : Nat → Nat → Int32} {rk : Nat → Nat}
theorem sx_letGo_l {post : SX → Prop} {T : Nat} (hp : ∀ tk' us', sp_I ob tk' hd ce sh us' V rk (-1) → sp_T tk' ≤ T → post (ob, ps, tk', hd, ce, sh, us')) :
    ∀ (n : Nat) (tk us : Nat → Int32) (x : Int32) (s : Nat), sp_I ob tk hd ce sh us V rk x → sp_T tk ≤ T → (∀ o, x = nI o → o < 130 → rk o + s < 130) → s ≤ 130 → 130 < n + s → wX_letGo_4 post n x (nI s) ob ps tk hd ce sh us := by
  intro n
  induction n with
  | zero =>
    intro tk us x s _ _ _ h1 h2
    omega
  | succ n ih =>
    intro tk us x s hI hT hr hs hn
    rcases hI.1.2.2 with rfl | ⟨o, ho, rfl, ht⟩
    · exact pk_le 130 s (fun _ => hp tk us hI hT) (fun _ => br_t sp_m1 (hp tk us hI hT))
    · have hs' := hr o rfl ho
      have hv := sp_vi ho
      have hcl := nI_clamp (sp_31 ho)
      obtain ⟨u1, u2⟩ := hI.2.1 o ho ht
      have hb := sp_ctb ob tk sh (nI o) o
      refine br_f (nI_ge (b := 130) (by omega) (by decide)) (br_f (nI_pos (sp_31 ho)) (And.intro hv (And.intro hv (nm_e (And.intro hv ?_)))))
      simp only [hcl, pk_us]
      by_cases e : sp_ct ob tk sh (nI o) o = 1
      · have e2 : us o - 1 ≤ 0 := by
          rw [u1, e]
          decide
        refine br_t e2 (And.intro hv (nm_r (e' := upd tk o 0) (by rw [sp_n0]) (And.intro hv (nm_e (nm_r (nI_1 s) ?_)))))
        have hT' := sp_Tdie (tk := tk) ho ht
        refine ih _ _ _ _ (sp_die hI ho e _) (by omega) (fun m hm hm2 => ?_) (by omega) (by omega)
        have := hI.2.2.1.2 o m ho hm2 ht hm
        omega
      · have e2 : ¬ us o - 1 ≤ 0 := by
          obtain ⟨k, hk⟩ : ∃ k, sp_ct ob tk sh (nI o) o = (k + 1) + 1 := ⟨sp_ct ob tk sh (nI o) o - 2, by omega⟩
          rw [u1, hk, nI_pred]
          exact nI_nle (by omega) (by omega)
        exact br_f e2 (hp _ _ (sp_dec hI ho e) hT)
theorem sx_letGo {tk us : Nat → Int32} {post : SX → Prop} {x : Int32} (hI : sp_I ob tk hd ce sh us V rk x)
    (hp : ∀ tk' us', sp_I ob tk' hd ce sh us' V rk (-1) → sp_T tk' ≤ sp_T tk → post (ob, ps, tk', hd, ce, sh, us')) : wpX_letGo post (ob, ps, tk, hd, ce, sh, us) x :=
  ⟨131, sx_letGo_l hp 131 tk us x 0 hI (Nat.le_refl _) (fun o _ ho => hI.2.2.1.1 o ho) (by omega) (by omega)⟩
theorem sx_cell_l {tk us : Nat → Int32} {post : Int32 → Prop} {c : Nat} (hc : c < 4) (hA : ∀ q, q < 130 → tk q ≠ 0 → sp_rf tk (sh q)) (hK : sp_K tk sh rk) (hV : sp_V tk hd ce sh V) :
    ∀ (n : Nat) (x : Int32) (s : Nat), sp_rf tk x → (∀ o, x = nI o → o < 130 → rk o + s < 130) → s ≤ 130 → 130 < n + s → post (sp_vl V x c) → wX_cellOf_5 post (nI c) ob ps tk hd ce sh us n x (nI s) := by
  intro n
  induction n with
  | zero =>
    intro x s _ _ h1 h2
    omega
  | succ n ih =>
    intro x s hx hr hs hn hp
    rcases hx with rfl | ⟨o, ho, rfl, ht⟩
    · rw [sp_vlm] at hp
      exact pk_le 130 s (fun _ => hp) (fun _ => br_t sp_m1 hp)
    · have hs' := hr o rfl ho
      have hv := sp_vi ho
      have hcl := nI_clamp (sp_31 ho)
      refine br_f (nI_ge (b := 130) (by omega) (by decide)) (br_f (nI_pos (sp_31 ho)) (And.intro hv ?_))
      rw [hcl]
      have v1 := hV o c ho hc ht
      rw [sp_vln _ ho] at hp
      by_cases z : sp_b (hd o) c = 0
      · rw [if_pos z] at v1
        rw [v1] at hp
        refine br_t z (And.intro hv (nm_e (nm_r (nI_1 s) ?_)))
        refine ih _ _ (hA o ho ht) (fun m hm hm2 => ?_) (by omega) (by omega) hp
        have := hK.2 o m ho hm2 ht hm
        omega
      · rw [if_neg z] at v1
        rw [v1] at hp
        refine br_f z ?_
        rw [sp_4, nI_clamp (n := 4 * o + c) (by omega)]
        exact ⟨vp_in_nI (by omega) (by decide), hp⟩
theorem sx_cell {tk us : Nat → Int32} {post : Int32 → Prop} {c : Nat} {x y : Int32} (hI : sp_I ob tk hd ce sh us V rk y) (hx : sp_rf tk x) (hc : c < 4) (hp : post (sp_vl V x c)) : wpX_cellOf post (ob, ps, tk, hd, ce, sh, us) x (nI c) :=
  ⟨131, sx_cell_l hc hI.1.2.1 hI.2.2.1 hI.2.2.2 131 x 0 hx (fun o _ ho => hI.2.2.1.1 o ho) (by omega) (by omega) hp⟩
theorem sx_lead {tk us : Nat → Int32} {post : SX → Prop} {p : Nat} {r : Int32} (hI : sp_I ob tk hd ce sh us V rk (-1)) (hp : p < 64) (hr : sp_rf tk r)
    (K : ∀ tk' us', sp_I (upd ob p r) tk' hd ce sh us' V rk (-1) → post (upd ob p r, ps, tk', hd, ce, sh, us')) : wpX_lead post (ob, ps, tk, hd, ce, sh, us) (nI p) r := by
  have hv : vp_in (nI p) 64 := vp_in_nI hp (by decide)
  have hcl : (nI p).toNatClampNeg = p := nI_clamp (by omega)
  refine And.intro hv ?_
  rw [hcl]
  refine nm_e ?_
  rcases hr with rfl | ⟨m, hm, rfl, ht⟩
  · refine br_t sp_m1 (And.intro hv ?_)
    rw [hcl]
    exact nm_e (sx_letGo (sp_lead0 hI hp) (fun tk' us' h _ => K tk' us' h))
  · refine br_f (nI_pos (sp_31 hm)) (And.intro (sp_vi hm) (And.intro (sp_vi hm) ?_))
    rw [nI_clamp (sp_31 hm)]
    refine nm_e (And.intro hv ?_)
    rw [hcl]
    exact nm_e (sx_letGo (sp_lead1 hI hp hm ht) (fun tk' us' h _ => K tk' us' h))
end
/-! == folding == -/
def sp_fc (hd ce : Nat → Int32) (o b i : Nat) : Nat → Int32 := fun j => if 4 * o ≤ j ∧ j < 4 * o + i then (if sp_b (hd o) (j - 4 * o) = 0 then (if sp_b (hd b) (j - 4 * o) = 0 then ce j else ce (4 * b + (j - 4 * o))) else ce j) else ce j
theorem sp_fc0 (hd ce : Nat → Int32) (o b : Nat) : sp_fc hd ce o b 0 = ce := funext fun j => if_neg (by omega)
theorem sp_fcl {hd ce : Nat → Int32} {o b i j : Nat} (h : ¬ (4 * o ≤ j ∧ j < 4 * o + i)) : sp_fc hd ce o b i j = ce j := if_neg h
theorem sp_fci {hd ce : Nat → Int32} {o b i c : Nat} (h : c < i) : sp_fc hd ce o b i (4 * o + c) = if sp_b (hd o) c = 0 then (if sp_b (hd b) c = 0 then ce (4 * o + c) else ce (4 * b + c)) else ce (4 * o + c) := by
  unfold sp_fc
  rw [if_pos (by omega), show 4 * o + c - 4 * o = c by omega]
theorem sp_fcs {hd ce : Nat → Int32} {o b i : Nat} : sp_fc hd ce o b (i + 1) = upd (sp_fc hd ce o b i) (4 * o + i) (if sp_b (hd o) i = 0 then (if sp_b (hd b) i = 0 then ce (4 * o + i) else ce (4 * b + i)) else ce (4 * o + i)) := by
  funext j
  by_cases e : j = 4 * o + i
  · subst e
    rw [pk_us, sp_fci (by omega)]
  · rw [pk_un e]
    unfold sp_fc
    by_cases h : 4 * o ≤ j ∧ j < 4 * o + i
    · rw [if_pos h, if_pos (by omega)]
    · rw [if_neg h, if_neg (by omega)]
theorem sp_updid {f : Nat → Int32} {k : Nat} {v : Int32} (h : f k = v) : upd f k v = f := by
  funext j
  by_cases e : j = k
  · subst e
    rw [pk_us, h]
  · rw [pk_un e]
section
variable {ob ps tk hd ce sh us : Nat → Int32} {V : Nat → Nat → Int32} {rk : Nat → Nat}
theorem sx_fold_l {post : SX → Prop} {o b : Nat} (ho : o < 130) (hb : b < 130) (hne : o ≠ b)
    (hx : ∀ n, wX_fold_9 post (nI o) (nI b) (n + 1) (nI 4) ob ps tk hd (sp_fc hd ce o b 4) sh us) :
    ∀ n i, i ≤ 4 → 4 < n + i → wX_fold_9 post (nI o) (nI b) n (nI i) ob ps tk hd (sp_fc hd ce o b i) sh us := by
  intro n
  induction n with
  | zero =>
    intro i h1 h2
    omega
  | succ n ih =>
    intro i hi hn
    by_cases e4 : i = 4
    · subst e4
      exact hx n
    · have hvo := sp_vi ho
      have hvb := sp_vi hb
      have hco := nI_clamp (sp_31 ho)
      have hcb := nI_clamp (sp_31 hb)
      have nxt := ih (i + 1) (by omega) (by omega)
      rw [sp_fcs] at nxt
      refine br_f (nI_ge (b := 4) (by omega) (by decide)) (And.intro hvo ?_)
      rw [hco]
      by_cases z1 : sp_b (hd o) i = 0
      · refine br_t z1 (And.intro hvb ?_)
        rw [hcb]
        by_cases z2 : sp_b (hd b) i = 0
        · rw [if_pos z1, if_pos z2, sp_updid (sp_fcl (by omega))] at nxt
          exact br_t z2 (br_t rfl (nm_r (nI_1 i) nxt))
        · rw [if_pos z1, if_neg z2] at nxt
          refine br_f z2 ?_
          unfold wX_fold_45
          rw [sp_4 b i, sp_4 o i, nI_clamp (n := 4 * o + i) (by omega), nI_clamp (n := 4 * b + i) (by omega)]
          refine br_f (by decide) (And.intro (vp_in_nI (by omega) (by decide)) (And.intro (vp_in_nI (by omega) (by decide)) (nm_e (nm_r (nI_1 i) ?_))))
          rw [sp_fcl (j := 4 * b + i) (by omega)]
          exact nxt
      · rw [if_neg z1, sp_updid (sp_fcl (by omega))] at nxt
        exact br_f z1 (br_t rfl (nm_r (nI_1 i) nxt))
theorem sx_fold {post : SX → Prop} {o b : Nat} (hI : sp_I ob tk hd ce sh us V rk (-1)) (ho : o < 130) (hb : b < 130) (hto : tk o ≠ 0) (hs : sh o = nI b) (hu : us b = 1)
    (K : ∀ tk' hd' ce' sh' us', sp_I ob tk' hd' ce' sh' us' V rk (-1) → sp_T tk' + 1 ≤ sp_T tk → post (ob, ps, tk', hd', ce', sh', us')) : wpX_fold post (ob, ps, tk, hd, ce, sh, us) (nI o) := by
  have hvo := sp_vi ho
  have hvb := sp_vi hb
  have hco := nI_clamp (sp_31 ho)
  have hcb := nI_clamp (sp_31 hb)
  have hrk := hI.2.2.1.2 o b ho hb hto hs
  have hne : o ≠ b := fun e => by
    rw [e] at hrk
    omega
  have hbt : tk b ≠ 0 := by
    have := hI.1.2.1 o ho hto
    rw [hs] at this
    exact sp_rft this hb
  have hfld := sp_fld (ce' := sp_fc hd ce o b 4) hI ho hb hto hs hu (fun c hc => sp_fci hc) (fun q c hc hq => sp_fcl (by omega))
  have hT := sp_Tdie (tk := tk) hb hbt
  have hx : ∀ n, wX_fold_9 post (nI o) (nI b) (n + 1) (nI 4) ob ps tk hd (sp_fc hd ce o b 4) sh us := by
    intro n
    refine br_t (by decide) (And.intro hvo (And.intro hvb (And.intro hvo ?_)))
    rw [hco, hcb]
    refine nm_e (And.intro hvb (And.intro hvo (nm_e (And.intro hvb (nm_r (e' := upd tk b 0) (by rw [sp_n0]) (And.intro hvb (nm_e (And.intro hvo ?_))))))))
    simp only [pk_us]
    by_cases z : (hd o ||| hd b) = 15
    · refine br_t z (And.intro hvo ?_)
      by_cases z2 : sh b < 0
      · exact br_t z2 (K _ _ _ _ _ hfld (by omega))
      · refine br_f z2 (And.intro hvo (nm_e (And.intro hvo (nm_e ?_))))
        have hdr := sp_drop hfld ho (by rw [pk_un hne]; exact hto) (fun c hc => by rw [pk_us, z]; exact sp_b15 c hc)
        rw [pk_us] at hdr
        refine sx_letGo hdr (fun tk' us' h hT' => ?_)
        have hT2 : sp_T tk' + 1 ≤ sp_T tk := by omega
        exact K tk' _ _ _ us' h hT2
    · exact br_f z (K _ _ _ _ _ hfld (by omega))
  refine And.intro hvo ?_
  rw [hco, hs]
  have key := sx_fold_l (post := post) (ob := ob) (ps := ps) (tk := tk) (sh := sh) (us := us) ho hb hne hx 5 0 (by omega) (by omega)
  rw [sp_fc0] at key
  exact nm_e ⟨5, key⟩
end
def sx_q (T0 j : Nat) (x1 : Int32) (tk sh us : Nat → Int32) : Prop := (x1 = 0 ∧ sp_T tk ≤ T0 ∧ ∀ q, q < j → tk q ≠ 0 → ¬ sh q < 0 → us (sh q).toNatClampNeg ≠ 1) ∨ (x1 = 1 ∧ sp_T tk + 1 ≤ T0)
theorem sx_qs {T0 j : Nat} {x1 : Int32} {tk sh us : Nat → Int32} (h : sx_q T0 j x1 tk sh us) (hn : tk j ≠ 0 → ¬ sh j < 0 → us (sh j).toNatClampNeg ≠ 1) : sx_q T0 (j + 1) x1 tk sh us := by
  rcases h with ⟨a, b, c⟩ | h
  · exact Or.inl ⟨a, b, lt_s c hn⟩
  · exact Or.inr h
section
variable {ob ps : Nat → Int32} {V : Nat → Nat → Int32} {rk : Nat → Nat}
theorem sx_fa19 {post : SX → Prop} {J4 : Int32 → Int32 → (Nat → Int32) → (Nat → Int32) → (Nat → Int32) → (Nat → Int32) → (Nat → Int32) → (Nat → Int32) → (Nat → Int32) → Prop} {r T0 : Nat}
    (hJ : ∀ x1 tk hd ce sh us, sp_I ob tk hd ce sh us V rk (-1) → sx_q T0 130 x1 tk sh us → J4 x1 (nI (r + 1)) ob ps tk hd ce sh us) :
    ∀ (n j : Nat) (x1 : Int32) (tk hd ce sh us : Nat → Int32), j ≤ 130 → 130 < n + j → sp_I ob tk hd ce sh us V rk (-1) → sx_q T0 j x1 tk sh us → wX_foldAll_19 post J4 (nI r) n x1 (nI j) ob ps tk hd ce sh us := by
  intro n
  induction n with
  | zero =>
    intro j x1 tk hd ce sh us h1 h2
    omega
  | succ n ih =>
    intro j x1 tk hd ce sh us hj hn hI hq
    by_cases e : j = 130
    · subst e
      exact br_t (by decide) (nm_r (nI_1 r) (hJ _ _ _ _ _ _ hI hq))
    · have hj' : j < 130 := by omega
      have hv := sp_vi hj'
      have hcl := nI_clamp (sp_31 hj')
      refine br_f (nI_ge (b := 130) (by omega) (by decide)) (And.intro hv ?_)
      rw [hcl]
      by_cases z1 : tk j = 0
      · exact br_t z1 (nm_r (nI_1 j) (ih _ _ _ _ _ _ _ (by omega) (by omega) hI (sx_qs hq (fun z => absurd z1 z))))
      · refine br_f z1 (And.intro hv ?_)
        rcases hI.1.2.1 j hj' z1 with hs | ⟨b, hb, hs, hbt⟩
        · have z2 : sh j < 0 := by
            rw [hs]
            exact sp_m1
          exact br_t z2 (nm_r (nI_1 j) (ih _ _ _ _ _ _ _ (by omega) (by omega) hI (sx_qs hq (fun _ z => absurd z2 z))))
        · rw [hs, nI_clamp (sp_31 hb)]
          refine br_f (nI_pos (sp_31 hb)) (And.intro hv (And.intro (sp_vi hb) ?_))
          by_cases z3 : us b = 1
          · refine br_t z3 (sx_fold hI hj' hb z1 hs z3 (fun tk' hd' ce' sh' us' h hT => ?_))
            refine nm_r (nI_1 j) (ih _ _ _ _ _ _ _ (by omega) (by omega) h (Or.inr ⟨rfl, ?_⟩))
            rcases hq with ⟨_, b, _⟩ | ⟨_, b⟩ <;> omega
          · exact br_f z3 (nm_r (nI_1 j) (ih _ _ _ _ _ _ _ (by omega) (by omega) hI (sx_qs hq (fun _ _ => by rw [hs, nI_clamp (sp_31 hb)]; exact z3))))
theorem sx_fa4 {post : SX → Prop} (K : ∀ tk hd ce sh us, sp_I ob tk hd ce sh us V rk (-1) → sp_F tk sh us → post (ob, ps, tk, hd, ce, sh, us)) :
    ∀ (n r : Nat) (x1 : Int32) (tk hd ce sh us : Nat → Int32), r ≤ 130 → 130 < n + r → sp_I ob tk hd ce sh us V rk (-1) → ((x1 = 0 ∧ sp_F tk sh us) ∨ (x1 = 1 ∧ sp_T tk + r ≤ 130)) → wX_foldAll_4 post n x1 (nI r) ob ps tk hd ce sh us := by
  intro n
  induction n with
  | zero =>
    intro r x1 tk hd ce sh us h1 h2
    omega
  | succ n ih =>
    intro r x1 tk hd ce sh us hr hn hI hq
    by_cases e : r = 130
    · subst e
      refine br_t (by decide) (K _ _ _ _ _ hI ?_)
      rcases hq with ⟨_, hF⟩ | ⟨_, hT⟩
      · exact hF
      · intro q hq hqt
        exact absurd (sp_Tz (by omega) q hq) hqt
    · refine br_f (nI_ge (b := 130) (by omega) (by decide)) ?_
      rcases hq with ⟨rfl, hF⟩ | ⟨rfl, hT⟩
      · exact br_t rfl (K _ _ _ _ _ hI hF)
      · refine br_f (by decide) ⟨131, ?_⟩
        refine sx_fa19 (T0 := 130 - r) (fun x1 tk hd ce sh us h hq => ?_) 131 0 0 tk hd ce sh us (by omega) (by omega) hI (Or.inl ⟨rfl, by omega, lt_0⟩)
        refine ih _ _ _ _ _ _ _ (by omega) (by omega) h ?_
        rcases hq with ⟨a, _, c⟩ | ⟨a, b⟩
        · exact Or.inl ⟨a, c⟩
        · exact Or.inr ⟨a, by omega⟩
theorem sx_foldAll {tk hd ce sh us : Nat → Int32} {post : SX → Prop} (hI : sp_I ob tk hd ce sh us V rk (-1)) (K : ∀ tk hd ce sh us, sp_I ob tk hd ce sh us V rk (-1) → sp_F tk sh us → post (ob, ps, tk, hd, ce, sh, us)) :
    wpX_foldAll post (ob, ps, tk, hd, ce, sh, us) :=
  ⟨131, sx_fa4 K 131 0 1 tk hd ce sh us (by omega) (by omega) hI (Or.inr ⟨rfl, sp_Tle tk⟩)⟩
end
/-! == an object of its own == -/
section
variable {ob ps tk hd ce sh us : Nat → Int32} {V : Nat → Nat → Int32} {rk : Nat → Nat}
theorem sx_free_l {post : Int32 → Prop} {m : Nat} (hm : m < 130) (h0 : tk m = 0) (hl : ∀ j, j < m → tk j ≠ 0) (hp : post (nI m)) : ∀ n j, j ≤ m → m < n + j → wX_freeObject_2 post ob ps tk hd ce sh us n (nI j) := by
  intro n
  induction n with
  | zero =>
    intro j h1 h2
    omega
  | succ n ih =>
    intro j hj hn
    refine br_f (nI_ge (b := 130) (by omega) (by decide)) (And.intro (sp_vi (by omega)) ?_)
    rw [nI_clamp (n := j) (by omega)]
    by_cases e : j = m
    · subst e
      exact br_t h0 hp
    · exact br_f (hl j (by omega)) (nm_r (nI_1 j) (ih _ (by omega) (by omega)))
theorem sx_own23 {post : Int32 → SX → Prop} {p m : Nat} {x : Int32} (hp : p < 64) (hm : m < 130) (h0 : tk m = 0) (hl : ∀ j, j < m → tk j ≠ 0)
    (K : post (nI m) (upd ob p (nI m), ps, upd tk m 1, upd hd m 0, ce, upd sh m x, upd us m 1)) : wX_ownObject_23 post (nI p) x ob ps tk hd ce sh us := by
  have hv := sp_vi hm
  have hcl := nI_clamp (sp_31 hm)
  have hvp : vp_in (nI p) 64 := vp_in_nI hp (by decide)
  refine ⟨131, sx_free_l hm h0 hl ?_ 131 0 (by omega) (by omega)⟩
  refine And.intro hv ?_
  rw [hcl, nI_clamp (n := p) (by omega)]
  exact nm_r (e' := upd tk m 1) (by rw [sp_n1]) (And.intro hv (nm_e (And.intro hv (nm_e (And.intro hv (nm_e (And.intro hvp (nm_e K))))))))
theorem sx_own {post : Int32 → SX → Prop} {p : Nat} (hI : sp_I ob tk hd ce sh us V rk (-1)) (hF : sp_F tk sh us) (hp : p < 64)
    (K : ∀ o ob' tk' hd' sh' us' V' rk', o < 130 → sp_I ob' tk' hd' ce sh' us' V' rk' (-1) → tk' o ≠ 0 → ob' p = nI o → (∀ q, q < 64 → q ≠ p → ob' q = ob q ∧ ob q ≠ nI o) → (∀ q, q < 130 → tk' q ≠ 0 → sh' q ≠ nI o) →
      (∀ c, V' o c = sp_vl V (ob p) c) → (∀ q c, q ≠ o → V' q c = V q c) → post (nI o) (ob', ps, tk', hd', ce, sh', us')) : wpX_ownObject post (ob, ps, tk, hd, ce, sh, us) (nI p) := by
  have hvp : vp_in (nI p) 64 := vp_in_nI hp (by decide)
  obtain ⟨n, hn, hn0, hnl⟩ := sp_free hI hF
  have hnew : wX_ownObject_23 post (nI p) (ob p) ob ps tk hd ce sh us := by
    obtain ⟨rk', hI'⟩ := sp_new hI hn hn0 hp
    refine sx_own23 hp hn hn0 hnl (K n _ _ _ _ _ _ rk' hn hI' (by rw [pk_us]; decide) pk_us (fun q hq hne => ⟨pk_un hne, sp_nf (hI.1.1 q hq) hn hn0⟩) (fun q hq hqt => ?_) (fun c => if_pos rfl) (fun q c hne => if_neg hne))
    by_cases e : q = n
    · subst e
      rw [pk_us]
      exact sp_nf (hI.1.1 p hp) hn hn0
    · rw [pk_un e] at hqt
      rw [pk_un e]
      exact sp_nf (hI.1.2.1 q hq hqt) hn hn0
  refine And.intro hvp ?_
  rw [nI_clamp (n := p) (by omega)]
  refine nm_e ?_
  rcases hI.1.1 p hp with h | ⟨o, ho, h, hot⟩
  · exact br_t (by rw [h]; exact sp_m1) hnew
  · rw [h] at hnew ⊢
    refine br_f (nI_pos (sp_31 ho)) (And.intro (sp_vi ho) ?_)
    rw [nI_clamp (sp_31 ho)]
    refine br_c (fun hu => ?_) (fun _ => hnew)
    obtain ⟨u1, u2⟩ := hI.2.1 o ho hot
    have hlt := sp_ctb ob tk sh (-1) o
    rw [hu] at u1
    have hct : sp_ct ob tk sh (-1) o = 1 := ((nI_eq (a := 1) (by decide) (by omega)).mp u1).symm
    have hpg := sp_pgp hp h
    have hp1 : sp_pg ob o = 1 := by
      unfold sp_ct at hct
      omega
    have hc0 : sp_ch tk sh o = 0 := by
      unfold sp_ct at hct
      omega
    exact K o _ _ _ _ _ V rk ho hI hot h (fun q hq hne => ⟨rfl, sp_pg1 hp h hp1 q hq hne⟩) (sp_ch0 hc0) (fun c => by rw [h, sp_vln _ ho]) (fun q c _ => rfl)
end
end
section
/-! ===== blocks that are copied, cleared ===== -/
def sp_cp (f : Nat → Int32) (t s n : Nat) : Nat → Int32 := fun j => if t ≤ j ∧ j < t + n then f (s + (j - t)) else f j
theorem sp_cp0 (f : Nat → Int32) (t s : Nat) : sp_cp f t s 0 = f := funext fun j => if_neg (by omega)
theorem sp_cpi {f : Nat → Int32} {t s n j : Nat} (h : t ≤ j ∧ j < t + n) : sp_cp f t s n j = f (s + (j - t)) := if_pos h
theorem sp_cpo {f : Nat → Int32} {t s n j : Nat} (h : ¬ (t ≤ j ∧ j < t + n)) : sp_cp f t s n j = f j := if_neg h
theorem sp_cps (f : Nat → Int32) (t s n : Nat) : sp_cp f t s (n + 1) = upd (sp_cp f t s n) (t + n) (f (s + n)) := by
  funext j
  by_cases e : j = t + n
  · subst e
    rw [pk_us, sp_cpi (by omega)]
    exact congrArg f (by omega)
  · rw [pk_un e]
    by_cases h : t ≤ j ∧ j < t + n
    · rw [sp_cpi h, sp_cpi (by omega)]
    · rw [sp_cpo h, sp_cpo (by omega)]
theorem sp_cpr {f : Nat → Int32} {t s n N : Nat} (hd : t = s ∨ t + N ≤ s ∨ s + N ≤ t) (hn : n < N) : sp_cp f t s n (s + n) = f (s + n) := sp_cpo (by omega)
/-- a block copied behind a block -/
theorem sp_cpc {f : Nat → Int32} {t s m k : Nat} (hd : t = s ∨ t + (m + k) ≤ s ∨ s + (m + k) ≤ t) : sp_cp (sp_cp f t s m) (t + m) (s + m) k = sp_cp f t s (m + k) := by
  funext j
  by_cases h : t + m ≤ j ∧ j < t + m + k
  · rw [sp_cpi h, sp_cpo (by omega), sp_cpi (by omega)]
    exact congrArg f (by omega)
  · rw [sp_cpo h]
    by_cases h2 : t ≤ j ∧ j < t + m
    · rw [sp_cpi h2, sp_cpi (by omega)]
    · rw [sp_cpo h2, sp_cpo (by omega)]
def sp_cl (f : Nat → Int32) (t n : Nat) : Nat → Int32 := fun j => if t ≤ j ∧ j < t + n then -1 else f j
theorem sp_cl0 (f : Nat → Int32) (t : Nat) : sp_cl f t 0 = f := funext fun j => if_neg (by omega)
theorem sp_cli {f : Nat → Int32} {t n j : Nat} (h : t ≤ j ∧ j < t + n) : sp_cl f t n j = -1 := if_pos h
theorem sp_clo {f : Nat → Int32} {t n j : Nat} (h : ¬ (t ≤ j ∧ j < t + n)) : sp_cl f t n j = f j := if_neg h
theorem sp_cls (f : Nat → Int32) (t n : Nat) : sp_cl f t (n + 1) = upd (sp_cl f t n) (t + n) (-1) := by
  funext j
  by_cases e : j = t + n
  · subst e
    rw [pk_us, sp_cli (by omega)]
  · rw [pk_un e]
    by_cases h : t ≤ j ∧ j < t + n
    · rw [sp_cli h, sp_cli (by omega)]
    · rw [sp_clo h, sp_clo (by omega)]
/-- m places copied, the rest of n cleared -/
def sp_pk (f : Nat → Int32) (t s m n : Nat) : Nat → Int32 := fun j => if t ≤ j ∧ j < t + n then (if j - t < m then f (s + (j - t)) else -1) else f j
theorem sp_pk0 (f : Nat → Int32) (t s m : Nat) : sp_pk f t s m 0 = f := funext fun j => if_neg (by omega)
theorem sp_pki {f : Nat → Int32} {t s m n j : Nat} (h : t ≤ j ∧ j < t + n) (h2 : j - t < m) : sp_pk f t s m n j = f (s + (j - t)) := by
  unfold sp_pk
  rw [if_pos h, if_pos h2]
theorem sp_pkj {f : Nat → Int32} {t s m n j : Nat} (h : t ≤ j ∧ j < t + n) (h2 : ¬ j - t < m) : sp_pk f t s m n j = -1 := by
  unfold sp_pk
  rw [if_pos h, if_neg h2]
theorem sp_pko {f : Nat → Int32} {t s m n j : Nat} (h : ¬ (t ≤ j ∧ j < t + n)) : sp_pk f t s m n j = f j := if_neg h
theorem sp_pks (f : Nat → Int32) (t s m n : Nat) : sp_pk f t s m (n + 1) = upd (sp_pk f t s m n) (t + n) (if n < m then f (s + n) else -1) := by
  funext j
  by_cases e : j = t + n
  · subst e
    rw [pk_us]
    by_cases h : n < m
    · rw [if_pos h, sp_pki (by omega) (by omega)]
      exact congrArg f (by omega)
    · rw [if_neg h, sp_pkj (by omega) (by omega)]
  · rw [pk_un e]
    unfold sp_pk
    by_cases h : t ≤ j ∧ j < t + n
    · rw [if_pos h, if_pos (c := t ≤ j ∧ j < t + (n + 1)) (by omega)]
    · rw [if_neg h, if_neg (c := t ≤ j ∧ j < t + (n + 1)) (by omega)]
/-! == numbers as they are printed == -/
theorem sp_32 (a i : Nat) : 32 * nI a + 4 * nI i = nI (32 * a + 4 * i) := by
  show nI 32 * nI a + nI 4 * nI i = _
  rw [pk_mul, pk_mul, nI_add]
theorem sp_128 (a i : Nat) : 128 + 32 * nI a + 4 * nI i = nI (128 + 32 * a + 4 * i) := by
  show nI 128 + nI 32 * nI a + nI 4 * nI i = _
  rw [pk_mul, pk_mul, nI_add, nI_add]
theorem sp_a8 (a i : Nat) : 32 + 8 * nI a + nI i = nI (32 + 8 * a + i) := by
  show nI 32 + nI 8 * nI a + nI i = _
  rw [pk_mul, nI_add, nI_add]
/-! ===== the reference ===== -/
section
variable {yc ys : Nat → Int32}
theorem sy_cp_l {post : SY → Prop} {t s : Nat} (ht : t + 4 ≤ 260) (hs : s + 4 ≤ 260) (hd : t = s ∨ t + 4 ≤ s ∨ s + 4 ≤ t) (hp : post (sp_cp yc t s 4, ys)) :
    ∀ n i, i ≤ 4 → 4 < n + i → wY_copyPage_2 post (nI t) (nI s) n (nI i) (sp_cp yc t s i) ys := by
  intro n
  induction n with
  | zero =>
    intro i h1 h2
    omega
  | succ n ih =>
    intro i hi hn
    by_cases e : i = 4
    · subst e
      exact br_t (by decide) hp
    · refine br_f (nI_ge (b := 4) (by omega) (by decide)) ?_
      simp only [nI_add]
      rw [nI_clamp (n := t + i) (by omega), nI_clamp (n := s + i) (by omega), sp_cpr hd (by omega)]
      refine And.intro (vp_in_nI (by omega) (by decide)) (And.intro (vp_in_nI (by omega) (by decide)) (nm_e (nm_r (nI_1 i) ?_)))
      rw [← sp_cps]
      exact ih _ (by omega) (by omega)
theorem sy_copy {post : SY → Prop} {t s : Nat} (ht : t + 4 ≤ 260) (hs : s + 4 ≤ 260) (hd : t = s ∨ t + 4 ≤ s ∨ s + 4 ≤ t) (hp : post (sp_cp yc t s 4, ys)) : wpY_copyPage post (yc, ys) (nI t) (nI s) := by
  have key := sy_cp_l (yc := yc) (ys := ys) ht hs hd hp 5 0 (by omega) (by omega)
  rw [sp_cp0] at key
  exact ⟨5, key⟩
theorem sy_fork_l {post : Int32 → SY → Prop} {f t : Nat} (hf : f < 4) (ht : t < 4) (hp : post 0 (sp_cp yc (32 * t) (32 * f) 32, ys)) :
    ∀ n i, i ≤ 8 → 8 < n + i → wY_fork_20 post (nI f) (nI t) n (nI i) (sp_cp yc (32 * t) (32 * f) (4 * i)) ys := by
  intro n
  induction n with
  | zero =>
    intro i h1 h2
    omega
  | succ n ih =>
    intro i hi hn
    by_cases e : i = 8
    · subst e
      exact br_t (by decide) hp
    · refine br_f (nI_ge (b := 8) (by omega) (by decide)) ?_
      rw [sp_32, sp_32]
      refine sy_copy (by omega) (by omega) (by omega) ?_
      refine nm_r (nI_1 i) ?_
      rw [sp_cpc (by omega)]
      exact ih (i + 1) (by omega) (by omega)
theorem sy_pack_l {post : Int32 → SY → Prop} {k s f m : Nat} (hk : k < 4) (hs : s < 4) (hm : f + m ≤ 8) (hp : post 0 (sp_cp yc (128 + 32 * k) (32 * s + 4 * f) (4 * m), upd ys k (nI m))) :
    ∀ n i, i ≤ m → m < n + i → wY_pack_43 post (nI k) (nI s) (nI f) (nI m) n (nI i) (sp_cp yc (128 + 32 * k) (32 * s + 4 * f) (4 * i)) ys := by
  intro n
  induction n with
  | zero =>
    intro i h1 h2
    omega
  | succ n ih =>
    intro i hi hn
    by_cases e : i = m
    · subst e
      refine br_t (nI_le (by omega) (by omega)) (And.intro (vp_in_nI hk (by decide)) ?_)
      rw [nI_clamp (n := k) (by omega)]
      exact nm_e hp
    · refine br_f (nI_ge (by omega) (by omega)) ?_
      rw [nI_add, sp_32, sp_128]
      refine sy_copy (by omega) (by omega) (by omega) ?_
      refine nm_r (nI_1 i) ?_
      rw [show 32 * s + 4 * (f + i) = 32 * s + 4 * f + 4 * i by omega, sp_cpc (by omega)]
      exact ih (i + 1) (by omega) (by omega)
theorem sy_unpack_l {post : Int32 → SY → Prop} {k s f m : Nat} {kp : Int32} (hk : k < 4) (hs : s < 4) (hm : f + m ≤ 8)
    (hp0 : kp = 0 → post (nI m) (sp_cp yc (32 * s + 4 * f) (128 + 32 * k) (4 * m), upd ys k 0))
    (hp1 : ¬ kp = 0 → post (nI m) (sp_cp yc (32 * s + 4 * f) (128 + 32 * k) (4 * m), ys)) :
    ∀ n i, i ≤ m → m < n + i → wY_unpack_51 post (nI k) (nI s) (nI f) kp (nI m) n (nI i) (sp_cp yc (32 * s + 4 * f) (128 + 32 * k) (4 * i)) ys := by
  intro n
  induction n with
  | zero =>
    intro i h1 h2
    omega
  | succ n ih =>
    intro i hi hn
    by_cases e : i = m
    · subst e
      refine br_t (nI_le (by omega) (by omega)) (br_c (fun z => And.intro (vp_in_nI hk (by decide)) ?_) (fun z => hp1 z))
      rw [nI_clamp (n := k) (by omega)]
      exact nm_e (hp0 z)
    · refine br_f (nI_ge (by omega) (by omega)) ?_
      rw [nI_add, sp_32, sp_128]
      refine sy_copy (by omega) (by omega) (by omega) ?_
      refine nm_r (nI_1 i) ?_
      rw [show 32 * s + 4 * (f + i) = 32 * s + 4 * f + 4 * i by omega, sp_cpc (by omega)]
      exact ih (i + 1) (by omega) (by omega)
/-- one page cleared, i cells of it -/
def sp_z (f : Nat → Int32) (t n : Nat) : Nat → Int32 := fun j => if t ≤ j ∧ j < t + n then 0 else f j
theorem sp_z0 (f : Nat → Int32) (t : Nat) : sp_z f t 0 = f := funext fun j => if_neg (by omega)
theorem sp_zi {f : Nat → Int32} {t n j : Nat} (h : t ≤ j ∧ j < t + n) : sp_z f t n j = 0 := if_pos h
theorem sp_zo {f : Nat → Int32} {t n j : Nat} (h : ¬ (t ≤ j ∧ j < t + n)) : sp_z f t n j = f j := if_neg h
theorem sp_zs (f : Nat → Int32) (t n : Nat) : sp_z f t (n + 1) = upd (sp_z f t n) (t + n) 0 := by
  funext j
  by_cases e : j = t + n
  · subst e
    rw [pk_us, sp_zi (by omega)]
  · rw [pk_un e]
    by_cases h : t ≤ j ∧ j < t + n
    · rw [sp_zi h, sp_zi (by omega)]
    · rw [sp_zo h, sp_zo (by omega)]
theorem sy_clear_l {post : Int32 → SY → Prop} {s p : Nat} (hs : s < 4) (hp : p < 8) (hpo : post 0 (sp_z yc (32 * s + 4 * p) 4, ys)) :
    ∀ n i, i ≤ 4 → 4 < n + i → wY_clear_12 post (nI s) (nI p) n (nI i) (sp_z yc (32 * s + 4 * p) i) ys := by
  intro n
  induction n with
  | zero =>
    intro i h1 h2
    omega
  | succ n ih =>
    intro i hi hn
    by_cases e : i = 4
    · subst e
      exact br_t (by decide) hpo
    · refine br_f (nI_ge (b := 4) (by omega) (by decide)) ?_
      rw [sp_32, nI_add, nI_clamp (n := 32 * s + 4 * p + i) (by omega)]
      refine And.intro (vp_in_nI (by omega) (by decide)) (nm_e (nm_r (nI_1 i) ?_))
      rw [← sp_zs]
      exact ih _ (by omega) (by omega)
end
end
section
/-! ===== the tests of arguments ===== -/
theorem sq_rg (a : Int32) {M : Nat} (hM : M < 2 ^ 31) : a < 0 ∨ nI M < a ∨ ∃ s, s ≤ M ∧ a = nI s := by
  by_cases h : a < 0
  · exact Or.inl h
  · obtain ⟨j, hj, rfl⟩ := nI_of h
    by_cases h2 : j ≤ M
    · exact Or.inr (Or.inr ⟨j, h2, rfl⟩)
    · exact Or.inr (Or.inl (nI_lt (by omega) hj))
theorem sq_nle {a b : Int32} (h : b < a) : ¬ a ≤ b := Int32.not_le.mpr h
theorem sq_pg (a b : Int32) : (∃ s p, s < 4 ∧ p < 8 ∧ a = nI s ∧ b = nI p) ∨ (a < 0 ∨ 3 < a ∨ b < 0 ∨ 7 < b) := by
  rcases sq_rg a (M := 3) (by decide) with h | h | ⟨s, hs, e1⟩
  · exact Or.inr (Or.inl h)
  · exact Or.inr (Or.inr (Or.inl h))
  · rcases sq_rg b (M := 7) (by decide) with h | h | ⟨p, hp, e2⟩
    · exact Or.inr (Or.inr (Or.inr (Or.inl h)))
    · exact Or.inr (Or.inr (Or.inr (Or.inr h)))
    · exact Or.inl ⟨s, p, by omega, by omega, e1, e2⟩
theorem sq_1 (a : Int32) : (∃ s, s < 4 ∧ a = nI s) ∨ (a < 0 ∨ 3 < a) := by
  rcases sq_rg a (M := 3) (by decide) with h | h | ⟨s, hs, e1⟩
  · exact Or.inr (Or.inl h)
  · exact Or.inr (Or.inr h)
  · exact Or.inl ⟨s, by omega, e1⟩
theorem sq_n3 {s : Nat} (h : s < 4) : ¬ (3 : Int32) < nI s := nI_nlt (a := 3) (by omega) (by decide)
theorem sq_n7 {s : Nat} (h : s < 8) : ¬ (7 : Int32) < nI s := nI_nlt (a := 7) (by omega) (by decide)
theorem sq_l3 {s : Nat} (h : s < 4) : nI s ≤ (3 : Int32) := nI_le (b := 3) (by omega) (by decide)
theorem sq_p {s : Nat} (h : s < 8) : ¬ nI s < 0 := nI_pos (by omega)
theorem sq_10 : ¬ (1 : Int32) = 0 := by decide
theorem sx_isPc {post : Int32 → Prop} {a b : Int32} (h1 : ¬ a < 0 → ¬ 3 < a → ¬ b < 0 → ¬ 7 < b → post 1) (h0 : post 0) : wpX_isPage post a b :=
  br_c (fun _ => h0) (fun n1 => br_c (fun _ => h0) (fun n2 => br_c (fun _ => h0) (fun n3 => br_c (fun _ => h0) (fun n4 => h1 n1 n2 n3 n4))))
theorem sx_isP1 {post : Int32 → Prop} {s p : Nat} (hs : s < 4) (hp : p < 8) (h1 : post 1) : wpX_isPage post (nI s) (nI p) :=
  br_f (sq_p (by omega)) (br_f (sq_n3 hs) (br_f (sq_p hp) (br_f (sq_n7 hp) h1)))
theorem sx_isP0 {post : Int32 → Prop} {s : Nat} (hs : s < 4) (h1 : post 1) : wpX_isPage post (nI s) 0 := sx_isP1 (p := 0) hs (by decide) h1
theorem sx_isPn {post : Int32 → Prop} {a b : Int32} (h : a < 0 ∨ 3 < a ∨ b < 0 ∨ 7 < b) (h0 : post 0) : wpX_isPage post a b :=
  sx_isPc (fun n1 n2 n3 n4 => by
    rcases h with h | h | h | h
    · exact absurd h n1
    · exact absurd h n2
    · exact absurd h n3
    · exact absurd h n4) h0
theorem sy_outc {post : Int32 → Prop} {a b : Int32} (h0 : ¬ a < 0 → ¬ b < a → post 0) (h1 : post 1) : wpY_outside post a b :=
  br_c (fun _ => h1) (fun n1 => br_c (fun n2 => h0 n1 (Int32.not_lt.mpr n2)) (fun _ => h1))
theorem sy_out0 {post : Int32 → Prop} {s : Nat} (h : s < 4) (h0 : post 0) : wpY_outside post (nI s) 3 := br_f (sq_p (by omega)) (br_t (sq_l3 h) h0)
theorem sy_outn {post : Int32 → Prop} {a b : Int32} (h : a < 0 ∨ b < a) (h1 : post 1) : wpY_outside post a b :=
  sy_outc (fun n1 n2 => by
    rcases h with h | h
    · exact absurd h n1
    · exact absurd h n2) h1
theorem sy_badc {post : Int32 → Prop} {a b : Int32} (h0 : ¬ a < 0 → ¬ 3 < a → ¬ b < 0 → ¬ 7 < b → post 0) (h1 : post 1) : wpY_bad post a b := by
  unfold wpY_bad
  refine sy_outc (fun n1 n2 => br_t rfl ?_) (br_f sq_10 h1)
  exact sy_outc (fun n3 n4 => br_t rfl (h0 n1 n2 n3 n4)) (br_f sq_10 h1)
theorem sy_bad0 {post : Int32 → Prop} {s p : Nat} (hs : s < 4) (hp : p < 8) (h0 : post 0) : wpY_bad post (nI s) (nI p) := by
  unfold wpY_bad
  refine sy_out0 hs (br_t rfl ?_)
  exact br_f (sq_p hp) (br_t (nI_le (b := 7) (by omega) (by decide)) (br_t rfl h0))
theorem sy_badn {post : Int32 → Prop} {a b : Int32} (h : a < 0 ∨ 3 < a ∨ b < 0 ∨ 7 < b) (h1 : post 1) : wpY_bad post a b :=
  sy_badc (fun n1 n2 n3 n4 => by
    rcases h with h | h | h | h
    · exact absurd h n1
    · exact absurd h n2
    · exact absurd h n3
    · exact absurd h n4) h1
/-! ===== the component's loops over pages ===== -/
section
variable {ob ps hd ce sh : Nat → Int32} {V : Nat → Nat → Int32} {rk : Nat → Nat}
theorem sx_fork_l {post : Int32 → SX → Prop} {f t : Nat} (hf : f < 4) (ht : t < 4)
    (K : ∀ tk hd ce sh us, sp_I (sp_cp ob (8 * t) (8 * f) 8) tk hd ce sh us V rk (-1) → sp_F tk sh us → post 0 (sp_cp ob (8 * t) (8 * f) 8, ps, tk, hd, ce, sh, us)) :
    ∀ (n i : Nat) (tk us : Nat → Int32), i ≤ 8 → 8 < n + i → sp_I (sp_cp ob (8 * t) (8 * f) i) tk hd ce sh us V rk (-1) → wX_fork_20 post (nI f) (nI t) n (nI i) (sp_cp ob (8 * t) (8 * f) i) ps tk hd ce sh us := by
  intro n
  induction n with
  | zero =>
    intro i tk us h1 h2
    omega
  | succ n ih =>
    intro i tk us hi hn hI
    by_cases e : i = 8
    · subst e
      exact br_t (by decide) (sx_foldAll hI K)
    · refine br_f (nI_ge (b := 8) (by omega) (by decide)) ?_
      rw [sp_8, sp_8, nI_clamp (n := 8 * f + i) (by omega)]
      refine And.intro (vp_in_nI (by omega) (by decide)) (sx_lead hI (by omega) (hI.1.1 _ (by omega)) (fun tk' us' h => nm_r (nI_1 i) ?_))
      rw [sp_cpr (N := 8) (by omega) (by omega), ← sp_cps] at h ⊢
      exact ih _ _ _ (by omega) (by omega) h
theorem sx_pack_l {post : Int32 → SX → Prop} {k s f m : Nat} (hk : k < 4) (hs : s < 4) (hm : f + m ≤ 8)
    (K : ∀ tk hd ce sh us, sp_I (sp_pk ob (32 + 8 * k) (8 * s + f) m 8) tk hd ce sh us V rk (-1) → sp_F tk sh us → post 0 (sp_pk ob (32 + 8 * k) (8 * s + f) m 8, upd ps k (nI m), tk, hd, ce, sh, us)) :
    ∀ (n i : Nat) (tk us : Nat → Int32), i ≤ 8 → 8 < n + i → sp_I (sp_pk ob (32 + 8 * k) (8 * s + f) m i) tk hd ce sh us V rk (-1) → wX_pack_66 post (nI k) (nI s) (nI f) (nI m) n (nI i) (sp_pk ob (32 + 8 * k) (8 * s + f) m i) ps tk hd ce sh us := by
  intro n
  induction n with
  | zero =>
    intro i tk us h1 h2
    omega
  | succ n ih =>
    intro i tk us hi hn hI
    by_cases e : i = 8
    · subst e
      refine br_t (by decide) (And.intro (vp_in_nI hk (by decide)) ?_)
      rw [nI_clamp (n := k) (by omega)]
      exact nm_e (sx_foldAll hI K)
    · refine br_f (nI_ge (b := 8) (by omega) (by decide)) ?_
      by_cases h : i < m
      · refine br_f (nI_ge h (by omega)) ?_
        rw [sp_8, nI_add, nI_clamp (n := 8 * s + f + i) (by omega)]
        refine And.intro (vp_in_nI (by omega) (by decide)) ?_
        unfold wX_pack_109
        rw [sp_a8]
        refine sx_lead hI (by omega) (hI.1.1 _ (by omega)) (fun tk' us' h' => nm_r (nI_1 i) ?_)
        have es := sp_pks ob (32 + 8 * k) (8 * s + f) m i
        rw [if_pos h] at es
        rw [sp_pko (j := 8 * s + f + i) (by omega), ← es] at h' ⊢
        exact ih _ _ _ (by omega) (by omega) h'
      · refine br_t (nI_le (by omega) (by omega)) ?_
        unfold wX_pack_109
        rw [sp_a8]
        refine sx_lead hI (by omega) (Or.inl rfl) (fun tk' us' h' => nm_r (nI_1 i) ?_)
        have es := sp_pks ob (32 + 8 * k) (8 * s + f) m i
        rw [if_neg h] at es
        rw [← es] at h' ⊢
        exact ih _ _ _ (by omega) (by omega) h'
theorem sx_unp95 {post : Int32 → SX → Prop} {k m : Nat} (hk : k < 4) (hm : m ≤ 8)
    (K : ∀ tk hd ce sh us, sp_I (sp_cl ob (32 + 8 * k) m) tk hd ce sh us V rk (-1) → sp_F tk sh us → post (nI m) (sp_cl ob (32 + 8 * k) m, upd ps k 0, tk, hd, ce, sh, us)) :
    ∀ (n i : Nat) (tk us : Nat → Int32), i ≤ m → m < n + i → sp_I (sp_cl ob (32 + 8 * k) i) tk hd ce sh us V rk (-1) → wX_unpack_95 post (nI k) (nI m) n (nI i) (sp_cl ob (32 + 8 * k) i) ps tk hd ce sh us := by
  intro n
  induction n with
  | zero =>
    intro i tk us h1 h2
    omega
  | succ n ih =>
    intro i tk us hi hn hI
    by_cases e : i = m
    · subst e
      refine br_t (nI_le (by omega) (by omega)) (And.intro (vp_in_nI hk (by decide)) ?_)
      rw [nI_clamp (n := k) (by omega)]
      refine nm_e ?_
      unfold wX_unpack_130
      exact sx_foldAll hI K
    · refine br_f (nI_ge (by omega) (by omega)) ?_
      rw [sp_a8]
      refine sx_lead hI (by omega) (Or.inl rfl) (fun tk' us' h' => nm_r (nI_1 i) ?_)
      rw [← sp_cls] at h' ⊢
      exact ih _ _ _ (by omega) (by omega) h'
theorem sx_unp46 {post : Int32 → SX → Prop} {k s f m : Nat} {kp : Int32} (hk : k < 4) (hs : s < 4) (hm : f + m ≤ 8)
    (K0 : kp = 0 → ∀ tk hd ce sh us, sp_I (sp_cl (sp_cp ob (8 * s + f) (32 + 8 * k) m) (32 + 8 * k) m) tk hd ce sh us V rk (-1) → sp_F tk sh us → post (nI m) (sp_cl (sp_cp ob (8 * s + f) (32 + 8 * k) m) (32 + 8 * k) m, upd ps k 0, tk, hd, ce, sh, us))
    (K1 : ¬ kp = 0 → ∀ tk hd ce sh us, sp_I (sp_cp ob (8 * s + f) (32 + 8 * k) m) tk hd ce sh us V rk (-1) → sp_F tk sh us → post (nI m) (sp_cp ob (8 * s + f) (32 + 8 * k) m, ps, tk, hd, ce, sh, us)) :
    ∀ (n i : Nat) (tk us : Nat → Int32), i ≤ m → m < n + i → sp_I (sp_cp ob (8 * s + f) (32 + 8 * k) i) tk hd ce sh us V rk (-1) → wX_unpack_46 post (nI k) (nI s) (nI f) kp (nI m) n (nI i) (sp_cp ob (8 * s + f) (32 + 8 * k) i) ps tk hd ce sh us := by
  intro n
  induction n with
  | zero =>
    intro i tk us h1 h2
    omega
  | succ n ih =>
    intro i tk us hi hn hI
    by_cases e : i = m
    · subst e
      refine br_t (nI_le (by omega) (by omega)) (br_c (fun z => ?_) (fun z => ?_))
      · refine ⟨i + 1, ?_⟩
        have key := sx_unp95 (post := post) (ps := ps) (ob := sp_cp ob (8 * s + f) (32 + 8 * k) i) (hd := hd) (ce := ce) (sh := sh) (V := V) (rk := rk) hk (by omega) (K0 z) (i + 1) 0 tk us (by omega) (by omega) (by rw [sp_cl0]; exact hI)
        rw [sp_cl0] at key
        exact key
      · unfold wX_unpack_130
        exact sx_foldAll hI (K1 z)
    · refine br_f (nI_ge (by omega) (by omega)) ?_
      rw [sp_a8, sp_8, nI_add, nI_clamp (n := 32 + 8 * k + i) (by omega)]
      refine And.intro (vp_in_nI (by omega) (by decide)) (sx_lead hI (by omega) (hI.1.1 _ (by omega)) (fun tk' us' h => nm_r (nI_1 i) ?_))
      rw [sp_cpr (N := m) (by omega) (by omega), ← sp_cps] at h ⊢
      exact ih _ _ _ (by omega) (by omega) h
end
/-! == the same page == -/
def sq_eq (a b : Nat → Int32) : Prop := ∀ c, c < 4 → a c = b c
section
variable {ob ps tk hd ce sh us : Nat → Int32} {V : Nat → Nat → Int32} {rk : Nat → Nat}
theorem sx_same_l {post : Int32 → Prop} {x y : Int32} (hI : sp_I ob tk hd ce sh us V rk (-1)) (hx : sp_rf tk x) (hy : sp_rf tk y) (h1 : sq_eq (sp_vl V x) (sp_vl V y) → post 1) (h0 : ¬ sq_eq (sp_vl V x) (sp_vl V y) → post 0) :
    ∀ n c, c ≤ 4 → 4 < n + c → (∀ d, d < c → sp_vl V x d = sp_vl V y d) → wX_samePage_9 post x y ob ps tk hd ce sh us n (nI c) := by
  intro n
  induction n with
  | zero =>
    intro c h1 h2
    omega
  | succ n ih =>
    intro c hc hn hq
    by_cases e : c = 4
    · subst e
      exact br_t (by decide) (h1 hq)
    · refine br_f (nI_ge (b := 4) (by omega) (by decide)) ?_
      refine sx_cell hI hx (by omega) ?_
      refine sx_cell hI hy (by omega) ?_
      refine br_c (fun z => nm_r (nI_1 c) (ih _ (by omega) (by omega) (lt_s hq z))) (fun z => h0 (fun q => z (q c (by omega))))
theorem sx_same {post : Int32 → Prop} {x y : Int32} (hI : sp_I ob tk hd ce sh us V rk (-1)) (hx : sp_rf tk x) (hy : sp_rf tk y) (h1 : sq_eq (sp_vl V x) (sp_vl V y) → post 1) (h0 : ¬ sq_eq (sp_vl V x) (sp_vl V y) → post 0) :
    wpX_samePage post (ob, ps, tk, hd, ce, sh, us) x y :=
  br_c (fun z => h1 (fun c _ => by rw [z])) (fun _ => ⟨5, sx_same_l hI hx hy h1 h0 5 0 (by omega) (by omega) lt_0⟩)
theorem sy_al36 {post : Int32 → Prop} {J : Int32 → Int32 → Prop} {yc ys : Nat → Int32} {a b p : Nat} {x3 : Int32} (ha : a < 4) (hb : b < 4) (hp : p < 8)
    (h1 : sq_eq (fun c => yc (32 * a + 4 * p + c)) (fun c => yc (32 * b + 4 * p + c)) → J (x3 + 1) (nI (p + 1))) (h0 : ¬ sq_eq (fun c => yc (32 * a + 4 * p + c)) (fun c => yc (32 * b + 4 * p + c)) → J x3 (nI (p + 1))) :
    ∀ (n c : Nat) (x5 : Int32), c ≤ 4 → 4 < n + c → ((x5 = 1 ∧ ∀ d, d < c → yc (32 * a + 4 * p + d) = yc (32 * b + 4 * p + d)) ∨ (x5 = 0 ∧ ¬ sq_eq (fun c => yc (32 * a + 4 * p + c)) (fun c => yc (32 * b + 4 * p + c)))) →
      wY_alike_36 post J (nI a) (nI b) x3 (nI p) yc ys n x5 (nI c) := by
  intro n
  induction n with
  | zero =>
    intro c x5 h1 h2
    omega
  | succ n ih =>
    intro c x5 hc hn hq
    by_cases e : c = 4
    · subst e
      refine br_t (by decide) ?_
      rcases hq with ⟨rfl, q⟩ | ⟨rfl, q⟩
      · exact br_f sq_10 (nm_e (nm_r (nI_1 p) (h1 q)))
      · exact br_t rfl (nm_r (nI_1 p) (h0 q))
    · refine br_f (nI_ge (b := 4) (by omega) (by decide)) ?_
      rw [sp_32, sp_32, nI_add, nI_add, nI_clamp (n := 32 * a + 4 * p + c) (by omega), nI_clamp (n := 32 * b + 4 * p + c) (by omega)]
      refine And.intro (vp_in_nI (by omega) (by decide)) (And.intro (vp_in_nI (by omega) (by decide)) ?_)
      refine br_c (fun z => nm_r (nI_1 c) (ih _ _ (by omega) (by omega) ?_)) (fun z => nm_r (nI_1 c) (ih _ _ (by omega) (by omega) ?_))
      · rcases hq with ⟨q1, q⟩ | q
        · exact Or.inl ⟨q1, lt_s q z⟩
        · exact Or.inr q
      · exact Or.inr ⟨rfl, fun q => z (q c (by omega))⟩
end
end
section
/-! ===== the relation ===== -/
/-- page P is live: a space's page, or a parcel's page below its size -/
def sp_L (ps : Nat → Int32) (P : Nat) : Prop := ∀ m, m ≤ 8 → 32 ≤ P → ps ((P - 32) / 8) = nI m → (P - 32) % 8 < m
def sp_G (ps yc : Nat → Int32) (V : Nat → Nat → Int32) (ob : Nat → Int32) : Prop := ∀ P c, P < 64 → c < 4 → sp_L ps P → yc (4 * P + c) = sp_vl V (ob P) c
def sp_S (ps : Nat → Int32) : Prop := ∀ k, k < 4 → ∃ m, m ≤ 8 ∧ ps k = nI m
theorem sp_L32 {ps : Nat → Int32} {P : Nat} (h : P < 32) : sp_L ps P := fun m _ h2 => absurd h2 (by omega)
theorem sp_Lk {ps : Nat → Int32} {k p m : Nat} (hk : k < 4) (hm : m ≤ 8) (e : ps k = nI m) (hp : p < m) : sp_L ps (32 + 8 * k + p) := fun m' hm' _ e' => by
  rw [show (32 + 8 * k + p - 32) / 8 = k by omega, e] at e'
  have := (nI_eq (by omega) (by omega)).mp e'
  omega
theorem sp_Su {ps : Nat → Int32} {k m : Nat} (h : sp_S ps) (hm : m ≤ 8) : sp_S (upd ps k (nI m)) := fun j hj => by
  by_cases e : j = k
  · subst e
    exact ⟨m, hm, pk_us⟩
  · rw [pk_un e]
    exact h j hj
def i_Rel (k : Nat) (u : SX) (v : SY) : Prop :=
  ∃ (ob ps tk hd ce sh us yc : Nat → Int32) (V : Nat → Nat → Int32) (rk : Nat → Nat), u = (ob, ps, tk, hd, ce, sh, us) ∧ v = (yc, ps) ∧ sp_I ob tk hd ce sh us V rk (-1) ∧ sp_F tk sh us ∧ sp_S ps ∧ sp_G ps yc V ob
theorem sp_mk {k : Nat} {ob ps tk hd ce sh us yc : Nat → Int32} {V : Nat → Nat → Int32} {rk : Nat → Nat} (hI : sp_I ob tk hd ce sh us V rk (-1)) (hF : sp_F tk sh us) (hS : sp_S ps) (hG : sp_G ps yc V ob) :
    i_Rel k (ob, ps, tk, hd, ce, sh, us) (yc, ps) := ⟨ob, ps, tk, hd, ce, sh, us, yc, V, rk, rfl, rfl, hI, hF, hS, hG⟩
theorem i_up {k : Nat} {u : SX} {v : SY} (h : i_Rel k u v) : i_Rel (k + 5) u v := h
/-! == what copies do to it == -/
section
variable {ps yc ob : Nat → Int32} {V : Nat → Nat → Int32}
theorem sp_Gcp {t s n : Nat} (hG : sp_G ps yc V ob) (hs : s + n ≤ 64) (hL : ∀ i, i < n → sp_L ps (s + i)) : sp_G ps (sp_cp yc (4 * t) (4 * s) (4 * n)) V (sp_cp ob t s n) := by
  intro P c hP hc hL'
  by_cases h : t ≤ P ∧ P < t + n
  · rw [sp_cpi h, sp_cpi (by omega), ← hG (s + (P - t)) c (by omega) hc (hL _ (by omega))]
    exact congrArg yc (by omega)
  · rw [sp_cpo h, sp_cpo (by omega)]
    exact hG P c hP hc hL'
theorem sp_Gpk {k s f m : Nat} (hG : sp_G ps yc V ob) (hs : s < 4) (hm : f + m ≤ 8) : sp_G (upd ps k (nI m)) (sp_cp yc (128 + 32 * k) (32 * s + 4 * f) (4 * m)) V (sp_pk ob (32 + 8 * k) (8 * s + f) m 8) := by
  intro P c hP hc hL
  by_cases h : 32 + 8 * k ≤ P ∧ P < 32 + 8 * k + 8
  · have hlt : P - (32 + 8 * k) < m := by
      have := hL m (by omega) (by omega) (by rw [show (P - 32) / 8 = k by omega, pk_us])
      omega
    rw [sp_pki h hlt, sp_cpi (by omega), ← hG (8 * s + f + (P - (32 + 8 * k))) c (by omega) hc (sp_L32 (by omega))]
    exact congrArg yc (by omega)
  · rw [sp_pko h, sp_cpo (by omega)]
    exact hG P c hP hc (fun m' hm' h32 e => hL m' hm' h32 (by rw [pk_un (by omega)]; exact e))
theorem sp_Gcl {k m : Nat} (hG : sp_G ps yc V ob) (hm : m ≤ 8) : sp_G (upd ps k 0) yc V (sp_cl ob (32 + 8 * k) m) := by
  intro P c hP hc hL
  by_cases h : 32 + 8 * k ≤ P ∧ P < 32 + 8 * k + 8
  · have := hL 0 (by omega) (by omega) (by rw [show (P - 32) / 8 = k by omega, pk_us, nI_0])
    omega
  · rw [sp_clo (by omega)]
    exact hG P c hP hc (fun m' hm' h32 e => hL m' hm' h32 (by rw [pk_un (by omega)]; exact e))
theorem sp_Gex {a b : Nat} (hG : sp_G ps yc V ob) (ha : a < 32) (hb : b < 32) : sp_G ps (sp_cp (sp_cp (sp_cp yc 256 (4 * a) 4) (4 * a) (4 * b) 4) (4 * b) 256 4) V (upd (upd ob a (ob b)) b (ob a)) := by
  intro P c hP hc hL
  by_cases e : P = b
  · subst e
    rw [pk_us, sp_cpi (by omega), sp_cpo (by omega), sp_cpi (by omega), ← hG a c (by omega) hc (sp_L32 ha)]
    exact congrArg yc (by omega)
  · rw [pk_un e, sp_cpo (by omega)]
    by_cases e2 : P = a
    · subst e2
      rw [pk_us, sp_cpi (by omega), sp_cpo (by omega), ← hG b c (by omega) hc (sp_L32 hb)]
      exact congrArg yc (by omega)
    · rw [pk_un e2, sp_cpo (by omega), sp_cpo (by omega)]
      exact hG P c hP hc hL
theorem sp_Gz {a : Nat} (hG : sp_G ps yc V ob) : sp_G ps (sp_z yc (4 * a) 4) V (upd ob a (-1)) := by
  intro P c hP hc hL
  by_cases e : P = a
  · subst e
    rw [pk_us, sp_zi (by omega), sp_vlm]
  · rw [pk_un e, sp_zo (by omega)]
    exact hG P c hP hc hL
end
/-! ===== what is owed ===== -/
theorem sx_init_l {post : SX → Prop} (hp : post (sp_cl (fun _ => 0) 0 64, (fun _ => 0), (fun _ => 0), (fun _ => 0), (fun _ => 0), (fun _ => 0), (fun _ => 0))) :
    ∀ n i, i ≤ 64 → 64 < n + i → wX_init_66 post n (nI i) (sp_cl (fun _ => 0) 0 i) (fun _ => 0) (fun _ => 0) (fun _ => 0) (fun _ => 0) (fun _ => 0) (fun _ => 0) := by
  intro n
  induction n with
  | zero =>
    intro i h1 h2
    omega
  | succ n ih =>
    intro i hi hn
    by_cases e : i = 64
    · subst e
      exact br_t (by decide) hp
    · refine br_f (nI_ge (b := 64) (by omega) (by decide)) (And.intro (vp_in_nI (by omega) (by decide)) ?_)
      rw [nI_clamp (n := i) (by omega)]
      refine nm_e (nm_r (nI_1 i) ?_)
      have es := sp_cls (fun _ => 0) 0 i
      rw [Nat.zero_add] at es
      rw [← es]
      exact ih _ (by omega) (by omega)
theorem i_vc0 : wpX_init (fun u => wpY_init (fun v => i_Rel 0 u v)) := by
  have key := sx_init_l (post := fun u => wpY_init (fun v => i_Rel 0 u v)) (by
    have hob : ∀ p, p < 64 → sp_cl (fun _ => 0) 0 64 p = -1 := fun p hp => sp_cli (by omega)
    refine sp_mk (k := 0) (V := fun _ _ => 0) (rk := fun _ => 0) ⟨⟨fun p hp => Or.inl (hob p hp), fun q _ h => absurd rfl h, Or.inl rfl⟩, fun q _ h => absurd rfl h, ⟨fun _ _ => (by decide : (0 : Nat) < 130), fun q _ _ _ h => absurd rfl h⟩, fun q _ _ _ h => absurd rfl h⟩
      (fun q _ h => absurd rfl h) (fun k _ => ⟨0, by omega, nI_0.symm⟩) (fun P c hP hc _ => ?_)
    rw [hob P hP, sp_vlm]) 65 0 (by omega) (by omega)
  rw [sp_cl0] at key
  exact ⟨65, key⟩
/-! == write == -/
section
variable {ob ps tk hd ce sh us yc ys : Nat → Int32} {V : Nat → Nat → Int32} {rk : Nat → Nat}
theorem sx_write {post : Int32 → SX → Prop} (hI : sp_I ob tk hd ce sh us V rk (-1)) (hF : sp_F tk sh us) {s p c : Nat} (hs : s < 4) (hp : p < 8) (hc : c < 4) (v : Int32)
    (K : ∀ ob' tk' hd' ce' sh' us' V' rk', sp_I ob' tk' hd' ce' sh' us' V' rk' (-1) → sp_F tk' sh' us' → (∀ P, P < 64 → ∀ d, d < 4 → sp_vl V' (ob' P) d = if P = 8 * s + p ∧ d = c then v else sp_vl V (ob P) d) →
      post 0 (ob', ps, tk', hd', ce', sh', us')) : wpX_write post (ob, ps, tk, hd, ce, sh, us) (nI s) (nI p) (nI c) v := by
  unfold wpX_write
  dsimp only
  refine sx_isP1 hs hp (br_f sq_10 (br_f (sq_p (by omega)) (br_t (sq_l3 hc) ?_)))
  refine nm_r (sp_8 s p) ?_
  refine sx_own hI hF (by omega) (fun o ob' tk' hd' sh' us' V' rk' ho hI' hot hobp hobq hsh hVo hVq => ?_)
  have hv := sp_vi ho
  have val : ∀ P, P < 64 → ∀ d, d < 4 → sp_vl (sp_w V' o c v) (ob' P) d = if P = 8 * s + p ∧ d = c then v else sp_vl V (ob P) d := by
    intro P hP d hd
    by_cases e : P = 8 * s + p
    · subst e
      rw [hobp, sp_vln _ ho]
      unfold sp_w
      by_cases e2 : d = c
      · rw [if_pos ⟨rfl, e2⟩, if_pos ⟨rfl, e2⟩]
      · rw [if_neg (fun z => e2 z.2), if_neg (fun z => e2 z.2), hVo]
    · obtain ⟨q1, q2⟩ := hobq P hP e
      rw [q1, if_neg (fun z => e z.1)]
      refine sp_vlc (hI.1.1 P hP) (fun m hm hmt em => ?_)
      have hmo : m ≠ o := fun z => q2 (by rw [em, z])
      show (if m = o ∧ d = c then v else V' m d) = V m d
      rw [if_neg (fun z => hmo z.1), hVq m d hmo]
  have hw := sp_wr hI' ho hc hsh v
  have fin : ∀ tk2 sh2 us2, sp_I ob' tk2 (upd hd' o (hd' o ||| ((1 : Int32) <<< (nI c &&& 31)))) (upd ce (4 * o + c) v) sh2 us2 (sp_w V' o c v) rk' (-1) →
      wX_write_106 post ob' ps tk2 (upd hd' o (hd' o ||| ((1 : Int32) <<< (nI c &&& 31)))) (upd ce (4 * o + c) v) sh2 us2 := fun tk2 sh2 us2 h => by
    unfold wX_write_106
    exact sx_foldAll h (fun tk3 hd3 ce3 sh3 us3 h3 hF3 => K ob' tk3 hd3 ce3 sh3 us3 _ rk' h3 hF3 val)
  dsimp only
  rw [sp_4, nI_clamp (n := 4 * o + c) (by omega), nI_clamp (sp_31 ho)]
  refine And.intro (vp_in_nI (by omega) (by decide)) (nm_e (And.intro hv (And.intro hv (nm_e (And.intro hv ?_)))))
  simp only [pk_us]
  by_cases z : (hd' o ||| ((1 : Int32) <<< (nI c &&& 31))) = 15
  · refine br_t z (And.intro hv ?_)
    by_cases z2 : sh' o < 0
    · exact br_t z2 (fin _ _ _ hw)
    · refine br_f z2 (And.intro hv (nm_e (And.intro hv (nm_e ?_))))
      have hdr := sp_drop hw ho hot (fun d hd => by rw [pk_us, z]; exact sp_b15 d hd)
      exact sx_letGo hdr (fun tk2 us2 h _ => fin _ _ _ h)
  · exact br_f z (fin _ _ _ hw)
theorem sx_write_n {post : Int32 → SX → Prop} {a b c v : Int32} (h : (a < 0 ∨ 3 < a ∨ b < 0 ∨ 7 < b) ∨ (c < 0 ∨ 3 < c)) (hp : post (-1) (ob, ps, tk, hd, ce, sh, us)) : wpX_write post (ob, ps, tk, hd, ce, sh, us) a b c v := by
  unfold wpX_write
  dsimp only
  refine sx_isPc (fun n1 n2 n3 n4 => br_f sq_10 (br_c (fun _ => hp) (fun m1 => br_c (fun m2 => ?_) (fun _ => hp)))) (br_t rfl hp)
  have m3 := Int32.not_lt.mpr m2
  exfalso
  rcases h with (h | h | h | h) | (h | h) <;> contradiction
theorem sy_write_n {post : Int32 → SY → Prop} {a b c v : Int32} (h : (a < 0 ∨ 3 < a ∨ b < 0 ∨ 7 < b) ∨ (c < 0 ∨ 3 < c)) (hp : post (-1) (yc, ys)) : wpY_write post (yc, ys) a b c v := by
  unfold wpY_write
  dsimp only
  refine sy_badc (fun n1 n2 n3 n4 => br_t rfl ?_) (br_f sq_10 hp)
  refine sy_outc (fun m1 m2 => ?_) (br_f sq_10 hp)
  exfalso
  rcases h with (h | h | h | h) | (h | h) <;> contradiction
end
theorem i_vc_write {k : Nat} {u : SX} {v : SY} (I : i_Rel k u v) (hk : k + 5 ≤ 2560) (v1 : Int32) (v2 : Int32) (v3 : Int32) (v4 : Int32) : wpX_write (fun r u' => wpY_write (fun r' v' => r' = r ∧ i_Rel (k + 5) u' v') v v1 v2 v3 v4) u v1 v2 v3 v4 := by
  obtain ⟨ob, ps, tk, hd, ce, sh, us, yc, V, rk, rfl, rfl, hI, hF, hS, hG⟩ := I
  have R : i_Rel (k + 5) (ob, ps, tk, hd, ce, sh, us) (yc, ps) := sp_mk hI hF hS hG
  rcases sq_pg v1 v2 with ⟨s, p, hs, hp, rfl, rfl⟩ | hb
  · rcases sq_1 v3 with ⟨c, hc, rfl⟩ | hb
    · refine sx_write hI hF hs hp hc v4 (fun ob' tk' hd' ce' sh' us' V' rk' h hF' val => ?_)
      unfold wpY_write
      dsimp only
      refine sy_bad0 hs hp (br_t rfl ?_)
      refine sy_out0 hc (br_t rfl ?_)
      rw [sp_32, nI_add, nI_clamp (n := 32 * s + 4 * p + c) (by omega)]
      refine And.intro (vp_in_nI (by omega) (by decide)) (nm_e (And.intro rfl (sp_mk h hF' hS (fun P d hP hd hL => ?_))))
      rw [val P hP d hd]
      by_cases e : P = 8 * s + p ∧ d = c
      · rw [if_pos e, show 4 * P + d = 32 * s + 4 * p + c by omega, pk_us]
      · rw [if_neg e, pk_un (by omega)]
        exact hG P d hP hd hL
    · exact sx_write_n (Or.inr hb) (sy_write_n (Or.inr hb) ⟨rfl, R⟩)
  · exact sx_write_n (Or.inl hb) (sy_write_n (Or.inl hb) ⟨rfl, R⟩)
/-! == read == -/
section
variable {ob ps tk hd ce sh us yc ys : Nat → Int32} {V : Nat → Nat → Int32} {rk : Nat → Nat}
theorem sx_read_n {post : Int32 → Prop} {a b c : Int32} (h : (a < 0 ∨ 3 < a ∨ b < 0 ∨ 7 < b) ∨ (c < 0 ∨ 3 < c)) (hp : post 0) : wpX_read post (ob, ps, tk, hd, ce, sh, us) a b c := by
  unfold wpX_read
  dsimp only
  refine sx_isPc (fun n1 n2 n3 n4 => br_f sq_10 (br_c (fun _ => hp) (fun m1 => br_c (fun m2 => ?_) (fun _ => hp)))) (br_t rfl hp)
  have m3 := Int32.not_lt.mpr m2
  exfalso
  rcases h with (h | h | h | h) | (h | h) <;> contradiction
theorem sy_read_n {post : Int32 → Prop} {a b c : Int32} (h : (a < 0 ∨ 3 < a ∨ b < 0 ∨ 7 < b) ∨ (c < 0 ∨ 3 < c)) (hp : post 0) : wpY_read post (yc, ys) a b c := by
  unfold wpY_read
  dsimp only
  refine sy_badc (fun n1 n2 n3 n4 => br_t rfl ?_) (br_f sq_10 hp)
  refine sy_outc (fun m1 m2 => ?_) (br_f sq_10 hp)
  exfalso
  rcases h with (h | h | h | h) | (h | h) <;> contradiction
end
theorem i_vc_read {k : Nat} {u : SX} {v : SY} (I : i_Rel k u v) (hk : k + 5 ≤ 2560) (v1 : Int32) (v2 : Int32) (v3 : Int32) : wpX_read (fun r => wpY_read (fun r' => r' = r ∧ i_Rel (k + 5) u v) v v1 v2 v3) u v1 v2 v3 := by
  have R : i_Rel (k + 5) u v := I
  obtain ⟨ob, ps, tk, hd, ce, sh, us, yc, V, rk, rfl, rfl, hI, hF, hS, hG⟩ := I
  rcases sq_pg v1 v2 with ⟨s, p, hs, hp, rfl, rfl⟩ | hb
  · rcases sq_1 v3 with ⟨c, hc, rfl⟩ | hb
    · unfold wpX_read
      dsimp only
      refine sx_isP1 hs hp (br_f sq_10 (br_f (sq_p (by omega)) (br_t (sq_l3 hc) ?_)))
      rw [sp_8, nI_clamp (n := 8 * s + p) (by omega)]
      refine And.intro (vp_in_nI (by omega) (by decide)) (sx_cell hI (hI.1.1 _ (by omega)) hc ?_)
      unfold wpY_read
      dsimp only
      refine sy_bad0 hs hp (br_t rfl ?_)
      refine sy_out0 hc (br_t rfl ?_)
      rw [sp_32, nI_add, nI_clamp (n := 32 * s + 4 * p + c) (by omega)]
      refine And.intro (vp_in_nI (by omega) (by decide)) (And.intro ?_ R)
      rw [← hG (8 * s + p) c (by omega) hc (sp_L32 (by omega))]
      exact congrArg yc (by omega)
    · exact sx_read_n (Or.inr hb) (sy_read_n (Or.inr hb) ⟨rfl, R⟩)
  · exact sx_read_n (Or.inl hb) (sy_read_n (Or.inl hb) ⟨rfl, R⟩)
/-! == fork == -/
section
variable {ob ps tk hd ce sh us yc ys : Nat → Int32} {V : Nat → Nat → Int32} {rk : Nat → Nat}
theorem sq_00 : ¬ (0 : Int32) < 0 := by decide
theorem sq_70 : ¬ (7 : Int32) < 0 := by decide
theorem sx_fork_n {post : Int32 → SX → Prop} {a b : Int32} (h : (a < 0 ∨ 3 < a) ∨ (b < 0 ∨ 3 < b)) (hp : post (-1) (ob, ps, tk, hd, ce, sh, us)) : wpX_fork post (ob, ps, tk, hd, ce, sh, us) a b := by
  unfold wpX_fork
  dsimp only
  refine sx_isPc (fun n1 n2 n3 n4 => br_f sq_10 ?_) (br_t rfl hp)
  refine sx_isPc (fun m1 m2 m3 m4 => ?_) (br_t rfl hp)
  exfalso
  rcases h with (h | h) | (h | h) <;> contradiction
theorem sy_fork_n {post : Int32 → SY → Prop} {a b : Int32} (h : (a < 0 ∨ 3 < a) ∨ (b < 0 ∨ 3 < b)) (hp : post (-1) (yc, ys)) : wpY_fork post (yc, ys) a b := by
  unfold wpY_fork
  dsimp only
  refine sy_outc (fun n1 n2 => br_t rfl ?_) (br_f sq_10 hp)
  refine sy_outc (fun m1 m2 => ?_) (br_f sq_10 hp)
  exfalso
  rcases h with (h | h) | (h | h) <;> contradiction
end
theorem i_vc_fork {k : Nat} {u : SX} {v : SY} (I : i_Rel k u v) (hk : k + 5 ≤ 2560) (v1 : Int32) (v2 : Int32) : wpX_fork (fun r u' => wpY_fork (fun r' v' => r' = r ∧ i_Rel (k + 5) u' v') v v1 v2) u v1 v2 := by
  obtain ⟨ob, ps, tk, hd, ce, sh, us, yc, V, rk, rfl, rfl, hI, hF, hS, hG⟩ := I
  have R : i_Rel (k + 5) (ob, ps, tk, hd, ce, sh, us) (yc, ps) := sp_mk hI hF hS hG
  rcases sq_1 v1 with ⟨f, hf, rfl⟩ | hb
  · rcases sq_1 v2 with ⟨t, ht, rfl⟩ | hb
    · unfold wpX_fork
      dsimp only
      refine sx_isP0 hf (br_f sq_10 ?_)
      refine sx_isP0 ht (br_f sq_10 ⟨9, ?_⟩)
      have key := sx_fork_l (post := fun r u' => wpY_fork (fun r' v' => r' = r ∧ i_Rel (k + 5) u' v') (yc, ps) (nI f) (nI t)) (ob := ob) (ps := ps) (V := V) (rk := rk) (hd := hd) (ce := ce) (sh := sh) hf ht (fun tk' hd' ce' sh' us' h hF' => by
        unfold wpY_fork
        dsimp only
        refine sy_out0 hf (br_t rfl ?_)
        refine sy_out0 ht (br_t rfl ⟨9, ?_⟩)
        have ky := sy_fork_l (post := fun r' v' => r' = 0 ∧ i_Rel (k + 5) (sp_cp ob (8 * t) (8 * f) 8, ps, tk', hd', ce', sh', us') v') (yc := yc) (ys := ps) hf ht (And.intro rfl (sp_mk h hF' hS (by
          have g := sp_Gcp (t := 8 * t) (s := 8 * f) (n := 8) hG (by omega) (fun i hi => sp_L32 (by omega))
          rw [show 4 * (8 * t) = 32 * t by omega, show 4 * (8 * f) = 32 * f by omega] at g
          exact g))) 9 0 (by omega) (by omega)
        rw [Nat.mul_zero, sp_cp0] at ky
        exact ky) 9 0 tk us (by omega) (by omega) (by rw [sp_cp0]; exact hI)
      rw [sp_cp0] at key
      exact key
    · exact sx_fork_n (Or.inr hb) (sy_fork_n (Or.inr hb) ⟨rfl, R⟩)
  · exact sx_fork_n (Or.inl hb) (sy_fork_n (Or.inl hb) ⟨rfl, R⟩)
end
section
/-! == pack == -/
section
variable {ob ps tk hd ce sh us yc ys : Nat → Int32} {V : Nat → Nat → Int32} {rk : Nat → Nat}
theorem sx_pack36 {post : Int32 → SX → Prop} {a b c d : Int32} (hp : post (-1) (ob, ps, tk, hd, ce, sh, us)) : wX_pack_36 post a b c d ob ps tk hd ce sh us := by
  unfold wX_pack_36 wX_pack_37
  exact br_c (fun _ => hp) (fun _ => br_c (fun _ => hp) (fun _ => sx_isPc (fun _ _ _ _ => br_f sq_10 (br_t rfl hp)) (br_t rfl hp)))
theorem sx_pack_n {post : Int32 → SX → Prop} {a b c d : Int32} (h : (d < 1 ∨ 8 < d ∨ c < 0 ∨ 7 < c ∨ 8 < c + d) ∨ (a < 0 ∨ 3 < a) ∨ (b < 0 ∨ 3 < b)) (hp : post (-1) (ob, ps, tk, hd, ce, sh, us)) : wpX_pack post (ob, ps, tk, hd, ce, sh, us) a b c d := by
  have z := sx_pack36 (a := a) (b := b) (c := c) (d := d) hp
  unfold wpX_pack
  dsimp only
  refine br_c (fun _ => z) (fun n1 => br_c (fun _ => z) (fun n2 => br_c (fun _ => z) (fun n3 => br_c (fun _ => z) (fun n4 => br_c (fun _ => z) (fun n5 => ?_)))))
  unfold wX_pack_37
  refine br_c (fun _ => hp) (fun n6 => br_c (fun _ => hp) (fun n7 => ?_))
  refine sx_isPc (fun m1 m2 m3 m4 => ?_) (br_t rfl hp)
  exfalso
  rcases h with (h | h | h | h | h) | (h | h) | (h | h) <;> contradiction
theorem sy_pack_n {post : Int32 → SY → Prop} {a b c d : Int32} (h : (d < 1 ∨ 8 < d ∨ c < 0 ∨ 7 < c ∨ 8 < c + d) ∨ (a < 0 ∨ 3 < a) ∨ (b < 0 ∨ 3 < b)) (hp : post (-1) (yc, ys)) : wpY_pack post (yc, ys) a b c d := by
  unfold wpY_pack
  dsimp only
  refine sy_outc (fun n1 n2 => br_t rfl ?_) (br_f sq_10 hp)
  refine sy_badc (fun m1 m2 m3 m4 => br_t rfl (br_c (fun _ => hp) (fun n3 => br_c (fun _ => hp) (fun n4 => br_c (fun n5 => ?_) (fun _ => hp))))) (br_f sq_10 hp)
  have n6 := Int32.not_lt.mpr n5
  exfalso
  rcases h with (h | h | h | h | h) | (h | h) | (h | h) <;> contradiction
end
theorem i_vc_pack {k : Nat} {u : SX} {v : SY} (I : i_Rel k u v) (hk : k + 5 ≤ 2560) (v1 : Int32) (v2 : Int32) (v3 : Int32) (v4 : Int32) : wpX_pack (fun r u' => wpY_pack (fun r' v' => r' = r ∧ i_Rel (k + 5) u' v') v v1 v2 v3 v4) u v1 v2 v3 v4 := by
  obtain ⟨ob, ps, tk, hd, ce, sh, us, yc, V, rk, rfl, rfl, hI, hF, hS, hG⟩ := I
  have R : i_Rel (k + 5) (ob, ps, tk, hd, ce, sh, us) (yc, ps) := sp_mk hI hF hS hG
  by_cases hb : (v4 < 1 ∨ 8 < v4 ∨ v3 < 0 ∨ 7 < v3 ∨ 8 < v3 + v4) ∨ (v1 < 0 ∨ 3 < v1) ∨ (v2 < 0 ∨ 3 < v2)
  · exact sx_pack_n hb (sy_pack_n hb ⟨rfl, R⟩)
  · have hg : ∃ q s f m, q < 4 ∧ s < 4 ∧ f < 8 ∧ 1 ≤ m ∧ f + m ≤ 8 ∧ v1 = nI q ∧ v2 = nI s ∧ v3 = nI f ∧ v4 = nI m := by
      rcases sq_1 v1 with ⟨q, hq, e1⟩ | h
      · rcases sq_pg v2 v3 with ⟨s, f, hs, hf, e2, e3⟩ | h
        · rcases sq_rg v4 (M := 8) (by decide) with h | h | ⟨m, hm, e4⟩
          · exact absurd (Or.inl (Or.inl (Int32.lt_trans h (by decide)))) hb
          · exact absurd (Or.inl (Or.inr (Or.inl h))) hb
          · have h1 : 1 ≤ m := by
              refine Classical.byContradiction (fun z => hb (Or.inl (Or.inl ?_)))
              rw [e4]
              exact nI_lt (b := 1) (by omega) (by decide)
            have h2 : f + m ≤ 8 := by
              refine Classical.byContradiction (fun z => hb (Or.inl (Or.inr (Or.inr (Or.inr (Or.inr ?_))))))
              rw [e3, e4, nI_add]
              exact nI_lt (a := 8) (by omega) (by omega)
            exact ⟨q, s, f, m, hq, hs, hf, h1, h2, e1, e2, e3, e4⟩
        · rcases h with h | h | h | h
          · exact absurd (Or.inr (Or.inr (Or.inl h))) hb
          · exact absurd (Or.inr (Or.inr (Or.inr h))) hb
          · exact absurd (Or.inl (Or.inr (Or.inr (Or.inl h)))) hb
          · exact absurd (Or.inl (Or.inr (Or.inr (Or.inr (Or.inl h))))) hb
      · exact absurd (Or.inr (Or.inl h)) hb
    obtain ⟨q, s, f, m, hq, hs, hf, h1, h2, rfl, rfl, rfl, rfl⟩ := hg
    have c1 : ¬ nI m < 1 := nI_nlt (b := 1) (by omega) (by omega)
    have c2 : ¬ (8 : Int32) < nI m := nI_nlt (a := 8) (by omega) (by decide)
    have c3 : ¬ (8 : Int32) < nI f + nI m := by
      rw [nI_add]
      exact nI_nlt (a := 8) (by omega) (by decide)
    have c4 : nI f + nI m ≤ 8 := Int32.not_lt.mp c3
    unfold wpX_pack
    dsimp only
    refine br_f c1 (br_f c2 (br_f (sq_p hf) (br_f (sq_n7 hf) (br_f c3 ?_))))
    unfold wX_pack_37
    refine br_f (sq_p (by omega)) (br_f (sq_n3 hq) ?_)
    refine sx_isP0 hs (br_f sq_10 (br_f sq_10 ⟨9, ?_⟩))
    have key := sx_pack_l (post := fun r u' => wpY_pack (fun r' v' => r' = r ∧ i_Rel (k + 5) u' v') (yc, ps) (nI q) (nI s) (nI f) (nI m)) (ob := ob) (ps := ps) (V := V) (rk := rk) (hd := hd) (ce := ce) (sh := sh) hq hs h2 (fun tk' hd' ce' sh' us' h hF' => by
      unfold wpY_pack
      dsimp only
      refine sy_out0 hq (br_t rfl ?_)
      refine sy_bad0 hs hf (br_t rfl (br_f c1 (br_f c2 (br_t c4 ⟨m + 1, ?_⟩))))
      have ky := sy_pack_l (post := fun r' v' => r' = 0 ∧ i_Rel (k + 5) (sp_pk ob (32 + 8 * q) (8 * s + f) m 8, upd ps q (nI m), tk', hd', ce', sh', us') v') (yc := yc) (ys := ps) hq hs h2 (And.intro rfl (sp_mk h hF' (sp_Su hS (by omega)) (sp_Gpk hG hs h2))) (m + 1) 0 (by omega) (by omega)
      rw [Nat.mul_zero, sp_cp0] at ky
      exact ky) 9 0 tk us (by omega) (by omega) (by rw [sp_pk0]; exact hI)
    rw [sp_pk0] at key
    exact key
/-! == unpack == -/
theorem i_vc_unpack {k : Nat} {u : SX} {v : SY} (I : i_Rel k u v) (hk : k + 5 ≤ 2560) (v1 : Int32) (v2 : Int32) (v3 : Int32) (v4 : Int32) : wpX_unpack (fun r u' => wpY_unpack (fun r' v' => r' = r ∧ i_Rel (k + 5) u' v') v v1 v2 v3 (lw_bz v4)) u v1 v2 v3 (lw_bz v4) := by
  obtain ⟨ob, ps, tk, hd, ce, sh, us, yc, V, rk, rfl, rfl, hI, hF, hS, hG⟩ := I
  have R : i_Rel (k + 5) (ob, ps, tk, hd, ce, sh, us) (yc, ps) := sp_mk hI hF hS hG
  generalize lw_bz v4 = kp
  rcases sq_1 v1 with ⟨q, hq, rfl⟩ | hb
  · have hvq : vp_in (nI q) 4 := vp_in_nI hq (by decide)
    have hcq : (nI q).toNatClampNeg = q := nI_clamp (by omega)
    rcases sq_pg v2 v3 with ⟨s, f, hs, hf, rfl, rfl⟩ | hb
    · obtain ⟨m, hm, em⟩ := hS q hq
      unfold wpX_unpack
      dsimp only
      refine br_f (sq_p (by omega)) (br_f (sq_n3 hq) ?_)
      refine sx_isP1 hs hf (br_f sq_10 (And.intro hvq ?_))
      rw [hcq, em]
      refine nm_e ?_
      by_cases m0 : m = 0
      · subst m0
        refine br_t nI_0 ?_
        unfold wpY_unpack
        dsimp only
        refine sy_out0 hq (br_t rfl ?_)
        refine sy_bad0 hs hf (br_t rfl (And.intro hvq ?_))
        rw [hcq, em]
        exact br_t nI_0 ⟨rfl, R⟩
      · refine br_f (nI_ne0 (by omega) (by omega)) ?_
        by_cases h2 : f + m ≤ 8
        · have c4 : nI f + nI m ≤ 8 := by
            rw [nI_add]
            exact nI_le (b := 8) (by omega) (by decide)
          refine br_t c4 ⟨m + 1, ?_⟩
          have ywalk : ∀ post : Int32 → SY → Prop, (kp = 0 → post (nI m) (sp_cp yc (32 * s + 4 * f) (128 + 32 * q) (4 * m), upd ps q 0)) → (¬ kp = 0 → post (nI m) (sp_cp yc (32 * s + 4 * f) (128 + 32 * q) (4 * m), ps)) →
              wpY_unpack post (yc, ps) (nI q) (nI s) (nI f) kp := by
            intro post hp0 hp1
            unfold wpY_unpack
            dsimp only
            refine sy_out0 hq (br_t rfl ?_)
            refine sy_bad0 hs hf (br_t rfl (And.intro hvq ?_))
            rw [hcq, em]
            refine br_f (nI_ne0 (by omega) (by omega)) (And.intro hvq (br_t c4 (And.intro hvq (nm_e ⟨m + 1, ?_⟩))))
            have ky := sy_unpack_l (post := post) (yc := yc) (ys := ps) hq hs h2 hp0 hp1 (m + 1) 0 (by omega) (by omega)
            rw [Nat.mul_zero, sp_cp0] at ky
            exact ky
          have g1 : sp_G ps (sp_cp yc (32 * s + 4 * f) (128 + 32 * q) (4 * m)) V (sp_cp ob (8 * s + f) (32 + 8 * q) m) := by
            have g := sp_Gcp (t := 8 * s + f) (s := 32 + 8 * q) (n := m) hG (by omega) (fun i hi => sp_Lk hq hm em hi)
            rw [show 4 * (8 * s + f) = 32 * s + 4 * f by omega, show 4 * (32 + 8 * q) = 128 + 32 * q by omega] at g
            exact g
          have key := sx_unp46 (post := fun r u' => wpY_unpack (fun r' v' => r' = r ∧ i_Rel (k + 5) u' v') (yc, ps) (nI q) (nI s) (nI f) kp) (ob := ob) (ps := ps) (V := V) (rk := rk) (hd := hd) (ce := ce) (sh := sh) (kp := kp) hq hs h2
            (fun z tk' hd' ce' sh' us' h hF' => ywalk _ (fun _ => ⟨rfl, sp_mk h hF' (by rw [← nI_0]; exact sp_Su hS (by omega)) (sp_Gcl g1 hm)⟩) (fun z' => absurd z z'))
            (fun z tk' hd' ce' sh' us' h hF' => ywalk _ (fun z' => absurd z' z) (fun _ => ⟨rfl, sp_mk h hF' hS g1⟩)) (m + 1) 0 tk us (by omega) (by omega) (by rw [sp_cp0]; exact hI)
          rw [sp_cp0] at key
          exact key
        · have c4 : ¬ nI f + nI m ≤ 8 := by
            rw [nI_add]
            exact nI_ge (b := f + m) (a := 8) (by omega) (by omega)
          refine br_f c4 ?_
          unfold wpY_unpack
          dsimp only
          refine sy_out0 hq (br_t rfl ?_)
          refine sy_bad0 hs hf (br_t rfl (And.intro hvq ?_))
          rw [hcq, em]
          exact br_f (nI_ne0 (by omega) (by omega)) (And.intro hvq (br_f c4 ⟨rfl, R⟩))
    · unfold wpX_unpack
      dsimp only
      refine br_f (sq_p (by omega)) (br_f (sq_n3 hq) ?_)
      refine sx_isPn hb (br_t rfl ?_)
      unfold wpY_unpack
      dsimp only
      refine sy_out0 hq (br_t rfl ?_)
      exact sy_badn hb (br_f sq_10 ⟨rfl, R⟩)
  · have yw : wpY_unpack (fun r' v' => r' = -1 ∧ i_Rel (k + 5) (ob, ps, tk, hd, ce, sh, us) v') (yc, ps) v1 v2 v3 kp := by
      unfold wpY_unpack
      dsimp only
      exact sy_outn hb (br_f sq_10 ⟨rfl, R⟩)
    unfold wpX_unpack
    dsimp only
    refine br_c (fun _ => yw) (fun n1 => br_c (fun _ => yw) (fun n2 => ?_))
    rcases hb with h | h <;> contradiction
/-! == exchange == -/
theorem i_vc_exchange {k : Nat} {u : SX} {v : SY} (I : i_Rel k u v) (hk : k + 5 ≤ 2560) (v1 : Int32) (v2 : Int32) (v3 : Int32) : wpX_exchange (fun r u' => wpY_exchange (fun r' v' => r' = r ∧ i_Rel (k + 5) u' v') v v1 v2 v3) u v1 v2 v3 := by
  obtain ⟨ob, ps, tk, hd, ce, sh, us, yc, V, rk, rfl, rfl, hI, hF, hS, hG⟩ := I
  have R : i_Rel (k + 5) (ob, ps, tk, hd, ce, sh, us) (yc, ps) := sp_mk hI hF hS hG
  unfold wpX_exchange
  dsimp only
  rcases sq_pg v1 v2 with ⟨s, p, hs, hp, rfl, rfl⟩ | hb
  · refine sx_isP1 hs hp (br_f sq_10 ?_)
    rcases sq_pg (nI s) v3 with ⟨s', q, _, hq, _, rfl⟩ | hb
    · refine sx_isP1 hs hq (br_f sq_10 ?_)
      rw [sp_8, sp_8, nI_clamp (n := 8 * s + p) (by omega), nI_clamp (n := 8 * s + q) (by omega)]
      refine And.intro (vp_in_nI (by omega) (by decide)) (nm_e (And.intro (vp_in_nI (by omega) (by decide)) (And.intro (vp_in_nI (by omega) (by decide)) (nm_e (And.intro (vp_in_nI (by omega) (by decide)) (nm_e ?_))))))
      unfold wpY_exchange
      dsimp only
      refine sy_bad0 hs hp (br_t rfl ?_)
      refine sy_bad0 hs hq (br_t rfl ?_)
      rw [sp_32, sp_32]
      refine sy_copy (t := 256) (by omega) (by omega) (by omega) ?_
      refine sy_copy (by omega) (by omega) (by omega) ?_
      refine sy_copy (s := 256) (by omega) (by omega) (by omega) ?_
      have g := sp_Gex (a := 8 * s + p) (b := 8 * s + q) hG (by omega) (by omega)
      rw [show 4 * (8 * s + p) = 32 * s + 4 * p by omega, show 4 * (8 * s + q) = 32 * s + 4 * q by omega] at g
      exact And.intro rfl (sp_mk (sp_swap hI (by omega) (by omega)) hF hS g)
    · refine sx_isPn hb (br_t rfl ?_)
      unfold wpY_exchange
      dsimp only
      refine sy_bad0 hs hp (br_t rfl ?_)
      exact sy_badn hb (br_f sq_10 ⟨rfl, R⟩)
  · refine sx_isPn hb (br_t rfl ?_)
    unfold wpY_exchange
    dsimp only
    exact sy_badn hb (br_f sq_10 ⟨rfl, R⟩)
/-! == clear == -/
theorem i_vc_clear {k : Nat} {u : SX} {v : SY} (I : i_Rel k u v) (hk : k + 5 ≤ 2560) (v1 : Int32) (v2 : Int32) : wpX_clear (fun r u' => wpY_clear (fun r' v' => r' = r ∧ i_Rel (k + 5) u' v') v v1 v2) u v1 v2 := by
  obtain ⟨ob, ps, tk, hd, ce, sh, us, yc, V, rk, rfl, rfl, hI, hF, hS, hG⟩ := I
  have R : i_Rel (k + 5) (ob, ps, tk, hd, ce, sh, us) (yc, ps) := sp_mk hI hF hS hG
  unfold wpX_clear
  dsimp only
  rcases sq_pg v1 v2 with ⟨s, p, hs, hp, rfl, rfl⟩ | hb
  · refine sx_isP1 hs hp (br_f sq_10 ?_)
    rw [sp_8]
    refine sx_lead hI (by omega) (Or.inl rfl) (fun tk1 us1 h1 => ?_)
    refine sx_foldAll h1 (fun tk' hd' ce' sh' us' h hF' => ?_)
    show wpY_clear (fun r' v' => r' = 0 ∧ i_Rel (k + 5) (upd ob (8 * s + p) (-1), ps, tk', hd', ce', sh', us') v') (yc, ps) (nI s) (nI p)
    unfold wpY_clear
    dsimp only
    refine sy_bad0 hs hp (br_t rfl ⟨5, ?_⟩)
    have g := sp_Gz (a := 8 * s + p) hG
    rw [show 4 * (8 * s + p) = 32 * s + 4 * p by omega] at g
    have ky := sy_clear_l (post := fun r' v' => r' = 0 ∧ i_Rel (k + 5) (upd ob (8 * s + p) (-1), ps, tk', hd', ce', sh', us') v') (yc := yc) (ys := ps) hs hp (And.intro rfl (sp_mk h hF' hS g)) 5 0 (by omega) (by omega)
    rw [sp_z0] at ky
    exact ky
  · refine sx_isPn hb (br_t rfl ?_)
    unfold wpY_clear
    dsimp only
    exact sy_badn hb (br_f sq_10 ⟨rfl, R⟩)
/-! == size, peek == -/
theorem i_vc_size {k : Nat} {u : SX} {v : SY} (I : i_Rel k u v) (hk : k + 5 ≤ 2560) (v1 : Int32) : wpX_size (fun r => wpY_size (fun r' => r' = r ∧ i_Rel (k + 5) u v) v v1) u v1 := by
  have R : i_Rel (k + 5) u v := I
  obtain ⟨ob, ps, tk, hd, ce, sh, us, yc, V, rk, rfl, rfl, hI, hF, hS, hG⟩ := I
  unfold wpX_size
  dsimp only
  rcases sq_1 v1 with ⟨q, hq, rfl⟩ | hb
  · have hvq : vp_in (nI q) 4 := vp_in_nI hq (by decide)
    refine br_f (sq_p (by omega)) (br_t (sq_l3 hq) (And.intro hvq ?_))
    unfold wpY_size
    dsimp only
    exact sy_out0 hq (br_t rfl (And.intro hvq ⟨rfl, R⟩))
  · have yw : wpY_size (fun r' => r' = -1 ∧ i_Rel (k + 5) (ob, ps, tk, hd, ce, sh, us) (yc, ps)) (yc, ps) v1 := by
      unfold wpY_size
      dsimp only
      exact sy_outn hb (br_f sq_10 ⟨rfl, R⟩)
    refine br_c (fun _ => yw) (fun n1 => br_c (fun n2 => ?_) (fun _ => yw))
    have n3 := Int32.not_lt.mpr n2
    rcases hb with h | h <;> contradiction
theorem i_vc_peek {k : Nat} {u : SX} {v : SY} (I : i_Rel k u v) (hk : k + 5 ≤ 2560) (v1 : Int32) (v2 : Int32) (v3 : Int32) : wpX_peek (fun r => wpY_peek (fun r' => r' = r ∧ i_Rel (k + 5) u v) v v1 v2 v3) u v1 v2 v3 := by
  have R : i_Rel (k + 5) u v := I
  obtain ⟨ob, ps, tk, hd, ce, sh, us, yc, V, rk, rfl, rfl, hI, hF, hS, hG⟩ := I
  unfold wpX_peek
  dsimp only
  rcases sq_1 v1 with ⟨q, hq, rfl⟩ | hb
  · have hvq : vp_in (nI q) 4 := vp_in_nI hq (by decide)
    have hcq : (nI q).toNatClampNeg = q := nI_clamp (by omega)
    obtain ⟨m, hm, em⟩ := hS q hq
    refine br_f (sq_p (by omega)) (br_f (sq_n3 hq) ?_)
    by_cases h0 : v2 < 0
    · refine br_t h0 ?_
      unfold wpY_peek
      dsimp only
      exact sy_out0 hq (br_t rfl (br_t h0 ⟨rfl, R⟩))
    · obtain ⟨j, hj, rfl⟩ := nI_of h0
      refine br_f h0 (And.intro hvq ?_)
      rw [hcq, em]
      by_cases hmj : m ≤ j
      · refine br_t (nI_le hmj hj) ?_
        unfold wpY_peek
        dsimp only
        refine sy_out0 hq (br_t rfl (br_f h0 (And.intro hvq ?_)))
        rw [hcq, em]
        exact br_t (nI_le hmj hj) ⟨rfl, R⟩
      · have c1 : ¬ nI m ≤ nI j := nI_ge (by omega) (by omega)
        refine br_f c1 ?_
        rcases sq_1 v3 with ⟨c, hc, rfl⟩ | hb
        · refine br_f (sq_p (by omega)) (br_t (sq_l3 hc) ?_)
          rw [sp_a8, nI_clamp (n := 32 + 8 * q + j) (by omega)]
          refine And.intro (vp_in_nI (by omega) (by decide)) (sx_cell hI (hI.1.1 _ (by omega)) hc ?_)
          unfold wpY_peek
          dsimp only
          refine sy_out0 hq (br_t rfl (br_f h0 (And.intro hvq ?_)))
          rw [hcq, em]
          refine br_f c1 (sy_out0 hc (br_t rfl ?_))
          rw [sp_128, nI_add, nI_clamp (n := 128 + 32 * q + 4 * j + c) (by omega)]
          refine And.intro (vp_in_nI (by omega) (by decide)) (And.intro ?_ R)
          rw [← hG (32 + 8 * q + j) c (by omega) hc (sp_Lk hq hm em (by omega))]
          exact congrArg yc (by omega)
        · have yw : wpY_peek (fun r' => r' = 0 ∧ i_Rel (k + 5) (ob, ps, tk, hd, ce, sh, us) (yc, ps)) (yc, ps) (nI q) (nI j) v3 := by
            unfold wpY_peek
            dsimp only
            refine sy_out0 hq (br_t rfl (br_f h0 (And.intro hvq ?_)))
            rw [hcq, em]
            exact br_f c1 (sy_outn hb (br_f sq_10 ⟨rfl, R⟩))
          refine br_c (fun _ => yw) (fun n1 => br_c (fun n2 => ?_) (fun _ => yw))
          have n3 := Int32.not_lt.mpr n2
          rcases hb with h | h <;> contradiction
  · have yw : wpY_peek (fun r' => r' = 0 ∧ i_Rel (k + 5) (ob, ps, tk, hd, ce, sh, us) (yc, ps)) (yc, ps) v1 v2 v3 := by
      unfold wpY_peek
      dsimp only
      exact sy_outn hb (br_f sq_10 ⟨rfl, R⟩)
    refine br_c (fun _ => yw) (fun n1 => br_c (fun _ => yw) (fun n2 => ?_))
    rcases hb with h | h <;> contradiction
/-! == alike == -/
theorem sq_alike {ob ps tk hd ce sh us yc : Nat → Int32} {V : Nat → Nat → Int32} {rk : Nat → Nat} (hI : sp_I ob tk hd ce sh us V rk (-1)) (hG : sp_G ps yc V ob) {a b : Nat} (ha : a < 4) (hb : b < 4) :
    ∀ d i, i + d = 8 → ∀ x3 : Int32, ∃ r : Int32, (∀ post : Int32 → Prop, post r → wX_alike_23 post (nI a) (nI b) ob ps tk hd ce sh us (d + 1) x3 (nI i)) ∧ (∀ post : Int32 → Prop, post r → wY_alike_23 post (nI a) (nI b) yc ps (d + 1) x3 (nI i)) := by
  intro d
  induction d with
  | zero =>
    intro i hi x3
    have e : i = 8 := by omega
    subst e
    exact ⟨x3, fun post hp => br_t (by decide) hp, fun post hp => br_t (by decide) hp⟩
  | succ d ih =>
    intro i hi x3
    have c8 : ¬ (8 : Int32) ≤ nI i := nI_ge (b := 8) (by omega) (by decide)
    have ea : ∀ c, c < 4 → yc (32 * a + 4 * i + c) = sp_vl V (ob (8 * a + i)) c := fun c hc => by
      rw [← hG (8 * a + i) c (by omega) hc (sp_L32 (by omega))]
      exact congrArg yc (by omega)
    have eb : ∀ c, c < 4 → yc (32 * b + 4 * i + c) = sp_vl V (ob (8 * b + i)) c := fun c hc => by
      rw [← hG (8 * b + i) c (by omega) hc (sp_L32 (by omega))]
      exact congrArg yc (by omega)
    have eq : sq_eq (sp_vl V (ob (8 * a + i))) (sp_vl V (ob (8 * b + i))) ↔ sq_eq (fun c => yc (32 * a + 4 * i + c)) (fun c => yc (32 * b + 4 * i + c)) :=
      ⟨fun h c hc => by
        show yc (32 * a + 4 * i + c) = yc (32 * b + 4 * i + c)
        rw [ea c hc, eb c hc]
        exact h c hc, fun h c hc => by
        rw [← ea c hc, ← eb c hc]
        exact h c hc⟩
    have xw : ∀ (n : Nat) (post : Int32 → Prop), (sq_eq (sp_vl V (ob (8 * a + i))) (sp_vl V (ob (8 * b + i))) → wX_alike_23 post (nI a) (nI b) ob ps tk hd ce sh us n (x3 + 1) (nI (i + 1))) →
        (¬ sq_eq (sp_vl V (ob (8 * a + i))) (sp_vl V (ob (8 * b + i))) → wX_alike_23 post (nI a) (nI b) ob ps tk hd ce sh us n x3 (nI (i + 1))) → wX_alike_23 post (nI a) (nI b) ob ps tk hd ce sh us (n + 1) x3 (nI i) := by
      intro n post h1 h0
      refine br_f c8 ?_
      rw [sp_8, sp_8, nI_clamp (n := 8 * a + i) (by omega), nI_clamp (n := 8 * b + i) (by omega)]
      refine And.intro (vp_in_nI (by omega) (by decide)) (And.intro (vp_in_nI (by omega) (by decide)) ?_)
      exact sx_same hI (hI.1.1 _ (by omega)) (hI.1.1 _ (by omega)) (fun z => br_f sq_10 (nm_e (nm_r (nI_1 i) (h1 z)))) (fun z => br_t rfl (nm_r (nI_1 i) (h0 z)))
    have yw : ∀ (n : Nat) (post : Int32 → Prop), (sq_eq (fun c => yc (32 * a + 4 * i + c)) (fun c => yc (32 * b + 4 * i + c)) → wY_alike_23 post (nI a) (nI b) yc ps n (x3 + 1) (nI (i + 1))) →
        (¬ sq_eq (fun c => yc (32 * a + 4 * i + c)) (fun c => yc (32 * b + 4 * i + c)) → wY_alike_23 post (nI a) (nI b) yc ps n x3 (nI (i + 1))) → wY_alike_23 post (nI a) (nI b) yc ps (n + 1) x3 (nI i) := by
      intro n post h1 h0
      exact br_f c8 ⟨5, sy_al36 ha hb (by omega) h1 h0 5 0 1 (by omega) (by omega) (Or.inl ⟨rfl, lt_0⟩)⟩
    by_cases z : sq_eq (sp_vl V (ob (8 * a + i))) (sp_vl V (ob (8 * b + i)))
    · obtain ⟨r, rx, ry⟩ := ih (i + 1) (by omega) (x3 + 1)
      exact ⟨r, fun post hp => xw _ _ (fun _ => rx post hp) (fun z' => absurd z z'), fun post hp => yw _ _ (fun _ => ry post hp) (fun z' => absurd (eq.mp z) z')⟩
    · obtain ⟨r, rx, ry⟩ := ih (i + 1) (by omega) x3
      exact ⟨r, fun post hp => xw _ _ (fun z' => absurd z' z) (fun _ => rx post hp), fun post hp => yw _ _ (fun z' => absurd (eq.mpr z') z) (fun _ => ry post hp)⟩
theorem i_vc_alike {k : Nat} {u : SX} {v : SY} (I : i_Rel k u v) (hk : k + 5 ≤ 2560) (v1 : Int32) (v2 : Int32) : wpX_alike (fun r => wpY_alike (fun r' => r' = r ∧ i_Rel (k + 5) u v) v v1 v2) u v1 v2 := by
  have R : i_Rel (k + 5) u v := I
  obtain ⟨ob, ps, tk, hd, ce, sh, us, yc, V, rk, rfl, rfl, hI, hF, hS, hG⟩ := I
  unfold wpX_alike
  dsimp only
  rcases sq_1 v1 with ⟨a, ha, rfl⟩ | hbad
  · refine sx_isP0 ha (br_f sq_10 ?_)
    rcases sq_1 v2 with ⟨b, hb, rfl⟩ | hbad
    · refine sx_isP0 hb (br_f sq_10 ?_)
      obtain ⟨r, rx, ry⟩ := sq_alike (ps := ps) hI hG ha hb 8 0 (by omega) 0
      refine ⟨9, rx _ ?_⟩
      unfold wpY_alike
      dsimp only
      refine sy_out0 ha (br_t rfl ?_)
      exact sy_out0 hb (br_t rfl ⟨9, ry _ ⟨rfl, R⟩⟩)
    · have h4 : v2 < 0 ∨ 3 < v2 ∨ (0 : Int32) < 0 ∨ 7 < (0 : Int32) := by
        rcases hbad with h | h
        · exact Or.inl h
        · exact Or.inr (Or.inl h)
      refine sx_isPn h4 (br_t rfl ?_)
      unfold wpY_alike
      dsimp only
      refine sy_out0 ha (br_t rfl ?_)
      exact sy_outn hbad (br_f sq_10 ⟨rfl, R⟩)
  · have h4 : v1 < 0 ∨ 3 < v1 ∨ (0 : Int32) < 0 ∨ 7 < (0 : Int32) := by
      rcases hbad with h | h
      · exact Or.inl h
      · exact Or.inr (Or.inl h)
    refine sx_isPn h4 (br_t rfl ?_)
    unfold wpY_alike
    dsimp only
    exact sy_outn hbad (br_f sq_10 ⟨rfl, R⟩)
end
