section
theorem pk_us {f : Nat → Int32} {k : Nat} {x : Int32} : upd f k x k = x := if_pos rfl
theorem pk_un {f : Nat → Int32} {k j : Nat} {x : Int32} (h : j ≠ k) : upd f k x j = f j := if_neg h
theorem pk_sub {a b : Nat} (h : b ≤ a) : nI a - nI b = nI (a - b) := by
  obtain ⟨c, rfl⟩ : ∃ c, a = c + b := ⟨a - b, by omega⟩
  rw [← nI_add, Int32.add_sub_cancel, Nat.add_sub_cancel]
theorem pk_m1 (n : Nat) : nI (n + 1) + (-1) = nI n := by
  rw [← nI_1, Int32.add_assoc, show (1 : Int32) + (-1) = 0 from rfl, Int32.add_zero]
theorem pk_mul (a b : Nat) : nI a * nI b = nI (a * b) := (Int32.ofNat_mul a b).symm
theorem pk_div {a d : Nat} (ha : a < 2 ^ 31) (h0 : 0 < d) (hd : d < 2 ^ 31) : nI a / nI d = nI (a / d) := by
  apply Int32.toInt_inj.mp
  rw [lg_idiv_nonneg (by rw [nI_toInt ha]; omega) (by rw [nI_toInt hd]; omega), nI_toInt ha, nI_toInt hd, nI_toInt (Nat.lt_of_le_of_lt (Nat.div_le_self a d) ha)]
  first | rfl | exact (Int.natCast_ediv _ _).symm
theorem pk_rem {a d : Nat} (ha : a < 2 ^ 31) (h0 : 0 < d) (hd : d < 2 ^ 31) : nI a - nI a / nI d * nI d = nI (a % d) := by
  rw [pk_div ha h0 hd, pk_mul, pk_sub (Nat.div_mul_le_self a d)]
  exact congrArg nI (by have := Nat.div_add_mod' a d; omega)
theorem pk_sub_toInt {a b : Nat} (ha : a < 2 ^ 30) (hb : b < 2 ^ 30) : (nI a - nI b).toInt = (a : Int) - b := by
  rw [Int32.toInt_sub, nI_toInt (by omega), nI_toInt (by omega)]
  exact Int.bmod_eq_of_le (by omega) (by omega)
theorem pk_sneg {a b : Nat} (hb : b < 2 ^ 30) (h : a < b) : nI a - nI b < 0 := by
  rw [Int32.lt_iff_toInt_lt, pk_sub_toInt (by omega) hb, show (0 : Int32).toInt = 0 from by decide]
  omega
theorem pk_ix (x : Int32) {n : Nat} (hn : n < 2 ^ 31) : x < 0 ∨ nI n ≤ x ∨ ∃ j : Nat, j < n ∧ x = nI j := by
  by_cases h : x < 0
  · exact Or.inl h
  · obtain ⟨j, hj, rfl⟩ := nI_of h
    by_cases h2 : j < n
    · exact Or.inr (Or.inr ⟨j, h2, rfl⟩)
    · exact Or.inr (Or.inl (nI_le (by omega) hj))
theorem pk_le {x y : Int32} {A B : Prop} (a b : Nat) (f : a ≤ b → A) (g : b < a → B) (hx : x = nI a := by rfl) (hy : y = nI b := by rfl) (ha : a < 2 ^ 31 := by omega) (hb : b < 2 ^ 31 := by omega) : (x ≤ y → A) ∧ (¬ x ≤ y → B) := by
  subst hx hy
  rw [nI_leI ha hb]
  exact ⟨f, fun z => g (by omega)⟩
theorem pk_lt {x y : Int32} {A B : Prop} (a b : Nat) (f : a < b → A) (g : b ≤ a → B) (hx : x = nI a := by rfl) (hy : y = nI b := by rfl) (ha : a < 2 ^ 31 := by omega) (hb : b < 2 ^ 31 := by omega) : (x < y → A) ∧ (¬ x < y → B) := by
  subst hx hy
  rw [nI_ltI ha hb]
  exact ⟨f, fun z => g (by omega)⟩
theorem pk_eq {x y : Int32} {A B : Prop} (a b : Nat) (f : a = b → A) (g : a ≠ b → B) (hx : x = nI a := by rfl) (hy : y = nI b := by rfl) (ha : a < 2 ^ 31 := by omega) (hb : b < 2 ^ 31 := by omega) : (x = y → A) ∧ (¬ x = y → B) := by
  subst hx hy
  rw [nI_eq ha hb]
  exact ⟨f, g⟩
theorem pk_in {x : Int32} (n N : Nat) (h : n < N) (hx : x = nI n := by rfl) (hN : N < 2 ^ 31 := by omega) : vp_in x N := by
  subst hx
  exact vp_in_nI h hN
theorem pk_cl {x : Int32} (n : Nat) (hx : x = nI n := by rfl) (h : n < 2 ^ 31 := by omega) : x.toNatClampNeg = n := by
  subst hx
  exact nI_clamp h
theorem pk_tn {n : Nat} (h : n < 2 ^ 32) : (nI n).toBitVec.toNat = n := Nat.mod_eq_of_lt h
theorem pk_and (x : Int32) {m : Int32} (k : Nat) (hm : m.toBitVec.toNat = 2 ^ k - 1) : x &&& m = nI (x.toBitVec.toNat % 2 ^ k) := by
  apply Int32.toBitVec_inj.mp
  apply BitVec.eq_of_toNat_eq
  rw [Int32.toBitVec_and, BitVec.toNat_and, hm, Nat.and_two_pow_sub_one_eq_mod]
  show _ = (BitVec.ofNat 32 _).toNat
  rw [BitVec.toNat_ofNat]
  exact (Nat.mod_eq_of_lt (Nat.lt_of_le_of_lt (Nat.mod_le _ _) x.toBitVec.isLt)).symm
theorem pk_andN {n : Nat} (h : n < 2 ^ 32) {m : Int32} (k : Nat) (hm : m.toBitVec.toNat = 2 ^ k - 1) : nI n &&& m = nI (n % 2 ^ k) := by
  rw [pk_and _ k hm, pk_tn h]
theorem pk_andE (x : Int32) {m : Int32} (k : Nat) (hm : m.toBitVec.toNat = 2 ^ k - 1) : ∃ j : Nat, j < 2 ^ k ∧ x &&& m = nI j := ⟨_, Nat.mod_lt _ (Nat.two_pow_pos k), pk_and x k hm⟩
theorem pk_andIn (x : Int32) {m : Int32} (k : Nat) (hm : m.toBitVec.toNat = 2 ^ k - 1) (hk : k ≤ 30) : vp_in (x &&& m) (2 ^ k) := by
  obtain ⟨j, hj, e⟩ := pk_andE x k hm
  rw [e]
  exact vp_in_nI hj (Nat.lt_of_le_of_lt (Nat.pow_le_pow_right (by decide) hk) (by decide))
theorem pk_shl (a s : Int32) (k : Nat) (hs : (s.toBitVec.smod 32).toNat = k) : (a <<< s).toBitVec.toNat = a.toBitVec.toNat * 2 ^ k % 2 ^ 32 := by
  show (a.toBitVec <<< (s.toBitVec.smod 32).toNat).toNat = _
  rw [hs, BitVec.toNat_shiftLeft, Nat.shiftLeft_eq]
theorem pk_shlN {n : Nat} (s : Int32) (k : Nat) (hs : (s.toBitVec.smod 32).toNat = k) (h : n * 2 ^ k < 2 ^ 32) : nI n <<< s = nI (n * 2 ^ k) := by
  apply Int32.toBitVec_inj.mp
  apply BitVec.eq_of_toNat_eq
  have hn : n < 2 ^ 32 := Nat.lt_of_le_of_lt (Nat.le_mul_of_pos_right n (Nat.two_pow_pos k)) h
  rw [pk_shl _ _ k hs, pk_tn hn, pk_tn h, Nat.mod_eq_of_lt h]
theorem pk_shr (a s : Int32) (k : Nat) (hs : (s.toBitVec.smod 32).toNat = k) : (a >>> s).toInt = a.toInt >>> k := by
  show (a.toBitVec.sshiftRight (s.toBitVec.smod 32).toNat).toInt = _
  rw [hs, BitVec.toInt_sshiftRight]
  rfl
theorem pk_shrN {n : Nat} (h : n < 2 ^ 31) (s : Int32) (k : Nat) (hs : (s.toBitVec.smod 32).toNat = k) : nI n >>> s = nI (n / 2 ^ k) := by
  apply Int32.toInt_inj.mp
  have h2 : n / 2 ^ k ≤ n := Nat.div_le_self _ _
  rw [pk_shr _ _ k hs, nI_toInt h, nI_toInt (by omega), Int.shiftRight_eq_div_pow]
  rfl
theorem pk_nb (z : Int32) : narrow .byte (.int z.toInt8.toInt32) = .int z.toInt8.toInt32 := congrArg Value.int (by simp)
theorem fd_im {a b : Nat} (h : nI a = nI b) (ha : a < 2 ^ 31) (hb : b < 2 ^ 31) : a = b := (nI_eq ha hb).mp h
theorem fd_ne1 {a : Nat} (h : a < 2 ^ 31) : ¬ nI a = -1 := by
  intro e
  have := nI_pos (n := a) h
  rw [e] at this
  exact this (by decide)
theorem fd_n1 {a : Nat} {x : Int32} (hx : x = nI a) (h : a < 2 ^ 31) : ¬ x = -1 := by
  rw [hx]; exact fd_ne1 h
theorem fd_0m1 : ¬ (0 : Int32) ≤ -1 := by decide
theorem fd_m1lt : (-1 : Int32) < 0 := by decide
theorem fd_bm1 : vp_nar .byte (-1) = -1 := by rw [vp_nar_byte]; decide
theorem fd_b8 : ∀ n, n < 128 → (nI n).toInt8.toInt32 = nI n := by decide +kernel
theorem fd_byte {n : Nat} (h : n < 128) : vp_nar .byte (nI n) = nI n := by rw [vp_nar_byte, fd_b8 n h]
theorem fd_byte2 {n : Nat} (h : n < 128) : vp_nar .byte (nI n).toInt8.toInt32 = nI n := by rw [fd_b8 n h, fd_byte h]
theorem fd_b0 : vp_nar .boolean 0 = 0 := by decide
theorem fd_b1 : vp_nar .boolean 1 = 1 := by decide
/-- bits of a station set -/
theorem fd_bit : ∀ a, a < 16 → ∀ s, s < 4 → (((nI a >>> (nI s &&& 31)) &&& 1) = if a.testBit s then 1 else 0) := by decide +kernel
theorem fd_bit5 : ∀ a, a < 32 → ∀ s, s < 5 → (((nI a >>> (nI s &&& 31)) &&& 1) = if a.testBit s then 1 else 0) := by decide +kernel
theorem fd_one : ∀ s, s < 5 → (1 : Int32) <<< (nI s &&& 31) = nI (2 ^ s) := by decide +kernel
theorem fd_and : ∀ a, a < 16 → ∀ b, b < 16 → ((nI a &&& nI b = 0) ↔ ¬ ∃ s, s < 4 ∧ a.testBit s = true ∧ b.testBit s = true) := by
  intro a ha b hb
  have h : ∀ a, a < 16 → ∀ b, b < 16 → (decide (nI a &&& nI b = 0) = !((a.testBit 0 && b.testBit 0) || (a.testBit 1 && b.testBit 1) || (a.testBit 2 && b.testBit 2) || (a.testBit 3 && b.testBit 3))) := by decide +kernel
  have h2 := h a ha b hb
  constructor
  · intro e
    rw [decide_eq_true e] at h2
    rintro ⟨s, hs, h3, h4⟩
    match s, hs with
    | 0, _ => rw [h3, h4] at h2; simp at h2
    | 1, _ => rw [h3, h4] at h2; simp at h2
    | 2, _ => rw [h3, h4] at h2; simp at h2
    | 3, _ => rw [h3, h4] at h2; simp at h2
  · intro e
    have n0 : ¬ (a.testBit 0 = true ∧ b.testBit 0 = true) := fun z => e ⟨0, by omega, z⟩
    have n1 : ¬ (a.testBit 1 = true ∧ b.testBit 1 = true) := fun z => e ⟨1, by omega, z⟩
    have n2 : ¬ (a.testBit 2 = true ∧ b.testBit 2 = true) := fun z => e ⟨2, by omega, z⟩
    have n3 : ¬ (a.testBit 3 = true ∧ b.testBit 3 = true) := fun z => e ⟨3, by omega, z⟩
    rw [← Bool.and_eq_true, Bool.not_eq_true] at n0 n1 n2 n3
    rw [n0, n1, n2, n3] at h2
    exact of_decide_eq_true h2
end
section
/-! matchings by lists: a giver for each taker, taken away -/
def fd_mk {α β : Type} [BEq β] (R : α → β → Prop) (K : List β → Prop) : List α → List β → Prop
  | [], gs => K gs
  | t :: ts, gs => ∃ g, g ∈ gs ∧ R t g ∧ fd_mk R K ts (gs.erase g)
def fd_PI {β : Type} (K : List β → Prop) : Prop := ∀ a b : List β, a.Perm b → K a → K b
theorem fd_pit {β : Type} : fd_PI (β := β) (fun _ => True) := fun _ _ _ _ => trivial
theorem fd_permG {α β : Type} [BEq β] [LawfulBEq β] {R : α → β → Prop} {K : List β → Prop} (hK : fd_PI K) : ∀ (ts : List α) (a b : List β), a.Perm b → fd_mk R K ts a → fd_mk R K ts b
  | [], a, b, p, h => hK a b p h
  | t :: ts, a, b, p, h => by
    obtain ⟨g, hg, hr, h⟩ := h
    exact ⟨g, p.mem_iff.mp hg, hr, fd_permG hK ts _ _ (p.erase g) h⟩
theorem fd_swapT {α β : Type} [BEq β] [LawfulBEq β] {R : α → β → Prop} {K : List β → Prop} {x y : α} {ts : List α} {gs : List β} (h : fd_mk R K (x :: y :: ts) gs) : fd_mk R K (y :: x :: ts) gs := by
  obtain ⟨g, hg, hr, g', hg', hr', h⟩ := h
  refine ⟨g', List.mem_of_mem_erase hg', hr', g, ?_, hr, ?_⟩
  · by_cases e : g = g'
    · subst e; exact hg'
    · exact (List.mem_erase_of_ne e).mpr hg
  · rw [List.erase_comm]; exact h
theorem fd_permT {α β : Type} [BEq β] [LawfulBEq β] {R : α → β → Prop} {K : List β → Prop} {a b : List α} (p : a.Perm b) : ∀ gs, fd_mk R K a gs → fd_mk R K b gs := by
  induction p with
  | nil => intro gs h; exact h
  | cons x _ ih =>
    intro gs h
    obtain ⟨g, hg, hr, h⟩ := h
    exact ⟨g, hg, hr, ih _ h⟩
  | swap x y l => intro gs h; exact fd_swapT h
  | trans _ _ ih1 ih2 => intro gs h; exact ih2 _ (ih1 _ h)
theorem fd_permI {α β : Type} [BEq β] [LawfulBEq β] {R : α → β → Prop} {K : List β → Prop} (hK : fd_PI K) {a b : List α} {c d : List β} (p : a.Perm b) (q : c.Perm d) : fd_mk R K a c ↔ fd_mk R K b d :=
  ⟨fun h => fd_permT p _ (fd_permG hK _ _ _ q h), fun h => fd_permT p.symm _ (fd_permG hK _ _ _ q.symm h)⟩
theorem fd_congr {α β : Type} [BEq β] [LawfulBEq β] {R R' : α → β → Prop} {K : List β → Prop} : ∀ (ts : List α) (gs : List β), (∀ t, t ∈ ts → ∀ g, g ∈ gs → R t g → R' t g) → fd_mk R K ts gs → fd_mk R' K ts gs
  | [], _, _, h => h
  | t :: ts, gs, e, h => by
    obtain ⟨g, hg, hr, h⟩ := h
    exact ⟨g, hg, e t (List.mem_cons_self ..) g hg hr, fd_congr ts _ (fun t' ht g' hg' => e t' (List.mem_cons_of_mem _ ht) g' (List.mem_of_mem_erase hg')) h⟩
theorem fd_mono {α β : Type} [BEq β] [LawfulBEq β] {R : α → β → Prop} {K K' : List β → Prop} (hk : ∀ gs, K gs → K' gs) : ∀ (ts : List α) (gs : List β), fd_mk R K ts gs → fd_mk R K' ts gs
  | [], gs, h => hk gs h
  | t :: ts, gs, h => by
    obtain ⟨g, hg, hr, h⟩ := h
    exact ⟨g, hg, hr, fd_mono hk ts _ h⟩
theorem fd_ermap {β γ : Type} [BEq β] [LawfulBEq β] [BEq γ] [LawfulBEq γ] (f : β → γ) {gs : List β} {g : β} (h : g ∈ gs) : ((gs.map f).erase (f g)).Perm ((gs.erase g).map f) := by
  have p1 : (gs.map f).Perm (f g :: (gs.erase g).map f) := (List.perm_cons_erase h).map f
  have p2 : (gs.map f).Perm (f g :: (gs.map f).erase (f g)) := List.perm_cons_erase (List.mem_map_of_mem h)
  exact (p2.symm.trans p1).cons_inv
theorem fd_map {α β α' β' : Type} [BEq β] [LawfulBEq β] [BEq β'] [LawfulBEq β'] {R : α' → β' → Prop} {K : List β' → Prop} (hK : fd_PI K) (f : α → α') (k : β → β') : ∀ (ts : List α) (gs : List β), fd_mk R K (ts.map f) (gs.map k) ↔ fd_mk (fun t g => R (f t) (k g)) (fun gs => K (gs.map k)) ts gs
  | [], gs => Iff.rfl
  | t :: ts, gs => by
    constructor
    · intro h
      obtain ⟨g', hg', hr, h⟩ := h
      obtain ⟨g, hg, rfl⟩ := List.mem_map.mp hg'
      exact ⟨g, hg, hr, (fd_map hK f k ts _).mp (fd_permG hK _ _ _ (fd_ermap k hg) h)⟩
    · intro h
      obtain ⟨g, hg, hr, h⟩ := h
      exact ⟨k g, List.mem_map_of_mem hg, hr, fd_permG hK _ _ _ (fd_ermap k hg).symm ((fd_map hK f k ts _).mpr h)⟩
/-- counting: Hall's easy half -/
theorem fd_hall {α β : Type} [BEq β] [LawfulBEq β] {R : α → β → Prop} {K : List β → Prop} (P : α → Bool) (Q : β → Bool) : ∀ (ts : List α) (gs : List β), (∀ t, t ∈ ts → ∀ g, g ∈ gs → P t = true → R t g → Q g = true) → fd_mk R K ts gs → ts.countP P ≤ gs.countP Q
  | [], gs, _, _ => by simp
  | t :: ts, gs, e, h => by
    obtain ⟨g, hg, hr, h⟩ := h
    have ih := fd_hall P Q ts _ (fun t' ht g' hg' => e t' (List.mem_cons_of_mem _ ht) g' (List.mem_of_mem_erase hg')) h
    have c := (List.perm_cons_erase hg).countP_eq Q
    rw [c]
    by_cases hp : P t = true
    · rw [List.countP_cons_of_pos hp, List.countP_cons_of_pos (e t (List.mem_cons_self ..) g hg hp hr)]
      omega
    · rw [List.countP_cons_of_neg hp, List.countP_cons]
      omega
/-- an injection gives a matching -/
theorem fd_inj {α β : Type} [BEq β] [LawfulBEq β] {R : α → β → Prop} (f : α → β) : ∀ (ts : List α) (gs : List β), ts.Nodup → (∀ t, t ∈ ts → f t ∈ gs ∧ R t (f t)) → (∀ t, t ∈ ts → ∀ t', t' ∈ ts → f t = f t' → t = t') → fd_mk R (fun _ => True) ts gs
  | [], _, _, _, _ => trivial
  | t :: ts, gs, nd, h, hi => by
    rw [List.nodup_cons] at nd
    have ht := h t (List.mem_cons_self ..)
    refine ⟨f t, ht.1, ht.2, fd_inj f ts _ nd.2 (fun t' ht' => ?_) (fun a ha b hb => hi a (List.mem_cons_of_mem _ ha) b (List.mem_cons_of_mem _ hb))⟩
    have h' := h t' (List.mem_cons_of_mem _ ht')
    refine ⟨(List.mem_erase_of_ne ?_).mpr h'.1, h'.2⟩
    intro e
    have := hi t' (List.mem_cons_of_mem _ ht') t (List.mem_cons_self ..) e
    subst this
    exact nd.1 ht'
theorem fd_len {α β : Type} [BEq β] [LawfulBEq β] (f : α → β) (ts : List α) (gs : List β) (nd : ts.Nodup) (h : ∀ t, t ∈ ts → f t ∈ gs) (hi : ∀ t, t ∈ ts → ∀ t', t' ∈ ts → f t = f t' → t = t') : ts.length ≤ gs.length := by
  have := fd_hall (fun _ => true) (fun _ => true) ts gs (fun _ _ _ _ _ _ => rfl) (fd_inj (R := fun _ _ => True) f ts gs nd (fun t ht => ⟨h t ht, trivial⟩) hi)
  simpa using this
end
section
/-! what a matching with a closed set of takers says: the number of the unserved is the least number of vehicles to add -/
noncomputable def fd_b (p : Prop) : Bool := @decide p (Classical.propDecidable p)
theorem fd_bt {p : Prop} : fd_b p = true ↔ p := by
  unfold fd_b
  exact @decide_eq_true_iff p (Classical.propDecidable p)
theorem fd_bf {p : Prop} : fd_b p = false ↔ ¬ p := by
  rw [← Bool.not_eq_true, fd_bt]
def fd_MI (R : Nat → Nat → Prop) (ng nt : Nat) (to go : Nat → Int32) : Prop :=
  (∀ g, g < ng → to g = -1 ∨ ∃ t, t < nt ∧ to g = nI t ∧ go t = nI g) ∧ (∀ t, t < nt → go t = -1 ∨ ∃ g, g < ng ∧ go t = nI g ∧ to g = nI t ∧ R t g)
def fd_CL (R : Nat → Nat → Prop) (ng nt : Nat) (to : Nat → Int32) (L : Nat → Prop) : Prop :=
  (∀ t, L t → t < nt) ∧ (∀ t g, L t → g < ng → R t g → ∃ t', to g = nI t' ∧ L t')
def fd_cf (go : Nat → Int32) (k : Nat) : Nat := (List.range k).countP (fun t => decide (go t = -1))
theorem fd_cf0 (go : Nat → Int32) : fd_cf go 0 = 0 := rfl
theorem fd_cf1 (go : Nat → Int32) (k : Nat) : fd_cf go (k + 1) = fd_cf go k + if go k = -1 then 1 else 0 := by
  unfold fd_cf
  rw [List.range_succ, List.countP_append, List.countP_singleton]
  by_cases h : go k = -1 <;> simp [h]
theorem fd_cfm (go : Nat → Int32) : ∀ {a b : Nat}, a ≤ b → fd_cf go a ≤ fd_cf go b := by
  intro a b h
  induction b with
  | zero => rw [Nat.le_zero.mp h]; exact Nat.le_refl _
  | succ b ih =>
    by_cases e : a = b + 1
    · rw [e]; exact Nat.le_refl _
    · have := ih (by omega)
      rw [fd_cf1]; omega
theorem fd_cfs (go : Nat → Int32) {a b : Nat} (h : a < b) (e : go a = -1) : fd_cf go a < fd_cf go b := by
  have := fd_cfm go (a := a + 1) (b := b) h
  rw [fd_cf1, if_pos e] at this
  omega
theorem fd_cfc {go go' : Nat → Int32} : ∀ {k : Nat}, (∀ t, t < k → (go t = -1 ↔ go' t = -1)) → fd_cf go k = fd_cf go' k := by
  intro k
  induction k with
  | zero => intro _; rfl
  | succ k ih =>
    intro h
    rw [fd_cf1, fd_cf1, ih (fun t ht => h t (by omega))]
    have := h k (by omega)
    by_cases e : go k = -1
    · rw [if_pos e, if_pos (this.mp e)]
    · rw [if_neg e, if_neg (fun z => e (this.mpr z))]
theorem fd_cfl (go : Nat → Int32) (k : Nat) : fd_cf go k ≤ k := by
  have := List.countP_le_length (p := fun t => decide (go t = -1)) (l := List.range k)
  rw [List.length_range] at this
  exact this
theorem fd_split {α : Type} (A B C : α → Bool) : ∀ l : List α, (∀ t, t ∈ l → (A t = true → C t = true ∧ B t = false) ∧ (B t = true → C t = true)) → l.countP A + l.countP B ≤ l.countP C
  | [], _ => by simp
  | t :: l, h => by
    have ih := fd_split A B C l (fun a ha => h a (List.mem_cons_of_mem _ ha))
    have ht := h t (List.mem_cons_self ..)
    rw [List.countP_cons, List.countP_cons, List.countP_cons]
    by_cases a : A t = true
    · have := ht.1 a
      rw [if_pos a, this.1, this.2]
      simp only [if_true, Bool.false_eq_true, if_false]
      omega
    · by_cases b : B t = true
      · rw [if_neg a, if_pos b, if_pos (ht.2 b)]
        omega
      · rw [if_neg a, if_neg b]
        omega
theorem fd_def {R : Nat → Nat → Prop} {ng nt : Nat} {to go : Nat → Int32} {L : Nat → Prop} (hn : nt < 2 ^ 31) (hg : ng < 2 ^ 31) (hm : fd_MI R ng nt to go) (hc : fd_CL R ng nt to L) (hf : ∀ t, t < nt → go t = -1 → L t) (e : Nat) :
    fd_mk (fun t g => ng ≤ g ∨ R t g) (fun _ => True) (List.range nt) (List.range (ng + e)) ↔ fd_cf go nt ≤ e := by
  constructor
  · intro h
    have h1 := fd_hall (fun t => fd_b (L t)) (fun g => fd_b (ng ≤ g ∨ ∃ t', to g = nI t' ∧ L t')) _ _ ?_ h
    · rw [List.range_add, List.countP_append] at h1
      have h2 : ((List.range e).map (fun i => ng + i)).countP (fun g => fd_b (ng ≤ g ∨ ∃ t', to g = nI t' ∧ L t')) ≤ e := by
        have := List.countP_le_length (p := fun g => fd_b (ng ≤ g ∨ ∃ t', to g = nI t' ∧ L t')) (l := (List.range e).map (fun i => ng + i))
        rw [List.length_map, List.length_range] at this
        exact this
      have h3 : (List.range ng).countP (fun g => fd_b (ng ≤ g ∨ ∃ t', to g = nI t' ∧ L t')) ≤ (List.range nt).countP (fun t => fd_b (L t ∧ ¬ go t = -1)) := by
        rw [List.countP_eq_length_filter, List.countP_eq_length_filter]
        have key : ∀ g, g ∈ (List.range ng).filter (fun g => fd_b (ng ≤ g ∨ ∃ t', to g = nI t' ∧ L t')) → g < ng ∧ ∃ t', t' < nt ∧ to g = nI t' ∧ L t' ∧ go t' = nI g ∧ (to g).toNatClampNeg = t' := by
          intro g h
          rw [List.mem_filter, List.mem_range, fd_bt] at h
          refine ⟨h.1, ?_⟩
          rcases h.2 with h2 | ⟨t', e1, e2⟩
          · omega
          · have lt := hc.1 t' e2
            refine ⟨t', lt, e1, e2, ?_, by rw [e1]; exact nI_clamp (by omega)⟩
            rcases hm.1 g h.1 with h3 | ⟨t, h3, h4, h5⟩
            · exact absurd (e1.symm.trans h3) (fd_ne1 (by omega))
            · have : t' = t := fd_im (e1.symm.trans h4) (by omega) (by omega)
              rw [this]; exact h5
        refine fd_len (fun g => (to g).toNatClampNeg) _ _ (List.nodup_range.filter _) ?_ ?_
        · intro g h
          obtain ⟨h1, t', h2, h3, h4, h5, h6⟩ := key g h
          show (to g).toNatClampNeg ∈ _
          rw [h6, List.mem_filter, List.mem_range, fd_bt]
          exact ⟨h2, h4, by rw [h5]; exact fd_ne1 (by omega)⟩
        · intro a ha b hb e
          obtain ⟨h1, t', h2, h3, h4, h5, h6⟩ := key a ha
          obtain ⟨k1, t'', k2, k3, k4, k5, k6⟩ := key b hb
          have e' : (to a).toNatClampNeg = (to b).toNatClampNeg := e
          rw [h6, k6] at e'
          subst e'
          exact fd_im (h5.symm.trans k5) (by omega) (by omega)
      have h4 := fd_split (fun t => decide (go t = -1)) (fun t => fd_b (L t ∧ ¬ go t = -1)) (fun t => fd_b (L t)) (List.range nt) ?_
      · show (List.range nt).countP _ ≤ e
        omega
      · intro t ht
        rw [List.mem_range] at ht
        simp only [decide_eq_true_eq, fd_bt, fd_bf]
        exact ⟨fun z => ⟨hf t ht z, fun w => w.2 z⟩, fun z => z.1⟩
    · intro t ht g hg' hp hr
      rw [fd_bt] at hp
      show fd_b _ = true
      rw [fd_bt]
      by_cases k : ng ≤ g
      · exact Or.inl k
      · rcases hr with hr | hr
        · exact Or.inl hr
        · exact Or.inr (hc.2 t g hp (by omega) hr)
  · intro h
    refine fd_inj (fun t => if go t = -1 then ng + fd_cf go t else (go t).toNatClampNeg) _ _ List.nodup_range ?_ ?_
    · intro t ht
      rw [List.mem_range] at ht
      show (if go t = -1 then ng + fd_cf go t else (go t).toNatClampNeg) ∈ _ ∧ (ng ≤ (if go t = -1 then ng + fd_cf go t else (go t).toNatClampNeg) ∨ R t (if go t = -1 then ng + fd_cf go t else (go t).toNatClampNeg))
      by_cases k : go t = -1
      · rw [if_pos k, List.mem_range]
        have := fd_cfs go ht k
        exact ⟨by omega, Or.inl (by omega)⟩
      · rw [if_neg k, List.mem_range]
        rcases hm.2 t ht with h1 | ⟨g, h1, h2, h3, h4⟩
        · exact absurd h1 k
        · rw [h2, nI_clamp (by omega)]
          exact ⟨by omega, Or.inr h4⟩
    · intro a ha b hb
      rw [List.mem_range] at ha hb
      show (if go a = -1 then ng + fd_cf go a else (go a).toNatClampNeg) = (if go b = -1 then ng + fd_cf go b else (go b).toNatClampNeg) → a = b
      by_cases ka : go a = -1
      · rw [if_pos ka]
        by_cases kb : go b = -1
        · rw [if_pos kb]
          intro e
          rcases Nat.lt_trichotomy a b with l | l | l
          · have := fd_cfs go l ka; omega
          · exact l
          · have := fd_cfs go l kb; omega
        · rw [if_neg kb]
          rcases hm.2 b hb with h1 | ⟨g, h1, h2, h3, h4⟩
          · exact absurd h1 kb
          · rw [h2, nI_clamp (by omega)]; omega
      · rw [if_neg ka]
        rcases hm.2 a ha with h1 | ⟨g, h1, h2, h3, h4⟩
        · exact absurd h1 ka
        · rw [h2, nI_clamp (by omega)]
          by_cases kb : go b = -1
          · rw [if_pos kb]; omega
          · rw [if_neg kb]
            rcases hm.2 b hb with k1 | ⟨g', k1, k2, k3, k4⟩
            · exact absurd k1 kb
            · rw [k2, nI_clamp (by omega)]
              intro e
              subst e
              exact fd_im (h3.symm.trans k3) (by omega) (by omega)
/-- takers and givers as values: (stations, time) -/
def fd_sut (t g : Nat × Nat) : Prop := g.2 ≤ t.2 ∧ ∃ s, s < 4 ∧ g.1.testBit s = true ∧ t.1.testBit s = true
theorem fd_rng {α : Type} (d : α) (l : List α) : (List.range l.length).map (fun i => l.getD i d) = l := by
  apply List.ext_getElem
  · simp
  · intro i h1 h2
    simp [List.getD_eq_getElem?_getD, List.getElem?_eq_getElem h2]
theorem fd_mem {α : Type} (d : α) {l : List α} {i : Nat} (h : i < l.length) : l.getD i d ∈ l := by
  rw [List.getD_eq_getElem?_getD, List.getElem?_eq_getElem h]
  exact List.getElem_mem h
theorem fd_val {T G : List (Nat × Nat)} {R : Nat → Nat → Prop} (hT : ∀ t, t ∈ T → fd_sut t (15, 0)) (hR : ∀ t g, t < T.length → g < G.length → (R t g ↔ fd_sut (T.getD t (0, 0)) (G.getD g (0, 0)))) (e : Nat) :
    fd_mk fd_sut (fun _ => True) T (G ++ List.replicate e (15, 0)) ↔ fd_mk (fun t g => G.length ≤ g ∨ R t g) (fun _ => True) (List.range T.length) (List.range (G.length + e)) := by
  have e1 : T = (List.range T.length).map (fun i => T.getD i (0, 0)) := (fd_rng _ T).symm
  have e2 : G ++ List.replicate e (15, 0) = (List.range (G.length + e)).map (fun i => (G ++ List.replicate e (15, 0)).getD i (0, 0)) := by
    have := (fd_rng (0, 0) (G ++ List.replicate e (15, 0))).symm
    rw [List.length_append, List.length_replicate] at this
    exact this
  have e3 : fd_mk fd_sut (fun _ => True) T (G ++ List.replicate e (15, 0)) ↔ fd_mk fd_sut (fun _ => True) ((List.range T.length).map (fun i => T.getD i (0, 0))) ((List.range (G.length + e)).map (fun i => (G ++ List.replicate e (15, 0)).getD i (0, 0))) := by
    rw [← e1, ← e2]
  rw [e3, fd_map fd_pit]
  have key : ∀ t, t ∈ List.range T.length → ∀ g, g ∈ List.range (G.length + e) → (fd_sut (T.getD t (0, 0)) ((G ++ List.replicate e (15, 0)).getD g (0, 0)) ↔ (G.length ≤ g ∨ R t g)) := by
    intro t ht g hg
    rw [List.mem_range] at ht hg
    by_cases k : g < G.length
    · have : (G ++ List.replicate e (15, 0)).getD g (0, 0) = G.getD g (0, 0) := by
        rw [List.getD_eq_getElem?_getD, List.getD_eq_getElem?_getD, List.getElem?_append_left k]
      rw [this, hR t g ht k]
      exact ⟨Or.inr, fun z => z.resolve_left (by omega)⟩
    · have : (G ++ List.replicate e (15, 0)).getD g (0, 0) = (15, 0) := by
        rw [List.getD_eq_getElem?_getD, List.getElem?_append_right (by omega), List.getElem?_replicate_of_lt (by omega)]
        rfl
      rw [this]
      exact ⟨fun _ => Or.inl (by omega), fun _ => hT _ (fd_mem _ ht)⟩
  exact ⟨fd_congr _ _ (fun t ht g hg => (key t ht g hg).mp), fd_congr _ _ (fun t ht g hg => (key t ht g hg).mpr)⟩
end
section
/-! spreads: how many vehicles a station holds -/
def fd_inc (s : Nat) (v : Nat → Nat) : Nat → Nat := fun j => if j = s then v j + 1 else v j
def fd_dec (s : Nat) (v : Nat → Nat) : Nat → Nat := fun j => if j = s then v j - 1 else v j
def fd_add (s k : Nat) (v : Nat → Nat) : Nat → Nat := fun j => if j = s then v j + k else v j
theorem fd_incs {s : Nat} {v : Nat → Nat} : fd_inc s v s = v s + 1 := if_pos rfl
theorem fd_incn {s j : Nat} {v : Nat → Nat} (h : j ≠ s) : fd_inc s v j = v j := if_neg h
theorem fd_decs {s : Nat} {v : Nat → Nat} : fd_dec s v s = v s - 1 := if_pos rfl
theorem fd_decn {s j : Nat} {v : Nat → Nat} (h : j ≠ s) : fd_dec s v j = v j := if_neg h
theorem fd_adds {s k : Nat} {v : Nat → Nat} : fd_add s k v s = v s + k := if_pos rfl
theorem fd_addn {s k j : Nat} {v : Nat → Nat} (h : j ≠ s) : fd_add s k v j = v j := if_neg h
theorem fd_incc (s t : Nat) (v : Nat → Nat) : fd_inc s (fd_inc t v) = fd_inc t (fd_inc s v) := by
  funext j
  by_cases a : j = s
  · subst a
    by_cases b : j = t
    · subst b; rfl
    · rw [fd_incs, fd_incn b, fd_incn b, fd_incs]
  · by_cases b : j = t
    · subst b; rw [fd_incn a, fd_incs, fd_incs, fd_incn a]
    · rw [fd_incn a, fd_incn b, fd_incn b, fd_incn a]
theorem fd_inci {s : Nat} {v w : Nat → Nat} (h : fd_inc s v = fd_inc s w) : v = w := by
  funext j
  have e := congrFun h j
  by_cases a : j = s
  · subst a; rw [fd_incs, fd_incs] at e; omega
  · rw [fd_incn a, fd_incn a] at e; exact e
theorem fd_incd {s : Nat} {v : Nat → Nat} (h : 0 < v s) : fd_inc s (fd_dec s v) = v := by
  funext j
  by_cases a : j = s
  · subst a; rw [fd_incs, fd_decs]; omega
  · rw [fd_incn a, fd_decn a]
theorem fd_inc2 {s t : Nat} {v w : Nat → Nat} (n : s ≠ t) (h : fd_inc s v = fd_inc t w) : ∃ x, w = fd_inc s x ∧ v = fd_inc t x := by
  have e := congrFun h s
  rw [fd_incs, fd_incn n] at e
  have k : fd_inc s (fd_dec s w) = w := fd_incd (by omega)
  refine ⟨fd_dec s w, k.symm, ?_⟩
  apply fd_inci (s := s)
  rw [h, fd_incc, k]
theorem fd_addi {s k : Nat} {v w : Nat → Nat} (h : fd_add s k v = fd_add s k w) : v = w := by
  funext j
  have e := congrFun h j
  by_cases a : j = s
  · subst a; rw [fd_adds, fd_adds] at e; omega
  · rw [fd_addn a, fd_addn a] at e; exact e
theorem fd_addinc (s k t : Nat) (v : Nat → Nat) : fd_add s k (fd_inc t v) = fd_inc t (fd_add s k v) := by
  funext j
  by_cases a : j = s
  · subst a
    by_cases b : j = t
    · subst b; rw [fd_adds, fd_incs, fd_incs, fd_adds]; omega
    · rw [fd_adds, fd_incn b, fd_incn b, fd_adds]
  · by_cases b : j = t
    · subst b; rw [fd_addn a, fd_incs, fd_incs, fd_addn a]
    · rw [fd_addn a, fd_incn b, fd_incn b, fd_addn a]
theorem fd_adde {s k : Nat} {v : Nat → Nat} (h : k ≤ v s) : ∃ w, v = fd_add s k w := by
  refine ⟨fun j => if j = s then v j - k else v j, ?_⟩
  funext j
  by_cases a : j = s
  · subst a; rw [fd_adds, if_pos rfl]; omega
  · rw [fd_addn a, if_neg a]
theorem fd_add0 (s : Nat) (v : Nat → Nat) : fd_add s 0 v = v := by
  funext j
  by_cases a : j = s
  · subst a; rw [fd_adds]; rfl
  · rw [fd_addn a]
theorem fd_add1 (s k : Nat) (v : Nat → Nat) : fd_add s (k + 1) v = fd_inc s (fd_add s k v) := by
  funext j
  by_cases a : j = s
  · subst a; rw [fd_adds, fd_incs, fd_adds]; omega
  · rw [fd_addn a, fd_incn a, fd_addn a]
/-- givers spread over their stations -/
def fd_asg : List (Nat × Nat) → (Nat → Nat) → Prop
  | [], v => v = fun _ => 0
  | g :: gs, v => ∃ s w, s < 4 ∧ g.1.testBit s = true ∧ v = fd_inc s w ∧ fd_asg gs w
theorem fd_asgp {a b : List (Nat × Nat)} (p : a.Perm b) : ∀ v, fd_asg a v → fd_asg b v := by
  induction p with
  | nil => intro v h; exact h
  | cons x _ ih =>
    intro v h
    obtain ⟨s, w, h1, h2, h3, h4⟩ := h
    exact ⟨s, w, h1, h2, h3, ih _ h4⟩
  | swap x y l =>
    intro v h
    obtain ⟨s, w, h1, h2, h3, s', w', k1, k2, k3, k4⟩ := h
    exact ⟨s', fd_inc s w', k1, k2, by rw [h3, k3, fd_incc], s, w', h1, h2, rfl, k4⟩
  | trans _ _ ih1 ih2 => intro v h; exact ih2 _ (ih1 _ h)
theorem fd_pi (v : Nat → Nat) : fd_PI (fun G => fd_asg G v) := fun _ _ p h => fd_asgp p v h
/-- all takers served, the other givers spread as v -/
def fd_pm (T G : List (Nat × Nat)) (v : Nat → Nat) : Prop := fd_mk fd_sut (fun G => fd_asg G v) T G
theorem fd_erc {g g' : Nat × Nat} {G : List (Nat × Nat)} (h : g' ∈ G) : (g :: G.erase g').Perm ((g :: G).erase g') := by
  have p1 : (g :: G).Perm (g' :: (g :: G).erase g') := List.perm_cons_erase (List.mem_cons_of_mem _ h)
  have p2 : (g :: G).Perm (g :: g' :: G.erase g') := (List.perm_cons_erase h).cons g
  exact ((p2.trans (List.Perm.swap g' g _)).symm.trans p1).cons_inv
theorem fd_pmadd {g : Nat × Nat} {s : Nat} (hs : s < 4) (hb : g.1.testBit s = true) : ∀ (T G : List (Nat × Nat)) (w : Nat → Nat), fd_pm T G w → fd_pm T (g :: G) (fd_inc s w)
  | [], G, w, h => ⟨s, w, hs, hb, rfl, h⟩
  | t :: T, G, w, h => by
    obtain ⟨g', h1, h2, h3⟩ := h
    exact ⟨g', List.mem_cons_of_mem _ h1, h2, fd_permG (fd_pi _) _ _ _ (fd_erc h1) (fd_pmadd hs hb T _ w h3)⟩
theorem fd_pmbr {g : Nat × Nat} : ∀ (T G : List (Nat × Nat)) (v : Nat → Nat), (∀ t, t ∈ T → ¬ fd_sut t g) → fd_pm T (g :: G) v → ∃ s w, s < 4 ∧ g.1.testBit s = true ∧ v = fd_inc s w ∧ fd_pm T G w
  | [], G, v, _, h => h
  | t :: T, G, v, hn, h => by
    obtain ⟨g', h1, h2, h3⟩ := h
    have ne : g' ≠ g := by
      intro e
      rw [e] at h2
      exact hn t (List.mem_cons_self ..) h2
    have h1' : g' ∈ G := (List.mem_cons.mp h1).resolve_left ne
    obtain ⟨s, w, k1, k2, k3, k4⟩ := fd_pmbr T (G.erase g') v (fun t ht => hn t (List.mem_cons_of_mem _ ht)) (fd_permG (fd_pi _) _ _ _ (fd_erc h1').symm h3)
    exact ⟨s, w, k1, k2, k3, g', h1', h2, k4⟩
theorem fd_asgt {s : Nat} : ∀ (G : List (Nat × Nat)) (v : Nat → Nat), fd_asg G (fd_inc s v) → ∃ g, g ∈ G ∧ g.1.testBit s = true ∧ fd_asg (G.erase g) v
  | [], v, h => by
    have e := congrFun h s
    rw [fd_incs] at e
    exact absurd e (by omega)
  | g :: G, v, h => by
    obtain ⟨s', w, h1, h2, h3, h4⟩ := h
    by_cases e : s = s'
    · subst e
      have := fd_inci h3
      subst this
      exact ⟨g, List.mem_cons_self .., h2, by rw [List.erase_cons_head]; exact h4⟩
    · obtain ⟨x, rfl, rfl⟩ := fd_inc2 e h3
      obtain ⟨g1, k1, k2, k3⟩ := fd_asgt G x h4
      exact ⟨g1, List.mem_cons_of_mem _ k1, k2, fd_asgp (fd_erc k1) _ ⟨s', x, h1, h2, rfl, k3⟩⟩
theorem fd_pmt {s : Nat} : ∀ (T G : List (Nat × Nat)) (v : Nat → Nat), fd_pm T G (fd_inc s v) → ∃ g, g ∈ G ∧ g.1.testBit s = true ∧ fd_pm T (G.erase g) v
  | [], G, v, h => fd_asgt G v h
  | t :: T, G, v, h => by
    obtain ⟨g', h1, h2, h3⟩ := h
    obtain ⟨g, k1, k2, k3⟩ := fd_pmt T (G.erase g') v h3
    refine ⟨g, List.mem_of_mem_erase k1, k2, g', ?_, h2, ?_⟩
    · by_cases e : g' = g
      · subst e; exact k1
      · exact (List.mem_erase_of_ne e).mpr h1
    · rw [List.erase_comm]; exact k3
theorem fd_pmfe {t : Nat × Nat} {T G : List (Nat × Nat)} {v : Nat → Nat} (hG : ∀ g, g ∈ G → g.2 ≤ t.2) : fd_pm (t :: T) G v ↔ ∃ s, s < 4 ∧ t.1.testBit s = true ∧ fd_pm T G (fd_inc s v) := by
  constructor
  · intro h
    obtain ⟨g, h1, ⟨h2, s, h3, h4, h5⟩, h6⟩ := h
    exact ⟨s, h3, h5, fd_permG (fd_pi _) _ _ _ (List.perm_cons_erase h1).symm (fd_pmadd h3 h4 T _ v h6)⟩
  · rintro ⟨s, h1, h2, h3⟩
    obtain ⟨g, k1, k2, k3⟩ := fd_pmt T G v h3
    exact ⟨g, k1, ⟨hG g k1, s, h1, k2, h2⟩, k3⟩
/-! sets of spreads -/
def fd_br (set : Nat) (P : (Nat → Nat) → Prop) : (Nat → Nat) → Prop := fun v => ∃ s w, s < 4 ∧ set.testBit s = true ∧ v = fd_inc s w ∧ P w
def fd_fe (set : Nat) (P : (Nat → Nat) → Prop) : (Nat → Nat) → Prop := fun v => ∃ s, s < 4 ∧ set.testBit s = true ∧ P (fd_inc s v)
def fd_fl (s k : Nat) (P : (Nat → Nat) → Prop) : (Nat → Nat) → Prop := fun v => P v ∧ k ≤ v s
def fd_J (s k : Nat) (T G : List (Nat × Nat)) (P : (Nat → Nat) → Prop) : Prop := ∀ w, P (fd_add s k w) ↔ fd_pm T G w
def fd_Kf (s k : Nat) (P : (Nat → Nat) → Prop) : Prop := ∀ v, P v → k ≤ v s
theorem fd_Jbr {s k : Nat} {T G : List (Nat × Nat)} {P : (Nat → Nat) → Prop} {g : Nat × Nat} (hn : ∀ t, t ∈ T → ¬ fd_sut t g) (hJ : fd_J s k T G P) (hK : fd_Kf s k P) : fd_J s k T (g :: G) (fd_br g.1 P) ∧ fd_Kf s k (fd_br g.1 P) := by
  constructor
  · intro w
    constructor
    · rintro ⟨s', w', h1, h2, h3, h4⟩
      obtain ⟨x, rfl⟩ := fd_adde (hK _ h4)
      rw [← fd_addinc] at h3
      rw [fd_addi h3]
      exact fd_pmadd h1 h2 T G x ((hJ x).mp h4)
    · intro h
      obtain ⟨s', x, h1, h2, h3, h4⟩ := fd_pmbr T G w hn h
      exact ⟨s', fd_add s k x, h1, h2, by rw [h3, fd_addinc], (hJ x).mpr h4⟩
  · rintro v ⟨s', w, h1, h2, h3, h4⟩
    have := hK w h4
    rw [h3]
    by_cases e : s = s'
    · subst e; rw [fd_incs]; omega
    · rw [fd_incn e]; exact this
theorem fd_Jfe {s k : Nat} {T G : List (Nat × Nat)} {P : (Nat → Nat) → Prop} {t : Nat × Nat} (hG : ∀ g, g ∈ G → g.2 ≤ t.2) (hJ : fd_J s k T G P) : fd_J s k (t :: T) G (fd_fe t.1 P) := by
  intro w
  rw [fd_pmfe hG]
  constructor
  · rintro ⟨s', h1, h2, h3⟩
    rw [← fd_addinc] at h3
    exact ⟨s', h1, h2, (hJ _).mp h3⟩
  · rintro ⟨s', h1, h2, h3⟩
    refine ⟨s', h1, h2, ?_⟩
    rw [← fd_addinc]
    exact (hJ _).mpr h3
theorem fd_Jfl {s k : Nat} {T G : List (Nat × Nat)} {P : (Nat → Nat) → Prop} (hJ : fd_J s k T G P) : fd_J s k T G (fd_fl s k P) ∧ fd_Kf s k (fd_fl s k P) := by
  refine ⟨fun w => ⟨fun h => (hJ w).mp h.1, fun h => ⟨(hJ w).mpr h, ?_⟩⟩, fun v h => h.2⟩
  rw [fd_adds]; omega
theorem fd_pmrep {s x : Nat} (hs : s < 4) {G : List (Nat × Nat)} (hG : ∀ g, g ∈ G → g.2 ≤ x) (T : List (Nat × Nat)) : ∀ (k : Nat) (w : Nat → Nat), fd_pm (List.replicate k (2 ^ s, x) ++ T) G w ↔ fd_pm T G (fd_add s k w)
  | 0, w => by rw [fd_add0]; exact Iff.rfl
  | k + 1, w => by
    rw [List.replicate_succ, List.cons_append, fd_pmfe hG]
    constructor
    · rintro ⟨s', h1, h2, h3⟩
      have e : s = s' := by
        have h2' : (2 ^ s).testBit s' = true := h2
        rw [Nat.testBit_two_pow] at h2'
        exact of_decide_eq_true h2'
      subst e
      rw [fd_pmrep hs hG T k, fd_addinc, ← fd_add1] at h3
      exact h3
    · intro h
      refine ⟨s, hs, Nat.testBit_two_pow_self, ?_⟩
      rw [fd_pmrep hs hG T k, fd_addinc, ← fd_add1]
      exact h
theorem fd_Jfl0 {s k x : Nat} (hs : s < 4) {T G : List (Nat × Nat)} {P : (Nat → Nat) → Prop} (hG : ∀ g, g ∈ G → g.2 ≤ x) (hJ : fd_J s 0 T G P) : fd_J s k (List.replicate k (2 ^ s, x) ++ T) G (fd_fl s k P) ∧ fd_Kf s k (fd_fl s k P) := by
  refine ⟨fun w => ?_, fun v h => h.2⟩
  rw [fd_pmrep hs hG T k]
  have := hJ (fd_add s k w)
  rw [fd_add0] at this
  rw [← this]
  exact ⟨fun h => h.1, fun h => ⟨h, by rw [fd_adds]; omega⟩⟩
theorem fd_asge : ∀ G : List (Nat × Nat), (∀ g, g ∈ G → ∃ s, s < 4 ∧ g.1.testBit s = true) → ∃ w, fd_asg G w
  | [], _ => ⟨fun _ => 0, rfl⟩
  | g :: G, h => by
    obtain ⟨w, hw⟩ := fd_asge G (fun a ha => h a (List.mem_cons_of_mem _ ha))
    obtain ⟨s, h1, h2⟩ := h g (List.mem_cons_self ..)
    exact ⟨fd_inc s w, s, w, h1, h2, rfl, hw⟩
theorem fd_pme : ∀ (T G : List (Nat × Nat)), (∀ g, g ∈ G → ∃ s, s < 4 ∧ g.1.testBit s = true) → fd_mk fd_sut (fun _ => True) T G → ∃ w, fd_pm T G w
  | [], G, h, _ => fd_asge G h
  | t :: T, G, h, m => by
    obtain ⟨g, h1, h2, h3⟩ := m
    obtain ⟨w, hw⟩ := fd_pme T (G.erase g) (fun a ha => h a (List.mem_of_mem_erase ha)) h3
    exact ⟨w, g, h1, h2, hw⟩
end
section
/-! the reference's pass over the times, and the lists of takers and givers it stands for -/
def fd_bl (on : Nat → Bool) (f : Nat → Nat × Nat) : Nat → List (Nat × Nat)
  | 0 => []
  | j + 1 => if on j = true then f j :: fd_bl on f j else fd_bl on f j
def fd_at (on : Nat → Bool) (f : Nat → Nat × Nat) (x : Nat) : Nat → List (Nat × Nat) → List (Nat × Nat)
  | 0, l => l
  | j + 1, l => if on j = true ∧ (f j).2 = x then f j :: fd_at on f x j l else fd_at on f x j l
def fd_brj (on : Nat → Bool) (f : Nat → Nat × Nat) (x : Nat) : Nat → ((Nat → Nat) → Prop) → (Nat → Nat) → Prop
  | 0, P => P
  | j + 1, P => if on j = true ∧ (f j).2 = x then fd_br (f j).1 (fd_brj on f x j P) else fd_brj on f x j P
def fd_fej (on : Nat → Bool) (f : Nat → Nat × Nat) (x : Nat) : Nat → ((Nat → Nat) → Prop) → (Nat → Nat) → Prop
  | 0, P => P
  | j + 1, P => if on j = true ∧ (f j).2 = x then fd_fe (f j).1 (fd_fej on f x j P) else fd_fej on f x j P
def fd_gon (set : Nat) : Nat → ((Nat → Nat) → Prop) → (Nat → Nat) → Prop
  | 0, P => P
  | n + 1, P => fd_fe set (fd_gon set n P)
def fd_exb : Nat → ((Nat → Nat) → Prop) → (Nat → Nat) → Prop
  | 0, P => P
  | n + 1, P => fd_br 15 (fd_exb n P)
theorem fd_atf (on : Nat → Bool) (f : Nat → Nat × Nat) (x : Nat) : ∀ (j : Nat) (l : List (Nat × Nat)), fd_at on f x j l = (fd_bl on f j).filter (fun p => p.2 == x) ++ l
  | 0, _ => rfl
  | j + 1, l => by
    have ih := fd_atf on f x j l
    simp only [fd_at, fd_bl]
    by_cases a : on j = true
    · by_cases b : (f j).2 = x
      · rw [if_pos ⟨a, b⟩, if_pos a, ih, List.filter_cons_of_pos (by simp [b])]; rfl
      · rw [if_neg (fun z => b z.2), if_pos a, ih, List.filter_cons_of_neg (by simp [b])]
    · rw [if_neg (fun z => a z.1), if_neg a, ih]
theorem fd_Jbrj {s k : Nat} {T : List (Nat × Nat)} {on : Nat → Bool} {f : Nat → Nat × Nat} {x : Nat} (hT : ∀ t, t ∈ T → t.2 < x) {G : List (Nat × Nat)} {P : (Nat → Nat) → Prop} (hJ : fd_J s k T G P) (hK : fd_Kf s k P) : ∀ j, fd_J s k T (fd_at on f x j G) (fd_brj on f x j P) ∧ fd_Kf s k (fd_brj on f x j P)
  | 0 => ⟨hJ, hK⟩
  | j + 1 => by
    have ih := fd_Jbrj hT hJ hK (on := on) (f := f) j
    simp only [fd_at, fd_brj]
    by_cases a : on j = true ∧ (f j).2 = x
    · rw [if_pos a, if_pos a]
      refine fd_Jbr (fun t ht hs => ?_) ih.1 ih.2
      have := hT t ht
      have := hs.1
      omega
    · rw [if_neg a, if_neg a]; exact ih
theorem fd_Jfej {s k : Nat} {T G : List (Nat × Nat)} {on : Nat → Bool} {f : Nat → Nat × Nat} {x : Nat} (hG : ∀ g, g ∈ G → g.2 ≤ x) {P : (Nat → Nat) → Prop} (hJ : fd_J s k T G P) : ∀ j, fd_J s k (fd_at on f x j T) G (fd_fej on f x j P)
  | 0 => hJ
  | j + 1 => by
    have ih := fd_Jfej hG hJ (on := on) (f := f) j
    simp only [fd_at, fd_fej]
    by_cases a : on j = true ∧ (f j).2 = x
    · rw [if_pos a, if_pos a]
      refine fd_Jfe (fun g hg => ?_) ih
      have := hG g hg
      omega
    · rw [if_neg a, if_neg a]; exact ih
theorem fd_Jgon {s k : Nat} {T G : List (Nat × Nat)} {set x : Nat} (hG : ∀ g, g ∈ G → g.2 ≤ x) {P : (Nat → Nat) → Prop} (hJ : fd_J s k T G P) : ∀ n, fd_J s k (List.replicate n (set, x) ++ T) G (fd_gon set n P)
  | 0 => hJ
  | n + 1 => by
    have ih := fd_Jgon hG hJ (set := set) n
    rw [List.replicate_succ, List.cons_append]
    exact fd_Jfe (t := (set, x)) hG ih
theorem fd_Jexb {s k : Nat} {G : List (Nat × Nat)} {P : (Nat → Nat) → Prop} (hJ : fd_J s k [] G P) (hK : fd_Kf s k P) : ∀ n, fd_J s k [] (List.replicate n (15, 0) ++ G) (fd_exb n P) ∧ fd_Kf s k (fd_exb n P)
  | 0 => ⟨hJ, hK⟩
  | n + 1 => by
    have ih := fd_Jexb hJ hK n
    rw [List.replicate_succ, List.cons_append]
    exact fd_Jbr (g := (15, 0)) (fun t ht => absurd ht (by simp)) ih.1 ih.2
/-- one time: returns, pickups, those that never come back, the floor -/
def fd_step (on : Nat → Bool) (fb fp : Nat → Nat × Nat) (gn gs ga fa ff fl : Nat) (x : Nat) (P : (Nat → Nat) → Prop) : (Nat → Nat) → Prop :=
  if ff ≤ x then fd_fl fa fl (if x = ga then fd_gon gs gn (fd_fej on fp x 6 (fd_brj on fb x 6 P)) else fd_fej on fp x 6 (fd_brj on fb x 6 P)) else (if x = ga then fd_gon gs gn (fd_fej on fp x 6 (fd_brj on fb x 6 P)) else fd_fej on fp x 6 (fd_brj on fb x 6 P))
def fd_run (on : Nat → Bool) (fb fp : Nat → Nat × Nat) (gn gs ga fa ff fl : Nat) (P : (Nat → Nat) → Prop) : Nat → (Nat → Nat) → Prop
  | 0 => P
  | x + 1 => fd_step on fb fp gn gs ga fa ff fl x (fd_run on fb fp gn gs ga fa ff fl P x)
def fd_TL (on : Nat → Bool) (fp : Nat → Nat × Nat) (gn gs ga fa ff fl : Nat) : Nat → List (Nat × Nat)
  | 0 => []
  | x + 1 => (if ff = x then List.replicate fl (2 ^ fa, x) else []) ++ ((if x = ga then List.replicate gn (gs, x) else []) ++ fd_at on fp x 6 (fd_TL on fp gn gs ga fa ff fl x))
def fd_GL (on : Nat → Bool) (fb : Nat → Nat × Nat) (G0 : List (Nat × Nat)) : Nat → List (Nat × Nat)
  | 0 => G0
  | x + 1 => fd_at on fb x 6 (fd_GL on fb G0 x)
theorem fd_atb {on : Nat → Bool} {f : Nat → Nat × Nat} {x b j : Nat} {l : List (Nat × Nat)} (hx : x ≤ b) (h : ∀ p, p ∈ l → p.2 ≤ b) : ∀ p, p ∈ fd_at on f x j l → p.2 ≤ b := by
  intro p hp
  rw [fd_atf, List.mem_append, List.mem_filter] at hp
  rcases hp with hp | hp
  · have := eq_of_beq hp.2
    omega
  · exact h p hp
theorem fd_runJ {on : Nat → Bool} {fb fp : Nat → Nat × Nat} {gn gs ga fa ff fl : Nat} {P : (Nat → Nat) → Prop} {G0 : List (Nat × Nat)} (hfa : fa < 4) (hG0 : ∀ g, g ∈ G0 → g.2 = 0) (hJ : fd_J fa 0 [] G0 P) :
    ∀ x, fd_J fa (if ff < x then fl else 0) (fd_TL on fp gn gs ga fa ff fl x) (fd_GL on fb G0 x) (fd_run on fb fp gn gs ga fa ff fl P x) ∧ fd_Kf fa (if ff < x then fl else 0) (fd_run on fb fp gn gs ga fa ff fl P x) ∧ (∀ t, t ∈ fd_TL on fp gn gs ga fa ff fl x → t.2 < x) ∧ (∀ g, g ∈ fd_GL on fb G0 x → g.2 ≤ x)
  | 0 => by
    rw [if_neg (by omega)]
    refine ⟨hJ, fun v _ => Nat.zero_le _, fun t ht => absurd ht (by simp [fd_TL]), fun g hg => ?_⟩
    have := hG0 g hg
    omega
  | x + 1 => by
    obtain ⟨h1, h2, h3, h4⟩ := fd_runJ (ff := ff) (fl := fl) hfa hG0 hJ x
    have b := fd_Jbrj (on := on) (f := fb) h3 h1 h2 6
    have gb : ∀ g, g ∈ fd_at on fb x 6 (fd_GL on fb G0 x) → g.2 ≤ x := fd_atb (Nat.le_refl _) h4
    have f := fd_Jfej (on := on) (f := fp) gb b.1 6
    have tb : ∀ t, t ∈ fd_at on fp x 6 (fd_TL on fp gn gs ga fa ff fl x) → t.2 ≤ x := fd_atb (Nat.le_refl _) (fun t ht => Nat.le_of_lt (h3 t ht))
    have g : fd_J fa (if ff < x then fl else 0) ((if x = ga then List.replicate gn (gs, x) else []) ++ fd_at on fp x 6 (fd_TL on fp gn gs ga fa ff fl x)) (fd_at on fb x 6 (fd_GL on fb G0 x)) (if x = ga then fd_gon gs gn (fd_fej on fp x 6 (fd_brj on fb x 6 (fd_run on fb fp gn gs ga fa ff fl P x))) else fd_fej on fp x 6 (fd_brj on fb x 6 (fd_run on fb fp gn gs ga fa ff fl P x))) := by
      by_cases e : x = ga
      · rw [if_pos e, if_pos e]
        exact fd_Jgon gb f gn
      · rw [if_neg e, if_neg e]
        exact f
    have tb2 : ∀ t, t ∈ fd_TL on fp gn gs ga fa ff fl (x + 1) → t.2 < x + 1 := by
      intro t ht
      simp only [fd_TL, List.mem_append] at ht
      rcases ht with ht | ht | ht
      · split at ht
        · rw [List.eq_of_mem_replicate ht]; exact Nat.lt_succ_self _
        · exact absurd ht (by simp)
      · split at ht
        · rw [List.eq_of_mem_replicate ht]; exact Nat.lt_succ_self _
        · exact absurd ht (by simp)
      · have := tb t ht
        omega
    have gb2 : ∀ g, g ∈ fd_GL on fb G0 (x + 1) → g.2 ≤ x + 1 := fun g hg => Nat.le_succ_of_le (gb g hg)
    by_cases a : ff ≤ x
    · rw [if_pos (by omega)]
      by_cases c : ff = x
      · rw [if_neg (by omega)] at g
        have r := fd_Jfl0 (k := fl) hfa gb g
        refine ⟨?_, ?_, tb2, gb2⟩
        · show fd_J fa fl ((if ff = x then List.replicate fl (2 ^ fa, x) else []) ++ _) (fd_at on fb x 6 (fd_GL on fb G0 x)) (if ff ≤ x then _ else _)
          rw [if_pos c, if_pos a]
          exact r.1
        · show fd_Kf fa fl (if ff ≤ x then _ else _)
          rw [if_pos a]
          exact r.2
      · rw [if_pos (by omega)] at g
        have r := fd_Jfl g
        refine ⟨?_, ?_, tb2, gb2⟩
        · show fd_J fa fl ((if ff = x then List.replicate fl (2 ^ fa, x) else []) ++ _) (fd_at on fb x 6 (fd_GL on fb G0 x)) (if ff ≤ x then _ else _)
          rw [if_neg c, if_pos a]
          exact r.1
        · show fd_Kf fa fl (if ff ≤ x then _ else _)
          rw [if_pos a]
          exact r.2
    · rw [if_neg (by omega)] at g
      rw [if_neg (by omega)]
      refine ⟨?_, fun v _ => Nat.zero_le _, tb2, gb2⟩
      show fd_J fa 0 ((if ff = x then List.replicate fl (2 ^ fa, x) else []) ++ _) (fd_at on fb x 6 (fd_GL on fb G0 x)) (if ff ≤ x then _ else _)
      rw [if_neg (by omega), if_neg a]
      exact g
theorem fd_flt (l : List (Nat × Nat)) (x : Nat) : (l.filter (fun p => p.2 == x) ++ l.filter (fun p => decide (p.2 < x))).Perm (l.filter (fun p => decide (p.2 < x + 1))) := by
  have h := List.filter_append_perm (fun p : Nat × Nat => p.2 == x) (l.filter (fun p => decide (p.2 < x + 1)))
  rw [List.filter_filter, List.filter_filter] at h
  have e1 : (fun a : Nat × Nat => (a.2 == x) && decide (a.2 < x + 1)) = fun p => p.2 == x := by
    funext p
    by_cases a : p.2 = x
    · simp [a]
    · simp [a]
  have e2 : (fun a : Nat × Nat => (!(a.2 == x)) && decide (a.2 < x + 1)) = fun p => decide (p.2 < x) := by
    funext p
    by_cases a : p.2 = x
    · simp [a]
    · by_cases b : p.2 < x
      · simp [a, b]; omega
      · simp [a, b]; omega
  rw [e1, e2] at h
  exact h
theorem fd_rept {x n : Nat} {a y : Nat} : (List.replicate n ((a, y) : Nat × Nat)).filter (fun p => p.2 == x) = if x = y then List.replicate n (a, x) else [] := by
  by_cases e : x = y
  · rw [if_pos e]
    subst e
    apply List.filter_eq_self.mpr
    intro p hp
    rw [List.eq_of_mem_replicate hp]
    simp
  · rw [if_neg e]
    apply List.filter_eq_nil_iff.mpr
    intro p hp
    rw [List.eq_of_mem_replicate hp]
    simp
    omega
theorem fd_TLp {on : Nat → Bool} {fp : Nat → Nat × Nat} {gn gs ga fa ff fl : Nat} : ∀ x, (fd_TL on fp gn gs ga fa ff fl x).Perm ((List.replicate fl (2 ^ fa, ff) ++ (List.replicate gn (gs, ga) ++ fd_bl on fp 6)).filter (fun p => decide (p.2 < x)))
  | 0 => by
    rw [List.filter_eq_nil_iff.mpr (fun p _ => by simp)]
    exact List.Perm.refl _
  | x + 1 => by
    have ih := fd_TLp (on := on) (fp := fp) (gn := gn) (gs := gs) (ga := ga) (fa := fa) (ff := ff) (fl := fl) x
    refine List.Perm.trans ?_ (fd_flt _ x)
    show ((if ff = x then List.replicate fl (2 ^ fa, x) else []) ++ ((if x = ga then List.replicate gn (gs, x) else []) ++ fd_at on fp x 6 (fd_TL on fp gn gs ga fa ff fl x))).Perm _
    rw [fd_atf, List.filter_append, List.filter_append, fd_rept, fd_rept, List.append_assoc, List.append_assoc]
    have e : (if ff = x then List.replicate fl (2 ^ fa, x) else []) = (if x = ff then List.replicate fl (2 ^ fa, x) else []) := by
      by_cases c : x = ff
      · rw [if_pos c, if_pos c.symm]
      · rw [if_neg c, if_neg (fun z => c z.symm)]
    rw [e]
    exact (((ih.append_left _).append_left _).append_left _)
theorem fd_GLp {on : Nat → Bool} {fb : Nat → Nat × Nat} {G0 : List (Nat × Nat)} : ∀ x, (fd_GL on fb G0 x).Perm ((fd_bl on fb 6).filter (fun p => decide (p.2 < x)) ++ G0)
  | 0 => by
    rw [List.filter_eq_nil_iff.mpr (fun p _ => by simp)]
    exact List.Perm.refl _
  | x + 1 => by
    have ih := fd_GLp (on := on) (fb := fb) (G0 := G0) x
    show (fd_at on fb x 6 (fd_GL on fb G0 x)).Perm _
    rw [fd_atf]
    refine (ih.append_left _).trans ?_
    rw [← List.append_assoc]
    exact (fd_flt _ x).append_right _
theorem fd_blm {on : Nat → Bool} {f : Nat → Nat × Nat} {p : Nat × Nat} : ∀ {n : Nat}, p ∈ fd_bl on f n → ∃ j, j < n ∧ on j = true ∧ p = f j
  | 0, h => absurd h (by simp [fd_bl])
  | n + 1, h => by
    simp only [fd_bl] at h
    by_cases a : on n = true
    · rw [if_pos a, List.mem_cons] at h
      rcases h with h | h
      · exact ⟨n, Nat.lt_succ_self _, a, h⟩
      · obtain ⟨j, h1, h2, h3⟩ := fd_blm h
        exact ⟨j, by omega, h2, h3⟩
    · rw [if_neg a] at h
      obtain ⟨j, h1, h2, h3⟩ := fd_blm h
      exact ⟨j, by omega, h2, h3⟩
/-- stock -/
def fd_stk (st : Nat → Nat) : List (Nat × Nat) := List.replicate (st 0) (2 ^ 0, 0) ++ (List.replicate (st 1) (2 ^ 1, 0) ++ (List.replicate (st 2) (2 ^ 2, 0) ++ (List.replicate (st 3) (2 ^ 3, 0) ++ [])))
def fd_sv (st : Nat → Nat) : Nat → Nat := fd_add 0 (st 0) (fd_add 1 (st 1) (fd_add 2 (st 2) (fd_add 3 (st 3) (fun _ => 0))))
theorem fd_asgr {s : Nat} (hs : s < 4) {G : List (Nat × Nat)} {u : Nat → Nat} (hG : ∀ v, fd_asg G v ↔ v = u) : ∀ (n : Nat) (v : Nat → Nat), fd_asg (List.replicate n (2 ^ s, 0) ++ G) v ↔ v = fd_add s n u
  | 0, v => by rw [fd_add0]; exact hG v
  | n + 1, v => by
    rw [List.replicate_succ, List.cons_append, fd_add1]
    constructor
    · rintro ⟨s', w, h1, h2, h3, h4⟩
      have e : s = s' := by
        have h2' : (2 ^ s).testBit s' = true := h2
        rw [Nat.testBit_two_pow] at h2'
        exact of_decide_eq_true h2'
      subst e
      rw [h3, (fd_asgr hs hG n w).mp h4]
    · intro h
      exact ⟨s, fd_add s n u, hs, Nat.testBit_two_pow_self, h, (fd_asgr hs hG n _).mpr rfl⟩
theorem fd_stka (st : Nat → Nat) (v : Nat → Nat) : fd_asg (fd_stk st) v ↔ v = fd_sv st :=
  fd_asgr (by omega) (fd_asgr (by omega) (fd_asgr (by omega) (fd_asgr (by omega) (fun _ => Iff.rfl) _) _) _) _ v
theorem fd_stkm {st : Nat → Nat} {g : Nat × Nat} (h : g ∈ fd_stk st) : ∃ s, s < 4 ∧ g = (2 ^ s, 0) := by
  simp only [fd_stk, List.mem_append] at h
  rcases h with h | h | h | h | h
  · exact ⟨0, by omega, List.eq_of_mem_replicate h⟩
  · exact ⟨1, by omega, List.eq_of_mem_replicate h⟩
  · exact ⟨2, by omega, List.eq_of_mem_replicate h⟩
  · exact ⟨3, by omega, List.eq_of_mem_replicate h⟩
  · exact absurd h (by simp)
/-- the question as lists -/
def fd_ask (on : Nat → Bool) (fb fp : Nat → Nat × Nat) (st : Nat → Nat) (X : List (Nat × Nat)) (e : Nat) : Prop :=
  fd_mk fd_sut (fun _ => True) (X ++ fd_bl on fp 6) ((fd_stk st ++ fd_bl on fb 6) ++ List.replicate e (15, 0))
def fd_ok (on : Nat → Bool) (f : Nat → Nat × Nat) : Prop := ∀ j, j < 6 → on j = true → (f j).2 ≤ 8 ∧ (f j).1 < 16 ∧ ∃ s, s < 4 ∧ (f j).1.testBit s = true
theorem fd_runq {on : Nat → Bool} {fb fp : Nat → Nat × Nat} {gn gs ga fa ff fl e : Nat} {st : Nat → Nat} (hfa : fa < 4) (hb : fd_ok on fb) (hp : fd_ok on fp) (hga : ga ≤ 8 ∨ gn = 0) (hff : ff ≤ 8 ∨ fl = 0) :
    (∃ v, fd_run on fb fp gn gs ga fa ff fl (fd_exb e (fun v => v = fd_sv st)) 9 v) ↔ fd_ask on fb fp st (List.replicate fl (2 ^ fa, ff) ++ List.replicate gn (gs, ga)) e := by
  have J0 : fd_J fa 0 [] (fd_stk st) (fun v => v = fd_sv st) := by
    intro w
    rw [fd_add0]
    exact (fd_stka st w).symm
  have J1 := fd_Jexb J0 (fun v _ => Nat.zero_le _) e
  have m0 : ∀ g, g ∈ List.replicate e (15, 0) ++ fd_stk st → g.2 = 0 ∧ ∃ s, s < 4 ∧ g.1.testBit s = true := by
    intro g hg
    rw [List.mem_append] at hg
    rcases hg with hg | hg
    · rw [List.eq_of_mem_replicate hg]
      exact ⟨rfl, 0, by omega, rfl⟩
    · obtain ⟨s, h1, h2⟩ := fd_stkm hg
      rw [h2]
      exact ⟨rfl, s, h1, Nat.testBit_two_pow_self⟩
  obtain ⟨h1, h2, h3, h4⟩ := fd_runJ (on := on) (fb := fb) (fp := fp) (gn := gn) (gs := gs) (ga := ga) (ff := ff) (fl := fl) hfa (fun g hg => (m0 g hg).1) J1.1 9
  have pT := fd_TLp (on := on) (fp := fp) (gn := gn) (gs := gs) (ga := ga) (fa := fa) (ff := ff) (fl := fl) 9
  have pG := fd_GLp (on := on) (fb := fb) (G0 := List.replicate e (15, 0) ++ fd_stk st) 9
  rw [List.filter_eq_self.mpr ?_] at pT
  · rw [List.filter_eq_self.mpr ?_] at pG
    · have hne : ∀ g, g ∈ fd_GL on fb (List.replicate e (15, 0) ++ fd_stk st) 9 → ∃ s, s < 4 ∧ g.1.testBit s = true := by
        intro g hg
        rw [pG.mem_iff, List.mem_append] at hg
        rcases hg with hg | hg
        · obtain ⟨j, k1, k2, k3⟩ := fd_blm hg
          rw [k3]
          exact (hb j k1 k2).2.2
        · exact (m0 g hg).2
      have pT' : (fd_TL on fp gn gs ga fa ff fl 9).Perm ((List.replicate fl (2 ^ fa, ff) ++ List.replicate gn (gs, ga)) ++ fd_bl on fp 6) := by
        rw [List.append_assoc]; exact pT
      have pG' : (fd_GL on fb (List.replicate e (15, 0) ++ fd_stk st) 9).Perm ((fd_stk st ++ fd_bl on fb 6) ++ List.replicate e (15, 0)) := by
        refine pG.trans ?_
        refine List.perm_append_comm.trans ?_
        rw [List.append_assoc]
        exact List.perm_append_comm
      unfold fd_ask
      rw [← fd_permI fd_pit pT' pG']
      constructor
      · rintro ⟨v, hv⟩
        obtain ⟨w, rfl⟩ := fd_adde (h2 v hv)
        exact fd_mono (fun _ _ => trivial) _ _ ((h1 w).mp hv)
      · intro h
        obtain ⟨w, hw⟩ := fd_pme _ _ hne h
        exact ⟨_, (h1 w).mpr hw⟩
    · intro p hp'
      obtain ⟨j, k1, k2, k3⟩ := fd_blm hp'
      have := (hb j k1 k2).1
      rw [k3, decide_eq_true_eq]; omega
  · intro p hp'
    rw [List.mem_append, List.mem_append] at hp'
    rw [decide_eq_true_eq]
    rcases hp' with h | h | h
    · have n0 := List.ne_nil_of_mem h
      have e := List.eq_of_mem_replicate h
      rcases hff with hff | hff
      · rw [e]; show ff < 9; omega
      · rw [hff] at n0; exact absurd rfl n0
    · have n0 := List.ne_nil_of_mem h
      have e := List.eq_of_mem_replicate h
      rcases hga with hga | hga
      · rw [e]; show ga < 9; omega
      · rw [hga] at n0; exact absurd rfl n0
    · obtain ⟨j, k1, k2, k3⟩ := fd_blm h
      have := (hp j k1 k2).1
      rw [k3]; omega
end
section
/-! the search for a chain, without the program -/
def fd_R (ts tt gs gt : Nat → Int32) (t g : Nat) : Prop := ¬ tt t < gt g ∧ ¬ (gs g &&& ts t) = 0
def fd_CH (R : Nat → Nat → Prop) (ng nt : Nat) (go rf line : Nat → Int32) (ln : Nat → Nat) (e : Nat) : Prop :=
  (∀ q, q < e → line q = nI (ln q) ∧ ln q < nt) ∧ (∀ q q', q < e → q' < e → ln q = ln q' → q = q') ∧ go (ln 0) = -1 ∧ 0 < e ∧
  (∀ q, 0 < q → q < e → ∃ g q', g < ng ∧ go (ln q) = nI g ∧ q' < q ∧ rf g = nI (ln q') ∧ R (ln q') g)
def fd_RM (ng : Nat) (to rf : Nat → Int32) (ln : Nat → Nat) (e : Nat) : Prop :=
  (∀ g, g < ng → rf g = -1 ∨ ∃ q q', q < e ∧ q' < e ∧ rf g = nI (ln q') ∧ to g = nI (ln q)) ∧ e + fd_cf rf ng = 1 + ng
def fd_DN (R : Nat → Nat → Prop) (ng : Nat) (rf : Nat → Int32) (ln : Nat → Nat) (k : Nat) : Prop := ∀ q g, q < k → g < ng → R (ln q) g → ¬ rf g = -1
def fd_put (ln : Nat → Nat) (e t : Nat) : Nat → Nat := fun q => if q = e then t else ln q
theorem fd_puts {ln : Nat → Nat} {e t : Nat} : fd_put ln e t e = t := if_pos rfl
theorem fd_putn {ln : Nat → Nat} {e t q : Nat} (h : q ≠ e) : fd_put ln e t q = ln q := if_neg h
theorem fd_cfu {rf : Nat → Int32} {g : Nat} {x : Int32} (e : rf g = -1) (hx : ¬ x = -1) : ∀ {n : Nat}, g < n → fd_cf (upd rf g x) n + 1 = fd_cf rf n := by
  intro n
  induction n with
  | zero => intro h; omega
  | succ n ih =>
    intro h
    rw [fd_cf1, fd_cf1]
    by_cases k : g = n
    · subst k
      rw [pk_us, if_neg hx, if_pos e]
      rw [fd_cfc (go := upd rf g x) (go' := rf) (fun t ht => by rw [pk_un (by omega)])]
    · have := ih (by omega)
      rw [pk_un (fun z => k z.symm)]
      omega
theorem fd_chadd {R : Nat → Nat → Prop} {ng nt : Nat} {to go rf line : Nat → Int32} {ln : Nat → Nat} {e g t k : Nat} (hnt : nt < 2 ^ 31) (hng : ng < 2 ^ 31) (hc : fd_CH R ng nt go rf line ln e) (hr : fd_RM ng to rf ln e) (hg : g < ng) (h1 : rf g = -1) (h2 : to g = nI t) (h3 : go t = nI g) (ht : t < nt) (hk : k < e) (hR : R (ln k) g) :
    fd_CH R ng nt go (upd rf g (nI (ln k))) (upd line e (nI t)) (fd_put ln e t) (e + 1) ∧ fd_RM ng to (upd rf g (nI (ln k))) (fd_put ln e t) (e + 1) := by
  obtain ⟨c1, c2, c3, c4, c5⟩ := hc
  obtain ⟨r1, r2⟩ := hr
  have lk := (c1 k hk).2
  have new : ∀ q, q < e → ln q ≠ t := by
    intro q hq e'
    by_cases z : q = 0
    · subst z
      rw [e', h3] at c3
      exact fd_ne1 (by omega) c3
    · obtain ⟨g', q', k1, k2, k3, k4, k5⟩ := c5 q (by omega) hq
      rw [e', h3] at k2
      have : g = g' := fd_im k2 (by omega) (by omega)
      subst this
      have := (c1 q' (by omega)).2
      exact fd_ne1 (by omega) (k4.symm.trans h1)
  have p0 : ∀ q, q < e → fd_put ln e t q = ln q := fun q hq => fd_putn (by omega)
  refine ⟨⟨?_, ?_, ?_, by omega, ?_⟩, ?_, ?_⟩
  · intro q hq
    by_cases z : q = e
    · subst z
      rw [pk_us, fd_puts]; exact ⟨rfl, ht⟩
    · rw [pk_un z, fd_putn z]; exact c1 q (by omega)
  · intro q q' hq hq'
    by_cases z : q = e
    · subst z
      by_cases z' : q' = q
      · intro _; exact z'.symm
      · rw [fd_puts, p0 q' (by omega)]
        intro e'; exact absurd e'.symm (new q' (by omega))
    · by_cases z' : q' = e
      · subst z'
        rw [fd_puts, p0 q (by omega)]
        intro e'; exact absurd e' (new q (by omega))
      · rw [p0 q (by omega), p0 q' (by omega)]
        exact c2 q q' (by omega) (by omega)
  · rw [p0 0 c4]; exact c3
  · intro q h0 hq
    by_cases z : q = e
    · subst z
      refine ⟨g, k, hg, ?_, hk, ?_, ?_⟩
      · rw [fd_puts]; exact h3
      · rw [pk_us, p0 k hk]
      · rw [p0 k hk]; exact hR
    · obtain ⟨g', q', k1, k2, k3, k4, k5⟩ := c5 q h0 (by omega)
      have lq := (c1 q' (by omega)).2
      refine ⟨g', q', k1, ?_, k3, ?_, ?_⟩
      · rw [p0 q (by omega)]; exact k2
      · rw [p0 q' (by omega), pk_un ?_]
        · exact k4
        · intro z'
          subst z'
          exact fd_ne1 (by omega) (k4.symm.trans h1)
      · rw [p0 q' (by omega)]; exact k5
  · intro g' hg'
    by_cases z : g' = g
    · subst z
      refine Or.inr ⟨e, k, by omega, by omega, ?_, ?_⟩
      · rw [pk_us, p0 k hk]
      · rw [fd_puts]; exact h2
    · rcases r1 g' hg' with w | ⟨q, q', w1, w2, w3, w4⟩
      · exact Or.inl (by rw [pk_un z]; exact w)
      · refine Or.inr ⟨q, q', by omega, by omega, ?_, ?_⟩
        · rw [pk_un z, p0 q' w2]; exact w3
        · rw [p0 q w1]; exact w4
  · have := fd_cfu (x := nI (ln k)) h1 (fd_ne1 (by omega)) hg
    omega
theorem fd_chfree {R : Nat → Nat → Prop} {ng nt : Nat} {go rf line : Nat → Int32} {ln : Nat → Nat} {e g : Nat} {x : Int32} (hnt : nt < 2 ^ 31) (hc : fd_CH R ng nt go rf line ln e) (h1 : rf g = -1) : fd_CH R ng nt go (upd rf g x) line ln e := by
  obtain ⟨c1, c2, c3, c4, c5⟩ := hc
  refine ⟨c1, c2, c3, c4, fun q h0 hq => ?_⟩
  obtain ⟨g', q', k1, k2, k3, k4, k5⟩ := c5 q h0 hq
  have lq := (c1 q' (by omega)).2
  refine ⟨g', q', k1, k2, k3, ?_, k5⟩
  rw [pk_un ?_]
  · exact k4
  · intro z'
    subst z'
    exact fd_ne1 (by omega) (k4.symm.trans h1)
theorem fd_rm24 {ng : Nat} {to rf : Nat → Int32} {ln : Nat → Nat} {e : Nat} (h : fd_RM ng to rf ln e) : e ≤ 1 + ng := by
  have := h.2; omega
/-- the chain handed on from the hole -/
def fd_SI (R : Nat → Nat → Prop) (ng nt : Nat) (rf : Nat → Int32) (ln : Nat → Nat) (L : Nat → Prop) (to go : Nat → Int32) (p hole : Nat) : Prop :=
  hole < ng ∧ (∀ t, t < nt → go t = -1 ∨ ∃ g, g < ng ∧ g ≠ hole ∧ go t = nI g ∧ to g = nI t ∧ R t g) ∧
  (∀ g, g < ng → g ≠ hole → to g = -1 ∨ ∃ t, t < nt ∧ to g = nI t ∧ go t = nI g) ∧
  fd_CL R ng nt to L ∧ (∀ t', to hole = nI t' → ¬ L t') ∧ rf hole = nI (ln p) ∧ R (ln p) hole ∧
  (∀ q, q ≤ p → ln q < nt) ∧ (∀ q q', q ≤ p → q' ≤ p → ln q = ln q' → q = q') ∧ go (ln 0) = -1 ∧
  (∀ q, 0 < q → q ≤ p → ∃ g q', g < ng ∧ go (ln q) = nI g ∧ q' < q ∧ rf g = nI (ln q') ∧ R (ln q') g)
theorem fd_si0 {R : Nat → Nat → Prop} {ng nt : Nat} {rf : Nat → Int32} {ln : Nat → Nat} {L : Nat → Prop} {to go : Nat → Int32} {hole : Nat} (hnt : nt < 2 ^ 31) (hng : ng < 2 ^ 31) (h : fd_SI R ng nt rf ln L to go 0 hole) :
    fd_MI R ng nt (upd to hole (nI (ln 0))) (upd go (ln 0) (nI hole)) ∧ fd_CL R ng nt (upd to hole (nI (ln 0))) L := by
  obtain ⟨h1, h2, h3, h4, h5, h6, h7, h8, h9, h10, h11⟩ := h
  have l0 := h8 0 (Nat.le_refl _)
  refine ⟨⟨fun g hg => ?_, fun t ht => ?_⟩, h4.1, fun t g hL hg hR => ?_⟩
  · by_cases z : g = hole
    · subst z
      exact Or.inr ⟨ln 0, l0, pk_us, pk_us⟩
    · rcases h3 g hg z with w | ⟨t, w1, w2, w3⟩
      · exact Or.inl (by rw [pk_un z]; exact w)
      · refine Or.inr ⟨t, w1, by rw [pk_un z]; exact w2, ?_⟩
        rw [pk_un ?_]
        · exact w3
        · intro e
          rw [e, h10] at w3
          exact fd_ne1 (by omega) w3.symm
  · by_cases z : t = ln 0
    · subst z
      exact Or.inr ⟨hole, h1, pk_us, pk_us, h7⟩
    · rw [pk_un z]
      rcases h2 t ht with w | ⟨g, w1, w2, w3, w4, w5⟩
      · exact Or.inl w
      · exact Or.inr ⟨g, w1, w3, by rw [pk_un w2]; exact w4, w5⟩
  · obtain ⟨t', k1, k2⟩ := h4.2 t g hL hg hR
    refine ⟨t', ?_, k2⟩
    rw [pk_un ?_]
    · exact k1
    · intro e
      subst e
      exact h5 t' k1 k2
theorem fd_si1 {R : Nat → Nat → Prop} {ng nt : Nat} {rf : Nat → Int32} {ln : Nat → Nat} {L : Nat → Prop} {to go : Nat → Int32} {p hole : Nat} (hnt : nt < 2 ^ 31) (hng : ng < 2 ^ 31) (hp : 0 < p) (h : fd_SI R ng nt rf ln L to go p hole) :
    ∃ g' p', go (ln p) = nI g' ∧ g' < ng ∧ p' < p ∧ fd_SI R ng nt rf ln L (upd to hole (nI (ln p))) (upd go (ln p) (nI hole)) p' g' := by
  obtain ⟨h1, h2, h3, h4, h5, h6, h7, h8, h9, h10, h11⟩ := h
  obtain ⟨g', p', k1, k2, k3, k4, k5⟩ := h11 p hp (Nat.le_refl _)
  have lp := h8 p (Nat.le_refl _)
  refine ⟨g', p', k2, k1, k3, ?_⟩
  have hw : g' ≠ hole ∧ to g' = nI (ln p) := by
    rcases h2 (ln p) lp with w | ⟨g, w1, w2, w3, w4, w5⟩
    · exact absurd (k2.symm.trans w) (fd_ne1 (by omega))
    · have : g' = g := fd_im (k2.symm.trans w3) (by omega) (by omega)
      subst this
      exact ⟨w2, w4⟩
  have nL : ¬ L (ln p) := by
    intro z
    obtain ⟨t', m1, m2⟩ := h4.2 (ln p) hole z h1 h7
    exact h5 t' m1 m2
  have lq : ∀ q, q ≤ p' → ln q ≠ ln p := by
    intro q hq e
    have := h9 q p (by omega) (Nat.le_refl _) e
    omega
  refine ⟨k1, ?_, ?_, ⟨h4.1, ?_⟩, ?_, k4, k5, fun q hq => h8 q (by omega), fun q q' hq hq' => h9 q q' (by omega) (by omega), ?_, ?_⟩
  · intro t ht
    by_cases z : t = ln p
    · subst z
      exact Or.inr ⟨hole, h1, hw.1.symm, pk_us, pk_us, h7⟩
    · rw [pk_un z]
      rcases h2 t ht with w | ⟨g, w1, w2, w3, w4, w5⟩
      · exact Or.inl w
      · refine Or.inr ⟨g, w1, ?_, w3, by rw [pk_un w2]; exact w4, w5⟩
        intro e
        subst e
        exact z (fd_im (w4.symm.trans hw.2) (by omega) (by omega))
  · intro g hg hn
    by_cases z : g = hole
    · subst z
      exact Or.inr ⟨ln p, lp, pk_us, pk_us⟩
    · rw [pk_un z]
      rcases h3 g hg z with w | ⟨t, w1, w2, w3⟩
      · exact Or.inl w
      · refine Or.inr ⟨t, w1, w2, ?_⟩
        rw [pk_un ?_]
        · exact w3
        · intro e
          rw [e, k2] at w3
          exact hn (fd_im w3.symm (by omega) (by omega))
  · intro t g hL hg hR
    obtain ⟨t', m1, m2⟩ := h4.2 t g hL hg hR
    refine ⟨t', ?_, m2⟩
    rw [pk_un ?_]
    · exact m1
    · intro e
      subst e
      exact h5 t' m1 m2
  · intro t' e hL
    rw [pk_un hw.1, hw.2] at e
    have lt := h4.1 t' hL
    have : ln p = t' := fd_im e (by omega) (by omega)
    rw [← this] at hL
    exact nL hL
  · rw [pk_un (lq 0 (by omega))]; exact h10
  · intro q hq0 hq
    obtain ⟨g2, q2, m1, m2, m3, m4, m5⟩ := h11 q hq0 (by omega)
    exact ⟨g2, q2, m1, by rw [pk_un (lq q hq)]; exact m2, m3, m4, m5⟩
end
section
/-! the search for a chain: the walk -/
section
variable {f_capacity f_present f_takers f_givers f_lineEnd f_planKnown : Int32} {a_pickSet a_pickTime a_backSet a_backTime a_stocks a_askPick a_askBack a_takerSet a_takerTime a_giverSet a_giverTime a_takerOf a_reachedFrom a_giverOf a_line a_planPick a_planBack : Nat → Int32}
theorem fd_suits {post : Int32 → Prop} {t g : Nat} (ht : t < 24) (hg : g < 24) (h1 : fd_R a_takerSet a_takerTime a_giverSet a_giverTime t g → post 1) (h0 : ¬ fd_R a_takerSet a_takerTime a_giverSet a_giverTime t g → post 0) : wpX_suits post (f_capacity, f_present, f_takers, f_givers, f_lineEnd, f_planKnown, a_pickSet, a_pickTime, a_backSet, a_backTime, a_stocks, a_askPick, a_askBack, a_takerSet, a_takerTime, a_giverSet, a_giverTime, a_takerOf, a_reachedFrom, a_giverOf, a_line, a_planPick, a_planBack) (nI t) (nI g) := by
  unfold wpX_suits
  simp only [nI_clamp (show t < 2 ^ 31 by omega), nI_clamp (show g < 2 ^ 31 by omega)]
  exact ⟨vp_in_nI hg (by omega), vp_in_nI ht (by omega), br_c (fun c => h0 (fun z => z.1 c)) (fun c => ⟨vp_in_nI hg (by omega), vp_in_nI ht (by omega), br_c (fun d => h0 (fun z => z.2 d)) (fun d => h1 ⟨c, d⟩)⟩)⟩
theorem fd_look2 {post : Int32 → SX → Prop} {ng nt k tk r : Nat} (hng : ng ≤ 20) (hnt : nt ≤ 24) (htk : tk < nt) (hm : fd_MI (fd_R a_takerSet a_takerTime a_giverSet a_giverTime) ng nt a_takerOf a_giverOf)
    (hN : ∀ (e : Nat) (rf li : Nat → Int32) (ln : Nat → Nat), fd_CH (fd_R a_takerSet a_takerTime a_giverSet a_giverTime) ng nt a_giverOf rf li ln e → fd_RM ng a_takerOf rf ln e → fd_DN (fd_R a_takerSet a_takerTime a_giverSet a_giverTime) ng rf ln (k + 1) → k < e → ln 0 = r → post (-1) (f_capacity, f_present, f_takers, nI ng, nI e, f_planKnown, a_pickSet, a_pickTime, a_backSet, a_backTime, a_stocks, a_askPick, a_askBack, a_takerSet, a_takerTime, a_giverSet, a_giverTime, a_takerOf, rf, a_giverOf, li, a_planPick, a_planBack))
    (hF : ∀ (g e : Nat) (rf li : Nat → Int32) (ln : Nat → Nat), g < ng → a_takerOf g = -1 → fd_CH (fd_R a_takerSet a_takerTime a_giverSet a_giverTime) ng nt a_giverOf rf li ln e → rf g = nI (ln k) → fd_R a_takerSet a_takerTime a_giverSet a_giverTime (ln k) g → k < e → e ≤ 21 → ln 0 = r → post (nI g) (f_capacity, f_present, f_takers, nI ng, nI e, f_planKnown, a_pickSet, a_pickTime, a_backSet, a_backTime, a_stocks, a_askPick, a_askBack, a_takerSet, a_takerTime, a_giverSet, a_giverTime, a_takerOf, rf, a_giverOf, li, a_planPick, a_planBack)) :
    ∀ (d n g0 e : Nat) (rf li : Nat → Int32) (ln : Nat → Nat), g0 + d = ng → d < n → fd_CH (fd_R a_takerSet a_takerTime a_giverSet a_giverTime) ng nt a_giverOf rf li ln e → fd_RM ng a_takerOf rf ln e → fd_DN (fd_R a_takerSet a_takerTime a_giverSet a_giverTime) ng rf ln k → k < e → ln 0 = r → ln k = tk → (∀ g, g < g0 → fd_R a_takerSet a_takerTime a_giverSet a_giverTime tk g → ¬ rf g = -1) →
    wX_look_2 post (nI tk) f_capacity f_present f_takers (nI ng) f_planKnown n (nI g0) (nI e) a_pickSet a_pickTime a_backSet a_backTime a_stocks a_askPick a_askBack a_takerSet a_takerTime a_giverSet a_giverTime a_takerOf rf a_giverOf li a_planPick a_planBack := by
  intro d
  induction d with
  | zero =>
    intro n g0 e rf li ln hd hn hc hr hD hk h0 hlk hg
    obtain ⟨n, rfl⟩ : ∃ m, n = m + 1 := ⟨n - 1, by omega⟩
    rw [wX_look_2]
    refine br_t (nI_le (by omega) (by omega)) (hN e rf li ln hc hr ?_ hk h0)
    intro q g hq hg' hR
    by_cases z : q = k
    · subst z
      rw [hlk] at hR
      exact hg g (by omega) hR
    · exact hD q g (by omega) hg' hR
  | succ d ih =>
    intro n g0 e rf li ln hd hn hc hr hD hk h0 hlk hg
    obtain ⟨n, rfl⟩ : ∃ m, n = m + 1 := ⟨n - 1, by omega⟩
    have e24 := fd_rm24 hr
    have cg : (nI g0).toNatClampNeg = g0 := nI_clamp (by omega)
    have ce : (nI e).toNatClampNeg = e := nI_clamp (by omega)
    have vg : vp_in (nI g0) 24 := vp_in_nI (by omega) (by omega)
    rw [wX_look_2]
    simp only [cg, ce, nI_1, fd_byte2 (show tk < 128 by omega)]
    refine br_f (nI_ge (by omega) (by omega)) ⟨vg, ?_⟩
    have keep : fd_R a_takerSet a_takerTime a_giverSet a_giverTime tk g0 → ¬ rf g0 = -1 → ∀ g, g < g0 + 1 → fd_R a_takerSet a_takerTime a_giverSet a_giverTime tk g → ¬ rf g = -1 := by
      intro _ h2 g hgl hR
      by_cases z : g = g0
      · subst z; exact h2
      · exact hg g (by omega) hR
    rcases hr.1 g0 (by omega) with w | ⟨q, q', w1, w2, w3, w4⟩
    · rw [w]
      refine br_f fd_0m1 (fd_suits (by omega) (by omega) (fun hR => ?_) (fun hR => ?_))
      · refine br_f (by decide) ⟨vg, nm_e ⟨vg, ?_⟩⟩
        rcases hm.1 g0 (by omega) with m | ⟨t, m1, m2, m3⟩
        · rw [m]
          refine br_f fd_0m1 (hF g0 e _ li ln (by omega) m (fd_chfree (by omega) hc w) ?_ ?_ hk (by omega) h0)
          · rw [pk_us, hlk]
          · rw [hlk]; exact hR
        · rw [m2, fd_byte (show t < 128 by omega)]
          refine br_t (nI_pos' (by omega)) (br_f (nI_ge (b := 24) (by omega) (by decide)) ⟨vg, vp_in_nI (by omega) (by omega), nm_e (nm_e (nm_e ?_))⟩)
          have ad := fd_chadd (k := k) (by omega) (by omega) hc hr (by omega) w m2 m3 m1 hk (by rw [hlk]; exact hR)
          rw [hlk] at ad
          refine ih n (g0 + 1) (e + 1) _ _ (fd_put ln e t) (by omega) (by omega) ad.1 ad.2 ?_ (by omega) ?_ ?_ ?_
          · intro q g hq hg' hR'
            rw [fd_putn (by omega)] at hR'
            by_cases z : g = g0
            · subst z; rw [pk_us]; exact fd_ne1 (by omega)
            · rw [pk_un z]; exact hD q g hq hg' hR'
          · rw [fd_putn (by have := hc.2.2.2.1; omega)]; exact h0
          · rw [fd_putn (by omega)]; exact hlk
          · intro g hgl hR'
            by_cases z : g = g0
            · subst z; rw [pk_us]; exact fd_ne1 (by omega)
            · rw [pk_un z]; exact hg g (by omega) hR'
      · refine br_t rfl (nm_e (ih n (g0 + 1) e rf li ln (by omega) (by omega) hc hr hD hk h0 hlk ?_))
        intro g hgl hR'
        by_cases z : g = g0
        · subst z; exact absurd hR' hR
        · exact hg g (by omega) hR'
    · have lq := (hc.1 q' w2).2
      refine br_t (by rw [w3]; exact nI_pos' (by omega)) (nm_e (ih n (g0 + 1) e rf li ln (by omega) (by omega) hc hr hD hk h0 hlk ?_))
      intro g hgl hR'
      by_cases z : g = g0
      · subst z; exact fd_n1 w3 (by omega)
      · exact hg g (by omega) hR'
theorem fd_look {post : Int32 → SX → Prop} {ng nt k tk r e : Nat} {rf li : Nat → Int32} {ln : Nat → Nat} (hng : ng ≤ 20) (hnt : nt ≤ 24) (hm : fd_MI (fd_R a_takerSet a_takerTime a_giverSet a_giverTime) ng nt a_takerOf a_giverOf)
    (hc : fd_CH (fd_R a_takerSet a_takerTime a_giverSet a_giverTime) ng nt a_giverOf rf li ln e) (hr : fd_RM ng a_takerOf rf ln e) (hD : fd_DN (fd_R a_takerSet a_takerTime a_giverSet a_giverTime) ng rf ln k) (hk : k < e) (h0 : ln 0 = r) (hlk : ln k = tk)
    (hN : ∀ (e : Nat) (rf li : Nat → Int32) (ln : Nat → Nat), fd_CH (fd_R a_takerSet a_takerTime a_giverSet a_giverTime) ng nt a_giverOf rf li ln e → fd_RM ng a_takerOf rf ln e → fd_DN (fd_R a_takerSet a_takerTime a_giverSet a_giverTime) ng rf ln (k + 1) → k < e → ln 0 = r → post (-1) (f_capacity, f_present, f_takers, nI ng, nI e, f_planKnown, a_pickSet, a_pickTime, a_backSet, a_backTime, a_stocks, a_askPick, a_askBack, a_takerSet, a_takerTime, a_giverSet, a_giverTime, a_takerOf, rf, a_giverOf, li, a_planPick, a_planBack))
    (hF : ∀ (g e : Nat) (rf li : Nat → Int32) (ln : Nat → Nat), g < ng → a_takerOf g = -1 → fd_CH (fd_R a_takerSet a_takerTime a_giverSet a_giverTime) ng nt a_giverOf rf li ln e → rf g = nI (ln k) → fd_R a_takerSet a_takerTime a_giverSet a_giverTime (ln k) g → k < e → e ≤ 21 → ln 0 = r → post (nI g) (f_capacity, f_present, f_takers, nI ng, nI e, f_planKnown, a_pickSet, a_pickTime, a_backSet, a_backTime, a_stocks, a_askPick, a_askBack, a_takerSet, a_takerTime, a_giverSet, a_giverTime, a_takerOf, rf, a_giverOf, li, a_planPick, a_planBack)) :
    wpX_look post (f_capacity, f_present, f_takers, nI ng, nI e, f_planKnown, a_pickSet, a_pickTime, a_backSet, a_backTime, a_stocks, a_askPick, a_askBack, a_takerSet, a_takerTime, a_giverSet, a_giverTime, a_takerOf, rf, a_giverOf, li, a_planPick, a_planBack) (nI tk) := by
  have lt : tk < nt := by rw [← hlk]; exact (hc.1 k hk).2
  exact ⟨ng + 1, fd_look2 hng hnt lt hm hN hF ng (ng + 1) 0 e rf li ln (by omega) (by omega) hc hr hD hk h0 hlk (fun g hg => by omega)⟩
theorem fd_shift4 {post : SX → Prop} {ng nt : Nat} {ln : Nat → Nat} {L : Nat → Prop} {go0 : Nat → Int32} (hng : ng ≤ 20) (hnt : nt ≤ 24)
    (h : ∀ to go : Nat → Int32, fd_MI (fd_R a_takerSet a_takerTime a_giverSet a_giverTime) ng nt to go → fd_CL (fd_R a_takerSet a_takerTime a_giverSet a_giverTime) ng nt to L → (∀ t, t < nt → t ≠ ln 0 → (go t = -1 ↔ go0 t = -1)) → ¬ go (ln 0) = -1 → post (f_capacity, f_present, f_takers, f_givers, f_lineEnd, f_planKnown, a_pickSet, a_pickTime, a_backSet, a_backTime, a_stocks, a_askPick, a_askBack, a_takerSet, a_takerTime, a_giverSet, a_giverTime, to, a_reachedFrom, go, a_line, a_planPick, a_planBack)) :
    ∀ (p n j hole : Nat) (to go : Nat → Int32), p + 1 < n → j + p < 24 → fd_SI (fd_R a_takerSet a_takerTime a_giverSet a_giverTime) ng nt a_reachedFrom ln L to go p hole → (∀ t, t < nt → (go t = -1 ↔ go0 t = -1)) → 
    wX_shift_4 post f_capacity f_present f_takers f_givers f_lineEnd f_planKnown n (nI hole) (nI j) a_pickSet a_pickTime a_backSet a_backTime a_stocks a_askPick a_askBack a_takerSet a_takerTime a_giverSet a_giverTime to a_reachedFrom go a_line a_planPick a_planBack := by
  intro p
  induction p using Nat.strongRecOn with
  | ind p ih =>
    intro n j hole to go hn hj hS hg
    obtain ⟨n, rfl⟩ : ∃ m, n = m + 1 := ⟨n - 1, by omega⟩
    have hh : hole < ng := hS.1
    have hlp : ln p < nt := hS.2.2.2.2.2.2.2.1 p (Nat.le_refl _)
    have hrf : a_reachedFrom hole = nI (ln p) := hS.2.2.2.2.2.1
    have ch : (nI hole).toNatClampNeg = hole := nI_clamp (by omega)
    have cl : (nI (ln p)).toNatClampNeg = ln p := nI_clamp (by omega)
    have vh : vp_in (nI hole) 24 := vp_in_nI (by omega) (by omega)
    have vl : vp_in (nI (ln p)) 24 := vp_in_nI (by omega) (by omega)
    rw [wX_shift_4]
    simp only [ch, nI_1, hrf]
    refine br_f (nI_ge (b := 24) (by omega) (by decide)) (br_f (nI_pos (by omega)) ⟨vh, nm_e ⟨vl, ?_⟩⟩)
    rw [cl, fd_byte2 (show ln p < 128 by omega), fd_byte2 (show hole < 128 by omega)]
    by_cases z : p = 0
    · subst z
      have hgo : go (ln 0) = -1 := hS.2.2.2.2.2.2.2.2.2.1
      have r := fd_si0 (by omega) (by omega) hS
      rw [hgo]
      obtain ⟨n, rfl⟩ : ∃ m, n = m + 1 := ⟨n - 1, by omega⟩
      have fin := h _ _ r.1 r.2 (fun t ht hne => by rw [pk_un hne]; exact hg t ht) (by rw [pk_us]; exact fd_ne1 (by omega))
      refine nm_e ⟨vh, nm_e ⟨vl, nm_e (nm_e ?_)⟩⟩
      rw [wX_shift_4]
      exact br_c (fun _ => fin) (fun _ => br_t fd_m1lt fin)
    · obtain ⟨g', p', k1, k2, k3, k4⟩ := fd_si1 (by omega) (by omega) (by omega) hS
      rw [k1]
      refine nm_e ⟨vh, nm_e ⟨vl, nm_e (nm_e (ih p' k3 n (j + 1) g' _ _ (by omega) (by omega) k4 ?_))⟩⟩
      intro t ht
      by_cases e : t = ln p
      · subst e
        rw [pk_us]
        have a1 : ¬ nI hole = -1 := fd_ne1 (by omega)
        have a2 : ¬ go0 (ln p) = -1 := by
          intro w
          have := (hg (ln p) ht).mpr w
          rw [k1] at this
          exact fd_ne1 (by omega) this
        exact ⟨fun w => absurd w a1, fun w => absurd w a2⟩
      · rw [pk_un e]; exact hg t ht
theorem fd_serve75 {post : Int32 → SX → Prop} {ng nt g k : Nat} {rf li : Nat → Int32} {e : Nat} {ln : Nat → Nat} {L : Nat → Prop} (hng : ng ≤ 20) (hnt : nt ≤ 24)
    (hm : fd_MI (fd_R a_takerSet a_takerTime a_giverSet a_giverTime) ng nt a_takerOf a_giverOf) (hL : fd_CL (fd_R a_takerSet a_takerTime a_giverSet a_giverTime) ng nt a_takerOf L)
    (hg : g < ng) (hf : a_takerOf g = -1) (hc : fd_CH (fd_R a_takerSet a_takerTime a_giverSet a_giverTime) ng nt a_giverOf rf li ln e) (h1 : rf g = nI (ln k)) (h2 : fd_R a_takerSet a_takerTime a_giverSet a_giverTime (ln k) g) (hk : k < e) (he : e ≤ 21)
    (h : ∀ to go : Nat → Int32, fd_MI (fd_R a_takerSet a_takerTime a_giverSet a_giverTime) ng nt to go → fd_CL (fd_R a_takerSet a_takerTime a_giverSet a_giverTime) ng nt to L → (∀ t, t < nt → t ≠ ln 0 → (go t = -1 ↔ a_giverOf t = -1)) → ¬ go (ln 0) = -1 → post 1 (f_capacity, f_present, f_takers, nI ng, nI e, f_planKnown, a_pickSet, a_pickTime, a_backSet, a_backTime, a_stocks, a_askPick, a_askBack, a_takerSet, a_takerTime, a_giverSet, a_giverTime, to, rf, go, li, a_planPick, a_planBack)) :
    wX_serve_75 post (nI g) f_capacity f_present f_takers (nI ng) (nI e) f_planKnown a_pickSet a_pickTime a_backSet a_backTime a_stocks a_askPick a_askBack a_takerSet a_takerTime a_giverSet a_giverTime a_takerOf rf a_giverOf li a_planPick a_planBack := by
  refine br_t (nI_pos' (by omega)) ⟨k + 2, fd_shift4 (ln := ln) (L := L) (go0 := a_giverOf) hng hnt (fun to go a1 a2 a3 a4 => h to go a1 a2 a3 a4) k (k + 2) 0 g a_takerOf a_giverOf (by omega) (by omega) ?_ (fun t _ => Iff.rfl)⟩
  obtain ⟨c1, c2, c3, c4, c5⟩ := hc
  refine ⟨hg, fun t ht => ?_, fun g' hg' _ => hm.1 g' hg', hL, fun t' e' hl => ?_, h1, h2, fun q hq => (c1 q (by omega)).2, fun q q' hq hq' => c2 q q' (by omega) (by omega), c3, fun q h0 hq => c5 q h0 (by omega)⟩
  · rcases hm.2 t ht with w | ⟨g', w1, w2, w3, w4⟩
    · exact Or.inl w
    · refine Or.inr ⟨g', w1, ?_, w2, w3, w4⟩
      intro e'
      subst e'
      exact fd_ne1 (by omega) (w3.symm.trans hf)
  · have := hL.1 t' hl
    exact fd_ne1 (by omega) (e'.symm.trans hf)
theorem fd_serve40 {post : Int32 → SX → Prop} {ng nt r : Nat} {L : Nat → Prop} (hng : ng ≤ 20) (hnt : nt ≤ 24)
    (hm : fd_MI (fd_R a_takerSet a_takerTime a_giverSet a_giverTime) ng nt a_takerOf a_giverOf) (hL : fd_CL (fd_R a_takerSet a_takerTime a_giverSet a_giverTime) ng nt a_takerOf L)
    (h1 : ∀ (e : Int32) (rf li to go : Nat → Int32), fd_MI (fd_R a_takerSet a_takerTime a_giverSet a_giverTime) ng nt to go → fd_CL (fd_R a_takerSet a_takerTime a_giverSet a_giverTime) ng nt to L → (∀ t, t < nt → t ≠ r → (go t = -1 ↔ a_giverOf t = -1)) → ¬ go r = -1 → post 1 (f_capacity, f_present, f_takers, nI ng, e, f_planKnown, a_pickSet, a_pickTime, a_backSet, a_backTime, a_stocks, a_askPick, a_askBack, a_takerSet, a_takerTime, a_giverSet, a_giverTime, to, rf, go, li, a_planPick, a_planBack))
    (h0 : ∀ (e : Int32) (rf li : Nat → Int32) (L' : Nat → Prop), fd_CL (fd_R a_takerSet a_takerTime a_giverSet a_giverTime) ng nt a_takerOf L' → (∀ t, L t → L' t) → L' r → post 0 (f_capacity, f_present, f_takers, nI ng, e, f_planKnown, a_pickSet, a_pickTime, a_backSet, a_backTime, a_stocks, a_askPick, a_askBack, a_takerSet, a_takerTime, a_giverSet, a_giverTime, a_takerOf, rf, a_giverOf, li, a_planPick, a_planBack)) :
    ∀ (d n k e : Nat) (rf li : Nat → Int32) (ln : Nat → Nat), k + d = 22 → d + 1 < n → k ≤ e → fd_CH (fd_R a_takerSet a_takerTime a_giverSet a_giverTime) ng nt a_giverOf rf li ln e → fd_RM ng a_takerOf rf ln e → fd_DN (fd_R a_takerSet a_takerTime a_giverSet a_giverTime) ng rf ln k → ln 0 = r →
    wX_serve_40 post n (-1) (nI k) f_capacity f_present f_takers (nI ng) (nI e) f_planKnown a_pickSet a_pickTime a_backSet a_backTime a_stocks a_askPick a_askBack a_takerSet a_takerTime a_giverSet a_giverTime a_takerOf rf a_giverOf li a_planPick a_planBack := by
  intro d
  induction d with
  | zero =>
    intro n k e rf li ln hd hn hk hc hr hD hr0
    have := fd_rm24 hr
    omega
  | succ d ih =>
    intro n k e rf li ln hd hn hk hc hr hD hr0
    obtain ⟨n, rfl⟩ : ∃ m, n = m + 1 := ⟨n - 1, by omega⟩
    have e24 := fd_rm24 hr
    have ck : (nI k).toNatClampNeg = k := nI_clamp (by omega)
    rw [wX_serve_40]
    by_cases z : k = e
    · subst z
      refine br_t (nI_le (by omega) (by omega)) (br_f fd_0m1 (h0 _ rf li (fun t => L t ∨ ∃ q, q < k ∧ t = ln q) ⟨?_, ?_⟩ (fun t ht => Or.inl ht) (Or.inr ⟨0, hc.2.2.2.1, hr0.symm⟩)))
      · rintro t (ht | ⟨q, hq, rfl⟩)
        · exact hL.1 t ht
        · exact (hc.1 q hq).2
      · rintro t g (ht | ⟨q, hq, rfl⟩) hg hR
        · obtain ⟨t', w1, w2⟩ := hL.2 t g ht hg hR
          exact ⟨t', w1, Or.inl w2⟩
        · rcases hr.1 g hg with w | ⟨q', q'', w1, w2, w3, w4⟩
          · exact absurd w (hD q g hq hg hR)
          · exact ⟨ln q', w4, Or.inr ⟨q', w1, rfl⟩⟩
    · refine br_f (nI_ge (by omega) (by omega)) (br_f (nI_ge (b := 24) (by omega) (by decide)) (br_f fd_0m1 ⟨vp_in_nI (by omega) (by omega), ?_⟩))
      rw [ck, (hc.1 k (by omega)).1]
      refine fd_look hng hnt hm hc hr hD (by omega) hr0 rfl (fun e' rf' li' ln' a1 a2 a3 a4 a5 => ?_) (fun g e' rf' li' ln' a1 a2 a3 a4 a5 a6 a7 a8 => ?_)
      · exact nm_r (nI_1 k) (ih n (k + 1) e' rf' li' ln' (by omega) (by omega) (by omega) a1 a2 a3 a5)
      · refine nm_r (nI_1 k) ?_
        obtain ⟨n, rfl⟩ : ∃ m, n = m + 1 := ⟨n - 1, by omega⟩
        have fin : wX_serve_75 post (nI g) f_capacity f_present f_takers (nI ng) (nI e') f_planKnown a_pickSet a_pickTime a_backSet a_backTime a_stocks a_askPick a_askBack a_takerSet a_takerTime a_giverSet a_giverTime a_takerOf rf' a_giverOf li' a_planPick a_planBack :=
          fd_serve75 hng hnt hm hL a1 a2 a3 a4 a5 a6 a7 (fun to go b1 b2 b3 b4 => h1 _ rf' li' to go b1 b2 (fun t ht hne => b3 t ht (by rw [a8]; exact hne)) (by rw [← a8]; exact b4))
        rw [wX_serve_40]
        exact br_c (fun _ => fin) (fun _ => br_c (fun _ => fin) (fun _ => br_t (nI_pos' (by omega)) fin))
theorem fd_serve2 {post : Int32 → SX → Prop} {ng nt r : Nat} {L : Nat → Prop} (hng : ng ≤ 20) (hnt : nt ≤ 24) (hrt : r < nt) (hgr : a_giverOf r = -1)
    (hm : fd_MI (fd_R a_takerSet a_takerTime a_giverSet a_giverTime) ng nt a_takerOf a_giverOf) (hL : fd_CL (fd_R a_takerSet a_takerTime a_giverSet a_giverTime) ng nt a_takerOf L)
    (h1 : ∀ (e : Int32) (rf li to go : Nat → Int32), fd_MI (fd_R a_takerSet a_takerTime a_giverSet a_giverTime) ng nt to go → fd_CL (fd_R a_takerSet a_takerTime a_giverSet a_giverTime) ng nt to L → (∀ t, t < nt → t ≠ r → (go t = -1 ↔ a_giverOf t = -1)) → ¬ go r = -1 → post 1 (f_capacity, f_present, f_takers, nI ng, e, f_planKnown, a_pickSet, a_pickTime, a_backSet, a_backTime, a_stocks, a_askPick, a_askBack, a_takerSet, a_takerTime, a_giverSet, a_giverTime, to, rf, go, li, a_planPick, a_planBack))
    (h0 : ∀ (e : Int32) (rf li : Nat → Int32) (L' : Nat → Prop), fd_CL (fd_R a_takerSet a_takerTime a_giverSet a_giverTime) ng nt a_takerOf L' → (∀ t, L t → L' t) → L' r → post 0 (f_capacity, f_present, f_takers, nI ng, e, f_planKnown, a_pickSet, a_pickTime, a_backSet, a_backTime, a_stocks, a_askPick, a_askBack, a_takerSet, a_takerTime, a_giverSet, a_giverTime, a_takerOf, rf, a_giverOf, li, a_planPick, a_planBack)) :
    ∀ (d n g : Nat) (rf : Nat → Int32), g + d = ng → d < n → (∀ j, j < g → rf j = -1) →
    wX_serve_2 post (nI r) f_capacity f_present f_takers (nI ng) f_lineEnd f_planKnown n (nI g) a_pickSet a_pickTime a_backSet a_backTime a_stocks a_askPick a_askBack a_takerSet a_takerTime a_giverSet a_giverTime a_takerOf rf a_giverOf a_line a_planPick a_planBack := by
  intro d
  induction d with
  | zero =>
    intro n g rf hd hn hj
    obtain ⟨n, rfl⟩ : ∃ m, n = m + 1 := ⟨n - 1, by omega⟩
    have hz : fd_cf rf ng = ng := by
      have : ∀ m, m ≤ ng → fd_cf rf m = m := by
        intro m
        induction m with
        | zero => intro _; rfl
        | succ m im => intro hm; rw [fd_cf1, im (by omega), if_pos (hj m (by omega))]
      exact this ng (Nat.le_refl _)
    rw [wX_serve_2, fd_byte2 (show r < 128 by omega)]
    refine br_t (nI_le (by omega) (by omega)) (nm_e ⟨24, fd_serve40 (r := r) (L := L) hng hnt hm hL h1 h0 22 24 0 1 rf (upd a_line 0 (nI r)) (fun _ => r) (by omega) (by omega) (by omega) ⟨?_, ?_, hgr, by omega, ?_⟩ ⟨fun g' hg' => Or.inl (hj g' (by omega)), by omega⟩ (fun q g' hq => by omega) rfl⟩)
    · intro q hq
      have : q = 0 := by omega
      subst this
      exact ⟨pk_us, hrt⟩
    · intro q q' hq hq' _; omega
    · intro q h0 hq; omega
  | succ d ih =>
    intro n g rf hd hn hj
    obtain ⟨n, rfl⟩ : ∃ m, n = m + 1 := ⟨n - 1, by omega⟩
    rw [wX_serve_2]
    refine br_f (nI_ge (by omega) (by omega)) ⟨vp_in_nI (by omega) (by omega), nm_r (e' := upd rf g (-1)) (by rw [nI_clamp (by omega), fd_bm1]) (nm_r (nI_1 g) (ih n (g + 1) _ (by omega) (by omega) ?_))⟩
    intro j hj'
    by_cases z : j = g
    · subst z; exact pk_us
    · rw [pk_un z]; exact hj j (by omega)
theorem fd_serve {post : Int32 → SX → Prop} {ng nt r : Nat} {L : Nat → Prop} (hng : ng ≤ 20) (hnt : nt ≤ 24) (hrt : r < nt) (hgr : a_giverOf r = -1)
    (hm : fd_MI (fd_R a_takerSet a_takerTime a_giverSet a_giverTime) ng nt a_takerOf a_giverOf) (hL : fd_CL (fd_R a_takerSet a_takerTime a_giverSet a_giverTime) ng nt a_takerOf L)
    (h1 : ∀ (e : Int32) (rf li to go : Nat → Int32), fd_MI (fd_R a_takerSet a_takerTime a_giverSet a_giverTime) ng nt to go → fd_CL (fd_R a_takerSet a_takerTime a_giverSet a_giverTime) ng nt to L → (∀ t, t < nt → t ≠ r → (go t = -1 ↔ a_giverOf t = -1)) → ¬ go r = -1 → post 1 (f_capacity, f_present, f_takers, nI ng, e, f_planKnown, a_pickSet, a_pickTime, a_backSet, a_backTime, a_stocks, a_askPick, a_askBack, a_takerSet, a_takerTime, a_giverSet, a_giverTime, to, rf, go, li, a_planPick, a_planBack))
    (h0 : ∀ (e : Int32) (rf li : Nat → Int32) (L' : Nat → Prop), fd_CL (fd_R a_takerSet a_takerTime a_giverSet a_giverTime) ng nt a_takerOf L' → (∀ t, L t → L' t) → L' r → post 0 (f_capacity, f_present, f_takers, nI ng, e, f_planKnown, a_pickSet, a_pickTime, a_backSet, a_backTime, a_stocks, a_askPick, a_askBack, a_takerSet, a_takerTime, a_giverSet, a_giverTime, a_takerOf, rf, a_giverOf, li, a_planPick, a_planBack)) :
    wpX_serve post (f_capacity, f_present, f_takers, nI ng, f_lineEnd, f_planKnown, a_pickSet, a_pickTime, a_backSet, a_backTime, a_stocks, a_askPick, a_askBack, a_takerSet, a_takerTime, a_giverSet, a_giverTime, a_takerOf, a_reachedFrom, a_giverOf, a_line, a_planPick, a_planBack) (nI r) :=
  ⟨ng + 1, fd_serve2 hng hnt hrt hgr hm hL h1 h0 ng (ng + 1) 0 a_reachedFrom (by omega) (by omega) (fun j hj => by omega)⟩
end
end
section
/-! the count of the unserved; the question put together -/
section
variable {f_capacity f_present f_takers f_givers f_lineEnd f_planKnown : Int32} {a_pickSet a_pickTime a_backSet a_backTime a_stocks a_askPick a_askBack a_takerSet a_takerTime a_giverSet a_giverTime a_takerOf a_reachedFrom a_giverOf a_line a_planPick a_planBack : Nat → Int32}
theorem fd_unm50 {post : Int32 → SX → Prop} {ng nt : Nat} (hng : ng ≤ 20) (hnt : nt ≤ 24)
    (h : ∀ (c : Nat) (e : Int32) (rf li to go : Nat → Int32), c ≤ nt → (∀ x, fd_mk (fun t g => ng ≤ g ∨ fd_R a_takerSet a_takerTime a_giverSet a_giverTime t g) (fun _ => True) (List.range nt) (List.range (ng + x)) ↔ c ≤ x) → post (nI c) (f_capacity, f_present, nI nt, nI ng, e, f_planKnown, a_pickSet, a_pickTime, a_backSet, a_backTime, a_stocks, a_askPick, a_askBack, a_takerSet, a_takerTime, a_giverSet, a_giverTime, to, rf, go, li, a_planPick, a_planBack)) :
    ∀ (d n k : Nat) (e : Int32) (rf li to go : Nat → Int32) (L : Nat → Prop), k + d = nt → d < n → fd_MI (fd_R a_takerSet a_takerTime a_giverSet a_giverTime) ng nt to go → fd_CL (fd_R a_takerSet a_takerTime a_giverSet a_giverTime) ng nt to L → (∀ t, t < k → go t = -1 → L t) → (∀ t, k ≤ t → t < nt → go t = -1) →
    wX_unmatched_50 post n (nI (fd_cf go k)) (nI k) f_capacity f_present (nI nt) (nI ng) e f_planKnown a_pickSet a_pickTime a_backSet a_backTime a_stocks a_askPick a_askBack a_takerSet a_takerTime a_giverSet a_giverTime to rf go li a_planPick a_planBack := by
  intro d
  induction d with
  | zero =>
    intro n k e rf li to go L hd hn hm hL h1 h2
    obtain ⟨n, rfl⟩ : ∃ m, n = m + 1 := ⟨n - 1, by omega⟩
    have : k = nt := by omega
    subst this
    rw [wX_unmatched_50]
    exact br_t (nI_le (Nat.le_refl _) (by omega)) (h _ e rf li to go (fd_cfl go k) (fun x => fd_def (by omega) (by omega) hm hL h1 x))
  | succ d ih =>
    intro n k e rf li to go L hd hn hm hL h1 h2
    obtain ⟨n, rfl⟩ : ∃ m, n = m + 1 := ⟨n - 1, by omega⟩
    rw [wX_unmatched_50]
    refine br_f (nI_ge (by omega) (by omega)) (fd_serve hng hnt (by omega) (h2 k (Nat.le_refl _) (by omega)) hm hL (fun e' rf' li' to' go' a1 a2 a3 a4 => ?_) (fun e' rf' li' L' a1 a2 a3 => ?_))
    · have ec : fd_cf go' (k + 1) = fd_cf go k := by
        rw [fd_cf1, if_neg a4, fd_cfc (go := go') (go' := go) (fun t ht => a3 t (by omega) (by omega))]
        rfl
      have := ih n (k + 1) e' rf' li' to' go' L (by omega) (by omega) a1 a2 (fun t ht hg => ?_) (fun t ht hg => ?_)
      · rw [ec] at this
        exact br_f (by decide) (nm_r (nI_1 k) this)
      · by_cases z : t = k
        · subst z; exact absurd hg a4
        · exact h1 t (by omega) ((a3 t (by omega) z).mp hg)
      · exact (a3 t hg (by omega)).mpr (h2 t (by omega) hg)
    · have ec : fd_cf go (k + 1) = fd_cf go k + 1 := by
        rw [fd_cf1, if_pos (h2 k (Nat.le_refl _) (by omega))]
      have := ih n (k + 1) e' rf' li' to go L' (by omega) (by omega) hm a1 (fun t ht hg => ?_) (fun t ht hg => h2 t (by omega) hg)
      · rw [ec] at this
        exact br_t rfl (nm_r (nI_1 _) (nm_r (nI_1 k) this))
      · by_cases z : t = k
        · subst z; exact a3
        · exact a2 t (h1 t (by omega) hg)
theorem fd_unm25 {post : Int32 → SX → Prop} {ng nt : Nat} (hng : ng ≤ 20) (hnt : nt ≤ 24) (h0 : ∀ g, g < ng → a_takerOf g = -1)
    (h : ∀ (c : Nat) (e : Int32) (rf li to go : Nat → Int32), c ≤ nt → (∀ x, fd_mk (fun t g => ng ≤ g ∨ fd_R a_takerSet a_takerTime a_giverSet a_giverTime t g) (fun _ => True) (List.range nt) (List.range (ng + x)) ↔ c ≤ x) → post (nI c) (f_capacity, f_present, nI nt, nI ng, e, f_planKnown, a_pickSet, a_pickTime, a_backSet, a_backTime, a_stocks, a_askPick, a_askBack, a_takerSet, a_takerTime, a_giverSet, a_giverTime, to, rf, go, li, a_planPick, a_planBack)) :
    ∀ (d n k : Nat) (go : Nat → Int32), k + d = nt → d < n → (∀ t, t < k → go t = -1) →
    wX_unmatched_25 post f_capacity f_present (nI nt) (nI ng) f_lineEnd f_planKnown n (nI k) a_pickSet a_pickTime a_backSet a_backTime a_stocks a_askPick a_askBack a_takerSet a_takerTime a_giverSet a_giverTime a_takerOf a_reachedFrom go a_line a_planPick a_planBack := by
  intro d
  induction d with
  | zero =>
    intro n k go hd hn hj
    obtain ⟨n, rfl⟩ : ∃ m, n = m + 1 := ⟨n - 1, by omega⟩
    have : k = nt := by omega
    subst this
    rw [wX_unmatched_25]
    refine br_t (nI_le (Nat.le_refl _) (by omega)) ⟨k + 1, fd_unm50 hng hnt h k (k + 1) 0 _ _ _ _ _ (fun _ => False) (by omega) (by omega) ⟨fun g hg => Or.inl (h0 g hg), fun t ht => Or.inl (hj t ht)⟩ ⟨fun t z => z.elim, fun t g z => z.elim⟩ (fun t ht => by omega) (fun t _ ht => hj t ht)⟩
  | succ d ih =>
    intro n k go hd hn hj
    obtain ⟨n, rfl⟩ : ∃ m, n = m + 1 := ⟨n - 1, by omega⟩
    rw [wX_unmatched_25]
    refine br_f (nI_ge (by omega) (by omega)) ⟨vp_in_nI (by omega) (by omega), nm_r (e' := upd go k (-1)) (by rw [nI_clamp (by omega), fd_bm1]) (nm_r (nI_1 k) (ih n (k + 1) _ (by omega) (by omega) ?_))⟩
    intro j hj'
    by_cases z : j = k
    · subst z; exact pk_us
    · rw [pk_un z]; exact hj j (by omega)
theorem fd_unm2 {post : Int32 → SX → Prop} {ng nt : Nat} (hng : ng ≤ 20) (hnt : nt ≤ 24)
    (h : ∀ (c : Nat) (e : Int32) (rf li to go : Nat → Int32), c ≤ nt → (∀ x, fd_mk (fun t g => ng ≤ g ∨ fd_R a_takerSet a_takerTime a_giverSet a_giverTime t g) (fun _ => True) (List.range nt) (List.range (ng + x)) ↔ c ≤ x) → post (nI c) (f_capacity, f_present, nI nt, nI ng, e, f_planKnown, a_pickSet, a_pickTime, a_backSet, a_backTime, a_stocks, a_askPick, a_askBack, a_takerSet, a_takerTime, a_giverSet, a_giverTime, to, rf, go, li, a_planPick, a_planBack)) :
    ∀ (d n k : Nat) (to : Nat → Int32), k + d = ng → d < n → (∀ t, t < k → to t = -1) →
    wX_unmatched_2 post f_capacity f_present (nI nt) (nI ng) f_lineEnd f_planKnown n (nI k) a_pickSet a_pickTime a_backSet a_backTime a_stocks a_askPick a_askBack a_takerSet a_takerTime a_giverSet a_giverTime to a_reachedFrom a_giverOf a_line a_planPick a_planBack := by
  intro d
  induction d with
  | zero =>
    intro n k to hd hn hj
    obtain ⟨n, rfl⟩ : ∃ m, n = m + 1 := ⟨n - 1, by omega⟩
    have : k = ng := by omega
    subst this
    rw [wX_unmatched_2]
    exact br_t (nI_le (Nat.le_refl _) (by omega)) ⟨nt + 1, fd_unm25 hng hnt hj h nt (nt + 1) 0 a_giverOf (by omega) (by omega) (fun t ht => by omega)⟩
  | succ d ih =>
    intro n k to hd hn hj
    obtain ⟨n, rfl⟩ : ∃ m, n = m + 1 := ⟨n - 1, by omega⟩
    rw [wX_unmatched_2]
    refine br_f (nI_ge (by omega) (by omega)) ⟨vp_in_nI (by omega) (by omega), nm_r (e' := upd to k (-1)) (by rw [nI_clamp (by omega), fd_bm1]) (nm_r (nI_1 k) (ih n (k + 1) _ (by omega) (by omega) ?_))⟩
    intro j hj'
    by_cases z : j = k
    · subst z; exact pk_us
    · rw [pk_un z]; exact hj j (by omega)
theorem fd_unm {post : Int32 → SX → Prop} {ng nt : Nat} (hng : ng ≤ 20) (hnt : nt ≤ 24)
    (h : ∀ (c : Nat) (e : Int32) (rf li to go : Nat → Int32), c ≤ nt → (∀ x, fd_mk (fun t g => ng ≤ g ∨ fd_R a_takerSet a_takerTime a_giverSet a_giverTime t g) (fun _ => True) (List.range nt) (List.range (ng + x)) ↔ c ≤ x) → post (nI c) (f_capacity, f_present, nI nt, nI ng, e, f_planKnown, a_pickSet, a_pickTime, a_backSet, a_backTime, a_stocks, a_askPick, a_askBack, a_takerSet, a_takerTime, a_giverSet, a_giverTime, to, rf, go, li, a_planPick, a_planBack)) :
    wpX_unmatched post (f_capacity, f_present, nI nt, nI ng, f_lineEnd, f_planKnown, a_pickSet, a_pickTime, a_backSet, a_backTime, a_stocks, a_askPick, a_askBack, a_takerSet, a_takerTime, a_giverSet, a_giverTime, a_takerOf, a_reachedFrom, a_giverOf, a_line, a_planPick, a_planBack) :=
  ⟨ng + 1, fd_unm2 hng hnt h ng (ng + 1) 0 a_takerOf (by omega) (by omega) (fun t ht => by omega)⟩
end
/-- two arrays hold a list of pairs -/
def fd_HL (s t : Nat → Int32) (l : List (Nat × Nat)) : Prop := ∀ i, i < l.length → s i = nI (l.getD i (0, 0)).1 ∧ t i = nI (l.getD i (0, 0)).2
theorem fd_hl0 {s t : Nat → Int32} : fd_HL s t [] := fun i h => absurd h (by simp)
theorem fd_hl1 {s t : Nat → Int32} {l : List (Nat × Nat)} {a b : Nat} (h : fd_HL s t l) : fd_HL (upd s l.length (nI a)) (upd t l.length (nI b)) (l ++ [(a, b)]) := by
  intro i hi
  rw [List.length_append, List.length_singleton] at hi
  by_cases z : i = l.length
  · subst z
    rw [pk_us, pk_us, List.getD_eq_getElem?_getD, List.getElem?_append_right (Nat.le_refl _)]
    simp
  · rw [pk_un z, pk_un z, List.getD_eq_getElem?_getD, List.getElem?_append_left (by omega), ← List.getD_eq_getElem?_getD]
    exact h i (by omega)
def fd_fw (on : Nat → Bool) (f : Nat → Nat × Nat) : Nat → List (Nat × Nat)
  | 0 => []
  | j + 1 => if on j = true then fd_fw on f j ++ [f j] else fd_fw on f j
theorem fd_bfp (on : Nat → Bool) (f : Nat → Nat × Nat) : ∀ j, (fd_fw on f j).Perm (fd_bl on f j)
  | 0 => List.Perm.refl _
  | j + 1 => by
    have ih := fd_bfp on f j
    simp only [fd_fw, fd_bl]
    by_cases a : on j = true
    · rw [if_pos a, if_pos a]
      exact (List.perm_append_singleton _ _).trans (ih.cons _)
    · rw [if_neg a, if_neg a]; exact ih
theorem fd_bfl (on : Nat → Bool) (f : Nat → Nat × Nat) : ∀ j, (fd_fw on f j).length ≤ j
  | 0 => Nat.le_refl _
  | j + 1 => by
    have ih := fd_bfl on f j
    simp only [fd_fw]
    by_cases a : on j = true
    · rw [if_pos a, List.length_append, List.length_singleton]; omega
    · rw [if_neg a]; omega
theorem fd_bll (on : Nat → Bool) (f : Nat → Nat × Nat) {a : Nat} : ∀ {b : Nat}, a ≤ b → (∀ j, a ≤ j → j < b → on j = false) → fd_bl on f b = fd_bl on f a := by
  intro b
  induction b with
  | zero => intro h _; rw [Nat.le_zero.mp h]
  | succ b ih =>
    intro h hz
    by_cases e : a = b + 1
    · rw [e]
    · have : on b = false := hz b (by omega) (by omega)
      rw [← ih (by omega) (fun j h1 h2 => hz j h1 (by omega))]
      simp only [fd_bl]
      rw [if_neg (by rw [this]; decide)]
section
variable {f_capacity f_present f_takers f_givers f_lineEnd f_planKnown : Int32} {a_pickSet a_pickTime a_backSet a_backTime a_stocks a_askPick a_askBack a_takerSet a_takerTime a_giverSet a_giverTime a_takerOf a_reachedFrom a_giverOf a_line a_planPick a_planBack : Nat → Int32}
theorem fd_addG {post : SX → Prop} {G : List (Nat × Nat)} {a b : Nat} (hl : G.length < 24) (ha : a < 128) (hb : b < 128) (hG : fd_HL a_giverSet a_giverTime G)
    (h : ∀ gs gt : Nat → Int32, fd_HL gs gt (G ++ [(a, b)]) → post (f_capacity, f_present, f_takers, nI (G ++ [(a, b)]).length, f_lineEnd, f_planKnown, a_pickSet, a_pickTime, a_backSet, a_backTime, a_stocks, a_askPick, a_askBack, a_takerSet, a_takerTime, gs, gt, a_takerOf, a_reachedFrom, a_giverOf, a_line, a_planPick, a_planBack)) : wpX_addGiver post (f_capacity, f_present, f_takers, nI G.length, f_lineEnd, f_planKnown, a_pickSet, a_pickTime, a_backSet, a_backTime, a_stocks, a_askPick, a_askBack, a_takerSet, a_takerTime, a_giverSet, a_giverTime, a_takerOf, a_reachedFrom, a_giverOf, a_line, a_planPick, a_planBack) (nI a) (nI b) := by
  have c : (nI G.length).toNatClampNeg = G.length := nI_clamp (by omega)
  have v : vp_in (nI G.length) 24 := vp_in_nI hl (by omega)
  have h' := h _ _ (fd_hl1 (a := a) (b := b) hG)
  rw [List.length_append, List.length_singleton] at h'
  unfold wpX_addGiver
  dsimp only
  rw [c, fd_byte2 ha, fd_byte2 hb]
  exact br_f (nI_ge (b := 24) hl (by decide)) ⟨v, nm_e ⟨v, nm_e (nm_r (nI_1 _) h')⟩⟩
theorem fd_addT {post : SX → Prop} {G : List (Nat × Nat)} {a b : Nat} (hl : G.length < 24) (ha : a < 128) (hb : b < 128) (hG : fd_HL a_takerSet a_takerTime G)
    (h : ∀ gs gt : Nat → Int32, fd_HL gs gt (G ++ [(a, b)]) → post (f_capacity, f_present, nI (G ++ [(a, b)]).length, f_givers, f_lineEnd, f_planKnown, a_pickSet, a_pickTime, a_backSet, a_backTime, a_stocks, a_askPick, a_askBack, gs, gt, a_giverSet, a_giverTime, a_takerOf, a_reachedFrom, a_giverOf, a_line, a_planPick, a_planBack)) : wpX_addTaker post (f_capacity, f_present, nI G.length, f_givers, f_lineEnd, f_planKnown, a_pickSet, a_pickTime, a_backSet, a_backTime, a_stocks, a_askPick, a_askBack, a_takerSet, a_takerTime, a_giverSet, a_giverTime, a_takerOf, a_reachedFrom, a_giverOf, a_line, a_planPick, a_planBack) (nI a) (nI b) := by
  have c : (nI G.length).toNatClampNeg = G.length := nI_clamp (by omega)
  have v : vp_in (nI G.length) 24 := vp_in_nI hl (by omega)
  have h' := h _ _ (fd_hl1 (a := a) (b := b) hG)
  rw [List.length_append, List.length_singleton] at h'
  unfold wpX_addTaker
  dsimp only
  rw [c, fd_byte2 ha, fd_byte2 hb]
  exact br_f (nI_ge (b := 24) hl (by decide)) ⟨v, nm_e ⟨v, nm_e (nm_r (nI_1 _) h')⟩⟩
theorem fd_gat19 {post : SX → Prop} {J : _} {s k : Nat} (hs : s < 4) (hst : a_stocks s = nI k) (hk : k ≤ 3) : 
    ∀ (d n x : Nat) (G : List (Nat × Nat)) (gs gt : Nat → Int32), x + d = k → d < n → fd_HL gs gt G → G.length + d ≤ 24 →
    (∀ gs gt : Nat → Int32, fd_HL gs gt (G ++ List.replicate d (2 ^ s, 0)) → J (nI (s + 1)) f_capacity f_present f_takers (nI (G ++ List.replicate d (2 ^ s, 0)).length) f_lineEnd f_planKnown a_pickSet a_pickTime a_backSet a_backTime a_stocks a_askPick a_askBack a_takerSet a_takerTime gs gt a_takerOf a_reachedFrom a_giverOf a_line a_planPick a_planBack) →
    wX_gather_19 post J (nI s) n (nI x) f_capacity f_present f_takers (nI G.length) f_lineEnd f_planKnown a_pickSet a_pickTime a_backSet a_backTime a_stocks a_askPick a_askBack a_takerSet a_takerTime gs gt a_takerOf a_reachedFrom a_giverOf a_line a_planPick a_planBack := by
  have cs : (nI s).toNatClampNeg = s := nI_clamp (by omega)
  have vs : vp_in (nI s) 4 := vp_in_nI hs (by omega)
  intro d
  induction d with
  | zero =>
    intro n x G gs gt hd hn hG hl h
    obtain ⟨n, rfl⟩ : ∃ m, n = m + 1 := ⟨n - 1, by omega⟩
    have h' := h gs gt (by rw [List.replicate_zero, List.append_nil]; exact hG)
    rw [List.replicate_zero, List.append_nil] at h'
    rw [wX_gather_19]
    refine ⟨vs, ?_⟩
    rw [cs, hst]
    exact br_t (nI_le (by omega) (by omega)) (nm_r (nI_1 s) h')
  | succ d ih =>
    intro n x G gs gt hd hn hG hl h
    obtain ⟨n, rfl⟩ : ∃ m, n = m + 1 := ⟨n - 1, by omega⟩
    have p : 2 ^ s < 128 := by
      have : 2 ^ s ≤ 2 ^ 4 := Nat.pow_le_pow_right (by omega) (by omega)
      omega
    rw [wX_gather_19]
    refine ⟨vs, ?_⟩
    rw [cs, hst, fd_one s (by omega)]
    refine br_f (nI_ge (by omega) (by omega)) (fd_addG (b := 0) (by omega) p (by omega) hG (fun gs' gt' hG' => nm_r (nI_1 x) (ih n (x + 1) _ gs' gt' (by omega) (by omega) hG' (by rw [List.length_append, List.length_singleton]; omega) (fun gs2 gt2 hG2 => ?_))))
    have e : G ++ [(2 ^ s, 0)] ++ List.replicate d (2 ^ s, 0) = G ++ List.replicate (d + 1) (2 ^ s, 0) := by
      rw [List.append_assoc]; rfl
    rw [e] at hG2 ⊢
    exact h gs2 gt2 hG2
theorem fd_gat12 {post : SX → Prop} {n s k : Nat} {G : List (Nat × Nat)} (hs : s < 4) (hst : a_stocks s = nI k) (hk : k ≤ 3) (hG : fd_HL a_giverSet a_giverTime G) (hl : G.length + k ≤ 24)
    (h : ∀ gs gt : Nat → Int32, fd_HL gs gt (G ++ List.replicate k (2 ^ s, 0)) → wX_gather_12 post n (nI (s + 1)) f_capacity f_present f_takers (nI (G ++ List.replicate k (2 ^ s, 0)).length) f_lineEnd f_planKnown a_pickSet a_pickTime a_backSet a_backTime a_stocks a_askPick a_askBack a_takerSet a_takerTime gs gt a_takerOf a_reachedFrom a_giverOf a_line a_planPick a_planBack) : wX_gather_12 post (n + 1) (nI s) f_capacity f_present f_takers (nI G.length) f_lineEnd f_planKnown a_pickSet a_pickTime a_backSet a_backTime a_stocks a_askPick a_askBack a_takerSet a_takerTime a_giverSet a_giverTime a_takerOf a_reachedFrom a_giverOf a_line a_planPick a_planBack := by
  rw [wX_gather_12]
  exact br_f (nI_ge (b := 4) hs (by decide)) ⟨k + 1, fd_gat19 hs hst hk k (k + 1) 0 G _ _ (by omega) (by omega) hG hl h⟩
theorem fd_gat51 {post : SX → Prop} {cap p : Nat} {fb fp : Nat → Nat × Nat} {G0 : List (Nat × Nat)} (hcap : cap ≤ 5) (hp : p < 32) (hl : G0.length ≤ 12)
    (hq : ∀ i, i < cap → p.testBit i = true → (a_askPick i = nI (fp i).1 ∧ a_pickTime i = nI (fp i).2 ∧ a_askBack i = nI (fb i).1 ∧ a_backTime i = nI (fb i).2) ∧ (fp i).1 < 128 ∧ (fp i).2 < 128 ∧ (fb i).1 < 128 ∧ (fb i).2 < 128)
    (h : ∀ gs gt ts tt : Nat → Int32, fd_HL gs gt (G0 ++ fd_fw p.testBit fb cap) → fd_HL ts tt (fd_fw p.testBit fp cap) → post (nI cap, nI p, nI (fd_fw p.testBit fp cap).length, nI (G0 ++ fd_fw p.testBit fb cap).length, f_lineEnd, f_planKnown, a_pickSet, a_pickTime, a_backSet, a_backTime, a_stocks, a_askPick, a_askBack, ts, tt, gs, gt, a_takerOf, a_reachedFrom, a_giverOf, a_line, a_planPick, a_planBack)) :
    ∀ (d n i : Nat) (gs gt ts tt : Nat → Int32), i + d = cap → d < n → fd_HL gs gt (G0 ++ fd_fw p.testBit fb i) → fd_HL ts tt (fd_fw p.testBit fp i) →
    wX_gather_51 post n (nI i) (nI cap) (nI p) (nI (fd_fw p.testBit fp i).length) (nI (G0 ++ fd_fw p.testBit fb i).length) f_lineEnd f_planKnown a_pickSet a_pickTime a_backSet a_backTime a_stocks a_askPick a_askBack ts tt gs gt a_takerOf a_reachedFrom a_giverOf a_line a_planPick a_planBack := by
  intro d
  induction d with
  | zero =>
    intro n i gs gt ts tt hd hn h1 h2
    obtain ⟨n, rfl⟩ : ∃ m, n = m + 1 := ⟨n - 1, by omega⟩
    have : i = cap := by omega
    subst this
    rw [wX_gather_51]
    exact br_t (nI_le (Nat.le_refl _) (by omega)) (h gs gt ts tt h1 h2)
  | succ d ih =>
    intro n i gs gt ts tt hd hn h1 h2
    obtain ⟨n, rfl⟩ : ∃ m, n = m + 1 := ⟨n - 1, by omega⟩
    have ci : (nI i).toNatClampNeg = i := nI_clamp (by omega)
    have vi : vp_in (nI i) 8 := vp_in_nI (by omega) (by omega)
    have lp := fd_bfl p.testBit fp i
    have lb := fd_bfl p.testBit fb i
    rw [wX_gather_51]
    by_cases b : p.testBit i = true
    · obtain ⟨⟨q1, q2, q3, q4⟩, q5, q6, q7, q8⟩ := hq i (by omega) b
      have e1 : fd_fw p.testBit fb (i + 1) = fd_fw p.testBit fb i ++ [((fb i).1, (fb i).2)] := by simp only [fd_fw]; rw [if_pos b]
      have e2 : fd_fw p.testBit fp (i + 1) = fd_fw p.testBit fp i ++ [((fp i).1, (fp i).2)] := by simp only [fd_fw]; rw [if_pos b]
      have hb : ¬ ((nI p >>> (nI i &&& 31)) &&& 1) = 0 := by rw [fd_bit5 p hp i (by omega), if_pos b]; decide
      refine br_f (nI_ge (by omega) (by omega)) (br_f hb ⟨vi, vi, ?_⟩)
      rw [ci, q3, q4]
      refine fd_addG (by rw [List.length_append]; omega) q7 q8 h1 (fun gs' gt' h1' => ⟨vi, vi, ?_⟩)
      rw [q1, q2]
      refine fd_addT (by omega) q5 q6 h2 (fun ts' tt' h2' => nm_r (nI_1 i) ?_)
      rw [List.append_assoc] at h1' ⊢
      have := ih n (i + 1) gs' gt' ts' tt' (by omega) (by omega) (by rw [e1]; exact h1') (by rw [e2]; exact h2')
      rw [e1, e2] at this
      exact this
    · have hb : ((nI p >>> (nI i &&& 31)) &&& 1) = 0 := by rw [fd_bit5 p hp i (by omega), if_neg b]
      have e1 : fd_fw p.testBit fb (i + 1) = fd_fw p.testBit fb i := by simp only [fd_fw]; rw [if_neg b]
      have e2 : fd_fw p.testBit fp (i + 1) = fd_fw p.testBit fp i := by simp only [fd_fw]; rw [if_neg b]
      have := ih n (i + 1) gs gt ts tt (by omega) (by omega) (by rw [e1]; exact h1) (by rw [e2]; exact h2)
      rw [e1, e2] at this
      exact br_f (nI_ge (by omega) (by omega)) (br_t hb (nm_r (nI_1 i) this))
end
end
section
/-! X's answer to a question -/
def fd_XQ (cap p : Nat) (st : Nat → Nat) (fb fp : Nat → Nat × Nat) (stocks askPick pickTime askBack backTime : Nat → Int32) : Prop :=
  cap ≤ 5 ∧ p < 2 ^ cap ∧ (∀ s, s < 4 → stocks s = nI (st s) ∧ st s ≤ 3) ∧ (∀ i, i < cap → p.testBit i = true → askPick i = nI (fp i).1 ∧ pickTime i = nI (fp i).2 ∧ askBack i = nI (fb i).1 ∧ backTime i = nI (fb i).2) ∧ fd_ok p.testBit fb ∧ fd_ok p.testBit fp
theorem fd_p32 {cap p : Nat} (h : cap ≤ 5) (hp : p < 2 ^ cap) : p < 32 := by
  have : 2 ^ cap ≤ 2 ^ 5 := Nat.pow_le_pow_right (by omega) h
  omega
theorem fd_poff {cap p j : Nat} (hp : p < 2 ^ cap) (h : cap ≤ j) : p.testBit j = false := by
  apply Nat.testBit_lt_two_pow
  have : 2 ^ cap ≤ 2 ^ j := Nat.pow_le_pow_right (by omega) h
  omega
theorem fd_bits15 : ∀ s, s < 4 → (15 : Nat).testBit s = true := by decide
theorem fd_bfm {on : Nat → Bool} {f : Nat → Nat × Nat} {n : Nat} {p : Nat × Nat} (h : p ∈ fd_fw on f n) : ∃ j, j < n ∧ on j = true ∧ p = f j :=
  fd_blm ((fd_bfp on f n).mem_iff.mp h)
theorem fd_askX {cap p : Nat} {st : Nat → Nat} {fb fp : Nat → Nat × Nat} {X : List (Nat × Nat)} {e : Nat} (hc : cap ≤ 5) (hp : p < 2 ^ cap) :
    fd_mk fd_sut (fun _ => True) (fd_fw p.testBit fp cap ++ X) ((fd_stk st ++ fd_fw p.testBit fb cap) ++ List.replicate e (15, 0)) ↔ fd_ask p.testBit fb fp st X e := by
  have h : ∀ f : Nat → Nat × Nat, (fd_fw p.testBit f cap).Perm (fd_bl p.testBit f 6) := by
    intro f
    rw [fd_bll p.testBit f (a := cap) (b := 6) (by omega) (fun j h1 _ => fd_poff hp h1)]
    exact fd_bfp _ _ _
  exact fd_permI fd_pit (List.perm_append_comm.trans ((h fp).append_left _)) (((h fb).append_left _).append_right _)
section
variable {f_capacity f_present f_takers f_givers f_lineEnd f_planKnown : Int32} {a_pickSet a_pickTime a_backSet a_backTime a_stocks a_askPick a_askBack a_takerSet a_takerTime a_giverSet a_giverTime a_takerOf a_reachedFrom a_giverOf a_line a_planPick a_planBack : Nat → Int32}
theorem fd_gather {post : SX → Prop} {cap p : Nat} {st : Nat → Nat} {fb fp : Nat → Nat × Nat} (hQ : fd_XQ cap p st fb fp a_stocks a_askPick a_pickTime a_askBack a_backTime)
    (h : ∀ (G T : List (Nat × Nat)) (gs gt ts tt : Nat → Int32), fd_HL gs gt G → fd_HL ts tt T → G = fd_stk st ++ fd_fw p.testBit fb cap → T = fd_fw p.testBit fp cap → post (nI cap, nI p, nI T.length, nI G.length, f_lineEnd, f_planKnown, a_pickSet, a_pickTime, a_backSet, a_backTime, a_stocks, a_askPick, a_askBack, ts, tt, gs, gt, a_takerOf, a_reachedFrom, a_giverOf, a_line, a_planPick, a_planBack)) :
    wpX_gather post (nI cap, nI p, f_takers, f_givers, f_lineEnd, f_planKnown, a_pickSet, a_pickTime, a_backSet, a_backTime, a_stocks, a_askPick, a_askBack, a_takerSet, a_takerTime, a_giverSet, a_giverTime, a_takerOf, a_reachedFrom, a_giverOf, a_line, a_planPick, a_planBack) := by
  obtain ⟨q1, q2, q3, q4, q5, q6⟩ := hQ
  have s0 := q3 0 (by omega)
  have s1 := q3 1 (by omega)
  have s2 := q3 2 (by omega)
  have s3 := q3 3 (by omega)
  refine ⟨5, fd_gat12 (s := 0) (G := []) (by omega) s0.1 s0.2 fd_hl0 (by simp; omega) (fun gs0 gt0 h0 => fd_gat12 (s := 1) (by omega) s1.1 s1.2 h0 (by simp; omega) (fun gs1 gt1 h1 => fd_gat12 (s := 2) (by omega) s2.1 s2.2 h1 (by simp; omega) (fun gs2 gt2 h2 => fd_gat12 (s := 3) (by omega) s3.1 s3.2 h2 (by simp; omega) (fun gs3 gt3 h3 => ?_))))⟩
  have e : [] ++ List.replicate (st 0) (2 ^ 0, 0) ++ List.replicate (st 1) (2 ^ 1, 0) ++ List.replicate (st 2) (2 ^ 2, 0) ++ List.replicate (st 3) (2 ^ 3, 0) = fd_stk st := by
    unfold fd_stk
    simp only [List.nil_append, List.append_nil, List.append_assoc]
  rw [e] at h3 ⊢
  rw [wX_gather_12]
  have l : (fd_stk st).length ≤ 12 := by
    rw [← e]; simp; omega
  refine br_t (nI_le (a := 4) (by omega) (by omega)) ⟨cap + 1, ?_⟩
  have := fd_gat51 (post := post) (fb := fb) (fp := fp) (G0 := fd_stk st) q1 (fd_p32 q1 q2) l (fun i hi hb => ⟨q4 i hi hb, ?_⟩) (fun gs gt ts tt a1 a2 => h _ _ gs gt ts tt a1 a2 rfl rfl) cap (cap + 1) 0 gs3 gt3 a_takerSet a_takerTime (by omega) (by omega) (by show fd_HL _ _ (fd_stk st ++ []); rw [List.append_nil]; exact h3) fd_hl0
  · have e2 : fd_stk st ++ fd_fw p.testBit fb 0 = fd_stk st := List.append_nil _
    rw [e2] at this
    exact this
  · have b1 := q5 i (by omega) hb
    have b2 := q6 i (by omega) hb
    omega
theorem fd_unml {post : Int32 → SX → Prop} {G T : List (Nat × Nat)} (hG : fd_HL a_giverSet a_giverTime G) (hT : fd_HL a_takerSet a_takerTime T) (lG : G.length ≤ 20) (lT : T.length ≤ 24)
    (oG : ∀ g, g ∈ G → g.1 < 16 ∧ g.2 ≤ 8) (oT : ∀ t, t ∈ T → t.1 < 16 ∧ t.2 ≤ 8 ∧ ∃ s, s < 4 ∧ t.1.testBit s = true)
    (h : ∀ (c : Nat) (e : Int32) (rf li to go : Nat → Int32), c ≤ T.length → (∀ x, fd_mk fd_sut (fun _ => True) T (G ++ List.replicate x (15, 0)) ↔ c ≤ x) → post (nI c) (f_capacity, f_present, nI T.length, nI G.length, e, f_planKnown, a_pickSet, a_pickTime, a_backSet, a_backTime, a_stocks, a_askPick, a_askBack, a_takerSet, a_takerTime, a_giverSet, a_giverTime, to, rf, go, li, a_planPick, a_planBack)) :
    wpX_unmatched post (f_capacity, f_present, nI T.length, nI G.length, f_lineEnd, f_planKnown, a_pickSet, a_pickTime, a_backSet, a_backTime, a_stocks, a_askPick, a_askBack, a_takerSet, a_takerTime, a_giverSet, a_giverTime, a_takerOf, a_reachedFrom, a_giverOf, a_line, a_planPick, a_planBack) := by
  refine fd_unm lG lT (fun c e rf li to go h1 h2 => h c e rf li to go h1 (fun x => ?_))
  rw [← h2 x]
  refine fd_val (fun t ht => ?_) (fun t g ht hg => ?_) x
  · obtain ⟨_, _, s, h3, h4⟩ := oT t ht
    exact ⟨Nat.zero_le _, s, h3, fd_bits15 s h3, h4⟩
  · have a1 := hT t ht
    have a2 := hG g hg
    have b1 := oT _ (fd_mem (0, 0) ht)
    have b2 := oG _ (fd_mem (0, 0) hg)
    unfold fd_R fd_sut
    rw [a1.1, a1.2, a2.1, a2.2, nI_ltI (by omega) (by omega), fd_and _ b2.1 _ b1.1, Classical.not_not]
    exact ⟨fun z => ⟨by omega, z.2⟩, fun z => ⟨by have := z.1; omega, z.2⟩⟩
/-- takers and givers of a question with takers added: what unmatched answers -/
theorem fd_unmq {post : Int32 → SX → Prop} {cap p : Nat} {st : Nat → Nat} {fb fp : Nat → Nat × Nat} {G T X : List (Nat × Nat)} (q1 : cap ≤ 5) (q2 : p < 2 ^ cap) (q3 : ∀ s, s < 4 → st s ≤ 3) (q5 : fd_ok p.testBit fb) (q6 : fd_ok p.testBit fp)
    (hG : fd_HL a_giverSet a_giverTime G) (hT : fd_HL a_takerSet a_takerTime T) (eG : G = fd_stk st ++ fd_fw p.testBit fb cap) (eT : T = fd_fw p.testBit fp cap ++ X) (lX : X.length ≤ 19) (oX : ∀ t, t ∈ X → t.1 < 16 ∧ t.2 ≤ 8 ∧ ∃ s, s < 4 ∧ t.1.testBit s = true)
    (h : ∀ (c : Nat) (e : Int32) (rf li to go : Nat → Int32), (∀ x, fd_ask p.testBit fb fp st X x ↔ c ≤ x) → c ≤ 24 → post (nI c) (f_capacity, f_present, nI T.length, nI G.length, e, f_planKnown, a_pickSet, a_pickTime, a_backSet, a_backTime, a_stocks, a_askPick, a_askBack, a_takerSet, a_takerTime, a_giverSet, a_giverTime, to, rf, go, li, a_planPick, a_planBack)) :
    wpX_unmatched post (f_capacity, f_present, nI T.length, nI G.length, f_lineEnd, f_planKnown, a_pickSet, a_pickTime, a_backSet, a_backTime, a_stocks, a_askPick, a_askBack, a_takerSet, a_takerTime, a_giverSet, a_giverTime, a_takerOf, a_reachedFrom, a_giverOf, a_line, a_planPick, a_planBack) := by
  have l1 := fd_bfl p.testBit fb cap
  have l2 := fd_bfl p.testBit fp cap
  have s0 := q3 0 (by omega)
  have s1 := q3 1 (by omega)
  have s2 := q3 2 (by omega)
  have s3 := q3 3 (by omega)
  have lG : G.length ≤ 20 := by
    rw [eG, List.length_append]
    unfold fd_stk
    simp only [List.length_append, List.length_replicate, List.length_nil]
    omega
  have lT : T.length ≤ 24 := by
    rw [eT, List.length_append]; omega
  refine fd_unml hG hT lG lT (fun g hg => ?_) (fun t ht => ?_) (fun c e rf li to go h1 h2 => h c e rf li to go (fun x => ?_) (by omega))
  · rw [eG, List.mem_append] at hg
    rcases hg with hg | hg
    · obtain ⟨s, k1, k2⟩ := fd_stkm hg
      have : 2 ^ s < 2 ^ 4 := Nat.pow_lt_pow_right (by omega) k1
      rw [k2]
      exact ⟨this, Nat.zero_le _⟩
    · obtain ⟨j, k1, k2, k3⟩ := fd_bfm hg
      rw [k3]
      have := q5 j (by omega) k2
      exact ⟨this.2.1, this.1⟩
  · rw [eT, List.mem_append] at ht
    rcases ht with ht | ht
    · obtain ⟨j, k1, k2, k3⟩ := fd_bfm ht
      rw [k3]
      have := q6 j (by omega) k2
      exact ⟨this.2.1, this.1, this.2.2⟩
    · exact oX t ht
  · rw [← h2 x, eG, eT, fd_askX q1 q2]
theorem fd_missing {post : Int32 → SX → Prop} {cap p : Nat} {st : Nat → Nat} {fb fp : Nat → Nat × Nat} (hQ : fd_XQ cap p st fb fp a_stocks a_askPick a_pickTime a_askBack a_backTime)
    (h : ∀ (c : Nat) (tk gv le : Int32) (ts tt gz gw to rf go li : Nat → Int32), (∀ x, fd_ask p.testBit fb fp st [] x ↔ c ≤ x) → c ≤ 24 → post (nI c) (nI cap, nI p, tk, gv, le, f_planKnown, a_pickSet, a_pickTime, a_backSet, a_backTime, a_stocks, a_askPick, a_askBack, ts, tt, gz, gw, to, rf, go, li, a_planPick, a_planBack)) :
    wpX_missing post (nI cap, nI p, f_takers, f_givers, f_lineEnd, f_planKnown, a_pickSet, a_pickTime, a_backSet, a_backTime, a_stocks, a_askPick, a_askBack, a_takerSet, a_takerTime, a_giverSet, a_giverTime, a_takerOf, a_reachedFrom, a_giverOf, a_line, a_planPick, a_planBack) := by
  unfold wpX_missing
  dsimp only
  refine fd_gather hQ (fun G T gs gt ts tt hG hT eG eT => ?_)
  obtain ⟨q1, q2, q3, q4, q5, q6⟩ := hQ
  exact fd_unmq (X := []) q1 q2 (fun s hs => (q3 s hs).2) q5 q6 hG hT eG (by rw [List.append_nil]; exact eT) (by simp) (fun t ht => absurd ht (by simp)) (fun c e rf li to go h1 h2 => h c _ _ e ts tt gs gt to rf go li h1 h2)
theorem fd_askP2 {post : SX → Prop} {cap : Nat} (hcap : cap ≤ 5) (h : ∀ ap ab : Nat → Int32, (∀ i, i < cap → ap i = vp_nar .byte (a_pickSet i) ∧ ab i = vp_nar .byte (a_backSet i)) → post (nI cap, f_present, f_takers, f_givers, f_lineEnd, f_planKnown, a_pickSet, a_pickTime, a_backSet, a_backTime, a_stocks, ap, ab, a_takerSet, a_takerTime, a_giverSet, a_giverTime, a_takerOf, a_reachedFrom, a_giverOf, a_line, a_planPick, a_planBack)) :
    ∀ (d n i : Nat) (ap ab : Nat → Int32), i + d = cap → d < n → (∀ j, j < i → ap j = vp_nar .byte (a_pickSet j) ∧ ab j = vp_nar .byte (a_backSet j)) →
    wX_askPlainly_2 post (nI cap) f_present f_takers f_givers f_lineEnd f_planKnown n (nI i) a_pickSet a_pickTime a_backSet a_backTime a_stocks ap ab a_takerSet a_takerTime a_giverSet a_giverTime a_takerOf a_reachedFrom a_giverOf a_line a_planPick a_planBack := by
  intro d
  induction d with
  | zero =>
    intro n i ap ab hd hn hj
    obtain ⟨n, rfl⟩ : ∃ m, n = m + 1 := ⟨n - 1, by omega⟩
    have : i = cap := by omega
    subst this
    rw [wX_askPlainly_2]
    exact br_t (nI_le (Nat.le_refl _) (by omega)) (h ap ab hj)
  | succ d ih =>
    intro n i ap ab hd hn hj
    obtain ⟨n, rfl⟩ : ∃ m, n = m + 1 := ⟨n - 1, by omega⟩
    have ci : (nI i).toNatClampNeg = i := nI_clamp (by omega)
    have vi : vp_in (nI i) 8 := vp_in_nI (by omega) (by omega)
    rw [wX_askPlainly_2]
    refine br_f (nI_ge (by omega) (by omega)) ⟨vi, vi, nm_r (e' := upd ap i (vp_nar .byte (a_pickSet i))) (by rw [ci]) ⟨vi, vi, nm_r (e' := upd ab i (vp_nar .byte (a_backSet i))) (by rw [ci]) (nm_r (nI_1 i) (ih n (i + 1) _ _ (by omega) (by omega) ?_))⟩⟩
    intro j hj'
    by_cases z : j = i
    · subst z; exact ⟨pk_us, pk_us⟩
    · rw [pk_un z, pk_un z]; exact hj j (by omega)
theorem fd_askP {post : SX → Prop} {cap : Nat} (hcap : cap ≤ 5) (h : ∀ ap ab : Nat → Int32, (∀ i, i < cap → ap i = vp_nar .byte (a_pickSet i) ∧ ab i = vp_nar .byte (a_backSet i)) → post (nI cap, f_present, f_takers, f_givers, f_lineEnd, f_planKnown, a_pickSet, a_pickTime, a_backSet, a_backTime, a_stocks, ap, ab, a_takerSet, a_takerTime, a_giverSet, a_giverTime, a_takerOf, a_reachedFrom, a_giverOf, a_line, a_planPick, a_planBack)) : wpX_askPlainly post (nI cap, f_present, f_takers, f_givers, f_lineEnd, f_planKnown, a_pickSet, a_pickTime, a_backSet, a_backTime, a_stocks, a_askPick, a_askBack, a_takerSet, a_takerTime, a_giverSet, a_giverTime, a_takerOf, a_reachedFrom, a_giverOf, a_line, a_planPick, a_planBack) :=
  ⟨cap + 1, fd_askP2 hcap h cap (cap + 1) 0 _ _ (by omega) (by omega) (fun j hj => by omega)⟩
end
end
section
/-! Y's spreads as an array -/
def fd_key (v : Nat → Nat) : Nat := v 0 + 18 * v 1 + 324 * v 2
def fd_sum (v : Nat → Nat) : Nat := v 0 + v 1 + v 2 + v 3
def fd_un (s : Nat) : Nat := if s = 0 then 1 else if s = 1 then 18 else if s = 2 then 324 else 0
def fd_le (B : Nat) (v : Nat → Nat) : Prop := v 0 ≤ B ∧ v 1 ≤ B ∧ v 2 ≤ B ∧ v 3 ≤ B
theorem fd_c4 {P : Nat → Prop} (h0 : P 0) (h1 : P 1) (h2 : P 2) (h3 : P 3) : ∀ s, s < 4 → P s := by
  intro s hs
  match s, hs with
  | 0, _ => exact h0
  | 1, _ => exact h1
  | 2, _ => exact h2
  | 3, _ => exact h3
theorem fd_inc0 (v : Nat → Nat) : fd_inc 0 v 0 = v 0 + 1 ∧ fd_inc 0 v 1 = v 1 ∧ fd_inc 0 v 2 = v 2 ∧ fd_inc 0 v 3 = v 3 := ⟨rfl, rfl, rfl, rfl⟩
theorem fd_inc1 (v : Nat → Nat) : fd_inc 1 v 0 = v 0 ∧ fd_inc 1 v 1 = v 1 + 1 ∧ fd_inc 1 v 2 = v 2 ∧ fd_inc 1 v 3 = v 3 := ⟨rfl, rfl, rfl, rfl⟩
theorem fd_incB (v : Nat → Nat) : fd_inc 2 v 0 = v 0 ∧ fd_inc 2 v 1 = v 1 ∧ fd_inc 2 v 2 = v 2 + 1 ∧ fd_inc 2 v 3 = v 3 := ⟨rfl, rfl, rfl, rfl⟩
theorem fd_incC (v : Nat → Nat) : fd_inc 3 v 0 = v 0 ∧ fd_inc 3 v 1 = v 1 ∧ fd_inc 3 v 2 = v 2 ∧ fd_inc 3 v 3 = v 3 + 1 := ⟨rfl, rfl, rfl, rfl⟩
theorem fd_keyi (v : Nat → Nat) : ∀ s, s < 4 → fd_key (fd_inc s v) = fd_key v + fd_un s := by
  have a := fd_inc0 v
  have b := fd_inc1 v
  have c := fd_incB v
  have d := fd_incC v
  refine fd_c4 ?_ ?_ ?_ ?_
  · show fd_inc 0 v 0 + 18 * fd_inc 0 v 1 + 324 * fd_inc 0 v 2 = v 0 + 18 * v 1 + 324 * v 2 + 1; omega
  · show fd_inc 1 v 0 + 18 * fd_inc 1 v 1 + 324 * fd_inc 1 v 2 = v 0 + 18 * v 1 + 324 * v 2 + 18; omega
  · show fd_inc 2 v 0 + 18 * fd_inc 2 v 1 + 324 * fd_inc 2 v 2 = v 0 + 18 * v 1 + 324 * v 2 + 324; omega
  · show fd_inc 3 v 0 + 18 * fd_inc 3 v 1 + 324 * fd_inc 3 v 2 = v 0 + 18 * v 1 + 324 * v 2 + 0; omega
theorem fd_sumi (v : Nat → Nat) : ∀ s, s < 4 → fd_sum (fd_inc s v) = fd_sum v + 1 := by
  have a := fd_inc0 v
  have b := fd_inc1 v
  have c := fd_incB v
  have d := fd_incC v
  refine fd_c4 ?_ ?_ ?_ ?_
  · show fd_inc 0 v 0 + fd_inc 0 v 1 + fd_inc 0 v 2 + fd_inc 0 v 3 = v 0 + v 1 + v 2 + v 3 + 1; omega
  · show fd_inc 1 v 0 + fd_inc 1 v 1 + fd_inc 1 v 2 + fd_inc 1 v 3 = v 0 + v 1 + v 2 + v 3 + 1; omega
  · show fd_inc 2 v 0 + fd_inc 2 v 1 + fd_inc 2 v 2 + fd_inc 2 v 3 = v 0 + v 1 + v 2 + v 3 + 1; omega
  · show fd_inc 3 v 0 + fd_inc 3 v 1 + fd_inc 3 v 2 + fd_inc 3 v 3 = v 0 + v 1 + v 2 + v 3 + 1; omega
theorem fd_lei {B : Nat} {v : Nat → Nat} (h : fd_le B v) : ∀ s, s < 4 → fd_le (B + 1) (fd_inc s v) := by
  have a := fd_inc0 v
  have b := fd_inc1 v
  have c := fd_incB v
  have d := fd_incC v
  obtain ⟨h0, h1, h2, h3⟩ := h
  refine fd_c4 ?_ ?_ ?_ ?_
  · refine ⟨?_, ?_, ?_, ?_⟩ <;> omega
  · refine ⟨?_, ?_, ?_, ?_⟩ <;> omega
  · refine ⟨?_, ?_, ?_, ?_⟩ <;> omega
  · refine ⟨?_, ?_, ?_, ?_⟩ <;> omega
theorem fd_ldi {B : Nat} {v : Nat → Nat} : ∀ s, s < 4 → fd_le B (fd_inc s v) → fd_le B v := by
  have a := fd_inc0 v
  have b := fd_inc1 v
  have c := fd_incB v
  have d := fd_incC v
  refine fd_c4 ?_ ?_ ?_ ?_
  · rintro ⟨h0, h1, h2, h3⟩; refine ⟨?_, ?_, ?_, ?_⟩ <;> omega
  · rintro ⟨h0, h1, h2, h3⟩; refine ⟨?_, ?_, ?_, ?_⟩ <;> omega
  · rintro ⟨h0, h1, h2, h3⟩; refine ⟨?_, ?_, ?_, ?_⟩ <;> omega
  · rintro ⟨h0, h1, h2, h3⟩; refine ⟨?_, ?_, ?_, ?_⟩ <;> omega
theorem fd_les {B : Nat} {v : Nat → Nat} (h : fd_le B v) : ∀ s, s < 4 → v s ≤ B := fd_c4 h.1 h.2.1 h.2.2.1 h.2.2.2
theorem fd_keylt {B : Nat} {v : Nat → Nat} (h : fd_le B v) (hB : B ≤ 17) : fd_key v < 5832 := by
  obtain ⟨h0, h1, h2, h3⟩ := h
  unfold fd_key
  omega
theorem fd_same {B : Nat} {v w : Nat → Nat} (hB : B ≤ 17) (hv : fd_le B v) (hw : fd_le B w) (hk : fd_key v = fd_key w) (hs : fd_sum v = fd_sum w) : ∀ s, s < 4 → v s = w s := by
  obtain ⟨h0, h1, h2, h3⟩ := hv
  obtain ⟨k0, k1, k2, k3⟩ := hw
  unfold fd_key at hk
  unfold fd_sum at hs
  refine fd_c4 ?_ ?_ ?_ ?_ <;> omega
/-- the array and the number of vehicles stand for the set P -/
def fd_Rep (B : Nat) (P : (Nat → Nat) → Prop) (tot : Int32) (sp : Nat → Int32) : Prop :=
  (∀ m, m < 5832 → sp m = 0 ∨ sp m = 1) ∧ (∀ v, P v → fd_le B v ∧ tot = nI (fd_sum v)) ∧ (∀ m, m < 5832 → (sp m = 1 ↔ ∃ v, P v ∧ m = fd_key v))
/-- marks above the first bit -/
def fd_MS (sp0 : Nat → Int32) (M : Nat → Prop) (sp : Nat → Int32) : Prop := ∀ m, m < 5832 → (M m → sp m = sp0 m ||| 2) ∧ (¬ M m → sp m = sp0 m)
theorem fd_msc {sp0 sp : Nat → Int32} {M M' : Nat → Prop} (h : fd_MS sp0 M sp) (e : ∀ m, M m ↔ M' m) : fd_MS sp0 M' sp := by
  have : M = M' := funext fun m => propext (e m)
  rw [← this]; exact h
theorem fd_or2 (x : Int32) : (x ||| 2) ||| 2 = x ||| 2 := by
  rw [Int32.or_assoc]; rfl
theorem fd_msm {sp0 sp : Nat → Int32} {M : Nat → Prop} {to : Nat} (ht : to < 5832) (h : fd_MS sp0 M sp) : fd_MS sp0 (fun m => M m ∨ m = to) (upd sp to (sp to ||| 2)) := by
  intro m hm
  have hm' := h m hm
  by_cases z : m = to
  · subst z
    refine ⟨fun _ => ?_, fun n => absurd (Or.inr rfl) n⟩
    rw [pk_us]
    by_cases k : M m
    · rw [hm'.1 k, fd_or2]
    · rw [hm'.2 k]
  · rw [pk_un z]
    exact ⟨fun k => hm'.1 (k.resolve_right z), fun k => hm'.2 (fun k' => k (Or.inl k'))⟩
theorem fd_odd {sp0 sp : Nat → Int32} {M : Nat → Prop} {m : Nat} (h : fd_MS sp0 M sp) (hm : m < 5832) (h1 : sp0 m = 1) : sp m &&& 1 = 1 := by
  by_cases k : M m
  · rw [(h m hm).1 k, h1]; decide
  · rw [(h m hm).2 k, h1]; decide
theorem fd_even {sp0 sp : Nat → Int32} {M : Nat → Prop} {m : Nat} (h : fd_MS sp0 M sp) (hm : m < 5832) (h1 : sp0 m = 0) : ¬ sp m &&& 1 = 1 := by
  by_cases k : M m
  · rw [(h m hm).1 k, h1]; decide
  · rw [(h m hm).2 k, h1]; decide
section
variable {g_most g_extra g_gone g_goneSet g_goneAt g_floorAt g_floorFrom g_floor g_total : Int32} {b_stocks b_held b_picks b_outs b_backs b_homes b_on b_pick b_out b_back b_home b_spread : Nat → Int32}
theorem fd_left {post : Int32 → Prop} {v : Nat → Nat} {s B : Nat} (hs : s < 4) (hB : B ≤ 17) (hv : fd_le B v) (ht : g_total = nI (fd_sum v)) (h : post (nI (v s))) : wpY_left post (g_most, g_extra, g_gone, g_goneSet, g_goneAt, g_floorAt, g_floorFrom, g_floor, g_total, b_stocks, b_held, b_picks, b_outs, b_backs, b_homes, b_on, b_pick, b_out, b_back, b_home, b_spread) (nI (fd_key v)) (nI s) := by
  obtain ⟨h0, h1, h2, h3⟩ := hv
  have kl : fd_key v < 2 ^ 31 := by unfold fd_key; omega
  have r0 : nI (fd_key v) - nI (fd_key v) / 18 * 18 = nI (v 0) := (pk_rem (d := 18) kl (by omega) (by omega)).trans (congrArg nI (by unfold fd_key; omega))
  have d1 : nI (fd_key v) / 18 = nI (fd_key v / 18) := pk_div (d := 18) kl (by omega) (by omega)
  have r1 : nI (fd_key v / 18) - nI (fd_key v / 18) / 18 * 18 = nI (v 1) := (pk_rem (d := 18) (by omega) (by omega) (by omega)).trans (congrArg nI (by unfold fd_key; omega))
  have d2 : nI (fd_key v) / 324 = nI (v 2) := (pk_div (d := 324) kl (by omega) (by omega)).trans (congrArg nI (by unfold fd_key; omega))
  have r3 : ((g_total - nI (v 0)) - nI (v 1)) - nI (v 2) = nI (v 3) := by
    rw [ht, pk_sub (by unfold fd_sum; omega), pk_sub (by unfold fd_sum; omega), pk_sub (by unfold fd_sum; omega)]
    exact congrArg nI (by unfold fd_sum; omega)
  unfold wpY_left
  dsimp only
  rw [r0, d1, r1, d2]
  refine ⟨by decide, nm_e ⟨by decide, by decide, nm_e ⟨by decide, nm_e ?_⟩⟩⟩
  rw [r3]
  match s, hs, h with
  | 0, _, h => exact br_t rfl h
  | 1, _, h => exact br_f (by decide) (br_t rfl h)
  | 2, _, h => exact br_f (by decide) (br_f (by decide) (br_t rfl h))
  | 3, _, h => exact br_f (by decide) (br_f (by decide) (br_f (by decide) h))
theorem fd_unit {post : Int32 → Prop} {s : Nat} (hs : s < 4) (h : post (nI (fd_un s))) : wpY_unit post (g_most, g_extra, g_gone, g_goneSet, g_goneAt, g_floorAt, g_floorFrom, g_floor, g_total, b_stocks, b_held, b_picks, b_outs, b_backs, b_homes, b_on, b_pick, b_out, b_back, b_home, b_spread) (nI s) := by
  unfold wpY_unit
  dsimp only
  match s, hs, h with
  | 0, _, h => exact br_t rfl h
  | 1, _, h => exact br_f (by decide) (br_t rfl h)
  | 2, _, h => exact br_f (by decide) (br_f (by decide) (br_t rfl h))
  | 3, _, h => exact br_f (by decide) (br_f (by decide) (br_f (by decide) h))
theorem fd_settle2 {post : SY → Prop} {sp0 : Nat → Int32} {M : Nat → Prop} (h01 : ∀ m, m < 5832 → sp0 m = 0 ∨ sp0 m = 1) (hM : fd_MS sp0 M b_spread)
    (H : ∀ sp : Nat → Int32, (∀ m, m < 5832 → (M m → sp m = 1) ∧ (¬ M m → sp m = 0)) → post (g_most, g_extra, g_gone, g_goneSet, g_goneAt, g_floorAt, g_floorFrom, g_floor, g_total, b_stocks, b_held, b_picks, b_outs, b_backs, b_homes, b_on, b_pick, b_out, b_back, b_home, sp)) :
    ∀ (d n i : Nat) (sp : Nat → Int32), i + d = 5832 → d < n → (∀ m, m < i → (M m → sp m = 1) ∧ (¬ M m → sp m = 0)) → (∀ m, i ≤ m → sp m = b_spread m) →
    wY_settle_2 post g_most g_extra g_gone g_goneSet g_goneAt g_floorAt g_floorFrom g_floor g_total n (nI i) b_stocks b_held b_picks b_outs b_backs b_homes b_on b_pick b_out b_back b_home sp := by
  intro d
  induction d with
  | zero =>
    intro n i sp hd hn h1 h2
    obtain ⟨n, rfl⟩ : ∃ m, n = m + 1 := ⟨n - 1, by omega⟩
    have : i = 5832 := by omega
    subst this
    rw [wY_settle_2]
    exact br_t (nI_le (Nat.le_refl _) (by omega)) (H sp h1)
  | succ d ih =>
    intro n i sp hd hn h1 h2
    obtain ⟨n, rfl⟩ : ∃ m, n = m + 1 := ⟨n - 1, by omega⟩
    have ci : (nI i).toNatClampNeg = i := nI_clamp (by omega)
    have vi : vp_in (nI i) 5832 := vp_in_nI (by omega) (by omega)
    rw [wY_settle_2]
    refine br_f (nI_ge (b := 5832) (by omega) (by decide)) ⟨vi, vi, nm_r (e' := upd sp i (sp i >>> ((1 : Int32) &&& 31))) (by rw [ci]) (nm_r (nI_1 i) (ih n (i + 1) _ (by omega) (by omega) ?_ ?_))⟩
    · intro m hm
      by_cases z : m = i
      · subst z
        rw [pk_us, h2 m (Nat.le_refl _)]
        have k := hM m (by omega)
        refine ⟨fun w => ?_, fun w => ?_⟩
        · rw [k.1 w]
          rcases h01 m (by omega) with q | q <;> rw [q] <;> decide
        · rw [k.2 w]
          rcases h01 m (by omega) with q | q <;> rw [q] <;> decide
      · rw [pk_un z]; exact h1 m (by omega)
    · intro m hm
      rw [pk_un (by omega)]; exact h2 m (by omega)
theorem fd_settle {post : SY → Prop} {sp0 : Nat → Int32} {M : Nat → Prop} (h01 : ∀ m, m < 5832 → sp0 m = 0 ∨ sp0 m = 1) (hM : fd_MS sp0 M b_spread)
    (H : ∀ sp : Nat → Int32, (∀ m, m < 5832 → (M m → sp m = 1) ∧ (¬ M m → sp m = 0)) → post (g_most, g_extra, g_gone, g_goneSet, g_goneAt, g_floorAt, g_floorFrom, g_floor, g_total, b_stocks, b_held, b_picks, b_outs, b_backs, b_homes, b_on, b_pick, b_out, b_back, b_home, sp)) : wpY_settle post (g_most, g_extra, g_gone, g_goneSet, g_goneAt, g_floorAt, g_floorFrom, g_floor, g_total, b_stocks, b_held, b_picks, b_outs, b_backs, b_homes, b_on, b_pick, b_out, b_back, b_home, b_spread) :=
  ⟨5833, fd_settle2 h01 hM H 5832 5833 0 b_spread (by omega) (by omega) (fun m hm => by omega) (fun _ _ => rfl)⟩
end
end
section
/-! a vehicle comes, a vehicle goes -/
section
variable {g_most g_extra g_gone g_goneSet g_goneAt g_floorAt g_floorFrom g_floor g_total : Int32} {b_stocks b_held b_picks b_outs b_backs b_homes b_on b_pick b_out b_back b_home b_spread : Nat → Int32}
theorem fd_bring53 {post : SY → Prop} {J2 J11 : Int32 → (Nat → Int32) → (Nat → Int32) → (Nat → Int32) → (Nat → Int32) → (Nat → Int32) → (Nat → Int32) → (Nat → Int32) → (Nat → Int32) → (Nat → Int32) → (Nat → Int32) → (Nat → Int32) → (Nat → Int32) → Prop} {x1 : Int32} {K s : Nat} (hs : s < 4) (hk : K + fd_un s < 5832)
    (h : J11 (nI (s + 1)) b_stocks b_held b_picks b_outs b_backs b_homes b_on b_pick b_out b_back b_home (upd b_spread (K + fd_un s) (b_spread (K + fd_un s) ||| 2))) : wY_bring_53 post J2 J11 x1 (nI K) (nI s) g_most g_extra g_gone g_goneSet g_goneAt g_floorAt g_floorFrom g_floor g_total b_stocks b_held b_picks b_outs b_backs b_homes b_on b_pick b_out b_back b_home b_spread := by
  have v : vp_in (nI (K + fd_un s)) 5832 := vp_in_nI hk (by omega)
  have c : (nI (K + fd_un s)).toNatClampNeg = K + fd_un s := nI_clamp (by omega)
  refine fd_unit hs (nm_r (nI_add _ _) ⟨v, v, ?_⟩)
  rw [c]
  exact nm_e (nm_r (nI_1 s) h)
theorem fd_bring11 {post : SY → Prop} {J2 : Int32 → (Nat → Int32) → (Nat → Int32) → (Nat → Int32) → (Nat → Int32) → (Nat → Int32) → (Nat → Int32) → (Nat → Int32) → (Nat → Int32) → (Nat → Int32) → (Nat → Int32) → (Nat → Int32) → (Nat → Int32) → Prop} {set B : Nat} {v : Nat → Nat} {sp0 : Nat → Int32} (hset : set < 16) (hB : B ≤ 16) (hv : fd_le B v) (ht : g_total = nI (fd_sum v)) (h1 : sp0 (fd_key v) = 1) :
    ∀ (d n s : Nat) (sp : Nat → Int32) (M : Nat → Prop), s + d = 4 → d < n → fd_MS sp0 M sp →
    (∀ sp' : Nat → Int32, fd_MS sp0 (fun m => M m ∨ ∃ s', s ≤ s' ∧ s' < 4 ∧ set.testBit s' = true ∧ m = fd_key v + fd_un s') sp' → J2 (nI (fd_key v + 1)) b_stocks b_held b_picks b_outs b_backs b_homes b_on b_pick b_out b_back b_home sp') →
    wY_bring_11 post J2 (nI set) (nI (fd_key v)) g_most g_extra g_gone g_goneSet g_goneAt g_floorAt g_floorFrom g_floor g_total n (nI s) b_stocks b_held b_picks b_outs b_backs b_homes b_on b_pick b_out b_back b_home sp := by
  have kl : fd_key v < 5832 := fd_keylt hv (by omega)
  have ck : (nI (fd_key v)).toNatClampNeg = fd_key v := nI_clamp (by omega)
  have vk : vp_in (nI (fd_key v)) 5832 := vp_in_nI kl (by omega)
  intro d
  induction d with
  | zero =>
    intro n s sp M hd hn hM H
    obtain ⟨n, rfl⟩ : ∃ m, n = m + 1 := ⟨n - 1, by omega⟩
    rw [wY_bring_11]
    refine br_t (nI_le (a := 4) (by omega) (by omega)) (nm_r (nI_1 _) (H sp (fd_msc hM (fun m => ⟨Or.inl, ?_⟩))))
    rintro (w | ⟨s', w1, w2, _⟩)
    · exact w
    · omega
  | succ d ih =>
    intro n s sp M hd hn hM H
    obtain ⟨n, rfl⟩ : ∃ m, n = m + 1 := ⟨n - 1, by omega⟩
    have hs : s < 4 := by omega
    have od : sp (nI (fd_key v)).toNatClampNeg &&& 1 = 1 := by rw [ck]; exact fd_odd hM kl h1
    rw [wY_bring_11]
    refine br_f (nI_ge (b := 4) hs (by decide)) ⟨vk, br_t od ?_⟩
    by_cases b : set.testBit s = true
    · have hbt : ((nI set >>> (nI s &&& 31)) &&& 1) = 1 := by rw [fd_bit set hset s hs, if_pos b]
      have kt : fd_key v + fd_un s < 5832 := by
        rw [← fd_keyi v s hs]; exact fd_keylt (fd_lei hv s hs) (by omega)
      have go : wY_bring_53 post J2 (wY_bring_11 post J2 (nI set) (nI (fd_key v)) g_most g_extra g_gone g_goneSet g_goneAt g_floorAt g_floorFrom g_floor g_total n) (nI set) (nI (fd_key v)) (nI s) g_most g_extra g_gone g_goneSet g_goneAt g_floorAt g_floorFrom g_floor g_total b_stocks b_held b_picks b_outs b_backs b_homes b_on b_pick b_out b_back b_home sp := by
        refine fd_bring53 hs kt (ih n (s + 1) _ (fun m => M m ∨ m = fd_key v + fd_un s) (by omega) (by omega) (fd_msm kt hM) (fun sp' hM' => H sp' (fd_msc hM' (fun m => ⟨?_, ?_⟩))))
        · rintro ((w | w) | ⟨s', w1, w2, w3, w4⟩)
          · exact Or.inl w
          · exact Or.inr ⟨s, Nat.le_refl _, hs, b, w⟩
          · exact Or.inr ⟨s', by omega, w2, w3, w4⟩
        · rintro (w | ⟨s', w1, w2, w3, w4⟩)
          · exact Or.inl (Or.inl w)
          · by_cases z : s' = s
            · subst z; exact Or.inl (Or.inr w4)
            · exact Or.inr ⟨s', by omega, w2, w3, w4⟩
      refine br_t hbt (br_c (fun _ => go) (fun _ => fd_left hs (by omega) hv ht (br_f ?_ go)))
      have := fd_les hv s hs
      exact nI_ge (b := 17) (by omega) (by decide)
    · have hbf : ¬ ((nI set >>> (nI s &&& 31)) &&& 1) = 1 := by rw [fd_bit set hset s hs, if_neg b]; decide
      refine br_f hbf (nm_r (nI_1 s) (ih n (s + 1) sp M (by omega) (by omega) hM (fun sp' hM' => H sp' (fd_msc hM' (fun m => ⟨?_, ?_⟩)))))
      · rintro (w | ⟨s', w1, w2, w3, w4⟩)
        · exact Or.inl w
        · exact Or.inr ⟨s', by omega, w2, w3, w4⟩
      · rintro (w | ⟨s', w1, w2, w3, w4⟩)
        · exact Or.inl w
        · by_cases z : s' = s
          · subst z; exact absurd w3 b
          · exact Or.inr ⟨s', by omega, w2, w3, w4⟩
theorem fd_bring2 {post : SY → Prop} {set B : Nat} {P : (Nat → Nat) → Prop} {sp0 : Nat → Int32} (hset : set < 16) (hB : B ≤ 16) (hR : fd_Rep B P g_total sp0)
    (H : ∀ (tot : Int32) (sp : Nat → Int32), fd_Rep (B + 1) (fd_br set P) tot sp → post (g_most, g_extra, g_gone, g_goneSet, g_goneAt, g_floorAt, g_floorFrom, g_floor, tot, b_stocks, b_held, b_picks, b_outs, b_backs, b_homes, b_on, b_pick, b_out, b_back, b_home, sp)) :
    ∀ (d n K : Nat) (sp : Nat → Int32), K + d = 5832 → d < n → fd_MS sp0 (fun m => ∃ v s, P v ∧ fd_key v < K ∧ s < 4 ∧ set.testBit s = true ∧ m = fd_key v + fd_un s) sp →
    wY_bring_2 post (nI set) g_most g_extra g_gone g_goneSet g_goneAt g_floorAt g_floorFrom g_floor g_total n (nI K) b_stocks b_held b_picks b_outs b_backs b_homes b_on b_pick b_out b_back b_home sp := by
  obtain ⟨r1, r2, r3⟩ := hR
  intro d
  induction d with
  | zero =>
    intro n K sp hd hn hM
    obtain ⟨n, rfl⟩ : ∃ m, n = m + 1 := ⟨n - 1, by omega⟩
    have : K = 5832 := by omega
    subst this
    rw [wY_bring_2]
    refine br_t (nI_le (a := 5832) (by omega) (by omega)) (fd_settle r1 hM (fun sp' h' => nm_e (H _ sp' ⟨?_, ?_, ?_⟩)))
    · intro m hm
      by_cases k : ∃ v s, P v ∧ fd_key v < 5832 ∧ s < 4 ∧ set.testBit s = true ∧ m = fd_key v + fd_un s
      · exact Or.inr ((h' m hm).1 k)
      · exact Or.inl ((h' m hm).2 k)
    · rintro v ⟨s, w, k1, k2, k3, k4⟩
      obtain ⟨a1, a2⟩ := r2 w k4
      rw [k3]
      exact ⟨fd_lei a1 s k1, by rw [fd_sumi w s k1, a2, nI_1]⟩
    · intro m hm
      constructor
      · intro e
        by_cases k : ∃ v s, P v ∧ fd_key v < 5832 ∧ s < 4 ∧ set.testBit s = true ∧ m = fd_key v + fd_un s
        · obtain ⟨v, s, k1, k2, k3, k4, k5⟩ := k
          exact ⟨fd_inc s v, ⟨s, v, k3, k4, rfl, k1⟩, by rw [fd_keyi v s k3]; exact k5⟩
        · rw [(h' m hm).2 k] at e
          exact absurd e (by decide)
      · rintro ⟨v, ⟨s, w, k1, k2, k3, k4⟩, k5⟩
        refine (h' m hm).1 ⟨w, s, k4, fd_keylt (r2 w k4).1 (by omega), k1, k2, ?_⟩
        rw [k5, k3, fd_keyi w s k1]
  | succ d ih =>
    intro n K sp hd hn hM
    obtain ⟨n, rfl⟩ : ∃ m, n = m + 1 := ⟨n - 1, by omega⟩
    have ck : (nI K).toNatClampNeg = K := nI_clamp (by omega)
    have vk : vp_in (nI K) 5832 := vp_in_nI (by omega) (by omega)
    rw [wY_bring_2]
    refine br_f (nI_ge (b := 5832) (by omega) (by decide)) ?_
    rcases r1 K (by omega) with z | z
    · refine ⟨1, ?_⟩
      rw [wY_bring_11]
      refine br_f (by decide) ⟨vk, br_f (by rw [ck]; exact fd_even hM (by omega) z) (nm_r (nI_1 K) (ih n (K + 1) sp (by omega) (by omega) (fd_msc hM (fun m => ⟨?_, ?_⟩))))⟩
      · rintro ⟨v, s, k1, k2, k3, k4, k5⟩
        exact ⟨v, s, k1, by omega, k3, k4, k5⟩
      · rintro ⟨v, s, k1, k2, k3, k4, k5⟩
        refine ⟨v, s, k1, ?_, k3, k4, k5⟩
        have : fd_key v ≠ K := by
          intro e
          have := (r3 K (by omega)).mpr ⟨v, k1, e.symm⟩
          rw [z] at this
          exact absurd this (by decide)
        omega
    · obtain ⟨v, pv, ev⟩ := (r3 K (by omega)).mp z
      subst ev
      obtain ⟨a1, a2⟩ := r2 v pv
      refine ⟨5, fd_bring11 hset hB a1 a2 z 4 5 0 sp _ (by omega) (by omega) hM (fun sp' hM' => ih n _ sp' (by omega) (by omega) (fd_msc hM' (fun m => ⟨?_, ?_⟩)))⟩
      · rintro (⟨w, s, k1, k2, k3, k4, k5⟩ | ⟨s, k1, k2, k3, k4⟩)
        · exact ⟨w, s, k1, by omega, k3, k4, k5⟩
        · exact ⟨v, s, pv, by omega, k2, k3, k4⟩
      · rintro ⟨w, s, k1, k2, k3, k4, k5⟩
        by_cases e : fd_key w = fd_key v
        · exact Or.inr ⟨s, by omega, k3, k4, by rw [← e]; exact k5⟩
        · exact Or.inl ⟨w, s, k1, by omega, k3, k4, k5⟩
theorem fd_bring {post : SY → Prop} {set B : Nat} {P : (Nat → Nat) → Prop} (hset : set < 16) (hB : B ≤ 16) (hR : fd_Rep B P g_total b_spread)
    (H : ∀ (tot : Int32) (sp : Nat → Int32), fd_Rep (B + 1) (fd_br set P) tot sp → post (g_most, g_extra, g_gone, g_goneSet, g_goneAt, g_floorAt, g_floorFrom, g_floor, tot, b_stocks, b_held, b_picks, b_outs, b_backs, b_homes, b_on, b_pick, b_out, b_back, b_home, sp)) : wpY_bring post (g_most, g_extra, g_gone, g_goneSet, g_goneAt, g_floorAt, g_floorFrom, g_floor, g_total, b_stocks, b_held, b_picks, b_outs, b_backs, b_homes, b_on, b_pick, b_out, b_back, b_home, b_spread) (nI set) :=
  ⟨5833, fd_bring2 hset hB hR H 5832 5833 0 b_spread (by omega) (by omega) (fun m hm => ⟨fun ⟨_, _, _, h, _⟩ => absurd h (Nat.not_lt_zero _), fun _ => rfl⟩)⟩
theorem fd_fetch11 {post : SY → Prop} {J2 : Int32 → (Nat → Int32) → (Nat → Int32) → (Nat → Int32) → (Nat → Int32) → (Nat → Int32) → (Nat → Int32) → (Nat → Int32) → (Nat → Int32) → (Nat → Int32) → (Nat → Int32) → (Nat → Int32) → (Nat → Int32) → Prop} {set B : Nat} {v : Nat → Nat} {sp0 : Nat → Int32} (hset : set < 16) (hB : B ≤ 17) (hv : fd_le B v) (ht : g_total = nI (fd_sum v)) (h1 : sp0 (fd_key v) = 1) :
    ∀ (d n s : Nat) (sp : Nat → Int32) (M : Nat → Prop), s + d = 4 → d < n → fd_MS sp0 M sp →
    (∀ sp' : Nat → Int32, fd_MS sp0 (fun m => M m ∨ ∃ s', s ≤ s' ∧ s' < 4 ∧ set.testBit s' = true ∧ 0 < v s' ∧ m + fd_un s' = fd_key v) sp' → J2 (nI (fd_key v + 1)) b_stocks b_held b_picks b_outs b_backs b_homes b_on b_pick b_out b_back b_home sp') →
    wY_fetch_11 post J2 (nI set) (nI (fd_key v)) g_most g_extra g_gone g_goneSet g_goneAt g_floorAt g_floorFrom g_floor g_total n (nI s) b_stocks b_held b_picks b_outs b_backs b_homes b_on b_pick b_out b_back b_home sp := by
  have kl : fd_key v < 5832 := fd_keylt hv (by omega)
  have ck : (nI (fd_key v)).toNatClampNeg = fd_key v := nI_clamp (by omega)
  have vk : vp_in (nI (fd_key v)) 5832 := vp_in_nI kl (by omega)
  intro d
  induction d with
  | zero =>
    intro n s sp M hd hn hM H
    obtain ⟨n, rfl⟩ : ∃ m, n = m + 1 := ⟨n - 1, by omega⟩
    rw [wY_fetch_11]
    refine br_t (nI_le (a := 4) (by omega) (by omega)) (nm_r (nI_1 _) (H sp (fd_msc hM (fun m => ⟨Or.inl, ?_⟩))))
    rintro (w | ⟨s', w1, w2, _⟩)
    · exact w
    · omega
  | succ d ih =>
    intro n s sp M hd hn hM H
    obtain ⟨n, rfl⟩ : ∃ m, n = m + 1 := ⟨n - 1, by omega⟩
    have hs : s < 4 := by omega
    have od : sp (nI (fd_key v)).toNatClampNeg &&& 1 = 1 := by rw [ck]; exact fd_odd hM kl h1
    have skip : ¬ (set.testBit s = true ∧ 0 < v s) → wY_fetch_11 post J2 (nI set) (nI (fd_key v)) g_most g_extra g_gone g_goneSet g_goneAt g_floorAt g_floorFrom g_floor g_total n (nI (s + 1)) b_stocks b_held b_picks b_outs b_backs b_homes b_on b_pick b_out b_back b_home sp := by
      intro b
      refine ih n (s + 1) sp M (by omega) (by omega) hM (fun sp' hM' => H sp' (fd_msc hM' (fun m => ⟨?_, ?_⟩)))
      · rintro (w | ⟨s', w1, w2, w3, w4⟩)
        · exact Or.inl w
        · exact Or.inr ⟨s', by omega, w2, w3, w4⟩
      · rintro (w | ⟨s', w1, w2, w3, w4, w5⟩)
        · exact Or.inl w
        · by_cases z : s' = s
          · subst z; exact absurd ⟨w3, w4⟩ b
          · exact Or.inr ⟨s', by omega, w2, w3, w4, w5⟩
    rw [wY_fetch_11]
    refine br_f (nI_ge (b := 4) hs (by decide)) ⟨vk, br_t od ?_⟩
    by_cases b : set.testBit s = true
    · have hbt : ((nI set >>> (nI s &&& 31)) &&& 1) = 1 := by rw [fd_bit set hset s hs, if_pos b]
      refine br_t hbt (fd_left hs (by omega) hv ht ?_)
      have vs := fd_les hv s hs
      by_cases p : 0 < v s
      · have ki : fd_key (fd_dec s v) + fd_un s = fd_key v := by
          rw [← fd_keyi _ s hs, fd_incd p]
        have kt : fd_key (fd_dec s v) < 5832 := by omega
        have v2 : vp_in (nI (fd_key (fd_dec s v))) 5832 := vp_in_nI kt (by omega)
        have c2 : (nI (fd_key (fd_dec s v))).toNatClampNeg = fd_key (fd_dec s v) := nI_clamp (by omega)
        refine br_f (nI_nle p (by omega)) (fd_unit hs (nm_r (e' := nI (fd_key (fd_dec s v))) ?_ ⟨v2, v2, ?_⟩))
        · rw [pk_sub (by omega)]
          exact congrArg nI (by omega)
        · rw [c2]
          refine nm_e (nm_r (nI_1 s) (ih n (s + 1) _ (fun m => M m ∨ m = fd_key (fd_dec s v)) (by omega) (by omega) (fd_msm kt hM) (fun sp' hM' => H sp' (fd_msc hM' (fun m => ⟨?_, ?_⟩)))))
          · rintro ((w | w) | ⟨s', w1, w2, w3, w4⟩)
            · exact Or.inl w
            · exact Or.inr ⟨s, Nat.le_refl _, hs, b, p, by rw [w]; exact ki⟩
            · exact Or.inr ⟨s', by omega, w2, w3, w4⟩
          · rintro (w | ⟨s', w1, w2, w3, w4, w5⟩)
            · exact Or.inl (Or.inl w)
            · by_cases z : s' = s
              · subst z; exact Or.inl (Or.inr (by omega))
              · exact Or.inr ⟨s', by omega, w2, w3, w4, w5⟩
      · have z : v s = 0 := by omega
        refine br_t ?_ (nm_r (nI_1 s) (skip (fun w => p w.2)))
        rw [z]; decide
    · have hbf : ¬ ((nI set >>> (nI s &&& 31)) &&& 1) = 1 := by rw [fd_bit set hset s hs, if_neg b]; decide
      exact br_f hbf (nm_r (nI_1 s) (skip (fun w => b w.1)))
theorem fd_fetch2 {post : SY → Prop} {set B : Nat} {P : (Nat → Nat) → Prop} {sp0 : Nat → Int32} (hset : set < 16) (hB : B ≤ 17) (hR : fd_Rep B P g_total sp0)
    (H : ∀ (tot : Int32) (sp : Nat → Int32), fd_Rep B (fd_fe set P) tot sp → post (g_most, g_extra, g_gone, g_goneSet, g_goneAt, g_floorAt, g_floorFrom, g_floor, tot, b_stocks, b_held, b_picks, b_outs, b_backs, b_homes, b_on, b_pick, b_out, b_back, b_home, sp)) :
    ∀ (d n K : Nat) (sp : Nat → Int32), K + d = 5832 → d < n → fd_MS sp0 (fun m => ∃ v s, P v ∧ fd_key v < K ∧ s < 4 ∧ set.testBit s = true ∧ 0 < v s ∧ m + fd_un s = fd_key v) sp →
    wY_fetch_2 post (nI set) g_most g_extra g_gone g_goneSet g_goneAt g_floorAt g_floorFrom g_floor g_total n (nI K) b_stocks b_held b_picks b_outs b_backs b_homes b_on b_pick b_out b_back b_home sp := by
  obtain ⟨r1, r2, r3⟩ := hR
  intro d
  induction d with
  | zero =>
    intro n K sp hd hn hM
    obtain ⟨n, rfl⟩ : ∃ m, n = m + 1 := ⟨n - 1, by omega⟩
    have : K = 5832 := by omega
    subst this
    rw [wY_fetch_2]
    refine br_t (nI_le (a := 5832) (by omega) (by omega)) (fd_settle r1 hM (fun sp' h' => nm_e (H _ sp' ⟨?_, ?_, ?_⟩)))
    · intro m hm
      by_cases k : ∃ v s, P v ∧ fd_key v < 5832 ∧ s < 4 ∧ set.testBit s = true ∧ 0 < v s ∧ m + fd_un s = fd_key v
      · exact Or.inr ((h' m hm).1 k)
      · exact Or.inl ((h' m hm).2 k)
    · rintro v ⟨s, k1, k2, k3⟩
      obtain ⟨a1, a2⟩ := r2 _ k3
      exact ⟨fd_ldi s k1 a1, by rw [a2, fd_sumi v s k1, nI_pred]⟩
    · intro m hm
      constructor
      · intro e
        by_cases k : ∃ v s, P v ∧ fd_key v < 5832 ∧ s < 4 ∧ set.testBit s = true ∧ 0 < v s ∧ m + fd_un s = fd_key v
        · obtain ⟨v, s, k1, k2, k3, k4, k5, k6⟩ := k
          have ki : fd_key (fd_dec s v) + fd_un s = fd_key v := by
            rw [← fd_keyi _ s k3, fd_incd k5]
          exact ⟨fd_dec s v, ⟨s, k3, k4, by rw [fd_incd k5]; exact k1⟩, by omega⟩
        · rw [(h' m hm).2 k] at e
          exact absurd e (by decide)
      · rintro ⟨v, ⟨s, k1, k2, k3⟩, k5⟩
        refine (h' m hm).1 ⟨fd_inc s v, s, k3, fd_keylt (r2 _ k3).1 (by omega), k1, k2, ?_, ?_⟩
        · rw [fd_incs]; omega
        · rw [k5, fd_keyi v s k1]
  | succ d ih =>
    intro n K sp hd hn hM
    obtain ⟨n, rfl⟩ : ∃ m, n = m + 1 := ⟨n - 1, by omega⟩
    have ck : (nI K).toNatClampNeg = K := nI_clamp (by omega)
    have vk : vp_in (nI K) 5832 := vp_in_nI (by omega) (by omega)
    rw [wY_fetch_2]
    refine br_f (nI_ge (b := 5832) (by omega) (by decide)) ?_
    rcases r1 K (by omega) with z | z
    · refine ⟨1, ?_⟩
      rw [wY_fetch_11]
      refine br_f (by decide) ⟨vk, br_f (by rw [ck]; exact fd_even hM (by omega) z) (nm_r (nI_1 K) (ih n (K + 1) sp (by omega) (by omega) (fd_msc hM (fun m => ⟨?_, ?_⟩))))⟩
      · rintro ⟨v, s, k1, k2, k3, k4, k5⟩
        exact ⟨v, s, k1, by omega, k3, k4, k5⟩
      · rintro ⟨v, s, k1, k2, k3, k4, k5⟩
        refine ⟨v, s, k1, ?_, k3, k4, k5⟩
        have : fd_key v ≠ K := by
          intro e
          have := (r3 K (by omega)).mpr ⟨v, k1, e.symm⟩
          rw [z] at this
          exact absurd this (by decide)
        omega
    · obtain ⟨v, pv, ev⟩ := (r3 K (by omega)).mp z
      subst ev
      obtain ⟨a1, a2⟩ := r2 v pv
      refine ⟨5, fd_fetch11 hset hB a1 a2 z 4 5 0 sp _ (by omega) (by omega) hM (fun sp' hM' => ih n _ sp' (by omega) (by omega) (fd_msc hM' (fun m => ⟨?_, ?_⟩)))⟩
      · rintro (⟨w, s, k1, k2, k3, k4, k5⟩ | ⟨s, k1, k2, k3, k4, k5⟩)
        · exact ⟨w, s, k1, by omega, k3, k4, k5⟩
        · exact ⟨v, s, pv, by omega, k2, k3, k4, k5⟩
      · rintro ⟨w, s, k1, k2, k3, k4, k5, k6⟩
        by_cases e : fd_key w = fd_key v
        · have b1 := r2 w k1
          have l1 : fd_sum w < 2 ^ 31 := by obtain ⟨c1, c2, c3, c4⟩ := b1.1; unfold fd_sum; omega
          have l2 : fd_sum v < 2 ^ 31 := by obtain ⟨c1, c2, c3, c4⟩ := a1; unfold fd_sum; omega
          have := fd_same (by omega) b1.1 a1 e (fd_im (b1.2.symm.trans a2) l1 l2) s k3
          exact Or.inr ⟨s, by omega, k3, k4, by omega, by rw [← e]; exact k6⟩
        · exact Or.inl ⟨w, s, k1, by omega, k3, k4, k5, k6⟩
theorem fd_fetch {post : SY → Prop} {set B : Nat} {P : (Nat → Nat) → Prop} (hset : set < 16) (hB : B ≤ 17) (hR : fd_Rep B P g_total b_spread)
    (H : ∀ (tot : Int32) (sp : Nat → Int32), fd_Rep B (fd_fe set P) tot sp → post (g_most, g_extra, g_gone, g_goneSet, g_goneAt, g_floorAt, g_floorFrom, g_floor, tot, b_stocks, b_held, b_picks, b_outs, b_backs, b_homes, b_on, b_pick, b_out, b_back, b_home, sp)) : wpY_fetch post (g_most, g_extra, g_gone, g_goneSet, g_goneAt, g_floorAt, g_floorFrom, g_floor, g_total, b_stocks, b_held, b_picks, b_outs, b_backs, b_homes, b_on, b_pick, b_out, b_back, b_home, b_spread) (nI set) :=
  ⟨5833, fd_fetch2 hset hB hR H 5832 5833 0 b_spread (by omega) (by omega) (fun m hm => ⟨fun ⟨_, _, _, h, _⟩ => absurd h (Nat.not_lt_zero _), fun _ => rfl⟩)⟩
end
end
section
/-! Y's pass over the times -/
def fd_YQ (on : Nat → Bool) (fb fp : Nat → Nat × Nat) (aon apick aout aback ahome : Nat → Int32) : Prop :=
  ∀ j, j < 6 → (on j = false → aon j = 0) ∧ (on j = true → ¬ aon j = 0 ∧ apick j = nI (fp j).1 ∧ aout j = nI (fp j).2 ∧ aback j = nI (fb j).1 ∧ ahome j = nI (fb j).2)
section
variable {g_most g_extra g_gone g_goneSet g_goneAt g_floorAt g_floorFrom g_floor g_total : Int32} {b_stocks b_held b_picks b_outs b_backs b_homes b_on b_pick b_out b_back b_home b_spread : Nat → Int32}
theorem fd_pick83 {post : SY → Prop} {x fa ff fl B : Nat} {P : (Nat → Nat) → Prop} {sp0 : Nat → Int32} (hx : x ≤ 8) (hfa : fa < 4) (hff : ff ≤ 9) (hfl : fl ≤ 100) (hB : B ≤ 17) (hR : fd_Rep B P g_total sp0) (hge : ff ≤ x)
    (H : ∀ sp : Nat → Int32, fd_Rep B (fd_fl fa fl P) g_total sp → post (g_most, g_extra, g_gone, g_goneSet, g_goneAt, nI fa, nI ff, nI fl, g_total, b_stocks, b_held, b_picks, b_outs, b_backs, b_homes, b_on, b_pick, b_out, b_back, b_home, sp)) :
    ∀ (d n K : Nat) (sp : Nat → Int32), K + d = 5832 → d < n → (∀ m, m < K → (sp m = 0 ∨ sp m = 1) ∧ (sp m = 1 ↔ ∃ v, fd_fl fa fl P v ∧ m = fd_key v)) → (∀ m, K ≤ m → sp m = sp0 m) →
    wY_pickups_83 post (nI x) g_most g_extra g_gone g_goneSet g_goneAt (nI fa) (nI ff) (nI fl) g_total n (nI K) b_stocks b_held b_picks b_outs b_backs b_homes b_on b_pick b_out b_back b_home sp := by
  obtain ⟨r1, r2, r3⟩ := hR
  intro d
  induction d with
  | zero =>
    intro n K sp hd hn h1 h2
    obtain ⟨n, rfl⟩ : ∃ m, n = m + 1 := ⟨n - 1, by omega⟩
    have : K = 5832 := by omega
    subst this
    rw [wY_pickups_83]
    exact br_t (nI_le (a := 5832) (by omega) (by omega)) (H sp ⟨fun m hm => (h1 m hm).1, fun v hv => r2 v hv.1, fun m hm => (h1 m hm).2⟩)
  | succ d ih =>
    intro n K sp hd hn h1 h2
    obtain ⟨n, rfl⟩ : ∃ m, n = m + 1 := ⟨n - 1, by omega⟩
    have ck : (nI K).toNatClampNeg = K := nI_clamp (by omega)
    have vk : vp_in (nI K) 5832 := vp_in_nI (by omega) (by omega)
    rw [wY_pickups_83]
    refine br_f (nI_ge (b := 5832) (by omega) (by decide)) (br_f (nI_nlt hge (by omega)) ⟨vk, ?_⟩)
    rw [ck, h2 K (Nat.le_refl _)]
    have keep : ∀ z : Int32, (z = 0 ∨ z = 1) ∧ (z = 1 ↔ ∃ v, fd_fl fa fl P v ∧ K = fd_key v) → (∀ m, m < K + 1 → (upd sp K z m = 0 ∨ upd sp K z m = 1) ∧ (upd sp K z m = 1 ↔ ∃ v, fd_fl fa fl P v ∧ m = fd_key v)) ∧ (∀ m, K + 1 ≤ m → upd sp K z m = sp0 m) := by
      intro z hz
      refine ⟨fun m hm => ?_, fun m hm => ?_⟩
      · by_cases e : m = K
        · subst e; rw [pk_us]; exact hz
        · rw [pk_un e]; exact h1 m (by omega)
      · rw [pk_un (by omega)]; exact h2 m (by omega)
    have same : upd sp K (sp0 K) = sp := by
      funext m
      by_cases e : m = K
      · subst e; rw [pk_us, h2 m (Nat.le_refl _)]
      · rw [pk_un e]
    rcases r1 K (by omega) with z | z
    · rw [z]
      have q := keep (sp0 K) ⟨Or.inl z, ⟨fun e => absurd (z.symm.trans e) (by decide), fun ⟨v, k1, k2⟩ => (r3 K (by omega)).mpr ⟨v, k1.1, k2⟩⟩⟩
      rw [same] at q
      exact br_f (by decide) (nm_r (nI_1 K) (ih n (K + 1) sp (by omega) (by omega) q.1 q.2))
    · rw [z]
      refine br_t rfl ?_
      obtain ⟨v, pv, ev⟩ := (r3 K (by omega)).mp z
      obtain ⟨a1, a2⟩ := r2 v pv
      have vs := fd_les a1 fa hfa
      have l2 : fd_sum v < 2 ^ 31 := by obtain ⟨c1, c2, c3, c4⟩ := a1; unfold fd_sum; omega
      rw [ev]
      refine fd_left hfa (by omega) a1 a2 ?_
      rw [← ev]
      by_cases g : fl ≤ v fa
      · have q := keep (sp0 K) ⟨Or.inr z, ⟨fun _ => ⟨v, ⟨pv, g⟩, ev⟩, fun _ => z⟩⟩
        rw [same] at q
        exact br_t (nI_le g (by omega)) (nm_r (nI_1 K) (ih n (K + 1) sp (by omega) (by omega) q.1 q.2))
      · have q := keep 0 ⟨Or.inl rfl, ⟨fun e => absurd e (by decide), fun ⟨w, k1, k2⟩ => ?_⟩⟩
        · exact br_f (nI_ge (by omega) (by omega)) ⟨vk, nm_e (nm_r (nI_1 K) (ih n (K + 1) _ (by omega) (by omega) q.1 q.2))⟩
        · obtain ⟨b1, b2⟩ := r2 w k1.1
          have l1 : fd_sum w < 2 ^ 31 := by obtain ⟨c1, c2, c3, c4⟩ := b1; unfold fd_sum; omega
          have := fd_same (by omega) b1 a1 (by rw [← ev, ← k2]) (fd_im (b2.symm.trans a2) l1 l2) fa hfa
          have := k1.2
          omega
/-- the floor, if its time has come -/
theorem fd_pickF {post : SY → Prop} {x fa ff fl B : Nat} {P : (Nat → Nat) → Prop} (hx : x ≤ 8) (hfa : fa < 4) (hff : ff ≤ 9) (hfl : fl ≤ 100) (hB : B ≤ 17) (hR : fd_Rep B P g_total b_spread)
    (H : ∀ sp : Nat → Int32, fd_Rep B (if ff ≤ x then fd_fl fa fl P else P) g_total sp → post (g_most, g_extra, g_gone, g_goneSet, g_goneAt, nI fa, nI ff, nI fl, g_total, b_stocks, b_held, b_picks, b_outs, b_backs, b_homes, b_on, b_pick, b_out, b_back, b_home, sp)) :
    ∃ n, wY_pickups_83 post (nI x) g_most g_extra g_gone g_goneSet g_goneAt (nI fa) (nI ff) (nI fl) g_total n 0 b_stocks b_held b_picks b_outs b_backs b_homes b_on b_pick b_out b_back b_home b_spread := by
  by_cases g : ff ≤ x
  · rw [if_pos g] at H
    exact ⟨5833, fd_pick83 hx hfa hff hfl hB hR g H 5832 5833 0 b_spread (by omega) (by omega) (fun m hm => by omega) (fun _ _ => rfl)⟩
  · rw [if_neg g] at H
    refine ⟨1, ?_⟩
    rw [wY_pickups_83]
    exact br_f (by decide) (br_t (nI_lt (by omega) (by omega)) (H _ hR))
theorem fd_pick45 {post : SY → Prop} {x gn gs ga fa ff fl B : Nat} {P : (Nat → Nat) → Prop} (hx : x ≤ 8) (hgn : gn ≤ 9) (hgs : gs < 16) (hga : ga ≤ 8) (hfa : fa < 4) (hff : ff ≤ 9) (hfl : fl ≤ 100) (hB : B ≤ 17)
    (H : ∀ (tot : Int32) (sp : Nat → Int32), fd_Rep B (if ff ≤ x then fd_fl fa fl (if x = ga then fd_gon gs gn P else P) else (if x = ga then fd_gon gs gn P else P)) tot sp → post (g_most, g_extra, nI gn, nI gs, nI ga, nI fa, nI ff, nI fl, tot, b_stocks, b_held, b_picks, b_outs, b_backs, b_homes, b_on, b_pick, b_out, b_back, b_home, sp)) :
    ∀ (d n k : Nat) (tot : Int32) (sp : Nat → Int32), k + d = gn → d < n → (k = 0 ∨ x = ga) → fd_Rep B (fd_gon gs k P) tot sp →
    wY_pickups_45 post (nI x) n (nI k) g_most g_extra (nI gn) (nI gs) (nI ga) (nI fa) (nI ff) (nI fl) tot b_stocks b_held b_picks b_outs b_backs b_homes b_on b_pick b_out b_back b_home sp := by
  intro d
  induction d with
  | zero =>
    intro n k tot sp hd hn hk hR
    obtain ⟨n, rfl⟩ : ∃ m, n = m + 1 := ⟨n - 1, by omega⟩
    have : k = gn := by omega
    subst this
    rw [wY_pickups_45]
    refine br_t (nI_le (Nat.le_refl _) (by omega)) (fd_pickF hx hfa hff hfl hB hR (fun sp' h' => H tot sp' ?_))
    by_cases e : x = ga
    · rw [if_pos e]; exact h'
    · rw [if_neg e]
      have : k = 0 := by omega
      subst this
      exact h'
  | succ d ih =>
    intro n k tot sp hd hn hk hR
    obtain ⟨n, rfl⟩ : ∃ m, n = m + 1 := ⟨n - 1, by omega⟩
    rw [wY_pickups_45]
    refine br_f (nI_ge (by omega) (by omega)) (br_f (nI_ge (b := 9) (by omega) (by decide)) ?_)
    by_cases e : x = ga
    · refine br_t (by rw [e]) (fd_fetch hgs hB hR (fun tot' sp' h' => nm_r (nI_1 k) (ih n (k + 1) tot' sp' (by omega) (by omega) (Or.inr e) h')))
    · refine br_f (fun z => e (fd_im z (by omega) (by omega))) (fd_pickF hx hfa hff hfl hB hR (fun sp' h' => H tot sp' ?_))
      rw [if_neg e]
      have : k = 0 := by omega
      subst this
      exact h'
theorem fd_pick2 {post : SY → Prop} {on : Nat → Bool} {fb fp : Nat → Nat × Nat} {x gn gs ga fa ff fl B : Nat} {P : (Nat → Nat) → Prop} (hY : fd_YQ on fb fp b_on b_pick b_out b_back b_home) (hp : fd_ok on fp) (hx : x ≤ 8) (hgn : gn ≤ 9) (hgs : gs < 16) (hga : ga ≤ 8) (hfa : fa < 4) (hff : ff ≤ 9) (hfl : fl ≤ 100) (hB : B ≤ 17)
    (H : ∀ (tot : Int32) (sp : Nat → Int32), fd_Rep B (if ff ≤ x then fd_fl fa fl (if x = ga then fd_gon gs gn (fd_fej on fp x 6 P) else (fd_fej on fp x 6 P)) else (if x = ga then fd_gon gs gn (fd_fej on fp x 6 P) else (fd_fej on fp x 6 P))) tot sp → post (g_most, g_extra, nI gn, nI gs, nI ga, nI fa, nI ff, nI fl, tot, b_stocks, b_held, b_picks, b_outs, b_backs, b_homes, b_on, b_pick, b_out, b_back, b_home, sp)) :
    ∀ (d n j : Nat) (tot : Int32) (sp : Nat → Int32), j + d = 6 → d < n → fd_Rep B (fd_fej on fp x j P) tot sp →
    wY_pickups_2 post (nI x) n (nI j) g_most g_extra (nI gn) (nI gs) (nI ga) (nI fa) (nI ff) (nI fl) tot b_stocks b_held b_picks b_outs b_backs b_homes b_on b_pick b_out b_back b_home sp := by
  intro d
  induction d with
  | zero =>
    intro n j tot sp hd hn hR
    obtain ⟨n, rfl⟩ : ∃ m, n = m + 1 := ⟨n - 1, by omega⟩
    have : j = 6 := by omega
    subst this
    rw [wY_pickups_2]
    exact br_t (nI_le (a := 6) (by omega) (by omega)) ⟨gn + 1, fd_pick45 hx hgn hgs hga hfa hff hfl hB H gn (gn + 1) 0 tot sp (by omega) (by omega) (Or.inl rfl) hR⟩
  | succ d ih =>
    intro n j tot sp hd hn hR
    obtain ⟨n, rfl⟩ : ∃ m, n = m + 1 := ⟨n - 1, by omega⟩
    have cj : (nI j).toNatClampNeg = j := nI_clamp (by omega)
    have vj : vp_in (nI j) 6 := vp_in_nI (by omega) (by omega)
    have y := hY j (by omega)
    rw [wY_pickups_2]
    refine br_f (nI_ge (b := 6) (by omega) (by decide)) ⟨vj, ?_⟩
    rw [cj]
    by_cases b : on j = true
    · obtain ⟨y1, y2, y3, y4, y5⟩ := y.2 b
      have o := hp j (by omega) b
      refine br_f y1 ⟨vj, ?_⟩
      rw [y3, y2]
      by_cases e : (fp j).2 = x
      · have ef : fd_fej on fp x (j + 1) P = fd_fe (fp j).1 (fd_fej on fp x j P) := by simp only [fd_fej]; rw [if_pos ⟨b, e⟩]
        refine br_t (by rw [e]) ⟨vj, fd_fetch o.2.1 hB hR (fun tot' sp' h' => nm_r (nI_1 j) (ih n (j + 1) tot' sp' (by omega) (by omega) ?_))⟩
        rw [ef]; exact h'
      · have ef : fd_fej on fp x (j + 1) P = fd_fej on fp x j P := by simp only [fd_fej]; rw [if_neg (fun z => e z.2)]
        refine br_f (fun z => e (fd_im z (by omega) (by omega))) (nm_r (nI_1 j) (ih n (j + 1) tot sp (by omega) (by omega) ?_))
        rw [ef]; exact hR
    · have ef : fd_fej on fp x (j + 1) P = fd_fej on fp x j P := by simp only [fd_fej]; rw [if_neg (fun z => b z.1)]
      refine br_t (y.1 (Bool.not_eq_true _ ▸ b)) (nm_r (nI_1 j) (ih n (j + 1) tot sp (by omega) (by omega) ?_))
      rw [ef]; exact hR
theorem fd_any {post : Int32 → SY → Prop} (h01 : ∀ m, m < 5832 → b_spread m = 0 ∨ b_spread m = 1)
    (H : ∀ r : Int32, (r = 0 ∨ r = 1) → (r = 1 ↔ ∃ m, m < 5832 ∧ b_spread m = 1) → post r (g_most, g_extra, g_gone, g_goneSet, g_goneAt, g_floorAt, g_floorFrom, g_floor, g_total, b_stocks, b_held, b_picks, b_outs, b_backs, b_homes, b_on, b_pick, b_out, b_back, b_home, b_spread)) :
    ∀ (d n K : Nat) (r : Int32), K + d = 5832 → d < n → (r = 0 ∨ r = 1) → (r = 1 ↔ ∃ m, m < K ∧ b_spread m = 1) →
    wY_fits_185 post g_most g_extra g_gone g_goneSet g_goneAt g_floorAt g_floorFrom g_floor g_total b_stocks b_held b_picks b_outs b_backs b_homes b_on b_pick b_out b_back b_home b_spread n r (nI K) := by
  intro d
  induction d with
  | zero =>
    intro n K r hd hn h1 h2
    obtain ⟨n, rfl⟩ : ∃ m, n = m + 1 := ⟨n - 1, by omega⟩
    have : K = 5832 := by omega
    subst this
    rw [wY_fits_185]
    refine br_t (nI_le (a := 5832) (by omega) (by omega)) ⟨?_, H r h1 h2⟩
    rcases h1 with z | z
    · rw [z]; rfl
    · rw [z]; rfl
  | succ d ih =>
    intro n K r hd hn h1 h2
    obtain ⟨n, rfl⟩ : ∃ m, n = m + 1 := ⟨n - 1, by omega⟩
    have ck : (nI K).toNatClampNeg = K := nI_clamp (by omega)
    have vk : vp_in (nI K) 5832 := vp_in_nI (by omega) (by omega)
    rw [wY_fits_185]
    refine br_f (nI_ge (b := 5832) (by omega) (by decide)) ?_
    rcases h1 with z | z
    · subst z
      refine br_t rfl ⟨vk, ?_⟩
      rw [ck]
      have none : ∀ m, m < K → ¬ b_spread m = 1 := fun m hm e => absurd (h2.mpr ⟨m, hm, e⟩) (by decide)
      rcases h01 K (by omega) with q | q
      · refine br_f (by rw [q]; decide) (nm_r (nI_1 K) (ih n (K + 1) 0 (by omega) (by omega) (Or.inl rfl) ⟨fun e => absurd e (by decide), fun ⟨m, k1, k2⟩ => ?_⟩))
        by_cases e : m = K
        · subst e; exact absurd (q.symm.trans k2) (by decide)
        · exact absurd k2 (none m (by omega))
      · exact br_t q (nm_r (nI_1 K) (ih n (K + 1) 1 (by omega) (by omega) (Or.inr rfl) ⟨fun _ => ⟨K, by omega, q⟩, fun _ => rfl⟩))
    · subst z
      obtain ⟨m, k1, k2⟩ := h2.mp rfl
      exact br_f (by decide) (nm_r (nI_1 K) (ih n (K + 1) 1 (by omega) (by omega) (Or.inr rfl) ⟨fun _ => ⟨m, by omega, k2⟩, fun _ => rfl⟩))
end
theorem fd_atl (on : Nat → Bool) (f : Nat → Nat × Nat) (x : Nat) (l : List (Nat × Nat)) {a : Nat} : ∀ {b : Nat}, a ≤ b → (fd_at on f x a l).length ≤ (fd_at on f x b l).length := by
  intro b
  induction b with
  | zero => intro h; rw [Nat.le_zero.mp h]; exact Nat.le_refl _
  | succ b ih =>
    intro h
    by_cases e : a = b + 1
    · rw [e]; exact Nat.le_refl _
    · have := ih (by omega)
      simp only [fd_at]
      by_cases c : on b = true ∧ (f b).2 = x
      · rw [if_pos c, List.length_cons]; omega
      · rw [if_neg c]; exact this
theorem fd_GLl (on : Nat → Bool) (fb : Nat → Nat × Nat) (e x : Nat) : (fd_GL on fb (List.replicate e (15, 0)) x).length ≤ (fd_bl on fb 6).length + e := by
  rw [(fd_GLp (on := on) (fb := fb) (G0 := List.replicate e (15, 0)) x).length_eq, List.length_append, List.length_replicate]
  have := List.length_filter_le (fun p : Nat × Nat => decide (p.2 < x)) (fd_bl on fb 6)
  omega
section
variable {g_most g_extra g_gone g_goneSet g_goneAt g_floorAt g_floorFrom g_floor g_total : Int32} {b_stocks b_held b_picks b_outs b_backs b_homes b_on b_pick b_out b_back b_home b_spread : Nat → Int32}
theorem fd_fits129 {post : Int32 → SY → Prop} {J : _} {on : Nat → Bool} {fb fp : Nat → Nat × Nat} {x e gn gs ga fa ff fl : Nat} {P : (Nat → Nat) → Prop} (hY : fd_YQ on fb fp b_on b_pick b_out b_back b_home) (hb : fd_ok on fb) (hp : fd_ok on fp) (hl : (fd_bl on fb 6).length ≤ 5) (he : e ≤ 8) (hx : x ≤ 8) (hgn : gn ≤ 9) (hgs : gs < 16) (hga : ga ≤ 8) (hfa : fa < 4) (hff : ff ≤ 9) (hfl : fl ≤ 100)
    (H : ∀ (tot : Int32) (sp : Nat → Int32), fd_Rep (3 + (fd_GL on fb (List.replicate e (15, 0)) (x + 1)).length) (fd_step on fb fp gn gs ga fa ff fl x P) tot sp → J (nI (x + 1)) g_most (nI e) (nI gn) (nI gs) (nI ga) (nI fa) (nI ff) (nI fl) tot b_stocks b_held b_picks b_outs b_backs b_homes b_on b_pick b_out b_back b_home sp) :
    ∀ (d n j : Nat) (tot : Int32) (sp : Nat → Int32), j + d = 6 → d < n → fd_Rep (3 + (fd_at on fb x j (fd_GL on fb (List.replicate e (15, 0)) x)).length) (fd_brj on fb x j P) tot sp →
    wY_fits_129 post J (nI x) n (nI j) g_most (nI e) (nI gn) (nI gs) (nI ga) (nI fa) (nI ff) (nI fl) tot b_stocks b_held b_picks b_outs b_backs b_homes b_on b_pick b_out b_back b_home sp := by
  have lx : (fd_at on fb x 6 (fd_GL on fb (List.replicate e (15, 0)) x)).length ≤ 13 := by
    have := fd_GLl on fb e (x + 1)
    have e' : fd_GL on fb (List.replicate e (15, 0)) (x + 1) = fd_at on fb x 6 (fd_GL on fb (List.replicate e (15, 0)) x) := rfl
    rw [e'] at this
    omega
  intro d
  induction d with
  | zero =>
    intro n j tot sp hd hn hR
    obtain ⟨n, rfl⟩ : ∃ m, n = m + 1 := ⟨n - 1, by omega⟩
    have : j = 6 := by omega
    subst this
    rw [wY_fits_129]
    refine br_t (nI_le (a := 6) (by omega) (by omega)) ⟨7, fd_pick2 (P := fd_brj on fb x 6 P) hY hp hx hgn hgs hga hfa hff hfl (B := 3 + (fd_at on fb x 6 (fd_GL on fb (List.replicate e (15, 0)) x)).length) (by omega) (fun tot' sp' h' => nm_r (nI_1 x) (H tot' sp' h')) 6 7 0 tot sp (by omega) (by omega) hR⟩
  | succ d ih =>
    intro n j tot sp hd hn hR
    obtain ⟨n, rfl⟩ : ∃ m, n = m + 1 := ⟨n - 1, by omega⟩
    have cj : (nI j).toNatClampNeg = j := nI_clamp (by omega)
    have vj : vp_in (nI j) 6 := vp_in_nI (by omega) (by omega)
    have y := hY j (by omega)
    rw [wY_fits_129]
    refine br_f (nI_ge (b := 6) (by omega) (by decide)) ⟨vj, ?_⟩
    rw [cj]
    by_cases b : on j = true
    · obtain ⟨y1, y2, y3, y4, y5⟩ := y.2 b
      have o := hb j (by omega) b
      refine br_f y1 ⟨vj, ?_⟩
      rw [y5, y4]
      by_cases c : (fb j).2 = x
      · have ef : fd_brj on fb x (j + 1) P = fd_br (fb j).1 (fd_brj on fb x j P) := by simp only [fd_brj]; rw [if_pos ⟨b, c⟩]
        have el : (fd_at on fb x (j + 1) (fd_GL on fb (List.replicate e (15, 0)) x)).length = (fd_at on fb x j (fd_GL on fb (List.replicate e (15, 0)) x)).length + 1 := by
          simp only [fd_at]; rw [if_pos ⟨b, c⟩, List.length_cons]
        have lj := fd_atl on fb x (fd_GL on fb (List.replicate e (15, 0)) x) (a := j + 1) (b := 6) (by omega)
        refine br_t (by rw [c]) ⟨vj, fd_bring o.2.1 (by omega) hR (fun tot' sp' h' => nm_r (nI_1 j) (ih n (j + 1) tot' sp' (by omega) (by omega) ?_))⟩
        rw [ef, el]; exact h'
      · have ef : fd_brj on fb x (j + 1) P = fd_brj on fb x j P := by simp only [fd_brj]; rw [if_neg (fun z => c z.2)]
        have el : fd_at on fb x (j + 1) (fd_GL on fb (List.replicate e (15, 0)) x) = fd_at on fb x j (fd_GL on fb (List.replicate e (15, 0)) x) := by
          simp only [fd_at]; rw [if_neg (fun z => c z.2)]
        refine br_f (fun z => c (fd_im z (by omega) (by omega))) (nm_r (nI_1 j) (ih n (j + 1) tot sp (by omega) (by omega) ?_))
        rw [ef, el]; exact hR
    · have ef : fd_brj on fb x (j + 1) P = fd_brj on fb x j P := by simp only [fd_brj]; rw [if_neg (fun z => b z.1)]
      have el : fd_at on fb x (j + 1) (fd_GL on fb (List.replicate e (15, 0)) x) = fd_at on fb x j (fd_GL on fb (List.replicate e (15, 0)) x) := by
        simp only [fd_at]; rw [if_neg (fun z => b z.1)]
      refine br_t (y.1 (Bool.not_eq_true _ ▸ b)) (nm_r (nI_1 j) (ih n (j + 1) tot sp (by omega) (by omega) ?_))
      rw [ef, el]; exact hR
theorem fd_fits121 {post : Int32 → SY → Prop} {on : Nat → Bool} {fb fp : Nat → Nat × Nat} {e gn gs ga fa ff fl : Nat} {P : (Nat → Nat) → Prop} (hY : fd_YQ on fb fp b_on b_pick b_out b_back b_home) (hb : fd_ok on fb) (hp : fd_ok on fp) (hl : (fd_bl on fb 6).length ≤ 5) (he : e ≤ 8) (hgn : gn ≤ 9) (hgs : gs < 16) (hga : ga ≤ 8) (hfa : fa < 4) (hff : ff ≤ 9) (hfl : fl ≤ 100)
    (H : ∀ (r tot : Int32) (sp : Nat → Int32), (r = 0 ∨ r = 1) → (r = 1 ↔ ∃ v, fd_run on fb fp gn gs ga fa ff fl P 9 v) → post r (g_most, nI e, nI gn, nI gs, nI ga, nI fa, nI ff, nI fl, tot, b_stocks, b_held, b_picks, b_outs, b_backs, b_homes, b_on, b_pick, b_out, b_back, b_home, sp)) :
    ∀ (d n x : Nat) (tot : Int32) (sp : Nat → Int32), x + d = 9 → d < n → fd_Rep (3 + (fd_GL on fb (List.replicate e (15, 0)) x).length) (fd_run on fb fp gn gs ga fa ff fl P x) tot sp →
    wY_fits_121 post n (nI x) g_most (nI e) (nI gn) (nI gs) (nI ga) (nI fa) (nI ff) (nI fl) tot b_stocks b_held b_picks b_outs b_backs b_homes b_on b_pick b_out b_back b_home sp := by
  intro d
  induction d with
  | zero =>
    intro n x tot sp hd hn hR
    obtain ⟨n, rfl⟩ : ∃ m, n = m + 1 := ⟨n - 1, by omega⟩
    have : x = 9 := by omega
    subst this
    rw [wY_fits_121]
    have lx := fd_GLl on fb e 9
    obtain ⟨r1, r2, r3⟩ := hR
    refine br_t (nI_lt (a := 8) (by omega) (by omega)) ⟨5833, fd_any r1 (fun r h1 h2 => H r tot sp h1 (h2.trans ⟨?_, ?_⟩)) 5832 5833 0 0 (by omega) (by omega) (Or.inl rfl) ⟨fun e => absurd e (by decide), fun ⟨m, k1, _⟩ => absurd k1 (Nat.not_lt_zero _)⟩⟩
    · rintro ⟨m, k1, k2⟩
      obtain ⟨v, k3, _⟩ := (r3 m k1).mp k2
      exact ⟨v, k3⟩
    · rintro ⟨v, k1⟩
      have kl := fd_keylt (r2 v k1).1 (by omega)
      exact ⟨fd_key v, kl, (r3 _ kl).mpr ⟨v, k1, rfl⟩⟩
  | succ d ih =>
    intro n x tot sp hd hn hR
    obtain ⟨n, rfl⟩ : ∃ m, n = m + 1 := ⟨n - 1, by omega⟩
    rw [wY_fits_121]
    exact br_f (nI_nlt (a := 8) (by omega) (by omega)) ⟨7, fd_fits129 hY hb hp hl he (by omega) hgn hgs hga hfa hff hfl (fun tot' sp' h' => ih n (x + 1) tot' sp' (by omega) (by omega) h') 6 7 0 tot sp (by omega) (by omega) hR⟩
theorem fd_fits93 {post : Int32 → SY → Prop} {on : Nat → Bool} {fb fp : Nat → Nat × Nat} {e gn gs ga fa ff fl : Nat} {P : (Nat → Nat) → Prop} (hY : fd_YQ on fb fp b_on b_pick b_out b_back b_home) (hb : fd_ok on fb) (hp : fd_ok on fp) (hl : (fd_bl on fb 6).length ≤ 5) (he : e ≤ 8) (hgn : gn ≤ 9) (hgs : gs < 16) (hga : ga ≤ 8) (hfa : fa < 4) (hff : ff ≤ 9) (hfl : fl ≤ 100)
    (H : ∀ (r tot : Int32) (sp : Nat → Int32), (r = 0 ∨ r = 1) → (r = 1 ↔ ∃ v, fd_run on fb fp gn gs ga fa ff fl (fd_exb e P) 9 v) → post r (g_most, nI e, nI gn, nI gs, nI ga, nI fa, nI ff, nI fl, tot, b_stocks, b_held, b_picks, b_outs, b_backs, b_homes, b_on, b_pick, b_out, b_back, b_home, sp)) :
    ∀ (d n k : Nat) (tot : Int32) (sp : Nat → Int32), k + d = e → d < n → fd_Rep (3 + k) (fd_exb k P) tot sp →
    wY_fits_93 post n (nI k) g_most (nI e) (nI gn) (nI gs) (nI ga) (nI fa) (nI ff) (nI fl) tot b_stocks b_held b_picks b_outs b_backs b_homes b_on b_pick b_out b_back b_home sp := by
  intro d
  induction d with
  | zero =>
    intro n k tot sp hd hn hR
    obtain ⟨n, rfl⟩ : ∃ m, n = m + 1 := ⟨n - 1, by omega⟩
    have : k = e := by omega
    subst this
    rw [wY_fits_93]
    refine br_t (nI_le (Nat.le_refl _) (by omega)) ⟨10, fd_fits121 hY hb hp hl he hgn hgs hga hfa hff hfl H 9 10 0 tot sp (by omega) (by omega) ?_⟩
    have e' : (fd_GL on fb (List.replicate k (15, 0)) 0).length = k := List.length_replicate
    rw [e']; exact hR
  | succ d ih =>
    intro n k tot sp hd hn hR
    obtain ⟨n, rfl⟩ : ∃ m, n = m + 1 := ⟨n - 1, by omega⟩
    rw [wY_fits_93]
    exact br_f (nI_ge (by omega) (by omega)) (br_f (nI_ge (b := 9) (by omega) (by decide)) (fd_bring (set := 15) (by omega) (by omega) hR (fun tot' sp' h' => nm_r (nI_1 k) (ih n (k + 1) tot' sp' (by omega) (by omega) h'))))
theorem fd_sv4 (st : Nat → Nat) : fd_sv st 0 = st 0 ∧ fd_sv st 1 = st 1 ∧ fd_sv st 2 = st 2 ∧ fd_sv st 3 = st 3 := by
  refine ⟨?_, ?_, ?_, ?_⟩
  · show 0 + st 0 = st 0; omega
  · show 0 + st 1 = st 1; omega
  · show 0 + st 2 = st 2; omega
  · show 0 + st 3 = st 3; omega
theorem fd_fits7 {post : Int32 → SY → Prop} {on : Nat → Bool} {fb fp : Nat → Nat × Nat} {st : Nat → Nat} {e gn gs ga fa ff fl : Nat} (hst : ∀ s, s < 4 → b_stocks s = nI (st s) ∧ st s ≤ 3) (hY : fd_YQ on fb fp b_on b_pick b_out b_back b_home) (hb : fd_ok on fb) (hp : fd_ok on fp) (hl : (fd_bl on fb 6).length ≤ 5) (he : e ≤ 8) (hgn : gn ≤ 9) (hgs : gs < 16) (hga : ga ≤ 8) (hfa : fa < 4) (hff : ff ≤ 9) (hfl : fl ≤ 100)
    (H : ∀ (r tot : Int32) (sp : Nat → Int32), (r = 0 ∨ r = 1) → (r = 1 ↔ ∃ v, fd_run on fb fp gn gs ga fa ff fl (fd_exb e (fun v => v = fd_sv st)) 9 v) → post r (g_most, nI e, nI gn, nI gs, nI ga, nI fa, nI ff, nI fl, tot, b_stocks, b_held, b_picks, b_outs, b_backs, b_homes, b_on, b_pick, b_out, b_back, b_home, sp)) :
    ∀ (d n K : Nat) (sp : Nat → Int32), K + d = 5832 → d < n → (∀ m, m < K → sp m = 0) →
    wY_fits_7 post g_most (nI e) (nI gn) (nI gs) (nI ga) (nI fa) (nI ff) (nI fl) g_total n (nI K) b_stocks b_held b_picks b_outs b_backs b_homes b_on b_pick b_out b_back b_home sp := by
  have s0 := hst 0 (by omega)
  have s1 := hst 1 (by omega)
  have s2 := hst 2 (by omega)
  have s3 := hst 3 (by omega)
  have sv := fd_sv4 st
  have ek : ((b_stocks 0) + (18 * (b_stocks 1))) + (324 * (b_stocks 2)) = nI (fd_key (fd_sv st)) := by
    rw [s0.1, s1.1, s2.1]
    have a : (18 : Int32) * nI (st 1) = nI (18 * st 1) := pk_mul 18 _
    have b : (324 : Int32) * nI (st 2) = nI (324 * st 2) := pk_mul 324 _
    rw [a, b, nI_add, nI_add]
    unfold fd_key
    rw [sv.1, sv.2.1, sv.2.2.1]
  have et : (((b_stocks 0) + (b_stocks 1)) + (b_stocks 2)) + (b_stocks 3) = nI (fd_sum (fd_sv st)) := by
    rw [s0.1, s1.1, s2.1, s3.1, nI_add, nI_add, nI_add]
    unfold fd_sum
    rw [sv.1, sv.2.1, sv.2.2.1, sv.2.2.2]
  have hle : fd_le 3 (fd_sv st) := by
    refine ⟨?_, ?_, ?_, ?_⟩ <;> omega
  have kl := fd_keylt hle (by omega)
  have ck : (nI (fd_key (fd_sv st))).toNatClampNeg = fd_key (fd_sv st) := nI_clamp (by omega)
  intro d
  induction d with
  | zero =>
    intro n K sp hd hn hz
    obtain ⟨n, rfl⟩ : ∃ m, n = m + 1 := ⟨n - 1, by omega⟩
    have : K = 5832 := by omega
    subst this
    rw [wY_fits_7]
    refine br_t (nI_le (a := 5832) (by omega) (by omega)) ?_
    rw [ek, et, ck]
    refine ⟨vp_in_nI kl (by omega), nm_e (nm_e ⟨e + 1, fd_fits93 hY hb hp hl he hgn hgs hga hfa hff hfl H e (e + 1) 0 _ _ (by omega) (by omega) ⟨?_, ?_, ?_⟩⟩)⟩
    · intro m hm
      by_cases z : m = fd_key (fd_sv st)
      · subst z; exact Or.inr pk_us
      · rw [pk_un z]; exact Or.inl (hz m hm)
    · rintro v rfl
      exact ⟨hle, rfl⟩
    · intro m hm
      constructor
      · intro z
        refine ⟨fd_sv st, rfl, ?_⟩
        by_cases w : m = fd_key (fd_sv st)
        · exact w
        · rw [pk_un w, hz m hm] at z
          exact absurd z (by decide)
      · rintro ⟨v, rfl, z⟩
        subst z; exact pk_us
  | succ d ih =>
    intro n K sp hd hn hz
    obtain ⟨n, rfl⟩ : ∃ m, n = m + 1 := ⟨n - 1, by omega⟩
    have cK : (nI K).toNatClampNeg = K := nI_clamp (by omega)
    rw [wY_fits_7]
    refine br_f (nI_ge (b := 5832) (by omega) (by decide)) ⟨vp_in_nI (by omega) (by omega), nm_r (e' := upd sp K 0) (by rw [cK]) (nm_r (nI_1 K) (ih n (K + 1) _ (by omega) (by omega) ?_))⟩
    intro m hm
    by_cases z : m = K
    · subst z; exact pk_us
    · rw [pk_un z]; exact hz m (by omega)
theorem fd_fits {post : Int32 → SY → Prop} {on : Nat → Bool} {fb fp : Nat → Nat × Nat} {st : Nat → Nat} {e gn gs ga fa ff fl : Nat} (hst : ∀ s, s < 4 → b_stocks s = nI (st s) ∧ st s ≤ 3) (hY : fd_YQ on fb fp b_on b_pick b_out b_back b_home) (hb : fd_ok on fb) (hp : fd_ok on fp) (hl : (fd_bl on fb 6).length ≤ 5) (he : e ≤ 8) (hgn : gn ≤ 9) (hgs : gs < 16) (hga : ga ≤ 8) (hfa : fa < 4) (hff : ff ≤ 9) (hfl : fl ≤ 100) (hf0 : ff ≤ 8 ∨ fl = 0)
    (H : ∀ (r tot : Int32) (sp : Nat → Int32), (r = 0 ∨ r = 1) → (r = 1 ↔ fd_ask on fb fp st (List.replicate fl (2 ^ fa, ff) ++ List.replicate gn (gs, ga)) e) → post r (g_most, nI e, nI gn, nI gs, nI ga, nI fa, nI ff, nI fl, tot, b_stocks, b_held, b_picks, b_outs, b_backs, b_homes, b_on, b_pick, b_out, b_back, b_home, sp)) :
    wpY_fits post (g_most, nI e, nI gn, nI gs, nI ga, nI fa, nI ff, nI fl, g_total, b_stocks, b_held, b_picks, b_outs, b_backs, b_homes, b_on, b_pick, b_out, b_back, b_home, b_spread) :=
  ⟨5833, fd_fits7 hst hY hb hp hl he hgn hgs hga hfa hff hfl (fun r tot sp h1 h2 => H r tot sp h1 (h2.trans (fd_runq hfa hb hp (Or.inl hga) hf0))) 5832 5833 0 b_spread (by omega) (by omega) (fun m hm => by omega)⟩
end
end
section
/-! questions: one booking more, one less, a set narrowed; the first plan -/
def fd_pt (f : Nat → Nat × Nat) (j : Nat) (x : Nat × Nat) : Nat → Nat × Nat := fun i => if i = j then x else f i
theorem fd_pts {f : Nat → Nat × Nat} {j : Nat} {x : Nat × Nat} : fd_pt f j x j = x := if_pos rfl
theorem fd_ptn {f : Nat → Nat × Nat} {j i : Nat} {x : Nat × Nat} (h : i ≠ j) : fd_pt f j x i = f i := if_neg h
def fd_off (on : Nat → Bool) (j : Nat) : Nat → Bool := fun i => if i = j then false else on i
theorem fd_offs {on : Nat → Bool} {j : Nat} : fd_off on j j = false := if_pos rfl
theorem fd_offn {on : Nat → Bool} {j i : Nat} (h : i ≠ j) : fd_off on j i = on i := if_neg h
theorem fd_blc {on on' : Nat → Bool} {f f' : Nat → Nat × Nat} : ∀ {n : Nat}, (∀ i, i < n → on i = on' i ∧ (on i = true → f i = f' i)) → fd_bl on f n = fd_bl on' f' n
  | 0, _ => rfl
  | n + 1, h => by
    have ih := fd_blc (n := n) (fun i hi => h i (by omega))
    have hn := h n (by omega)
    simp only [fd_bl]
    by_cases a : on n = true
    · rw [if_pos a, if_pos (by rw [← hn.1]; exact a), ih, hn.2 a]
    · rw [if_neg a, if_neg (by rw [← hn.1]; exact a), ih]
theorem fd_blo {on : Nat → Bool} {f : Nat → Nat × Nat} {j : Nat} (hj : on j = true) : ∀ {n : Nat}, j < n → (fd_bl on f n).Perm (f j :: fd_bl (fd_off on j) f n)
  | 0, h => absurd h (Nat.not_lt_zero _)
  | n + 1, h => by
    simp only [fd_bl]
    by_cases e : j = n
    · subst e
      rw [if_pos hj, if_neg (by rw [fd_offs]; decide)]
      rw [fd_blc (on := on) (on' := fd_off on j) (f := f) (f' := f) (n := j) (fun i hi => ⟨(fd_offn (by omega)).symm, fun _ => rfl⟩)]
    · have ih := fd_blo (f := f) hj (n := n) (by omega)
      rw [fd_offn (fun z => e z.symm)]
      by_cases a : on n = true
      · rw [if_pos a, if_pos a]
        exact (ih.cons _).trans (List.Perm.swap _ _ _)
      · rw [if_neg a, if_neg a]
        exact ih
theorem fd_blp {on : Nat → Bool} {f : Nat → Nat × Nat} {j n : Nat} {x : Nat × Nat} (hj : on j = true) (h : j < n) : (fd_bl on (fd_pt f j x) n).Perm (x :: fd_bl (fd_off on j) f n) := by
  have p := fd_blo (f := fd_pt f j x) hj h
  rw [fd_pts] at p
  rw [fd_blc (on := fd_off on j) (on' := fd_off on j) (f := fd_pt f j x) (f' := f) (n := n) (fun i hi => ⟨rfl, fun z => ?_⟩)] at p
  · exact p
  · by_cases e : i = j
    · subst e; rw [fd_offs] at z; exact absurd z (by decide)
    · exact fd_ptn e
theorem fd_askp {on on' : Nat → Bool} {fb fb' fp fp' : Nat → Nat × Nat} {st : Nat → Nat} {X : List (Nat × Nat)} {e : Nat} (h1 : (fd_bl on fb 6).Perm (fd_bl on' fb' 6)) (h2 : (fd_bl on fp 6).Perm (fd_bl on' fp' 6)) : fd_ask on fb fp st X e ↔ fd_ask on' fb' fp' st X e :=
  fd_permI fd_pit (h2.append_left _) ((h1.append_left _).append_right _)
/-- a giver narrowed to the station where it serves -/
theorem fd_narG {g : Nat × Nat} (hg : ∃ s, s < 4 ∧ g.1.testBit s = true) : ∀ (T G : List (Nat × Nat)), fd_mk fd_sut (fun _ => True) T (g :: G) → ∃ s, s < 4 ∧ g.1.testBit s = true ∧ fd_mk fd_sut (fun _ => True) T ((2 ^ s, g.2) :: G)
  | [], _, _ => by
    obtain ⟨s, h1, h2⟩ := hg
    exact ⟨s, h1, h2, trivial⟩
  | t :: T, G, h => by
    obtain ⟨g', h1, h2, h3⟩ := h
    by_cases e : g' = g
    · subst e
      rw [List.erase_cons_head] at h3
      obtain ⟨w1, s, w2, w3, w4⟩ := h2
      refine ⟨s, w2, w3, (2 ^ s, g'.2), List.mem_cons_self .., ⟨w1, s, w2, Nat.testBit_two_pow_self, w4⟩, ?_⟩
      rw [List.erase_cons_head]
      exact h3
    · have h1' : g' ∈ G := (List.mem_cons.mp h1).resolve_left e
      obtain ⟨s, k1, k2, k3⟩ := fd_narG hg T (G.erase g') (fd_permG fd_pit _ _ _ (fd_erc h1').symm h3)
      exact ⟨s, k1, k2, g', List.mem_cons_of_mem _ h1', h2, fd_permG fd_pit _ _ _ (fd_erc h1') k3⟩
def fd_nr (f : Nat → Nat × Nat) (j a : Nat) : Nat → Nat × Nat := fd_pt f j (a, (f j).2)
theorem fd_narP {on : Nat → Bool} {fb fp : Nat → Nat × Nat} {st : Nat → Nat} {j : Nat} (hj : j < 6) (ho : on j = true) (h : fd_ask on fb fp st [] 0) : ∃ s, s < 4 ∧ (fp j).1.testBit s = true ∧ fd_ask on fb (fd_nr fp j (2 ^ s)) st [] 0 := by
  unfold fd_ask at h
  have h' := fd_permT (fd_blo (f := fp) ho hj) _ h
  obtain ⟨g, h1, ⟨h2, s, h3, h4, h5⟩, h6⟩ := h'
  refine ⟨s, h3, h5, ?_⟩
  unfold fd_ask
  refine fd_permT (fd_blp ho hj).symm _ ⟨g, h1, ⟨h2, s, h3, h4, Nat.testBit_two_pow_self⟩, h6⟩
theorem fd_narB {on : Nat → Bool} {fb fp : Nat → Nat × Nat} {st : Nat → Nat} {j : Nat} (hj : j < 6) (ho : on j = true) (hb : ∃ s, s < 4 ∧ (fb j).1.testBit s = true) (h : fd_ask on fb fp st [] 0) : ∃ s, s < 4 ∧ (fb j).1.testBit s = true ∧ fd_ask on (fd_nr fb j (2 ^ s)) fp st [] 0 := by
  have pg : ∀ (f : Nat → Nat × Nat) (x : Nat × Nat) (R : List (Nat × Nat)), (fd_bl on f 6).Perm (x :: R) → ((fd_stk st ++ fd_bl on f 6) ++ List.replicate 0 (15, 0)).Perm (x :: (fd_stk st ++ R)) := by
    intro f x R p
    rw [List.replicate_zero, List.append_nil]
    exact (p.append_left _).trans List.perm_middle
  unfold fd_ask at h
  have h' := fd_permG fd_pit _ _ _ (pg fb (fb j) _ (fd_blo (f := fb) ho hj)) h
  obtain ⟨s, h1, h2, h3⟩ := fd_narG hb _ _ h'
  refine ⟨s, h1, h2, ?_⟩
  unfold fd_ask
  exact fd_permG fd_pit _ _ _ (pg _ _ _ (fd_blp ho hj)).symm h3
/-- the least station -/
noncomputable def fd_lst (P : Nat → Prop) : Nat := if fd_b (P 0) = true then 0 else if fd_b (P 1) = true then 1 else if fd_b (P 2) = true then 2 else 3
theorem fd_lsts {P : Nat → Prop} (h : ∃ s, s < 4 ∧ P s) : fd_lst P < 4 ∧ P (fd_lst P) ∧ ∀ s, s < fd_lst P → ¬ P s := by
  unfold fd_lst
  by_cases a : fd_b (P 0) = true
  · rw [if_pos a]; exact ⟨by omega, fd_bt.mp a, fun s hs => by omega⟩
  · rw [if_neg a]
    have a' : ¬ P 0 := fun z => a (fd_bt.mpr z)
    by_cases b : fd_b (P 1) = true
    · rw [if_pos b]
      refine ⟨by omega, fd_bt.mp b, fun s hs => ?_⟩
      have : s = 0 := by omega
      subst this; exact a'
    · rw [if_neg b]
      have b' : ¬ P 1 := fun z => b (fd_bt.mpr z)
      by_cases c : fd_b (P 2) = true
      · rw [if_pos c]
        refine ⟨by omega, fd_bt.mp c, fun s hs => ?_⟩
        by_cases e : s = 0
        · subst e; exact a'
        · have : s = 1 := by omega
          subst this; exact b'
      · rw [if_neg c]
        have c' : ¬ P 2 := fun z => c (fd_bt.mpr z)
        obtain ⟨s, h1, h2⟩ := h
        have n0 : s ≠ 0 := fun e => a' (e ▸ h2)
        have n1 : s ≠ 1 := fun e => b' (e ▸ h2)
        have n2 : s ≠ 2 := fun e => c' (e ▸ h2)
        have : s = 3 := by omega
        subst this
        refine ⟨by omega, h2, fun s hs => ?_⟩
        by_cases e : s = 0
        · subst e; exact a'
        · by_cases e1 : s = 1
          · subst e1; exact b'
          · have : s = 2 := by omega
            subst this; exact c'
theorem fd_lstu {P : Nat → Prop} {s : Nat} (hs : s < 4) (h : P s) (hn : ∀ t, t < s → ¬ P t) : fd_lst P = s := by
  obtain ⟨k1, k2, k3⟩ := fd_lsts ⟨s, hs, h⟩
  rcases Nat.lt_trichotomy (fd_lst P) s with l | l | l
  · exact absurd k2 (hn _ l)
  · exact l
  · exact absurd h (k3 _ l)
noncomputable def fd_s1 (on : Nat → Bool) (st : Nat → Nat) (fb fp : Nat → Nat × Nat) (j : Nat) : Nat := fd_lst (fun s => (fp j).1.testBit s = true ∧ fd_ask on fb (fd_nr fp j (2 ^ s)) st [] 0)
noncomputable def fd_s2 (on : Nat → Bool) (st : Nat → Nat) (fb fp : Nat → Nat × Nat) (j : Nat) : Nat := fd_lst (fun s => (fb j).1.testBit s = true ∧ fd_ask on (fd_nr fb j (2 ^ s)) fp st [] 0)
/-- after the bookings below j: the sets narrowed -/
noncomputable def fd_pln (on : Nat → Bool) (st : Nat → Nat) (fb fp : Nat → Nat × Nat) : Nat → (Nat → Nat × Nat) × (Nat → Nat × Nat)
  | 0 => (fb, fp)
  | j + 1 => if on j = true then
      (fd_nr (fd_pln on st fb fp j).1 j (2 ^ fd_s2 on st (fd_pln on st fb fp j).1 (fd_nr (fd_pln on st fb fp j).2 j (2 ^ fd_s1 on st (fd_pln on st fb fp j).1 (fd_pln on st fb fp j).2 j)) j), fd_nr (fd_pln on st fb fp j).2 j (2 ^ fd_s1 on st (fd_pln on st fb fp j).1 (fd_pln on st fb fp j).2 j))
    else fd_pln on st fb fp j
noncomputable def fd_pp (on : Nat → Bool) (st : Nat → Nat) (fb fp : Nat → Nat × Nat) (j : Nat) : Nat := fd_s1 on st (fd_pln on st fb fp j).1 (fd_pln on st fb fp j).2 j
noncomputable def fd_pb (on : Nat → Bool) (st : Nat → Nat) (fb fp : Nat → Nat × Nat) (j : Nat) : Nat := fd_s2 on st (fd_pln on st fb fp j).1 (fd_nr (fd_pln on st fb fp j).2 j (2 ^ fd_pp on st fb fp j)) j
theorem fd_pln1 {on : Nat → Bool} {st : Nat → Nat} {fb fp : Nat → Nat × Nat} {j : Nat} (h : on j = true) : fd_pln on st fb fp (j + 1) = (fd_nr (fd_pln on st fb fp j).1 j (2 ^ fd_pb on st fb fp j), fd_nr (fd_pln on st fb fp j).2 j (2 ^ fd_pp on st fb fp j)) := by
  simp only [fd_pln]
  rw [if_pos h]
  rfl
theorem fd_pln0 {on : Nat → Bool} {st : Nat → Nat} {fb fp : Nat → Nat × Nat} {j : Nat} (h : ¬ on j = true) : fd_pln on st fb fp (j + 1) = fd_pln on st fb fp j := by
  simp only [fd_pln]
  rw [if_neg h]
theorem fd_2s {s : Nat} (h : s < 4) : 2 ^ s < 16 := by
  have : 2 ^ s < 2 ^ 4 := Nat.pow_lt_pow_right (by omega) h
  omega
theorem fd_oknr {on : Nat → Bool} {f : Nat → Nat × Nat} {j s : Nat} (h : fd_ok on f) (hs : s < 4) : fd_ok on (fd_nr f j (2 ^ s)) := by
  intro i hi ho
  have := h i hi ho
  unfold fd_nr
  by_cases e : i = j
  · subst e
    rw [fd_pts]
    exact ⟨this.1, fd_2s hs, s, hs, Nat.testBit_two_pow_self⟩
  · rw [fd_ptn e]; exact this
/-- stage j of the plan: good sets, a good plan, and the stations found -/
theorem fd_plnk {on : Nat → Bool} {st : Nat → Nat} {fb fp : Nat → Nat × Nat} (hb : fd_ok on fb) (hp : fd_ok on fp) (h : fd_ask on fb fp st [] 0) : ∀ j, j ≤ 6 → fd_ok on (fd_pln on st fb fp j).1 ∧ fd_ok on (fd_pln on st fb fp j).2 ∧ fd_ask on (fd_pln on st fb fp j).1 (fd_pln on st fb fp j).2 st [] 0
  | 0, _ => ⟨hb, hp, h⟩
  | j + 1, hj => by
    obtain ⟨h1, h2, h3⟩ := fd_plnk hb hp h j (by omega)
    by_cases a : on j = true
    · rw [fd_pln1 a]
      obtain ⟨k1, k2, k3⟩ := fd_lsts (fd_narP (by omega) a h3)
      obtain ⟨m1, m2, m3⟩ := fd_lsts (fd_narB (by omega) a (h1 j (by omega) a).2.2 k2.2)
      exact ⟨fd_oknr h1 m1, fd_oknr h2 k1, m2.2⟩
    · rw [fd_pln0 a]; exact ⟨h1, h2, h3⟩
theorem fd_ppk {on : Nat → Bool} {st : Nat → Nat} {fb fp : Nat → Nat × Nat} (hb : fd_ok on fb) (hp : fd_ok on fp) (h : fd_ask on fb fp st [] 0) {j : Nat} (hj : j < 6) (a : on j = true) :
    (fd_pp on st fb fp j < 4 ∧ ((fd_pln on st fb fp j).2 j).1.testBit (fd_pp on st fb fp j) = true ∧ fd_ask on (fd_pln on st fb fp j).1 (fd_nr (fd_pln on st fb fp j).2 j (2 ^ fd_pp on st fb fp j)) st [] 0 ∧ ∀ s, s < fd_pp on st fb fp j → ¬ (((fd_pln on st fb fp j).2 j).1.testBit s = true ∧ fd_ask on (fd_pln on st fb fp j).1 (fd_nr (fd_pln on st fb fp j).2 j (2 ^ s)) st [] 0)) ∧
    (fd_pb on st fb fp j < 4 ∧ ((fd_pln on st fb fp j).1 j).1.testBit (fd_pb on st fb fp j) = true ∧ fd_ask on (fd_nr (fd_pln on st fb fp j).1 j (2 ^ fd_pb on st fb fp j)) (fd_nr (fd_pln on st fb fp j).2 j (2 ^ fd_pp on st fb fp j)) st [] 0 ∧ ∀ s, s < fd_pb on st fb fp j → ¬ (((fd_pln on st fb fp j).1 j).1.testBit s = true ∧ fd_ask on (fd_nr (fd_pln on st fb fp j).1 j (2 ^ s)) (fd_nr (fd_pln on st fb fp j).2 j (2 ^ fd_pp on st fb fp j)) st [] 0)) := by
  obtain ⟨h1, h2, h3⟩ := fd_plnk hb hp h j (by omega)
  obtain ⟨k1, k2, k3⟩ := fd_lsts (fd_narP hj a h3)
  obtain ⟨m1, m2, m3⟩ := fd_lsts (fd_narB hj a (h1 j hj a).2.2 k2.2)
  exact ⟨⟨k1, k2.1, k2.2, k3⟩, ⟨m1, m2.1, m2.2, m3⟩⟩
/-- a set of a booking at or above j is as it was; the times too -/
theorem fd_plnf {on : Nat → Bool} {st : Nat → Nat} {fb fp : Nat → Nat × Nat} : ∀ (j i : Nat), j ≤ i → (fd_pln on st fb fp j).1 i = fb i ∧ (fd_pln on st fb fp j).2 i = fp i
  | 0, _, _ => ⟨rfl, rfl⟩
  | j + 1, i, h => by
    have ih := fd_plnf (on := on) (st := st) (fb := fb) (fp := fp) j i (by omega)
    by_cases a : on j = true
    · rw [fd_pln1 a]
      exact ⟨(fd_ptn (by omega)).trans ih.1, (fd_ptn (by omega)).trans ih.2⟩
    · rw [fd_pln0 a]; exact ih
theorem fd_plnt {on : Nat → Bool} {st : Nat → Nat} {fb fp : Nat → Nat × Nat} : ∀ (j i : Nat), ((fd_pln on st fb fp j).1 i).2 = (fb i).2 ∧ ((fd_pln on st fb fp j).2 i).2 = (fp i).2
  | 0, _ => ⟨rfl, rfl⟩
  | j + 1, i => by
    have ih := fd_plnt (on := on) (st := st) (fb := fb) (fp := fp) j i
    by_cases a : on j = true
    · rw [fd_pln1 a]
      by_cases e : i = j
      · subst e
        refine ⟨?_, ?_⟩
        · show (fd_pt _ i _ i).2 = _
          rw [fd_pts]; exact ih.1
        · show (fd_pt _ i _ i).2 = _
          rw [fd_pts]; exact ih.2
      · exact ⟨(congrArg Prod.snd (fd_ptn e)).trans ih.1, (congrArg Prod.snd (fd_ptn e)).trans ih.2⟩
    · rw [fd_pln0 a]; exact ih
/-! bits of the present bookings -/
theorem fd_bon0 : ∀ cap, cap < 6 → ∀ id, id < 6 → ∀ p, p < 32 → (id < cap ∧ p < 2 ^ cap ∧ p.testBit id = false) → p + 2 ^ id < 2 ^ cap := by decide +kernel
theorem fd_bon1 : ∀ id, id < 5 → ∀ p, p < 32 → p.testBit id = false → nI p ||| ((1 : Int32) <<< (nI id &&& 31)) = nI (p + 2 ^ id) ∧ nI (p + 2 ^ id) &&& (((1 : Int32) <<< (nI id &&& 31)) ^^^ (-1)) = nI p := by decide +kernel
theorem fd_bonb : ∀ id, id < 5 → ∀ p, p < 32 → p.testBit id = false → ∀ j, j < 6 → (p + 2 ^ id).testBit j = (p.testBit j || decide (j = id)) := by decide +kernel
theorem fd_boff : ∀ id, id < 5 → ∀ p, p < 32 → p.testBit id = true → nI p &&& (((1 : Int32) <<< (nI id &&& 31)) ^^^ (-1)) = nI (p - 2 ^ id) ∧ nI (p - 2 ^ id) ||| ((1 : Int32) <<< (nI id &&& 31)) = nI p := by decide +kernel
theorem fd_boffb : ∀ id, id < 5 → ∀ p, p < 32 → p.testBit id = true → ∀ j, j < 6 → (p - 2 ^ id).testBit j = (p.testBit j && decide (j ≠ id)) := by decide +kernel
def fd_y (p : Nat) : Nat → Nat × Nat
  | 0 => (0, 5)
  | d + 1 => if p.testBit (4 - d) = true then ((fd_y p d).1 + 1, (fd_y p d).2) else ((fd_y p d).1, 4 - d)
theorem fd_yt1 : ∀ p, p < 32 → ∀ id, id < 5 → p.testBit id = false → (∀ j, j < id → p.testBit j = true) → (fd_y p 5).2 = id := by decide +kernel
theorem fd_yt2 : ∀ cap, cap < 6 → ∀ id, id < 6 → ∀ p, p < 32 → (id < cap ∧ p < 2 ^ cap ∧ p.testBit id = false) → (fd_y p 5).1 < cap := by decide +kernel
theorem fd_yf : ∀ cap, cap < 6 → ∀ p, p < 32 → (∀ j, j < cap → p.testBit j = true) → cap ≤ (fd_y p 5).1 := by decide +kernel
theorem fd_yl : ∀ p, p < 32 → ∀ d, d < 6 → (fd_y p d).1 ≤ 5 ∧ (fd_y p d).2 ≤ 5 := by decide +kernel
theorem fd_all : ∀ p, p < 32 → ∀ j, j < 5 → (p.testBit j = true → nI (p % 2 ^ j) ||| ((1 : Int32) <<< (nI j &&& 31)) = nI (p % 2 ^ (j + 1))) ∧ (p.testBit j = false → nI (p % 2 ^ j) ||| 0 = nI (p % 2 ^ (j + 1))) := by decide +kernel
end
section
/-! X: pieces of its methods -/
theorem fd_upu {f : Nat → Int32} {j : Nat} {x y : Int32} : upd (upd f j x) j y = upd f j y := by
  funext m
  by_cases e : m = j
  · subst e; rw [pk_us, pk_us]
  · rw [pk_un e, pk_un e, pk_un e]
theorem fd_xqA {cap p : Nat} {st : Nat → Nat} {fb fp : Nat → Nat × Nat} {sk ps pt bs bt ap ab : Nat → Int32} (hQ : fd_XQ cap p st fb fp sk ps pt bs bt) (hA : ∀ i, i < cap → ap i = vp_nar .byte (ps i) ∧ ab i = vp_nar .byte (bs i)) : fd_XQ cap p st fb fp sk ap pt ab bt := by
  obtain ⟨q1, q2, q3, q4, q5, q6⟩ := hQ
  refine ⟨q1, q2, q3, fun i hi ho => ?_, q5, q6⟩
  obtain ⟨w1, w2, w3, w4⟩ := q4 i hi ho
  obtain ⟨a1, a2⟩ := hA i hi
  have b1 := q5 i (by omega) ho
  have b2 := q6 i (by omega) ho
  refine ⟨?_, w2, ?_, w4⟩
  · rw [a1, w1, fd_byte (by omega)]
  · rw [a2, w3, fd_byte (by omega)]
theorem fd_xqP {cap p : Nat} {st : Nat → Nat} {fb fp : Nat → Nat × Nat} {sk ap pt ab bt : Nat → Int32} {j s : Nat} (hQ : fd_XQ cap p st fb fp sk ap pt ab bt) (hs : s < 4) : fd_XQ cap p st fb (fd_nr fp j (2 ^ s)) sk (upd ap j (nI (2 ^ s))) pt ab bt := by
  obtain ⟨q1, q2, q3, q4, q5, q6⟩ := hQ
  refine ⟨q1, q2, q3, fun i hi ho => ?_, q5, fd_oknr q6 hs⟩
  obtain ⟨w1, w2, w3, w4⟩ := q4 i hi ho
  unfold fd_nr
  by_cases e : i = j
  · subst e; rw [pk_us, fd_pts]; exact ⟨rfl, w2, w3, w4⟩
  · rw [pk_un e, fd_ptn e]; exact ⟨w1, w2, w3, w4⟩
theorem fd_xqB {cap p : Nat} {st : Nat → Nat} {fb fp : Nat → Nat × Nat} {sk ap pt ab bt : Nat → Int32} {j s : Nat} (hQ : fd_XQ cap p st fb fp sk ap pt ab bt) (hs : s < 4) : fd_XQ cap p st (fd_nr fb j (2 ^ s)) fp sk ap pt (upd ab j (nI (2 ^ s))) bt := by
  obtain ⟨q1, q2, q3, q4, q5, q6⟩ := hQ
  refine ⟨q1, q2, q3, fun i hi ho => ?_, fd_oknr q5 hs, q6⟩
  obtain ⟨w1, w2, w3, w4⟩ := q4 i hi ho
  unfold fd_nr
  by_cases e : i = j
  · subst e; rw [pk_us, fd_pts]; exact ⟨w1, w2, rfl, w4⟩
  · rw [pk_un e, fd_ptn e]; exact ⟨w1, w2, w3, w4⟩
theorem fd_shb {s : Nat} (hs : s < 4) : vp_nar .byte (((1 : Int32) <<< (nI s &&& 31)).toInt8.toInt32) = nI (2 ^ s) := by
  have := fd_2s hs
  rw [fd_one s (by omega), fd_byte2 (by omega)]
/-- the number is that of a booking -/
def fd_hd (cap p : Nat) (v : Int32) : Prop := ∃ id, v = nI id ∧ id < cap ∧ p.testBit id = true
def fd_good (v1 v2 v3 v4 : Int32) : Prop := ∃ a t b u : Nat, v1 = nI a ∧ v2 = nI t ∧ v3 = nI b ∧ v4 = nI u ∧ 1 ≤ a ∧ a ≤ 15 ∧ 1 ≤ b ∧ b ≤ 15 ∧ t < u ∧ u ≤ 8
theorem fd_rg {x : Int32} (lo hi : Nat) (hh : hi < 2 ^ 31) (h1 : ¬ x < nI lo) (h2 : ¬ nI hi < x) (hl : lo ≤ hi) : ∃ a, x = nI a ∧ lo ≤ a ∧ a ≤ hi := by
  have h0 : ¬ x < 0 := by
    intro z
    apply h1
    have h3 : (0 : Int32) ≤ nI lo := nI_pos' (by omega)
    rw [Int32.lt_iff_toInt_lt] at z ⊢
    rw [Int32.le_iff_toInt_le] at h3
    omega
  obtain ⟨a, ha, rfl⟩ := nI_of h0
  rw [nI_ltI ha (by omega)] at h1
  rw [nI_ltI hh ha] at h2
  exact ⟨a, rfl, by omega, by omega⟩
section
variable {f_capacity f_present f_takers f_givers f_lineEnd f_planKnown : Int32} {a_pickSet a_pickTime a_backSet a_backTime a_stocks a_askPick a_askBack a_takerSet a_takerTime a_giverSet a_giverTime a_takerOf a_reachedFrom a_giverOf a_line a_planPick a_planBack : Nat → Int32}
theorem fd_feas {post : Int32 → SX → Prop} {cap p : Nat} {st : Nat → Nat} {fb fp : Nat → Nat × Nat} (hQ : fd_XQ cap p st fb fp a_stocks a_pickSet a_pickTime a_backSet a_backTime)
    (h : ∀ (r : Int32) (ap ab : Nat → Int32) (tk gv le : Int32) (ts tt gz gw to rf go li : Nat → Int32), (r = 0 ∨ r = 1) → (r = 1 ↔ fd_ask p.testBit fb fp st [] 0) → post r (nI cap, nI p, tk, gv, le, f_planKnown, a_pickSet, a_pickTime, a_backSet, a_backTime, a_stocks, ap, ab, ts, tt, gz, gw, to, rf, go, li, a_planPick, a_planBack)) :
    wpX_feasible post (nI cap, nI p, f_takers, f_givers, f_lineEnd, f_planKnown, a_pickSet, a_pickTime, a_backSet, a_backTime, a_stocks, a_askPick, a_askBack, a_takerSet, a_takerTime, a_giverSet, a_giverTime, a_takerOf, a_reachedFrom, a_giverOf, a_line, a_planPick, a_planBack) := by
  unfold wpX_feasible
  refine fd_askP hQ.1 (fun ap ab hA => fd_missing (fd_xqA hQ hA) (fun c tk gv le ts tt gz gw to rf go li h1 h2 => ?_))
  have k := h1 0
  by_cases z : c = 0
  · subst z
    exact br_t rfl (h 1 ap ab tk gv le ts tt gz gw to rf go li (Or.inr rfl) ⟨fun _ => k.mpr (Nat.le_refl _), fun _ => rfl⟩)
  · exact br_f (nI_ne0 (by omega) (by omega)) (h 0 ap ab tk gv le ts tt gz gw to rf go li (Or.inl rfl) ⟨fun e => absurd e (by decide), fun e => absurd (k.mp e) (by omega)⟩)
theorem fd_npick9 {post : Int32 → SX → Prop} {cap p j S : Nat} {st : Nat → Nat} {fb fp : Nat → Nat × Nat} {ap0 : Nat → Int32} (hQ : fd_XQ cap p st fb fp a_stocks ap0 a_pickTime a_askBack a_backTime) (hj : j < cap) (hset : (fp j).1 < 16) (hS : S < 4) (hb : (fp j).1.testBit S = true) (ha : fd_ask p.testBit fb (fd_nr fp j (2 ^ S)) st [] 0) (hn : ∀ s, s < S → ¬ ((fp j).1.testBit s = true ∧ fd_ask p.testBit fb (fd_nr fp j (2 ^ s)) st [] 0))
    (h : ∀ (tk gv le : Int32) (ts tt gz gw to rf go li : Nat → Int32), post (nI S) (nI cap, nI p, tk, gv, le, f_planKnown, a_pickSet, a_pickTime, a_backSet, a_backTime, a_stocks, upd ap0 j (nI (2 ^ S)), a_askBack, ts, tt, gz, gw, to, rf, go, li, a_planPick, a_planBack)) :
    ∀ (d n s : Nat) (ap : Nat → Int32) (tk gv le : Int32) (ts tt gz gw to rf go li : Nat → Int32), s + d = S → d < n → (∀ y, upd ap j y = upd ap0 j y) →
    wX_narrowPick_9 post (nI j) (nI (fp j).1) n (nI s) (nI cap) (nI p) tk gv le f_planKnown a_pickSet a_pickTime a_backSet a_backTime a_stocks ap a_askBack ts tt gz gw to rf go li a_planPick a_planBack := by
  have hc := hQ.1
  have cj : (nI j).toNatClampNeg = j := nI_clamp (by omega)
  have vj : vp_in (nI j) 8 := vp_in_nI (by omega) (by omega)
  intro d
  induction d with
  | zero =>
    intro n s ap tk gv le ts tt gz gw to rf go li hd hn' hap
    obtain ⟨n, rfl⟩ : ∃ m, n = m + 1 := ⟨n - 1, by omega⟩
    have : s = S := by omega
    subst this
    have hbt : ¬ ((nI (fp j).1 >>> (nI s &&& 31)) &&& 1) = 0 := by rw [fd_bit _ hset s hS, if_pos hb]; decide
    rw [wX_narrowPick_9]
    refine br_f (nI_ge (b := 4) hS (by decide)) (br_f hbt ⟨vj, nm_r (e' := upd ap0 j (nI (2 ^ s))) (by rw [cj, fd_shb hS, hap]) (fd_missing (fd_xqP hQ hS) (fun c tk gv le ts tt gz gw to rf go li h1 h2 => ?_))⟩)
    have : c = 0 := by have := (h1 0).mp ha; omega
    subst this
    exact br_t rfl (h tk gv le ts tt gz gw to rf go li)
  | succ d ih =>
    intro n s ap tk gv le ts tt gz gw to rf go li hd hn' hap
    obtain ⟨n, rfl⟩ : ∃ m, n = m + 1 := ⟨n - 1, by omega⟩
    rw [wX_narrowPick_9]
    refine br_f (nI_ge (b := 4) (by omega) (by decide)) ?_
    by_cases b : (fp j).1.testBit s = true
    · have hbt : ¬ ((nI (fp j).1 >>> (nI s &&& 31)) &&& 1) = 0 := by rw [fd_bit _ hset s (by omega), if_pos b]; decide
      refine br_f hbt ⟨vj, nm_r (e' := upd ap0 j (nI (2 ^ s))) (by rw [cj, fd_shb (by omega), hap]) (fd_missing (fd_xqP hQ (by omega)) (fun c tk gv le ts tt gz gw to rf go li h1 h2 => ?_))⟩
      have : c ≠ 0 := fun z => hn s (by omega) ⟨b, (h1 0).mpr (by omega)⟩
      exact br_f (nI_ne0 (by omega) (by omega)) (nm_r (nI_1 s) (ih n (s + 1) _ tk gv le ts tt gz gw to rf go li (by omega) (by omega) (fun y => fd_upu)))
    · have hbt : ((nI (fp j).1 >>> (nI s &&& 31)) &&& 1) = 0 := by rw [fd_bit _ hset s (by omega), if_neg b]
      exact br_t hbt (nm_r (nI_1 s) (ih n (s + 1) ap tk gv le ts tt gz gw to rf go li (by omega) (by omega) hap))
theorem fd_npick {post : Int32 → SX → Prop} {cap p j S : Nat} {st : Nat → Nat} {fb fp : Nat → Nat × Nat} (hQ : fd_XQ cap p st fb fp a_stocks a_askPick a_pickTime a_askBack a_backTime) (hj : j < cap) (hon : p.testBit j = true) (hS : S < 4) (hb : (fp j).1.testBit S = true) (ha : fd_ask p.testBit fb (fd_nr fp j (2 ^ S)) st [] 0) (hn : ∀ s, s < S → ¬ ((fp j).1.testBit s = true ∧ fd_ask p.testBit fb (fd_nr fp j (2 ^ s)) st [] 0))
    (h : ∀ (tk gv le : Int32) (ts tt gz gw to rf go li : Nat → Int32), post (nI S) (nI cap, nI p, tk, gv, le, f_planKnown, a_pickSet, a_pickTime, a_backSet, a_backTime, a_stocks, upd a_askPick j (nI (2 ^ S)), a_askBack, ts, tt, gz, gw, to, rf, go, li, a_planPick, a_planBack)) :
    wpX_narrowPick post (nI cap, nI p, f_takers, f_givers, f_lineEnd, f_planKnown, a_pickSet, a_pickTime, a_backSet, a_backTime, a_stocks, a_askPick, a_askBack, a_takerSet, a_takerTime, a_giverSet, a_giverTime, a_takerOf, a_reachedFrom, a_giverOf, a_line, a_planPick, a_planBack) (nI j) := by
  have hc := hQ.1
  have cj : (nI j).toNatClampNeg = j := nI_clamp (by omega)
  have e : a_askPick j = nI (fp j).1 := (hQ.2.2.2.1 j hj hon).1
  exact ⟨vp_in_nI (by omega) (by omega), nm_r (e' := nI (fp j).1) (by rw [cj, e]) ⟨S + 1, fd_npick9 hQ hj (hQ.2.2.2.2.2 j (by omega) hon).2.1 hS hb ha hn h S (S + 1) 0 _ _ _ _ _ _ _ _ _ _ _ _ (by omega) (by omega) (fun y => rfl)⟩⟩
theorem fd_nback9 {post : Int32 → SX → Prop} {cap p j S : Nat} {st : Nat → Nat} {fb fp : Nat → Nat × Nat} {ab0 : Nat → Int32} (hQ : fd_XQ cap p st fb fp a_stocks a_askPick a_pickTime ab0 a_backTime) (hj : j < cap) (hset : (fb j).1 < 16) (hS : S < 4) (hb : (fb j).1.testBit S = true) (ha : fd_ask p.testBit (fd_nr fb j (2 ^ S)) fp st [] 0) (hn : ∀ s, s < S → ¬ ((fb j).1.testBit s = true ∧ fd_ask p.testBit (fd_nr fb j (2 ^ s)) fp st [] 0))
    (h : ∀ (tk gv le : Int32) (ts tt gz gw to rf go li : Nat → Int32), post (nI S) (nI cap, nI p, tk, gv, le, f_planKnown, a_pickSet, a_pickTime, a_backSet, a_backTime, a_stocks, a_askPick, upd ab0 j (nI (2 ^ S)), ts, tt, gz, gw, to, rf, go, li, a_planPick, a_planBack)) :
    ∀ (d n s : Nat) (ab : Nat → Int32) (tk gv le : Int32) (ts tt gz gw to rf go li : Nat → Int32), s + d = S → d < n → (∀ y, upd ab j y = upd ab0 j y) →
    wX_narrowBack_9 post (nI j) (nI (fb j).1) n (nI s) (nI cap) (nI p) tk gv le f_planKnown a_pickSet a_pickTime a_backSet a_backTime a_stocks a_askPick ab ts tt gz gw to rf go li a_planPick a_planBack := by
  have hc := hQ.1
  have cj : (nI j).toNatClampNeg = j := nI_clamp (by omega)
  have vj : vp_in (nI j) 8 := vp_in_nI (by omega) (by omega)
  intro d
  induction d with
  | zero =>
    intro n s ab tk gv le ts tt gz gw to rf go li hd hn' hap
    obtain ⟨n, rfl⟩ : ∃ m, n = m + 1 := ⟨n - 1, by omega⟩
    have : s = S := by omega
    subst this
    have hbt : ¬ ((nI (fb j).1 >>> (nI s &&& 31)) &&& 1) = 0 := by rw [fd_bit _ hset s hS, if_pos hb]; decide
    rw [wX_narrowBack_9]
    refine br_f (nI_ge (b := 4) hS (by decide)) (br_f hbt ⟨vj, nm_r (e' := upd ab0 j (nI (2 ^ s))) (by rw [cj, fd_shb hS, hap]) (fd_missing (fd_xqB hQ hS) (fun c tk gv le ts tt gz gw to rf go li h1 h2 => ?_))⟩)
    have : c = 0 := by have := (h1 0).mp ha; omega
    subst this
    exact br_t rfl (h tk gv le ts tt gz gw to rf go li)
  | succ d ih =>
    intro n s ab tk gv le ts tt gz gw to rf go li hd hn' hap
    obtain ⟨n, rfl⟩ : ∃ m, n = m + 1 := ⟨n - 1, by omega⟩
    rw [wX_narrowBack_9]
    refine br_f (nI_ge (b := 4) (by omega) (by decide)) ?_
    by_cases b : (fb j).1.testBit s = true
    · have hbt : ¬ ((nI (fb j).1 >>> (nI s &&& 31)) &&& 1) = 0 := by rw [fd_bit _ hset s (by omega), if_pos b]; decide
      refine br_f hbt ⟨vj, nm_r (e' := upd ab0 j (nI (2 ^ s))) (by rw [cj, fd_shb (by omega), hap]) (fd_missing (fd_xqB hQ (by omega)) (fun c tk gv le ts tt gz gw to rf go li h1 h2 => ?_))⟩
      have : c ≠ 0 := fun z => hn s (by omega) ⟨b, (h1 0).mpr (by omega)⟩
      exact br_f (nI_ne0 (by omega) (by omega)) (nm_r (nI_1 s) (ih n (s + 1) _ tk gv le ts tt gz gw to rf go li (by omega) (by omega) (fun y => fd_upu)))
    · have hbt : ((nI (fb j).1 >>> (nI s &&& 31)) &&& 1) = 0 := by rw [fd_bit _ hset s (by omega), if_neg b]
      exact br_t hbt (nm_r (nI_1 s) (ih n (s + 1) ab tk gv le ts tt gz gw to rf go li (by omega) (by omega) hap))
theorem fd_nback {post : Int32 → SX → Prop} {cap p j S : Nat} {st : Nat → Nat} {fb fp : Nat → Nat × Nat} (hQ : fd_XQ cap p st fb fp a_stocks a_askPick a_pickTime a_askBack a_backTime) (hj : j < cap) (hon : p.testBit j = true) (hS : S < 4) (hb : (fb j).1.testBit S = true) (ha : fd_ask p.testBit (fd_nr fb j (2 ^ S)) fp st [] 0) (hn : ∀ s, s < S → ¬ ((fb j).1.testBit s = true ∧ fd_ask p.testBit (fd_nr fb j (2 ^ s)) fp st [] 0))
    (h : ∀ (tk gv le : Int32) (ts tt gz gw to rf go li : Nat → Int32), post (nI S) (nI cap, nI p, tk, gv, le, f_planKnown, a_pickSet, a_pickTime, a_backSet, a_backTime, a_stocks, a_askPick, upd a_askBack j (nI (2 ^ S)), ts, tt, gz, gw, to, rf, go, li, a_planPick, a_planBack)) :
    wpX_narrowBack post (nI cap, nI p, f_takers, f_givers, f_lineEnd, f_planKnown, a_pickSet, a_pickTime, a_backSet, a_backTime, a_stocks, a_askPick, a_askBack, a_takerSet, a_takerTime, a_giverSet, a_giverTime, a_takerOf, a_reachedFrom, a_giverOf, a_line, a_planPick, a_planBack) (nI j) := by
  have hc := hQ.1
  have cj : (nI j).toNatClampNeg = j := nI_clamp (by omega)
  have e : a_askBack j = nI (fb j).1 := (hQ.2.2.2.1 j hj hon).2.2.1
  exact ⟨vp_in_nI (by omega) (by omega), nm_r (e' := nI (fb j).1) (by rw [cj, e]) ⟨S + 1, fd_nback9 hQ hj (hQ.2.2.2.2.1 j (by omega) hon).2.1 hS hb ha hn h S (S + 1) 0 _ _ _ _ _ _ _ _ _ _ _ _ (by omega) (by omega) (fun y => rfl)⟩⟩
theorem fd_plan19 {post : SX → Prop} {cap p : Nat} {st : Nat → Nat} {fb fp : Nat → Nat × Nat} (hcap : cap ≤ 5) (hp : p < 2 ^ cap) (hb : fd_ok p.testBit fb) (hpk : fd_ok p.testBit fp) (hF : fd_ask p.testBit fb fp st [] 0)
    (h : ∀ (ap ab pp pb : Nat → Int32) (tk gv le : Int32) (ts tt gz gw to rf go li : Nat → Int32), (∀ i, i < cap → p.testBit i = true → pp i = nI (fd_pp p.testBit st fb fp i) ∧ pb i = nI (fd_pb p.testBit st fb fp i)) → post (nI cap, nI p, tk, gv, le, f_planKnown, a_pickSet, a_pickTime, a_backSet, a_backTime, a_stocks, ap, ab, ts, tt, gz, gw, to, rf, go, li, pp, pb)) :
    ∀ (d n i : Nat) (ap ab pp pb : Nat → Int32) (tk gv le : Int32) (ts tt gz gw to rf go li : Nat → Int32), i + d = cap → d < n → fd_XQ cap p st (fd_pln p.testBit st fb fp i).1 (fd_pln p.testBit st fb fp i).2 a_stocks ap a_pickTime ab a_backTime → (∀ i', i' < i → p.testBit i' = true → pp i' = nI (fd_pp p.testBit st fb fp i') ∧ pb i' = nI (fd_pb p.testBit st fb fp i')) →
    wX_plan_19 post n (nI i) (nI cap) (nI p) tk gv le f_planKnown a_pickSet a_pickTime a_backSet a_backTime a_stocks ap ab ts tt gz gw to rf go li pp pb := by
  have p32 := fd_p32 hcap hp
  intro d
  induction d with
  | zero =>
    intro n i ap ab pp pb tk gv le ts tt gz gw to rf go li hd hn hQ hP
    obtain ⟨n, rfl⟩ : ∃ m, n = m + 1 := ⟨n - 1, by omega⟩
    have : i = cap := by omega
    subst this
    rw [wX_plan_19]
    exact br_t (nI_le (Nat.le_refl _) (by omega)) (h ap ab pp pb tk gv le ts tt gz gw to rf go li hP)
  | succ d ih =>
    intro n i ap ab pp pb tk gv le ts tt gz gw to rf go li hd hn hQ hP
    obtain ⟨n, rfl⟩ : ∃ m, n = m + 1 := ⟨n - 1, by omega⟩
    have ci : (nI i).toNatClampNeg = i := nI_clamp (by omega)
    have vi : vp_in (nI i) 8 := vp_in_nI (by omega) (by omega)
    rw [wX_plan_19]
    refine br_f (nI_ge (by omega) (by omega)) ?_
    by_cases b : p.testBit i = true
    · have hbt : ¬ ((nI p >>> (nI i &&& 31)) &&& 1) = 0 := by rw [fd_bit5 p p32 i (by omega), if_pos b]; decide
      obtain ⟨⟨k1, k2, k3, k4⟩, ⟨m1, m2, m3, m4⟩⟩ := fd_ppk hb hpk hF (j := i) (by omega) b
      refine br_f hbt (fd_npick hQ (by omega) b k1 k2 k3 k4 (fun tk gv le ts tt gz gw to rf go li => ⟨vi, nm_r (e' := upd pp i (nI (fd_pp p.testBit st fb fp i))) (by rw [ci, fd_byte2 (by omega)]) ?_⟩))
      refine fd_nback (fd_xqP hQ k1) (by omega) b m1 m2 m3 m4 (fun tk gv le ts tt gz gw to rf go li => ⟨vi, nm_r (e' := upd pb i (nI (fd_pb p.testBit st fb fp i))) (by rw [ci, fd_byte2 (by omega)]) (nm_r (nI_1 i) (ih n (i + 1) _ _ _ _ tk gv le ts tt gz gw to rf go li (by omega) (by omega) ?_ ?_))⟩)
      · rw [fd_pln1 b]; exact fd_xqB (fd_xqP hQ k1) m1
      · intro i' hi' ho
        by_cases e : i' = i
        · subst e; exact ⟨pk_us, pk_us⟩
        · rw [pk_un e, pk_un e]; exact hP i' (by omega) ho
    · have hbt : ((nI p >>> (nI i &&& 31)) &&& 1) = 0 := by rw [fd_bit5 p p32 i (by omega), if_neg b]
      refine br_t hbt (nm_r (nI_1 i) (ih n (i + 1) ap ab pp pb tk gv le ts tt gz gw to rf go li (by omega) (by omega) ?_ ?_))
      · rw [fd_pln0 b]; exact hQ
      · intro i' hi' ho
        by_cases e : i' = i
        · subst e; exact absurd ho b
        · exact hP i' (by omega) ho
theorem fd_plan {post : SX → Prop} {cap p : Nat} {st : Nat → Nat} {fb fp : Nat → Nat × Nat} (hQ : fd_XQ cap p st fb fp a_stocks a_pickSet a_pickTime a_backSet a_backTime) (hF : fd_ask p.testBit fb fp st [] 0) (hK : ¬ f_planKnown = 0 → ∀ i, i < cap → p.testBit i = true → a_planPick i = nI (fd_pp p.testBit st fb fp i) ∧ a_planBack i = nI (fd_pb p.testBit st fb fp i))
    (h : ∀ (k : Int32) (ap ab pp pb : Nat → Int32) (tk gv le : Int32) (ts tt gz gw to rf go li : Nat → Int32), (∀ i, i < cap → p.testBit i = true → pp i = nI (fd_pp p.testBit st fb fp i) ∧ pb i = nI (fd_pb p.testBit st fb fp i)) → post (nI cap, nI p, tk, gv, le, k, a_pickSet, a_pickTime, a_backSet, a_backTime, a_stocks, ap, ab, ts, tt, gz, gw, to, rf, go, li, pp, pb)) :
    wpX_plan post (nI cap, nI p, f_takers, f_givers, f_lineEnd, f_planKnown, a_pickSet, a_pickTime, a_backSet, a_backTime, a_stocks, a_askPick, a_askBack, a_takerSet, a_takerTime, a_giverSet, a_giverTime, a_takerOf, a_reachedFrom, a_giverOf, a_line, a_planPick, a_planBack) := by
  unfold wpX_plan
  refine br_c (fun _ => fd_askP hQ.1 (fun ap ab hA => ?_)) (fun z => h _ _ _ _ _ _ _ _ _ _ _ _ _ _ _ _ (hK z))
  exact ⟨cap + 1, fd_plan19 hQ.1 hQ.2.1 hQ.2.2.2.2.1 hQ.2.2.2.2.2 hF (fun ap ab pp pb tk gv le ts tt gz gw to rf go li hP => h 1 ap ab pp pb tk gv le ts tt gz gw to rf go li hP) cap (cap + 1) 0 ap ab _ _ _ _ _ _ _ _ _ _ _ _ _ (by omega) (by omega) (fd_xqA hQ hA) (fun i hi => by omega)⟩
theorem fd_free {post : Int32 → Prop} {cap p : Nat} (hcap : cap ≤ 5) (hp : p < 32) (h1 : ∀ id, id < cap → p.testBit id = false → (∀ j, j < id → p.testBit j = true) → post (nI id)) (h0 : (∀ j, j < cap → p.testBit j = true) → post (-1)) : wpX_freeNumber post (nI cap, nI p, f_takers, f_givers, f_lineEnd, f_planKnown, a_pickSet, a_pickTime, a_backSet, a_backTime, a_stocks, a_askPick, a_askBack, a_takerSet, a_takerTime, a_giverSet, a_giverTime, a_takerOf, a_reachedFrom, a_giverOf, a_line, a_planPick, a_planBack) := by
  have L : ∀ (d n i : Nat), i + d = cap → d < n → (∀ j, j < i → p.testBit j = true) → wX_freeNumber_2 post (nI cap) (nI p) f_takers f_givers f_lineEnd f_planKnown a_pickSet a_pickTime a_backSet a_backTime a_stocks a_askPick a_askBack a_takerSet a_takerTime a_giverSet a_giverTime a_takerOf a_reachedFrom a_giverOf a_line a_planPick a_planBack n (nI i) := by
    intro d
    induction d with
    | zero =>
      intro n i hd hn hj
      obtain ⟨n, rfl⟩ : ∃ m, n = m + 1 := ⟨n - 1, by omega⟩
      have : i = cap := by omega
      subst this
      rw [wX_freeNumber_2]
      exact br_t (nI_le (Nat.le_refl _) (by omega)) (h0 hj)
    | succ d ih =>
      intro n i hd hn hj
      obtain ⟨n, rfl⟩ : ∃ m, n = m + 1 := ⟨n - 1, by omega⟩
      rw [wX_freeNumber_2]
      refine br_f (nI_ge (by omega) (by omega)) ?_
      by_cases b : p.testBit i = true
      · have hbt : ¬ ((nI p >>> (nI i &&& 31)) &&& 1) = 0 := by rw [fd_bit5 p hp i (by omega), if_pos b]; decide
        refine br_f hbt (nm_r (nI_1 i) (ih n (i + 1) (by omega) (by omega) (fun j hj' => ?_)))
        by_cases e : j = i
        · subst e; exact b
        · exact hj j (by omega)
      · have hbt : ((nI p >>> (nI i &&& 31)) &&& 1) = 0 := by rw [fd_bit5 p hp i (by omega), if_neg b]
        exact br_t hbt (h1 i (by omega) (Bool.not_eq_true _ ▸ b) hj)
  exact ⟨cap + 1, L cap (cap + 1) 0 (by omega) (by omega) (fun j hj => by omega)⟩
theorem fd_holds {post : Int32 → Prop} {cap p : Nat} {v : Int32} (hcap : cap ≤ 5) (hp : p < 32) (h1 : fd_hd cap p v → post 1) (h0 : ¬ fd_hd cap p v → post 0) : wpX_holds post (nI cap, nI p, f_takers, f_givers, f_lineEnd, f_planKnown, a_pickSet, a_pickTime, a_backSet, a_backTime, a_stocks, a_askPick, a_askBack, a_takerSet, a_takerTime, a_giverSet, a_giverTime, a_takerOf, a_reachedFrom, a_giverOf, a_line, a_planPick, a_planBack) v := by
  unfold wpX_holds
  rcases pk_ix v (n := cap) (by omega) with z | z | ⟨j, hj, rfl⟩
  · refine br_t z (h0 ?_)
    rintro ⟨id, rfl, k1, k2⟩
    exact nI_pos (by omega) z
  · refine br_c (fun z' => h0 ?_) (fun _ => br_t z (h0 ?_))
    · rintro ⟨id, rfl, k1, k2⟩
      exact nI_pos (by omega) z'
    · rintro ⟨id, rfl, k1, k2⟩
      exact nI_ge k1 (by omega) z
  · refine br_f (nI_pos (by omega)) (br_f (nI_ge hj (by omega)) ?_)
    by_cases b : p.testBit j = true
    · have hbt : ¬ ((nI p >>> (nI j &&& 31)) &&& 1) = 0 := by rw [fd_bit5 p hp j (by omega), if_pos b]; decide
      exact br_f hbt (h1 ⟨j, rfl, hj, b⟩)
    · have hbt : ((nI p >>> (nI j &&& 31)) &&& 1) = 0 := by rw [fd_bit5 p hp j (by omega), if_neg b]
      refine br_t hbt (h0 ?_)
      rintro ⟨id, e, k1, k2⟩
      have : j = id := fd_im e (by omega) (by omega)
      subst this
      exact b k2
end
theorem fd_args {post : Int32 → Prop} {v1 v2 v3 v4 : Int32} (h1 : fd_good v1 v2 v3 v4 → post 1) (h0 : ¬ fd_good v1 v2 v3 v4 → post 0) : wpX_argumentsOk post v1 v2 v3 v4 := by
  have n26 : ¬ fd_good v1 v2 v3 v4 → wX_argumentsOk_26 post v2 v4 := fun z => br_t rfl (h0 z)
  refine br_c (fun c => n26 ?_) (fun c1 => br_c (fun c => n26 ?_) (fun c2 => br_c (fun c => n26 ?_) (fun c3 => br_c (fun c => n26 ?_) (fun c4 => br_f (by decide) (br_c (fun c => h0 ?_) (fun c5 => br_c (fun c => h0 ?_) (fun c6 => br_c (fun c => h0 ?_) (fun c7 => h1 ?_))))))))
  · rintro ⟨a, t, b, u, rfl, rfl, rfl, rfl, k1, k2, k3, k4, k5, k6⟩
    exact nI_nlt (b := 1) k1 (by omega) c
  · rintro ⟨a, t, b, u, rfl, rfl, rfl, rfl, k1, k2, k3, k4, k5, k6⟩
    exact nI_nlt (a := 15) k2 (by omega) c
  · rintro ⟨a, t, b, u, rfl, rfl, rfl, rfl, k1, k2, k3, k4, k5, k6⟩
    exact nI_nlt (b := 1) k3 (by omega) c
  · rintro ⟨a, t, b, u, rfl, rfl, rfl, rfl, k1, k2, k3, k4, k5, k6⟩
    exact nI_nlt (a := 15) k4 (by omega) c
  · rintro ⟨a, t, b, u, rfl, rfl, rfl, rfl, k1, k2, k3, k4, k5, k6⟩
    exact nI_pos (by omega) c
  · rintro ⟨a, t, b, u, rfl, rfl, rfl, rfl, k1, k2, k3, k4, k5, k6⟩
    exact nI_ge k5 (by omega) c
  · rintro ⟨a, t, b, u, rfl, rfl, rfl, rfl, k1, k2, k3, k4, k5, k6⟩
    exact nI_nlt (a := 8) k6 (by omega) c
  · obtain ⟨a, rfl, a1, a2⟩ := fd_rg 1 15 (by omega) c1 c2 (by omega)
    obtain ⟨b, rfl, b1, b2⟩ := fd_rg 1 15 (by omega) c3 c4 (by omega)
    obtain ⟨t, ht, rfl⟩ := nI_of c5
    have c8 : ¬ v4 < nI 0 := by
      intro z
      apply c6
      have h3 : (0 : Int32) ≤ nI t := nI_pos' ht
      have z' : v4 < 0 := z
      rw [Int32.lt_iff_toInt_lt] at z'
      rw [Int32.le_iff_toInt_le] at h3 ⊢
      omega
    obtain ⟨u, rfl, u1, u2⟩ := fd_rg 0 8 (by omega) c8 c7 (by omega)
    rw [nI_leI (by omega) ht] at c6
    exact ⟨a, t, b, u, rfl, rfl, rfl, rfl, a1, a2, b1, b2, by omega, u2⟩
end
section
/-! Y: pieces of its methods -/
def fd_YP (p : Nat) (fb fp : Nat → Nat × Nat) (held picks outs backs homes : Nat → Int32) : Prop :=
  ∀ j, j < 5 → (p.testBit j = false → held j = 0) ∧ (p.testBit j = true → held j = 1 ∧ picks j = nI (fp j).1 ∧ outs j = nI (fp j).2 ∧ backs j = nI (fb j).1 ∧ homes j = nI (fb j).2)
theorem fd_p5 {p : Nat} (h : p < 32) : p.testBit 5 = false := Nat.testBit_lt_two_pow (by omega)
theorem fd_bl5 {p : Nat} (f : Nat → Nat × Nat) (h : p < 32) : (fd_bl p.testBit f 6).length ≤ 5 := by
  rw [fd_bll p.testBit f (a := 5) (b := 6) (by omega) (fun j h1 h2 => by have : j = 5 := by omega
                                                                         subst this
                                                                         exact fd_p5 h), ← (fd_bfp p.testBit f 5).length_eq]
  exact fd_bfl _ _ _
theorem fd_yqA {p : Nat} {fb fp : Nat → Nat × Nat} {held picks outs backs homes on pk ot bk hm : Nat → Int32} (hp : p < 32) (hY : fd_YP p fb fp held picks outs backs homes) (h : ∀ j, j < 5 → on j = vp_nar .boolean (held j) ∧ pk j = picks j ∧ ot j = outs j ∧ bk j = backs j ∧ hm j = homes j) (h5 : on 5 = 0) : fd_YQ p.testBit fb fp on pk ot bk hm := by
  intro j hj
  by_cases e : j = 5
  · subst e
    exact ⟨fun _ => h5, fun z => absurd ((fd_p5 hp).symm.trans z) (by decide)⟩
  · obtain ⟨y1, y2⟩ := hY j (by omega)
    obtain ⟨w1, w2, w3, w4, w5⟩ := h j (by omega)
    refine ⟨fun z => ?_, fun z => ?_⟩
    · rw [w1, y1 z, fd_b0]
    · obtain ⟨k1, k2, k3, k4, k5⟩ := y2 z
      refine ⟨?_, w2.trans k2, w3.trans k3, w4.trans k4, w5.trans k5⟩
      rw [w1, k1, fd_b1]; decide
theorem fd_yqP {on : Nat → Bool} {fb fp : Nat → Nat × Nat} {ao pk ot bk hm : Nat → Int32} {j s : Nat} (h : fd_YQ on fb fp ao pk ot bk hm) : fd_YQ on fb (fd_nr fp j (2 ^ s)) ao (upd pk j (nI (2 ^ s))) ot bk hm := by
  intro i hi
  obtain ⟨y1, y2⟩ := h i hi
  refine ⟨y1, fun z => ?_⟩
  obtain ⟨k1, k2, k3, k4, k5⟩ := y2 z
  unfold fd_nr
  by_cases e : i = j
  · subst e; rw [pk_us, fd_pts]; exact ⟨k1, rfl, k3, k4, k5⟩
  · rw [pk_un e, fd_ptn e]; exact ⟨k1, k2, k3, k4, k5⟩
theorem fd_yqB {on : Nat → Bool} {fb fp : Nat → Nat × Nat} {ao pk ot bk hm : Nat → Int32} {j s : Nat} (h : fd_YQ on fb fp ao pk ot bk hm) : fd_YQ on (fd_nr fb j (2 ^ s)) fp ao pk ot (upd bk j (nI (2 ^ s))) hm := by
  intro i hi
  obtain ⟨y1, y2⟩ := h i hi
  refine ⟨y1, fun z => ?_⟩
  obtain ⟨k1, k2, k3, k4, k5⟩ := y2 z
  unfold fd_nr
  by_cases e : i = j
  · subst e; rw [pk_us, fd_pts]; exact ⟨k1, k2, k3, rfl, k5⟩
  · rw [pk_un e, fd_ptn e]; exact ⟨k1, k2, k3, k4, k5⟩
theorem fd_ye {p q : Nat} {fb fp : Nat → Nat × Nat} {ao pk ot bk hm : Nat → Int32} {id : Nat} (h : fd_YQ p.testBit fb fp ao pk ot bk hm) (e : ∀ j, j < 6 → q.testBit j = (p.testBit j && decide (j ≠ id))) : fd_YQ q.testBit fb fp (upd ao id 0) pk ot bk hm := by
  intro j hj
  obtain ⟨y1, y2⟩ := h j hj
  have ej := e j hj
  by_cases z : j = id
  · subst z
    refine ⟨fun _ => pk_us, fun w => ?_⟩
    rw [ej] at w
    simp at w
  · rw [pk_un z]
    have : q.testBit j = p.testBit j := by rw [ej]; simp [z]
    rw [this]
    exact ⟨y1, y2⟩
theorem fd_x8 : ∀ d, d < 5 → nI (4 - d) + (-1) = nI 4 - nI (d + 1) := by decide +kernel
section
variable {g_most g_extra g_gone g_goneSet g_goneAt g_floorAt g_floorFrom g_floor g_total : Int32} {b_stocks b_held b_picks b_outs b_backs b_homes b_on b_pick b_out b_back b_home b_spread : Nat → Int32}
theorem fd_yask2 {post : SY → Prop} (h : ∀ on pk ot bk hm : Nat → Int32, (∀ j, j < 5 → on j = vp_nar .boolean (b_held j) ∧ pk j = b_picks j ∧ ot j = b_outs j ∧ bk j = b_backs j ∧ hm j = b_homes j) → on 5 = 0 → post (g_most, 0, 0, g_goneSet, g_goneAt, 0, 9, 0, g_total, b_stocks, b_held, b_picks, b_outs, b_backs, b_homes, on, pk, ot, bk, hm, b_spread)) :
    ∀ (d n i : Nat) (on pk ot bk hm : Nat → Int32), i + d = 5 → d < n → (∀ j, j < i → on j = vp_nar .boolean (b_held j) ∧ pk j = b_picks j ∧ ot j = b_outs j ∧ bk j = b_backs j ∧ hm j = b_homes j) →
    wY_ask_2 post g_most g_extra g_gone g_goneSet g_goneAt g_floorAt g_floorFrom g_floor g_total n (nI i) b_stocks b_held b_picks b_outs b_backs b_homes on pk ot bk hm b_spread := by
  intro d
  induction d with
  | zero =>
    intro n i on pk ot bk hm hd hn hj
    obtain ⟨n, rfl⟩ : ∃ m, n = m + 1 := ⟨n - 1, by omega⟩
    have : i = 5 := by omega
    subst this
    rw [wY_ask_2]
    refine br_t (nI_le (a := 5) (by omega) (by omega)) (nm_r (e' := upd on 5 0) (by rw [fd_b0]) (h _ pk ot bk hm (fun j hj' => ?_) pk_us))
    rw [pk_un (by omega)]
    exact hj j hj'
  | succ d ih =>
    intro n i on pk ot bk hm hd hn hj
    obtain ⟨n, rfl⟩ : ∃ m, n = m + 1 := ⟨n - 1, by omega⟩
    have ci : (nI i).toNatClampNeg = i := nI_clamp (by omega)
    have v5 : vp_in (nI i) 5 := vp_in_nI (by omega) (by omega)
    have v6 : vp_in (nI i) 6 := vp_in_nI (by omega) (by omega)
    rw [wY_ask_2]
    refine br_f (nI_ge (b := 5) (by omega) (by decide)) ⟨v5, v6, ?_⟩
    rw [ci]
    refine nm_e ⟨v5, v6, nm_e ⟨v5, v6, nm_e ⟨v5, v6, nm_e ⟨v5, v6, nm_e (nm_r (nI_1 i) (ih n (i + 1) _ _ _ _ _ (by omega) (by omega) (fun j hj' => ?_)))⟩⟩⟩⟩
    by_cases e : j = i
    · subst e; exact ⟨pk_us, pk_us, pk_us, pk_us, pk_us⟩
    · rw [pk_un e, pk_un e, pk_un e, pk_un e, pk_un e]; exact hj j (by omega)
theorem fd_yask {post : SY → Prop} (h : ∀ on pk ot bk hm : Nat → Int32, (∀ j, j < 5 → on j = vp_nar .boolean (b_held j) ∧ pk j = b_picks j ∧ ot j = b_outs j ∧ bk j = b_backs j ∧ hm j = b_homes j) → on 5 = 0 → post (g_most, 0, 0, g_goneSet, g_goneAt, 0, 9, 0, g_total, b_stocks, b_held, b_picks, b_outs, b_backs, b_homes, on, pk, ot, bk, hm, b_spread)) : wpY_ask post (g_most, g_extra, g_gone, g_goneSet, g_goneAt, g_floorAt, g_floorFrom, g_floor, g_total, b_stocks, b_held, b_picks, b_outs, b_backs, b_homes, b_on, b_pick, b_out, b_back, b_home, b_spread) :=
  ⟨6, fd_yask2 h 5 6 0 _ _ _ _ _ (by omega) (by omega) (fun j hj => by omega)⟩
theorem fd_fitsP {post : Int32 → SY → Prop} {on : Nat → Bool} {fb fp : Nat → Nat × Nat} {st : Nat → Nat} {gs ga : Nat} (hst : ∀ s, s < 4 → b_stocks s = nI (st s) ∧ st s ≤ 3) (hY : fd_YQ on fb fp b_on b_pick b_out b_back b_home) (hb : fd_ok on fb) (hp : fd_ok on fp) (hl : (fd_bl on fb 6).length ≤ 5) (hgs : gs < 16) (hga : ga ≤ 8)
    (H : ∀ (r tot : Int32) (sp : Nat → Int32), (r = 0 ∨ r = 1) → (r = 1 ↔ fd_ask on fb fp st [] 0) → post r (g_most, 0, 0, nI gs, nI ga, 0, 9, 0, tot, b_stocks, b_held, b_picks, b_outs, b_backs, b_homes, b_on, b_pick, b_out, b_back, b_home, sp)) :
    wpY_fits post (g_most, 0, 0, nI gs, nI ga, 0, 9, 0, g_total, b_stocks, b_held, b_picks, b_outs, b_backs, b_homes, b_on, b_pick, b_out, b_back, b_home, b_spread) :=
  fd_fits (e := 0) (gn := 0) (gs := gs) (ga := ga) (fa := 0) (ff := 9) (fl := 0) hst hY hb hp hl (by omega) (by omega) hgs hga (by omega) (by omega) (by omega) (Or.inr rfl) (fun r tot sp h1 h2 => H r tot sp h1 h2)
theorem fd_there {post : Int32 → Prop} {cap p : Nat} {v : Int32} {fb fp : Nat → Nat × Nat} (hcap : cap ≤ 5) (hp : p < 2 ^ cap) (hY : fd_YP p fb fp b_held b_picks b_outs b_backs b_homes) (h1 : fd_hd cap p v → post 1) (h0 : ¬ fd_hd cap p v → post 0) : wpY_there post (g_most, g_extra, g_gone, g_goneSet, g_goneAt, g_floorAt, g_floorFrom, g_floor, g_total, b_stocks, b_held, b_picks, b_outs, b_backs, b_homes, b_on, b_pick, b_out, b_back, b_home, b_spread) v := by
  unfold wpY_there
  rcases pk_ix v (n := 5) (by omega) with z | z | ⟨j, hj, rfl⟩
  · refine br_t z (h0 ?_)
    rintro ⟨id, rfl, k1, k2⟩
    exact nI_pos (by omega) z
  · refine br_c (fun z' => h0 ?_) (fun _ => br_t z (h0 ?_))
    · rintro ⟨id, rfl, k1, k2⟩
      exact nI_pos (by omega) z'
    · rintro ⟨id, rfl, k1, k2⟩
      exact nI_ge (b := 5) (by omega) (by omega) z
  · refine br_f (nI_pos (by omega)) (br_f (nI_ge (b := 5) hj (by omega)) ⟨vp_in_nI hj (by omega), ?_⟩)
    rw [nI_clamp (by omega)]
    obtain ⟨y1, y2⟩ := hY j hj
    by_cases b : p.testBit j = true
    · refine br_f (by rw [(y2 b).1]; decide) (h1 ⟨j, rfl, ?_, b⟩)
      by_cases l : j < cap
      · exact l
      · exact absurd ((fd_poff hp (by omega)).symm.trans b) (by decide)
    · refine br_t (y1 (Bool.not_eq_true _ ▸ b)) (h0 ?_)
      rintro ⟨id, e, k1, k2⟩
      have : j = id := fd_im e (by omega) (by omega)
      subst this
      exact b k2
theorem fd_bad {post : Int32 → Prop} {v1 v2 v3 v4 : Int32} (h1 : fd_good v1 v2 v3 v4 → post 0) (h0 : ¬ fd_good v1 v2 v3 v4 → post 1) : wpY_badCall post (g_most, g_extra, g_gone, g_goneSet, g_goneAt, g_floorAt, g_floorFrom, g_floor, g_total, b_stocks, b_held, b_picks, b_outs, b_backs, b_homes, b_on, b_pick, b_out, b_back, b_home, b_spread) v1 v2 v3 v4 := by
  unfold wpY_badCall
  refine br_c (fun c => h0 ?_) (fun c1 => br_c (fun c => h0 ?_) (fun c2 => br_c (fun c => h0 ?_) (fun c3 => br_c (fun c => h0 ?_) (fun c4 => br_c (fun c => h0 ?_) (fun c5 => br_c (fun c => h0 ?_) (fun c6 => br_c (fun c7 => h1 ?_) (fun c => h0 ?_)))))))
  · rintro ⟨a, t, b, u, rfl, rfl, rfl, rfl, k1, k2, k3, k4, k5, k6⟩
    exact nI_nlt (b := 1) k1 (by omega) c
  · rintro ⟨a, t, b, u, rfl, rfl, rfl, rfl, k1, k2, k3, k4, k5, k6⟩
    exact nI_nlt (a := 15) k2 (by omega) c
  · rintro ⟨a, t, b, u, rfl, rfl, rfl, rfl, k1, k2, k3, k4, k5, k6⟩
    exact nI_nlt (b := 1) k3 (by omega) c
  · rintro ⟨a, t, b, u, rfl, rfl, rfl, rfl, k1, k2, k3, k4, k5, k6⟩
    exact nI_nlt (a := 15) k4 (by omega) c
  · rintro ⟨a, t, b, u, rfl, rfl, rfl, rfl, k1, k2, k3, k4, k5, k6⟩
    exact nI_pos (by omega) c
  · rintro ⟨a, t, b, u, rfl, rfl, rfl, rfl, k1, k2, k3, k4, k5, k6⟩
    exact nI_ge k5 (by omega) c
  · obtain ⟨a, rfl, a1, a2⟩ := fd_rg 1 15 (by omega) c1 c2 (by omega)
    obtain ⟨b, rfl, b1, b2⟩ := fd_rg 1 15 (by omega) c3 c4 (by omega)
    obtain ⟨t, ht, rfl⟩ := nI_of c5
    have c8 : ¬ v4 < nI 0 := by
      intro z
      apply c6
      have h3 : (0 : Int32) ≤ nI t := nI_pos' ht
      have z' : v4 < 0 := z
      rw [Int32.lt_iff_toInt_lt] at z'
      rw [Int32.le_iff_toInt_le] at h3 ⊢
      omega
    obtain ⟨u, rfl, u1, u2⟩ := fd_rg 0 8 (by omega) c8 (fun z => Int32.not_lt.mpr c7 z) (by omega)
    rw [nI_leI (by omega) ht] at c6
    exact ⟨a, t, b, u, rfl, rfl, rfl, rfl, a1, a2, b1, b2, by omega, u2⟩
  · rintro ⟨a, t, b, u, rfl, rfl, rfl, rfl, k1, k2, k3, k4, k5, k6⟩
    exact c (nI_le (b := 8) k6 (by omega))
theorem fd_probe23 {post : Int32 → SY → Prop} {p : Nat} {v1 v2 v3 v4 : Int32} {fb fp : Nat → Nat × Nat} (hp : p < 32) (hY : fd_YP p fb fp b_held b_picks b_outs b_backs b_homes)
    (hE : ∀ n, wY_probe_23 post v1 v2 v3 v4 g_most g_extra g_gone g_goneSet g_goneAt g_floorAt g_floorFrom g_floor g_total b_stocks b_held b_picks b_outs b_backs b_homes b_on b_pick b_out b_back b_home b_spread (n + 1) (nI (fd_y p 5).1) (nI (fd_y p 5).2) (-1)) :
    ∀ (m n d : Nat), d + m = 5 → m < n → wY_probe_23 post v1 v2 v3 v4 g_most g_extra g_gone g_goneSet g_goneAt g_floorAt g_floorFrom g_floor g_total b_stocks b_held b_picks b_outs b_backs b_homes b_on b_pick b_out b_back b_home b_spread n (nI (fd_y p d).1) (nI (fd_y p d).2) (nI 4 - nI d) := by
  intro m
  induction m with
  | zero =>
    intro n d hd hn
    obtain ⟨n, rfl⟩ : ∃ m, n = m + 1 := ⟨n - 1, by omega⟩
    have : d = 5 := by omega
    subst this
    exact hE n
  | succ m ih =>
    intro n d hd hn
    obtain ⟨n, rfl⟩ : ∃ m, n = m + 1 := ⟨n - 1, by omega⟩
    have x7 : nI 4 - nI d = nI (4 - d) := pk_sub (by omega)
    have x8 : nI (4 - d) + (-1) = nI 4 - nI (d + 1) := fd_x8 d (by omega)
    have cd : (nI (4 - d)).toNatClampNeg = 4 - d := nI_clamp (by omega)
    have vd : vp_in (nI (4 - d)) 5 := vp_in_nI (by omega) (by omega)
    obtain ⟨y1, y2⟩ := hY (4 - d) (by omega)
    have ih' := ih n (d + 1) (by omega) (by omega)
    rw [x7, wY_probe_23]
    refine br_f (nI_pos (by omega)) ⟨vd, ?_⟩
    rw [cd]
    by_cases b : p.testBit (4 - d) = true
    · have h1 : ¬ b_held (4 - d) = 0 := by rw [(y2 b).1]; decide
      have e : fd_y p (d + 1) = ((fd_y p d).1 + 1, (fd_y p d).2) := by simp only [fd_y]; rw [if_pos b]
      rw [e] at ih'
      exact br_f h1 (nm_r (nI_1 _) ⟨vd, br_f (by rw [cd]; exact h1) (nm_r x8 ih')⟩)
    · have h1 : b_held (4 - d) = 0 := y1 (Bool.not_eq_true _ ▸ b)
      have e : fd_y p (d + 1) = ((fd_y p d).1, 4 - d) := by simp only [fd_y]; rw [if_neg b]
      rw [e] at ih'
      exact br_t h1 (nm_r (Int32.add_zero _) ⟨vd, br_t (by rw [cd]; exact h1) (nm_r x8 ih')⟩)
theorem fd_set65 {post : SY → Prop} {j S : Nat} {on : Nat → Bool} {fb fp : Nat → Nat × Nat} {st : Nat → Nat} {gs ga : Nat} {bk0 : Nat → Int32} (hst : ∀ s, s < 4 → b_stocks s = nI (st s) ∧ st s ≤ 3) (hY : fd_YQ on fb fp b_on b_pick b_out bk0 b_home) (hb : fd_ok on fb) (hp : fd_ok on fp) (hl : ∀ f, (fd_bl on f 6).length ≤ 5) (hgs : gs < 16) (hga : ga ≤ 8) (hj : j < 6) (hon : on j = true) (hS : S < 4) (hbt : (fb j).1.testBit S = true) (ha : fd_ask on (fd_nr fb j (2 ^ S)) fp st [] 0) (hn : ∀ s, s < S → ¬ ((fb j).1.testBit s = true ∧ fd_ask on (fd_nr fb j (2 ^ s)) fp st [] 0))
    (h : ∀ (tot : Int32) (sp : Nat → Int32), post (g_most, 0, 0, nI gs, nI ga, 0, 9, 0, tot, b_stocks, b_held, b_picks, b_outs, b_backs, b_homes, b_on, b_pick, b_out, upd bk0 j (nI (2 ^ S)), b_home, sp)) :
    ∀ (d n s : Nat) (bk : Nat → Int32) (tot : Int32) (sp : Nat → Int32), s + d = S → d + 1 < n → (∀ y, upd bk j y = upd bk0 j y) →
    wY_settleOne_65 post (nI j) (nI (fb j).1) n 0 (nI s) g_most 0 0 (nI gs) (nI ga) 0 9 0 tot b_stocks b_held b_picks b_outs b_backs b_homes b_on b_pick b_out bk b_home sp := by
  have hset := (hb j hj hon).2.1
  have cj : (nI j).toNatClampNeg = j := nI_clamp (by omega)
  have vj : vp_in (nI j) 6 := vp_in_nI (by omega) (by omega)
  intro d
  induction d with
  | zero =>
    intro n s bk tot sp hd hn' hbk
    obtain ⟨n, rfl⟩ : ∃ m, n = m + 1 := ⟨n - 1, by omega⟩
    have : s = S := by omega
    subst this
    have hb1 : ((nI (fb j).1 >>> (nI s &&& 31)) &&& 1) = 1 := by rw [fd_bit _ hset s hS, if_pos hbt]
    rw [wY_settleOne_65]
    refine br_f (nI_ge (b := 4) hS (by decide)) (br_t rfl (br_t hb1 ⟨vj, nm_r (e' := upd bk0 j (nI (2 ^ s))) (by rw [cj, fd_one s (by omega), hbk]) (fd_fitsP hst (fd_yqB hY) (fd_oknr hb hS) hp (hl _) hgs hga (fun r tot' sp' h1 h2 => ?_))⟩))
    have : r = 1 := h2.mpr ha
    subst this
    obtain ⟨n, rfl⟩ : ∃ m, n = m + 1 := ⟨n - 1, by omega⟩
    refine nm_r (nI_1 s) ?_
    rw [wY_settleOne_65]
    exact br_c (fun _ => h tot' sp') (fun _ => br_f (by decide) (h tot' sp'))
  | succ d ih =>
    intro n s bk tot sp hd hn' hbk
    obtain ⟨n, rfl⟩ : ∃ m, n = m + 1 := ⟨n - 1, by omega⟩
    rw [wY_settleOne_65]
    refine br_f (nI_ge (b := 4) (by omega) (by decide)) (br_t rfl ?_)
    by_cases b : (fb j).1.testBit s = true
    · have hb1 : ((nI (fb j).1 >>> (nI s &&& 31)) &&& 1) = 1 := by rw [fd_bit _ hset s (by omega), if_pos b]
      refine br_t hb1 ⟨vj, nm_r (e' := upd bk0 j (nI (2 ^ s))) (by rw [cj, fd_one s (by omega), hbk]) (fd_fitsP hst (fd_yqB hY) (fd_oknr hb (by omega)) hp (hl _) hgs hga (fun r tot' sp' h1 h2 => ?_))⟩
      have : r = 0 := h1.resolve_right (fun z => hn s (by omega) ⟨b, h2.mp z⟩)
      subst this
      exact nm_r (nI_1 s) (ih n (s + 1) _ tot' sp' (by omega) (by omega) (fun y => fd_upu))
    · have hb1 : ¬ ((nI (fb j).1 >>> (nI s &&& 31)) &&& 1) = 1 := by rw [fd_bit _ hset s (by omega), if_neg b]; decide
      exact br_f hb1 (nm_r (nI_1 s) (ih n (s + 1) bk tot sp (by omega) (by omega) hbk))
theorem fd_set12 {post : SY → Prop} {j S : Nat} {on : Nat → Bool} {fb fp : Nat → Nat × Nat} {st : Nat → Nat} {gs ga : Nat} {pk0 : Nat → Int32} (hst : ∀ s, s < 4 → b_stocks s = nI (st s) ∧ st s ≤ 3) (hY : fd_YQ on fb fp b_on pk0 b_out b_back b_home) (hb : fd_ok on fb) (hp : fd_ok on fp) (hl : ∀ f, (fd_bl on f 6).length ≤ 5) (hgs : gs < 16) (hga : ga ≤ 8) (hj : j < 6) (hon : on j = true) (hS : S < 4) (hbt : (fp j).1.testBit S = true) (ha : fd_ask on fb (fd_nr fp j (2 ^ S)) st [] 0) (hn : ∀ s, s < S → ¬ ((fp j).1.testBit s = true ∧ fd_ask on fb (fd_nr fp j (2 ^ s)) st [] 0))
    (h : ∀ (tot : Int32) (sp : Nat → Int32), wY_settleOne_53 post (nI j) g_most 0 0 (nI gs) (nI ga) 0 9 0 tot b_stocks b_held b_picks b_outs b_backs b_homes b_on (upd pk0 j (nI (2 ^ S))) b_out b_back b_home sp) :
    ∀ (d n s : Nat) (pk : Nat → Int32) (tot : Int32) (sp : Nat → Int32), s + d = S → d + 1 < n → (∀ y, upd pk j y = upd pk0 j y) →
    wY_settleOne_12 post (nI j) (nI (fp j).1) n 0 (nI s) g_most 0 0 (nI gs) (nI ga) 0 9 0 tot b_stocks b_held b_picks b_outs b_backs b_homes b_on pk b_out b_back b_home sp := by
  have hset := (hp j hj hon).2.1
  have cj : (nI j).toNatClampNeg = j := nI_clamp (by omega)
  have vj : vp_in (nI j) 6 := vp_in_nI (by omega) (by omega)
  intro d
  induction d with
  | zero =>
    intro n s pk tot sp hd hn' hpk
    obtain ⟨n, rfl⟩ : ∃ m, n = m + 1 := ⟨n - 1, by omega⟩
    have : s = S := by omega
    subst this
    have hb1 : ((nI (fp j).1 >>> (nI s &&& 31)) &&& 1) = 1 := by rw [fd_bit _ hset s hS, if_pos hbt]
    rw [wY_settleOne_12]
    refine br_f (nI_ge (b := 4) hS (by decide)) (br_t rfl (br_t hb1 ⟨vj, nm_r (e' := upd pk0 j (nI (2 ^ s))) (by rw [cj, fd_one s (by omega), hpk]) (fd_fitsP hst (fd_yqP hY) hb (fd_oknr hp hS) (hl _) hgs hga (fun r tot' sp' h1 h2 => ?_))⟩))
    have : r = 1 := h2.mpr ha
    subst this
    obtain ⟨n, rfl⟩ : ∃ m, n = m + 1 := ⟨n - 1, by omega⟩
    refine nm_r (nI_1 s) ?_
    rw [wY_settleOne_12]
    exact br_c (fun _ => h tot' sp') (fun _ => br_f (by decide) (h tot' sp'))
  | succ d ih =>
    intro n s pk tot sp hd hn' hpk
    obtain ⟨n, rfl⟩ : ∃ m, n = m + 1 := ⟨n - 1, by omega⟩
    rw [wY_settleOne_12]
    refine br_f (nI_ge (b := 4) (by omega) (by decide)) (br_t rfl ?_)
    by_cases b : (fp j).1.testBit s = true
    · have hb1 : ((nI (fp j).1 >>> (nI s &&& 31)) &&& 1) = 1 := by rw [fd_bit _ hset s (by omega), if_pos b]
      refine br_t hb1 ⟨vj, nm_r (e' := upd pk0 j (nI (2 ^ s))) (by rw [cj, fd_one s (by omega), hpk]) (fd_fitsP hst (fd_yqP hY) hb (fd_oknr hp (by omega)) (hl _) hgs hga (fun r tot' sp' h1 h2 => ?_))⟩
      have : r = 0 := h1.resolve_right (fun z => hn s (by omega) ⟨b, h2.mp z⟩)
      subst this
      exact nm_r (nI_1 s) (ih n (s + 1) _ tot' sp' (by omega) (by omega) (fun y => fd_upu))
    · have hb1 : ¬ ((nI (fp j).1 >>> (nI s &&& 31)) &&& 1) = 1 := by rw [fd_bit _ hset s (by omega), if_neg b]; decide
      exact br_f hb1 (nm_r (nI_1 s) (ih n (s + 1) pk tot sp (by omega) (by omega) hpk))
/-- one booking settled: its two stations are those of the plan -/
theorem fd_setOne {post : SY → Prop} {j S1 S2 : Nat} {on : Nat → Bool} {fb fp : Nat → Nat × Nat} {st : Nat → Nat} {gs ga : Nat} (hst : ∀ s, s < 4 → b_stocks s = nI (st s) ∧ st s ≤ 3) (hY : fd_YQ on fb fp b_on b_pick b_out b_back b_home) (hb : fd_ok on fb) (hp : fd_ok on fp) (hl : ∀ f, (fd_bl on f 6).length ≤ 5) (hgs : gs < 16) (hga : ga ≤ 8) (hj : j < 6) (hon : on j = true)
    (k1 : S1 < 4) (k2 : (fp j).1.testBit S1 = true) (k3 : fd_ask on fb (fd_nr fp j (2 ^ S1)) st [] 0) (k4 : ∀ s, s < S1 → ¬ ((fp j).1.testBit s = true ∧ fd_ask on fb (fd_nr fp j (2 ^ s)) st [] 0))
    (m1 : S2 < 4) (m2 : (fb j).1.testBit S2 = true) (m3 : fd_ask on (fd_nr fb j (2 ^ S2)) (fd_nr fp j (2 ^ S1)) st [] 0) (m4 : ∀ s, s < S2 → ¬ ((fb j).1.testBit s = true ∧ fd_ask on (fd_nr fb j (2 ^ s)) (fd_nr fp j (2 ^ S1)) st [] 0))
    (h : ∀ (tot : Int32) (sp : Nat → Int32), post (g_most, 0, 0, nI gs, nI ga, 0, 9, 0, tot, b_stocks, b_held, b_picks, b_outs, b_backs, b_homes, b_on, upd b_pick j (nI (2 ^ S1)), b_out, upd b_back j (nI (2 ^ S2)), b_home, sp)) :
    wpY_settleOne post (g_most, 0, 0, nI gs, nI ga, 0, 9, 0, g_total, b_stocks, b_held, b_picks, b_outs, b_backs, b_homes, b_on, b_pick, b_out, b_back, b_home, b_spread) (nI j) := by
  have cj : (nI j).toNatClampNeg = j := nI_clamp (by omega)
  have vj : vp_in (nI j) 6 := vp_in_nI (by omega) (by omega)
  obtain ⟨y1, y2, y3, y4, y5⟩ := (hY j hj).2 hon
  refine ⟨vj, nm_r (e' := nI (fp j).1) (by rw [cj, y2]) ⟨S1 + 2, fd_set12 hst hY hb hp hl hgs hga hj hon k1 k2 k3 k4 (fun tot sp => ?_) S1 (S1 + 2) 0 _ _ _ (by omega) (by omega) (fun y => rfl)⟩⟩
  exact ⟨vj, nm_r (e' := nI (fb j).1) (by rw [cj, y4]) ⟨S2 + 2, fd_set65 hst (fd_yqP hY) hb (fd_oknr hp k1) hl hgs hga hj hon m1 m2 m3 m4 h S2 (S2 + 2) 0 _ _ _ (by omega) (by omega) (fun y => rfl)⟩⟩
theorem fd_first6 {post : SY → Prop} {p id gs ga : Nat} {fb fp : Nat → Nat × Nat} {st : Nat → Nat} (hst : ∀ s, s < 4 → b_stocks s = nI (st s) ∧ st s ≤ 3) (hp32 : p < 32) (hYP : fd_YP p fb fp b_held b_picks b_outs b_backs b_homes) (hb : fd_ok p.testBit fb) (hp : fd_ok p.testBit fp) (hF : fd_ask p.testBit fb fp st [] 0) (hgs : gs < 16) (hga : ga ≤ 8) (hid : id < 5)
    (h : ∀ (tot : Int32) (sp pk bk : Nat → Int32), fd_YQ p.testBit (fd_pln p.testBit st fb fp (id + 1)).1 (fd_pln p.testBit st fb fp (id + 1)).2 b_on pk b_out bk b_home → post (g_most, 0, 0, nI gs, nI ga, 0, 9, 0, tot, b_stocks, b_held, b_picks, b_outs, b_backs, b_homes, b_on, pk, b_out, bk, b_home, sp)) :
    ∀ (d n j : Nat) (tot : Int32) (sp pk bk : Nat → Int32), j + d = id + 1 → d < n → fd_YQ p.testBit (fd_pln p.testBit st fb fp j).1 (fd_pln p.testBit st fb fp j).2 b_on pk b_out bk b_home →
    wY_firstPlan_6 post (nI id) n (nI j) g_most 0 0 (nI gs) (nI ga) 0 9 0 tot b_stocks b_held b_picks b_outs b_backs b_homes b_on pk b_out bk b_home sp := by
  intro d
  induction d with
  | zero =>
    intro n j tot sp pk bk hd hn hY
    obtain ⟨n, rfl⟩ : ∃ m, n = m + 1 := ⟨n - 1, by omega⟩
    have : j = id + 1 := by omega
    subst this
    rw [wY_firstPlan_6]
    exact br_t (nI_lt (by omega) (by omega)) (h tot sp pk bk hY)
  | succ d ih =>
    intro n j tot sp pk bk hd hn hY
    obtain ⟨n, rfl⟩ : ∃ m, n = m + 1 := ⟨n - 1, by omega⟩
    have cj : (nI j).toNatClampNeg = j := nI_clamp (by omega)
    have vj : vp_in (nI j) 5 := vp_in_nI (by omega) (by omega)
    obtain ⟨y1, y2⟩ := hYP j (by omega)
    obtain ⟨g1, g2, g3⟩ := fd_plnk hb hp hF j (by omega)
    rw [wY_firstPlan_6]
    refine br_f (nI_nlt (by omega) (by omega)) (br_f (nI_ge (b := 5) (by omega) (by decide)) ⟨vj, ?_⟩)
    rw [cj]
    by_cases b : p.testBit j = true
    · obtain ⟨⟨k1, k2, k3, k4⟩, ⟨m1, m2, m3, m4⟩⟩ := fd_ppk hb hp hF (j := j) (by omega) b
      refine br_f (by rw [(y2 b).1]; decide) (fd_setOne hst hY g1 g2 (fun f => fd_bl5 f hp32) hgs hga (by omega) b k1 k2 k3 k4 m1 m2 m3 m4 (fun tot' sp' => nm_r (nI_1 j) (ih n (j + 1) tot' sp' _ _ (by omega) (by omega) ?_)))
      rw [fd_pln1 b]
      exact fd_yqB (fd_yqP hY)
    · refine br_t (y1 (Bool.not_eq_true _ ▸ b)) (nm_r (nI_1 j) (ih n (j + 1) tot sp pk bk (by omega) (by omega) ?_))
      rw [fd_pln0 b]
      exact hY
theorem fd_first {post : SY → Prop} {p id gs ga : Nat} {fb fp : Nat → Nat × Nat} {st : Nat → Nat} (hst : ∀ s, s < 4 → b_stocks s = nI (st s) ∧ st s ≤ 3) (hp32 : p < 32) (hYP : fd_YP p fb fp b_held b_picks b_outs b_backs b_homes) (hb : fd_ok p.testBit fb) (hp : fd_ok p.testBit fp) (hF : fd_ask p.testBit fb fp st [] 0) (hgs : gs < 16) (hga : ga ≤ 8) (hid : id < 5)
    (h : ∀ (tot : Int32) (sp on pk ot bk hm : Nat → Int32), fd_YQ p.testBit (fd_pln p.testBit st fb fp (id + 1)).1 (fd_pln p.testBit st fb fp (id + 1)).2 on pk ot bk hm → post (g_most, 0, 0, nI gs, nI ga, 0, 9, 0, tot, b_stocks, b_held, b_picks, b_outs, b_backs, b_homes, on, pk, ot, bk, hm, sp)) :
    wpY_firstPlan post (g_most, g_extra, g_gone, nI gs, nI ga, g_floorAt, g_floorFrom, g_floor, g_total, b_stocks, b_held, b_picks, b_outs, b_backs, b_homes, b_on, b_pick, b_out, b_back, b_home, b_spread) (nI id) := by
  unfold wpY_firstPlan
  refine fd_yask (fun on pk ot bk hm h1 h5 => ?_)
  exact ⟨id + 2, fd_first6 hst hp32 hYP hb hp hF hgs hga hid (fun tot sp pk bk hY => h tot sp on pk ot bk hm hY) (id + 1) (id + 2) 0 _ _ pk bk (by omega) (by omega) (fd_yqA hp32 hYP h1 h5)⟩
theorem fd_stof {post : Int32 → Prop} {s : Nat} (hs : s < 4) (h : post (nI s)) : wpY_stationOf post (g_most, g_extra, g_gone, g_goneSet, g_goneAt, g_floorAt, g_floorFrom, g_floor, g_total, b_stocks, b_held, b_picks, b_outs, b_backs, b_homes, b_on, b_pick, b_out, b_back, b_home, b_spread) (nI (2 ^ s)) := by
  unfold wpY_stationOf
  match s, hs, h with
  | 0, _, h => exact br_t rfl h
  | 1, _, h => exact br_f (by decide) (br_t rfl h)
  | 2, _, h => exact br_f (by decide) (br_f (by decide) (br_t rfl h))
  | 3, _, h => exact br_f (by decide) (br_f (by decide) (br_f (by decide) h))
end
end
section
/-! the relation -/
def fd_I (cap p gs ga : Nat) (st : Nat → Nat) (fb fp : Nat → Nat × Nat) (pkn : Int32) (pSet pTime bSet bTime stocks pPick pBack ystocks held picks outs backs homes : Nat → Int32) : Prop :=
  1 ≤ cap ∧ gs < 16 ∧ ga ≤ 8 ∧ fd_XQ cap p st fb fp stocks pSet pTime bSet bTime ∧ fd_ask p.testBit fb fp st [] 0 ∧ (¬ pkn = 0 → ∀ i, i < cap → p.testBit i = true → pPick i = nI (fd_pp p.testBit st fb fp i) ∧ pBack i = nI (fd_pb p.testBit st fb fp i)) ∧ (∀ s, s < 4 → ystocks s = nI (st s)) ∧ fd_YP p fb fp held picks outs backs homes
def i_Rel (k : Nat) (u : SX) (v : SY) : Prop := match u, v with
  | (f_capacity, f_present, f_takers, f_givers, f_lineEnd, f_planKnown, a_pickSet, a_pickTime, a_backSet, a_backTime, a_stocks, a_askPick, a_askBack, a_takerSet, a_takerTime, a_giverSet, a_giverTime, a_takerOf, a_reachedFrom, a_giverOf, a_line, a_planPick, a_planBack), (g_most, g_extra, g_gone, g_goneSet, g_goneAt, g_floorAt, g_floorFrom, g_floor, g_total, b_stocks, b_held, b_picks, b_outs, b_backs, b_homes, b_on, b_pick, b_out, b_back, b_home, b_spread) => ∃ (cap p gs ga : Nat) (st : Nat → Nat) (fb fp : Nat → Nat × Nat), f_capacity = nI cap ∧ f_present = nI p ∧ g_most = nI cap ∧ g_goneSet = nI gs ∧ g_goneAt = nI ga ∧ fd_I cap p gs ga st fb fp f_planKnown a_pickSet a_pickTime a_backSet a_backTime a_stocks a_planPick a_planBack b_stocks b_held b_picks b_outs b_backs b_homes
section
variable {f_capacity f_present f_takers f_givers f_lineEnd f_planKnown : Int32} {a_pickSet a_pickTime a_backSet a_backTime a_stocks a_askPick a_askBack a_takerSet a_takerTime a_giverSet a_giverTime a_takerOf a_reachedFrom a_giverOf a_line a_planPick a_planBack : Nat → Int32}
variable {g_most g_extra g_gone g_goneSet g_goneAt g_floorAt g_floorFrom g_floor g_total : Int32} {b_stocks b_held b_picks b_outs b_backs b_homes b_on b_pick b_out b_back b_home b_spread : Nat → Int32}
theorem fd_in {k : Nat} {cap p gs ga : Nat} {st : Nat → Nat} {fb fp : Nat → Nat × Nat} (hI : fd_I cap p gs ga st fb fp f_planKnown a_pickSet a_pickTime a_backSet a_backTime a_stocks a_planPick a_planBack b_stocks b_held b_picks b_outs b_backs b_homes) : i_Rel k (nI cap, nI p, f_takers, f_givers, f_lineEnd, f_planKnown, a_pickSet, a_pickTime, a_backSet, a_backTime, a_stocks, a_askPick, a_askBack, a_takerSet, a_takerTime, a_giverSet, a_giverTime, a_takerOf, a_reachedFrom, a_giverOf, a_line, a_planPick, a_planBack) (nI cap, g_extra, g_gone, nI gs, nI ga, g_floorAt, g_floorFrom, g_floor, g_total, b_stocks, b_held, b_picks, b_outs, b_backs, b_homes, b_on, b_pick, b_out, b_back, b_home, b_spread) :=
  ⟨cap, p, gs, ga, st, fb, fp, rfl, rfl, rfl, rfl, rfl, hI⟩
end
theorem fd_el {C : SX → SY → Prop} (h : ∀ (f_capacity f_present f_takers f_givers f_lineEnd f_planKnown : Int32) (a_pickSet a_pickTime a_backSet a_backTime a_stocks a_askPick a_askBack a_takerSet a_takerTime a_giverSet a_giverTime a_takerOf a_reachedFrom a_giverOf a_line a_planPick a_planBack : Nat → Int32) (g_most g_extra g_gone g_goneSet g_goneAt g_floorAt g_floorFrom g_floor g_total : Int32) (b_stocks b_held b_picks b_outs b_backs b_homes b_on b_pick b_out b_back b_home b_spread : Nat → Int32) (cap p gs ga : Nat) (st : Nat → Nat) (fb fp : Nat → Nat × Nat), fd_I cap p gs ga st fb fp f_planKnown a_pickSet a_pickTime a_backSet a_backTime a_stocks a_planPick a_planBack b_stocks b_held b_picks b_outs b_backs b_homes → C (nI cap, nI p, f_takers, f_givers, f_lineEnd, f_planKnown, a_pickSet, a_pickTime, a_backSet, a_backTime, a_stocks, a_askPick, a_askBack, a_takerSet, a_takerTime, a_giverSet, a_giverTime, a_takerOf, a_reachedFrom, a_giverOf, a_line, a_planPick, a_planBack) (nI cap, g_extra, g_gone, nI gs, nI ga, g_floorAt, g_floorFrom, g_floor, g_total, b_stocks, b_held, b_picks, b_outs, b_backs, b_homes, b_on, b_pick, b_out, b_back, b_home, b_spread)) {k : Nat} {u : SX} {v : SY} (I : i_Rel k u v) : C u v := by
  obtain ⟨f_capacity, f_present, f_takers, f_givers, f_lineEnd, f_planKnown, a_pickSet, a_pickTime, a_backSet, a_backTime, a_stocks, a_askPick, a_askBack, a_takerSet, a_takerTime, a_giverSet, a_giverTime, a_takerOf, a_reachedFrom, a_giverOf, a_line, a_planPick, a_planBack⟩ := u
  obtain ⟨g_most, g_extra, g_gone, g_goneSet, g_goneAt, g_floorAt, g_floorFrom, g_floor, g_total, b_stocks, b_held, b_picks, b_outs, b_backs, b_homes, b_on, b_pick, b_out, b_back, b_home, b_spread⟩ := v
  obtain ⟨cap, p, gs, ga, st, fb, fp, rfl, rfl, rfl, rfl, rfl, hI⟩ := I
  exact h 0 0 _ _ _ _ _ _ _ _ _ _ _ _ _ _ _ _ _ _ _ _ _ 0 _ _ 0 0 _ _ _ _ _ _ _ _ _ _ _ _ _ _ _ _ cap p gs ga st fb fp hI
theorem i_up {k : Nat} {u : SX} {v : SY} (h : i_Rel k u v) : i_Rel (k + 5) u v := h
theorem fd_clampX (v : Int32) : ∃ n, n ≤ 3 ∧ (∀ post : Int32 → Prop, post (nI n) → wpX_clamp post v) ∧ (∀ (post : Int32 → Prop) (u : SY), post (nI n) → wpY_small post u v) := by
  by_cases h0 : 0 ≤ v
  · by_cases h3 : v ≤ 3
    · obtain ⟨n, rfl, _, h⟩ := fd_rg (x := v) 0 3 (by omega) (Int32.not_lt.mpr h0) (Int32.not_lt.mpr h3) (by omega)
      exact ⟨n, h, fun post hp => br_t h0 (br_t h3 hp), fun post u hp => br_t h0 (br_t h3 hp)⟩
    · exact ⟨3, by omega, fun post hp => br_t h0 (br_f h3 hp), fun post u hp => br_t h0 (br_f h3 hp)⟩
  · exact ⟨0, by omega, fun post hp => br_f h0 hp, fun post u hp => br_f h0 hp⟩
theorem fd_capX (v : Int32) : ∃ n, 1 ≤ n ∧ n ≤ 5 ∧ (∀ (post : SX → Prop) (p1 p2 p3 : Int32), wX_init_159 post p1 p2 p3 (nI n) 0 0 0 0 0 0 (fun _ => 0) (fun _ => 0) (fun _ => 0) (fun _ => 0) (fun _ => 0) (fun _ => 0) (fun _ => 0) (fun _ => 0) (fun _ => 0) (fun _ => 0) (fun _ => 0) (fun _ => 0) (fun _ => 0) (fun _ => 0) (fun _ => 0) (fun _ => 0) (fun _ => 0) → wpX_init post v p1 p2 p3) ∧
    (∀ (post : SY → Prop) (p1 p2 p3 : Int32), wY_init_115 post p1 p2 p3 (nI n) 0 0 0 0 0 0 0 0 0 (fun _ => 0) (fun _ => 0) (fun _ => 0) (fun _ => 0) (fun _ => 0) (fun _ => 0) (fun _ => 0) (fun _ => 0) (fun _ => 0) (fun _ => 0) (fun _ => 0) (fun _ => 0) → wpY_init post v p1 p2 p3) := by
  by_cases h0 : 1 ≤ v
  · by_cases h3 : v ≤ 5
    · obtain ⟨n, rfl, g, h⟩ := fd_rg (x := v) 1 5 (by omega) (Int32.not_lt.mpr h0) (Int32.not_lt.mpr h3) (by omega)
      exact ⟨n, g, h, fun post _ _ _ hp => br_t h0 (br_t h3 hp), fun post _ _ _ hp => br_t h0 (br_t h3 hp)⟩
    · exact ⟨5, by omega, by omega, fun post _ _ _ hp => br_t h0 (br_f h3 hp), fun post _ _ _ hp => br_t h0 (br_f h3 hp)⟩
  · exact ⟨1, by omega, by omega, fun post _ _ _ hp => br_f h0 hp, fun post _ _ _ hp => br_f h0 hp⟩
def fd_st3 (a b c : Nat) : Nat → Nat := fun s => if s = 0 then a else if s = 1 then b else if s = 2 then c else 0
theorem i_vc0 (k0 : Int32) (k1 : Int32) (k2 : Int32) (k3 : Int32) : wpX_init (fun u => wpY_init (fun v => i_Rel 4 u v) k0 k1 k2 k3) k0 k1 k2 k3 := by
  obtain ⟨cap, c1, c2, cx, cy⟩ := fd_capX k0
  obtain ⟨a, a1, ax, ay⟩ := fd_clampX k1
  obtain ⟨b, b1, bx, b2⟩ := fd_clampX k2
  obtain ⟨c, c3, cx', cy'⟩ := fd_clampX k3
  refine cx _ _ _ _ (ax _ (nm_e (bx _ (nm_e (cx' _ (nm_e ?_))))))
  refine cy _ _ _ _ (ay _ _ (nm_e (b2 _ _ (nm_e (cy' _ _ (nm_e ?_))))))
  have off : ∀ j, (0 : Nat).testBit j = false := fun j => Nat.zero_testBit j
  have nil : ∀ f, fd_bl (0 : Nat).testBit f 6 = [] := fun f => fd_bll _ f (a := 0) (by omega) (fun j _ _ => off j)
  have ok : ∀ f, fd_ok (0 : Nat).testBit f := fun f j _ h => absurd ((off j).symm.trans h) (by decide)
  refine fd_in (p := 0) (gs := 0) (ga := 0) (st := fd_st3 a b c) (fb := fun _ => (0, 0)) (fp := fun _ => (0, 0)) ⟨c1, by omega, by omega, ⟨c2, Nat.two_pow_pos _, ?_, fun i _ h => absurd ((off i).symm.trans h) (by decide), ok _, ok _⟩, ?_, fun h => absurd rfl h, ?_, fun j _ => ⟨fun _ => rfl, fun h => absurd ((off j).symm.trans h) (by decide)⟩⟩
  · refine fd_c4 ⟨?_, a1⟩ ⟨?_, b1⟩ ⟨?_, c3⟩ ⟨?_, Nat.zero_le _⟩
    · rw [pk_un (by decide), pk_un (by decide), pk_us, fd_byte2 (by omega)]; rfl
    · rw [pk_un (by decide), pk_us, fd_byte2 (by omega)]; rfl
    · rw [pk_us, fd_byte2 (by omega)]; rfl
    · rw [pk_un (by decide), pk_un (by decide), pk_un (by decide)]; rfl
  · unfold fd_ask
    rw [nil]
    trivial
  · refine fd_c4 ?_ ?_ ?_ ?_
    · rw [pk_un (by decide), pk_un (by decide), pk_us]; rfl
    · rw [pk_un (by decide), pk_us]; rfl
    · rw [pk_us]; rfl
    · rw [pk_un (by decide), pk_un (by decide), pk_un (by decide)]; rfl
theorem i_vc_stock {k : Nat} {u : SX} {v : SY} (I : i_Rel k u v) (hk : k + 5 ≤ 2564) (v1 : Int32) : wpX_stock (fun r => wpY_stock (fun r' => r' = r ∧ i_Rel (k + 5) u v) v v1) u v1 := by
  revert I
  intro I
  refine fd_el (C := fun u v => i_Rel (k + 5) u v → wpX_stock (fun r => wpY_stock (fun r' => r' = r ∧ i_Rel (k + 5) u v) v v1) u v1) ?_ I I
  intro f_capacity f_present f_takers f_givers f_lineEnd f_planKnown a_pickSet a_pickTime a_backSet a_backTime a_stocks a_askPick a_askBack a_takerSet a_takerTime a_giverSet a_giverTime a_takerOf a_reachedFrom a_giverOf a_line a_planPick a_planBack g_most g_extra g_gone g_goneSet g_goneAt g_floorAt g_floorFrom g_floor g_total b_stocks b_held b_picks b_outs b_backs b_homes b_on b_pick b_out b_back b_home b_spread cap p gs ga st fb fp hI J
  unfold wpX_stock wpY_stock
  by_cases h0 : v1 < 0
  · exact br_t h0 (br_t h0 ⟨rfl, J⟩)
  · by_cases h3 : v1 ≤ 3
    · obtain ⟨s, rfl, _, h⟩ := fd_rg (x := v1) 0 3 (by omega) h0 (Int32.not_lt.mpr h3) (by omega)
      have vi : vp_in (nI s) 4 := vp_in_nI (by omega) (by omega)
      refine br_f h0 (br_t h3 ⟨vi, br_f h0 (br_t h3 ⟨vi, ?_, J⟩)⟩)
      rw [nI_clamp (by omega), hI.2.2.2.2.2.2.1 s (by omega), (hI.2.2.2.1.2.2.1 s (by omega)).1]
    · exact br_f h0 (br_f h3 (br_f h0 (br_f h3 ⟨rfl, J⟩)))
theorem i_vc_bookings {k : Nat} {u : SX} {v : SY} (I : i_Rel k u v) (hk : k + 5 ≤ 2564) : wpX_bookings (fun r => wpY_bookings (fun r' => r' = r ∧ i_Rel (k + 5) u v) v) u := by
  refine fd_el (C := fun u v => i_Rel (k + 5) u v → wpX_bookings (fun r => wpY_bookings (fun r' => r' = r ∧ i_Rel (k + 5) u v) v) u) ?_ I I
  intro f_capacity f_present f_takers f_givers f_lineEnd f_planKnown a_pickSet a_pickTime a_backSet a_backTime a_stocks a_askPick a_askBack a_takerSet a_takerTime a_giverSet a_giverTime a_takerOf a_reachedFrom a_giverOf a_line a_planPick a_planBack g_most g_extra g_gone g_goneSet g_goneAt g_floorAt g_floorFrom g_floor g_total b_stocks b_held b_picks b_outs b_backs b_homes b_on b_pick b_out b_back b_home b_spread cap p gs ga st fb fp hI J
  obtain ⟨i1, i2, i3, i4, i5, i6, i7, i8⟩ := hI
  have p32 := fd_p32 i4.1 i4.2.1
  have L : ∀ (d n j : Nat), j + d = 5 → d < n → wY_bookings_4 (fun r' => r' = nI p ∧ i_Rel (k + 5) (nI cap, nI p, f_takers, f_givers, f_lineEnd, f_planKnown, a_pickSet, a_pickTime, a_backSet, a_backTime, a_stocks, a_askPick, a_askBack, a_takerSet, a_takerTime, a_giverSet, a_giverTime, a_takerOf, a_reachedFrom, a_giverOf, a_line, a_planPick, a_planBack) (nI cap, g_extra, g_gone, nI gs, nI ga, g_floorAt, g_floorFrom, g_floor, g_total, b_stocks, b_held, b_picks, b_outs, b_backs, b_homes, b_on, b_pick, b_out, b_back, b_home, b_spread)) (nI cap) g_extra g_gone (nI gs) (nI ga) g_floorAt g_floorFrom g_floor g_total b_stocks b_held b_picks b_outs b_backs b_homes b_on b_pick b_out b_back b_home b_spread n (nI (p % 2 ^ j)) (nI j) := by
    intro d
    induction d with
    | zero =>
      intro n j hd hn
      obtain ⟨n, rfl⟩ : ∃ m, n = m + 1 := ⟨n - 1, by omega⟩
      have : j = 5 := by omega
      subst this
      rw [wY_bookings_4, Nat.mod_eq_of_lt (by omega : p < 2 ^ 5)]
      exact br_t (nI_le (a := 5) (by omega) (by omega)) ⟨rfl, J⟩
    | succ d ih =>
      intro n j hd hn
      obtain ⟨n, rfl⟩ : ∃ m, n = m + 1 := ⟨n - 1, by omega⟩
      have cj : (nI j).toNatClampNeg = j := nI_clamp (by omega)
      obtain ⟨t1, t2⟩ := fd_all p p32 j (by omega)
      obtain ⟨y1, y2⟩ := i8 j (by omega)
      rw [wY_bookings_4]
      refine br_f (nI_ge (b := 5) (by omega) (by decide)) ⟨vp_in_nI (by omega) (by omega), ?_⟩
      rw [cj]
      by_cases b : p.testBit j = true
      · exact br_f (by rw [(y2 b).1]; decide) (nm_r (t1 b) (nm_r (nI_1 j) (ih n (j + 1) (by omega) (by omega))))
      · have b' : p.testBit j = false := Bool.not_eq_true _ ▸ b
        exact br_t (y1 b') (nm_r (t2 b') (nm_r (nI_1 j) (ih n (j + 1) (by omega) (by omega))))
  have e0 : p % 2 ^ 0 = 0 := by rw [Nat.pow_zero]; omega
  have L0 := L 5 6 0 (by omega) (by omega)
  rw [e0] at L0
  exact ⟨6, L0⟩
end
section
/-! probe and book -/
theorem fd_nz : ∀ a, a < 16 → 1 ≤ a → ∃ s, s < 4 ∧ a.testBit s = true := by
  intro a h1 h2
  have h : ∀ a, a < 16 → 1 ≤ a → (a.testBit 0 || a.testBit 1 || a.testBit 2 || a.testBit 3) = true := by decide
  have := h a h1 h2
  simp only [Bool.or_eq_true] at this
  rcases this with ((z | z) | z) | z
  · exact ⟨0, by omega, z⟩
  · exact ⟨1, by omega, z⟩
  · exact ⟨2, by omega, z⟩
  · exact ⟨3, by omega, z⟩
theorem fd_okpt {p id : Nat} {f : Nat → Nat × Nat} {x : Nat × Nat} (h : fd_ok p.testBit f) (hp : p < 32) (hid : id < 5) (hb : p.testBit id = false) (h1 : x.2 ≤ 8) (h2 : x.1 < 16) (h3 : 1 ≤ x.1) : fd_ok (p + 2 ^ id).testBit (fd_pt f id x) := by
  intro j hj ho
  by_cases e : j = id
  · subst e; rw [fd_pts]; exact ⟨h1, h2, fd_nz _ h2 h3⟩
  · rw [fd_ptn e]
    rw [fd_bonb id hid p hp hb j hj] at ho
    simp [e] at ho
    exact h j hj ho
theorem fd_bonn {p id j : Nat} (hp : p < 32) (hid : id < 5) (hb : p.testBit id = false) (hj : j < 6) (e : j ≠ id) : (p + 2 ^ id).testBit j = p.testBit j := by
  rw [fd_bonb id hid p hp hb j hj]; simp [e]
theorem fd_bons {p id : Nat} (hp : p < 32) (hid : id < 5) (hb : p.testBit id = false) : (p + 2 ^ id).testBit id = true := by
  rw [fd_bonb id hid p hp hb id (by omega)]; simp
theorem fd_xqAdd {cap p id a t b u : Nat} {st : Nat → Nat} {fb fp : Nat → Nat × Nat} {sk ps pt bs bt : Nat → Int32} (hQ : fd_XQ cap p st fb fp sk ps pt bs bt) (hid : id < cap) (hb : p.testBit id = false) (a1 : 1 ≤ a) (a2 : a ≤ 15) (b1 : 1 ≤ b) (b2 : b ≤ 15) (t1 : t < u) (u1 : u ≤ 8) :
    fd_XQ cap (p + 2 ^ id) st (fd_pt fb id (b, u)) (fd_pt fp id (a, t)) sk (upd ps id (nI a)) (upd pt id (nI t)) (upd bs id (nI b)) (upd bt id (nI u)) := by
  obtain ⟨q1, q2, q3, q4, q5, q6⟩ := hQ
  have p32 := fd_p32 q1 q2
  refine ⟨q1, fd_bon0 cap (by omega) id (by omega) p p32 ⟨hid, q2, hb⟩, q3, fun i hi ho => ?_, fd_okpt q5 p32 (by omega) hb (by show u ≤ 8; omega) (by show b < 16; omega) b1, fd_okpt q6 p32 (by omega) hb (by show t ≤ 8; omega) (by show a < 16; omega) a1⟩
  by_cases e : i = id
  · subst e
    rw [pk_us, pk_us, pk_us, pk_us, fd_pts, fd_pts]; exact ⟨rfl, rfl, rfl, rfl⟩
  · rw [pk_un e, pk_un e, pk_un e, pk_un e, fd_ptn e, fd_ptn e]
    rw [fd_bonn p32 (by omega) hb (by omega) e] at ho
    exact q4 i hi ho
theorem fd_xqPut {cap p id : Nat} {st : Nat → Nat} {fb fp : Nat → Nat × Nat} {sk ps pt bs bt : Nat → Int32} {x1 x2 x3 x4 : Int32} (hQ : fd_XQ cap p st fb fp sk ps pt bs bt) (hb : p.testBit id = false) : fd_XQ cap p st fb fp sk (upd ps id x1) (upd pt id x2) (upd bs id x3) (upd bt id x4) := by
  obtain ⟨q1, q2, q3, q4, q5, q6⟩ := hQ
  refine ⟨q1, q2, q3, fun i hi ho => ?_, q5, q6⟩
  have e : i ≠ id := by
    intro e
    rw [e, hb] at ho
    exact absurd ho (by decide)
  rw [pk_un e, pk_un e, pk_un e, pk_un e]
  exact q4 i hi ho
/-- Y asks of the new booking as number 5 -/
def fd_on5 (p : Nat) : Nat → Bool := fun j => p.testBit j || decide (j = 5)
theorem fd_bl5x {p : Nat} {f : Nat → Nat × Nat} {x : Nat × Nat} (hp : p < 32) : fd_bl (fd_on5 p) (fd_pt f 5 x) 6 = x :: fd_bl p.testBit f 6 := by
  have e1 : fd_bl (fd_on5 p) (fd_pt f 5 x) 6 = fd_pt f 5 x 5 :: fd_bl (fd_on5 p) (fd_pt f 5 x) 5 := by
    have : fd_on5 p 5 = true := by unfold fd_on5; simp
    show (if fd_on5 p 5 = true then _ else _) = _
    rw [if_pos this]
  have e2 : fd_bl p.testBit f 6 = fd_bl p.testBit f 5 := fd_bll p.testBit f (by omega) (fun j h1 h2 => by rw [show j = 5 by omega]; exact fd_p5 hp)
  rw [e1, fd_pts, e2]
  congr 1
  refine fd_blc (fun i hi => ⟨?_, fun _ => fd_ptn (by omega)⟩)
  unfold fd_on5
  rw [decide_eq_false (by omega : ¬ i = 5), Bool.or_false]
theorem fd_blx {p id : Nat} {f : Nat → Nat × Nat} {x : Nat × Nat} (hp : p < 32) (hid : id < 5) (hb : p.testBit id = false) : (fd_bl (p + 2 ^ id).testBit (fd_pt f id x) 6).Perm (x :: fd_bl p.testBit f 6) := by
  have h := fd_blp (f := f) (x := x) (fd_bons hp hid hb) (n := 6) (by omega)
  rw [fd_blc (on := fd_off (p + 2 ^ id).testBit id) (on' := p.testBit) (f := f) (f' := f) (n := 6) (fun i hi => ⟨?_, fun _ => rfl⟩)] at h
  · exact h
  · by_cases e : i = id
    · subst e; rw [fd_offs, hb]
    · rw [fd_offn e, fd_bonn hp hid hb hi e]
theorem fd_ask5 {p id : Nat} {fb fp : Nat → Nat × Nat} {st : Nat → Nat} {x y : Nat × Nat} (hp : p < 32) (hid : id < 5) (hb : p.testBit id = false) : fd_ask (fd_on5 p) (fd_pt fb 5 x) (fd_pt fp 5 y) st [] 0 ↔ fd_ask (p + 2 ^ id).testBit (fd_pt fb id x) (fd_pt fp id y) st [] 0 := by
  refine fd_askp ?_ ?_
  · rw [fd_bl5x hp]; exact (fd_blx hp hid hb).symm
  · rw [fd_bl5x hp]; exact (fd_blx hp hid hb).symm
theorem fd_ok5 {p : Nat} {f : Nat → Nat × Nat} {x : Nat × Nat} (h : fd_ok p.testBit f) (h1 : x.2 ≤ 8) (h2 : x.1 < 16) (h3 : 1 ≤ x.1) : fd_ok (fd_on5 p) (fd_pt f 5 x) := by
  intro j hj ho
  by_cases e : j = 5
  · subst e; rw [fd_pts]; exact ⟨h1, h2, fd_nz _ h2 h3⟩
  · rw [fd_ptn e]
    unfold fd_on5 at ho
    rw [decide_eq_false e, Bool.or_false] at ho
    exact h j hj ho
theorem fd_yq5 {p a t b u : Nat} {fb fp : Nat → Nat × Nat} {ao pk ot bk hm : Nat → Int32} (h : fd_YQ p.testBit fb fp ao pk ot bk hm) : fd_YQ (fd_on5 p) (fd_pt fb 5 (b, u)) (fd_pt fp 5 (a, t)) (upd ao 5 1) (upd pk 5 (nI a)) (upd ot 5 (nI t)) (upd bk 5 (nI b)) (upd hm 5 (nI u)) := by
  intro j hj
  by_cases e : j = 5
  · subst e
    refine ⟨fun z => ?_, fun _ => ?_⟩
    · unfold fd_on5 at z; simp at z
    · rw [pk_us, pk_us, pk_us, pk_us, pk_us, fd_pts, fd_pts]; exact ⟨by decide, rfl, rfl, rfl, rfl⟩
  · rw [pk_un e, pk_un e, pk_un e, pk_un e, pk_un e, fd_ptn e, fd_ptn e]
    have : fd_on5 p j = p.testBit j := by
      unfold fd_on5
      rw [decide_eq_false e, Bool.or_false]
    rw [this]
    exact h j hj
theorem fd_blen5 {p id : Nat} {f : Nat → Nat × Nat} {x : Nat × Nat} (hp : p < 32) (hid : id < 5) (hb : p.testBit id = false) (hq : p + 2 ^ id < 32) : (fd_bl (fd_on5 p) (fd_pt f 5 x) 6).length ≤ 5 := by
  rw [fd_bl5x hp, ← (fd_blx (f := f) (x := x) hp hid hb).length_eq]
  exact fd_bl5 _ hq
section
variable {f_capacity f_present f_takers f_givers f_lineEnd f_planKnown : Int32} {a_pickSet a_pickTime a_backSet a_backTime a_stocks a_askPick a_askBack a_takerSet a_takerTime a_giverSet a_giverTime a_takerOf a_reachedFrom a_giverOf a_line a_planPick a_planBack : Nat → Int32}
theorem fd_xprobe {post : Int32 → SX → Prop} {cap p : Nat} {st : Nat → Nat} {fb fp : Nat → Nat × Nat} {v1 v2 v3 v4 : Int32} (hQ : fd_XQ cap p st fb fp a_stocks a_pickSet a_pickTime a_backSet a_backTime)
    (hbad : ¬ fd_good v1 v2 v3 v4 → post (-1) (nI cap, nI p, f_takers, f_givers, f_lineEnd, f_planKnown, a_pickSet, a_pickTime, a_backSet, a_backTime, a_stocks, a_askPick, a_askBack, a_takerSet, a_takerTime, a_giverSet, a_giverTime, a_takerOf, a_reachedFrom, a_giverOf, a_line, a_planPick, a_planBack)) (hfull : fd_good v1 v2 v3 v4 → (∀ j, j < cap → p.testBit j = true) → post (-2) (nI cap, nI p, f_takers, f_givers, f_lineEnd, f_planKnown, a_pickSet, a_pickTime, a_backSet, a_backTime, a_stocks, a_askPick, a_askBack, a_takerSet, a_takerTime, a_giverSet, a_giverTime, a_takerOf, a_reachedFrom, a_giverOf, a_line, a_planPick, a_planBack))
    (hid : ∀ (id a t b u : Nat) (r : Int32) (ap ab : Nat → Int32) (tk gv le : Int32) (ts tt gz gw to rf go li : Nat → Int32), id < cap → p.testBit id = false → (∀ j, j < id → p.testBit j = true) → v1 = nI a → v2 = nI t → v3 = nI b → v4 = nI u → 1 ≤ a → a ≤ 15 → 1 ≤ b → b ≤ 15 → t < u → u ≤ 8 →
      (r = nI id ∧ fd_ask (p + 2 ^ id).testBit (fd_pt fb id (b, u)) (fd_pt fp id (a, t)) st [] 0 ∨ r = -3 ∧ ¬ fd_ask (p + 2 ^ id).testBit (fd_pt fb id (b, u)) (fd_pt fp id (a, t)) st [] 0) →
      post r (nI cap, nI p, tk, gv, le, f_planKnown, upd a_pickSet id (nI a), upd a_pickTime id (nI t), upd a_backSet id (nI b), upd a_backTime id (nI u), a_stocks, ap, ab, ts, tt, gz, gw, to, rf, go, li, a_planPick, a_planBack)) :
    wpX_probe post (nI cap, nI p, f_takers, f_givers, f_lineEnd, f_planKnown, a_pickSet, a_pickTime, a_backSet, a_backTime, a_stocks, a_askPick, a_askBack, a_takerSet, a_takerTime, a_giverSet, a_giverTime, a_takerOf, a_reachedFrom, a_giverOf, a_line, a_planPick, a_planBack) v1 v2 v3 v4 := by
  have q1 := hQ.1
  have p32 := fd_p32 hQ.1 hQ.2.1
  unfold wpX_probe
  refine fd_args (fun hg => br_f (by decide) ?_) (fun hg => br_t rfl (hbad hg))
  refine fd_free q1 p32 (fun id h1 h2 h3 => br_t (nI_pos' (by omega)) ?_) (fun hall => br_f fd_0m1 (hfull hg hall))
  obtain ⟨a, t, b, u, rfl, rfl, rfl, rfl, a1, a2, b1, b2, t1, u1⟩ := hg
  have ci : (nI id).toNatClampNeg = id := nI_clamp (by omega)
  have vi : vp_in (nI id) 8 := vp_in_nI (by omega) (by omega)
  obtain ⟨o1, o2⟩ := fd_bon1 id (by omega) p p32 h2
  refine ⟨vi, nm_r (e' := upd a_pickSet id (nI a)) (by rw [ci, fd_byte2 (by omega)]) ⟨vi, nm_r (e' := upd a_pickTime id (nI t)) (by rw [ci, fd_byte2 (by omega)]) ⟨vi, nm_r (e' := upd a_backSet id (nI b)) (by rw [ci, fd_byte2 (by omega)]) ⟨vi, nm_r (e' := upd a_backTime id (nI u)) (by rw [ci, fd_byte2 (by omega)]) (nm_r o1 ?_)⟩⟩⟩⟩
  refine fd_feas (fd_xqAdd hQ h1 h2 a1 a2 b1 b2 t1 u1) (fun r ap ab tk gv le ts tt gz gw to rf go li r1 r2 => nm_r o2 ?_)
  rcases r1 with z | z
  · subst z
    exact br_t rfl (hid id a t b u (-3) ap ab tk gv le ts tt gz gw to rf go li h1 h2 h3 rfl rfl rfl rfl a1 a2 b1 b2 t1 u1 (Or.inr ⟨rfl, fun z => absurd (r2.mpr z) (by decide)⟩))
  · subst z
    exact br_f (by decide) (hid id a t b u (nI id) ap ab tk gv le ts tt gz gw to rf go li h1 h2 h3 rfl rfl rfl rfl a1 a2 b1 b2 t1 u1 (Or.inl ⟨rfl, r2.mp rfl⟩))
end
section
variable {g_most g_extra g_gone g_goneSet g_goneAt g_floorAt g_floorFrom g_floor g_total : Int32} {b_stocks b_held b_picks b_outs b_backs b_homes b_on b_pick b_out b_back b_home b_spread : Nat → Int32}
theorem fd_yprobeB {post : Int32 → SY → Prop} {v1 v2 v3 v4 : Int32} (hg : ¬ fd_good v1 v2 v3 v4) (h : post (-1) (g_most, g_extra, g_gone, g_goneSet, g_goneAt, g_floorAt, g_floorFrom, g_floor, g_total, b_stocks, b_held, b_picks, b_outs, b_backs, b_homes, b_on, b_pick, b_out, b_back, b_home, b_spread)) : wpY_probe post (g_most, g_extra, g_gone, g_goneSet, g_goneAt, g_floorAt, g_floorFrom, g_floor, g_total, b_stocks, b_held, b_picks, b_outs, b_backs, b_homes, b_on, b_pick, b_out, b_back, b_home, b_spread) v1 v2 v3 v4 := by
  unfold wpY_probe
  exact fd_bad (fun z => absurd z hg) (fun _ => br_f (by decide) h)
theorem fd_yprobeF {post : Int32 → SY → Prop} {v1 v2 v3 v4 : Int32} {cap p : Nat} {fb fp : Nat → Nat × Nat} (hg : fd_good v1 v2 v3 v4) (hcap : cap ≤ 5) (hp : p < 32) (hY : fd_YP p fb fp b_held b_picks b_outs b_backs b_homes) (hall : ∀ j, j < cap → p.testBit j = true) (h : post (-2) (nI cap, g_extra, g_gone, g_goneSet, g_goneAt, g_floorAt, g_floorFrom, g_floor, g_total, b_stocks, b_held, b_picks, b_outs, b_backs, b_homes, b_on, b_pick, b_out, b_back, b_home, b_spread)) : wpY_probe post (nI cap, g_extra, g_gone, g_goneSet, g_goneAt, g_floorAt, g_floorFrom, g_floor, g_total, b_stocks, b_held, b_picks, b_outs, b_backs, b_homes, b_on, b_pick, b_out, b_back, b_home, b_spread) v1 v2 v3 v4 := by
  unfold wpY_probe
  refine fd_bad (fun _ => br_t rfl ⟨6, fd_probe23 hp hY (fun n => ?_) 5 6 0 (by omega) (by omega)⟩) (fun z => absurd hg z)
  have n5 := fd_yf cap (by omega) p hp hall
  have l5 := fd_yl p hp 5 (by omega)
  rw [wY_probe_23]
  exact br_t fd_m1lt (br_t (nI_le n5 (by omega)) h)
theorem fd_yprobeI {post : Int32 → SY → Prop} {cap p id a t b u gs ga : Nat} {st : Nat → Nat} {fb fp : Nat → Nat × Nat} (hst : ∀ s, s < 4 → b_stocks s = nI (st s) ∧ st s ≤ 3) (hcap : cap ≤ 5) (hp : p < 2 ^ cap) (hY : fd_YP p fb fp b_held b_picks b_outs b_backs b_homes) (hb : fd_ok p.testBit fb) (hpk : fd_ok p.testBit fp) (hgs : gs < 16) (hga : ga ≤ 8)
    (h1 : id < cap) (h2 : p.testBit id = false) (h3 : ∀ j, j < id → p.testBit j = true) (a1 : 1 ≤ a) (a2 : a ≤ 15) (b1 : 1 ≤ b) (b2 : b ≤ 15) (t1 : t < u) (u1 : u ≤ 8)
    (h : ∀ (r tot : Int32) (sp on pk ot bk hm : Nat → Int32), (r = nI id ∧ fd_ask (p + 2 ^ id).testBit (fd_pt fb id (b, u)) (fd_pt fp id (a, t)) st [] 0 ∨ r = -3 ∧ ¬ fd_ask (p + 2 ^ id).testBit (fd_pt fb id (b, u)) (fd_pt fp id (a, t)) st [] 0) → post r (nI cap, 0, 0, nI gs, nI ga, 0, 9, 0, tot, b_stocks, b_held, b_picks, b_outs, b_backs, b_homes, on, pk, ot, bk, hm, sp)) :
    wpY_probe post (nI cap, g_extra, g_gone, nI gs, nI ga, g_floorAt, g_floorFrom, g_floor, g_total, b_stocks, b_held, b_picks, b_outs, b_backs, b_homes, b_on, b_pick, b_out, b_back, b_home, b_spread) (nI a) (nI t) (nI b) (nI u) := by
  have p32 := fd_p32 hcap hp
  unfold wpY_probe
  refine fd_bad (fun _ => br_t rfl ⟨6, fd_probe23 p32 hY (fun n => ?_) 5 6 0 (by omega) (by omega)⟩) (fun z => absurd ⟨a, t, b, u, rfl, rfl, rfl, rfl, a1, a2, b1, b2, t1, u1⟩ z)
  have e5 := fd_yt1 p p32 id (by omega) h2 h3
  have n5 := fd_yt2 cap (by omega) id (by omega) p p32 ⟨h1, hp, h2⟩
  have q := fd_bon0 cap (by omega) id (by omega) p p32 ⟨h1, hp, h2⟩
  have q32 := fd_p32 hcap q
  rw [wY_probe_23, e5]
  refine br_t fd_m1lt (br_f (nI_ge n5 (by omega)) (br_t (nI_le (b := 4) (by omega) (by omega)) (fd_yask (fun on pk ot bk hm g1 g5 => ?_))))
  refine nm_r (e' := upd on 5 1) (by rw [fd_b1]) (nm_e (nm_e (nm_e (nm_e ?_))))
  refine fd_fitsP hst (fd_yq5 (fd_yqA p32 hY g1 g5)) (fd_ok5 hb (by show u ≤ 8; omega) (by show b < 16; omega) b1) (fd_ok5 hpk (by show t ≤ 8; omega) (by show a < 16; omega) a1) (fd_blen5 p32 (by omega) h2 q32) hgs hga (fun r tot sp r1 r2 => ?_)
  rw [fd_ask5 p32 (by omega) h2] at r2
  rcases r1 with z | z
  · subst z
    exact br_t rfl (h (-3) tot sp _ _ _ _ _ (Or.inr ⟨rfl, fun z => absurd (r2.mpr z) (by decide)⟩))
  · subst z
    exact br_f (by decide) (h (nI id) tot sp _ _ _ _ _ (Or.inl ⟨rfl, r2.mp rfl⟩))
end
theorem i_vc_probe {k : Nat} {u : SX} {v : SY} (I : i_Rel k u v) (hk : k + 5 ≤ 2564) (v1 : Int32) (v2 : Int32) (v3 : Int32) (v4 : Int32) : wpX_probe (fun r u' => wpY_probe (fun r' v' => r' = r ∧ i_Rel (k + 5) u' v') v v1 v2 v3 v4) u v1 v2 v3 v4 := by
  refine fd_el (C := fun u v => wpX_probe (fun r u' => wpY_probe (fun r' v' => r' = r ∧ i_Rel (k + 5) u' v') v v1 v2 v3 v4) u v1 v2 v3 v4) ?_ I
  intro f_capacity f_present f_takers f_givers f_lineEnd f_planKnown a_pickSet a_pickTime a_backSet a_backTime a_stocks a_askPick a_askBack a_takerSet a_takerTime a_giverSet a_giverTime a_takerOf a_reachedFrom a_giverOf a_line a_planPick a_planBack g_most g_extra g_gone g_goneSet g_goneAt g_floorAt g_floorFrom g_floor g_total b_stocks b_held b_picks b_outs b_backs b_homes b_on b_pick b_out b_back b_home b_spread cap p gs ga st fb fp hI
  obtain ⟨i1, i2, i3, i4, i5, i6, i7, i8⟩ := hI
  have p32 := fd_p32 i4.1 i4.2.1
  refine fd_xprobe i4 (fun hg => fd_yprobeB hg ⟨rfl, fd_in ⟨i1, i2, i3, i4, i5, i6, i7, i8⟩⟩) (fun hg hall => fd_yprobeF hg i4.1 p32 i8 hall ⟨rfl, fd_in ⟨i1, i2, i3, i4, i5, i6, i7, i8⟩⟩) ?_
  intro id a t b u r ap ab tk gv le ts tt gz gw to rf go li h1 h2 h3 e1 e2 e3 e4 a1 a2 b1 b2 t1 u1 hr
  subst e1 e2 e3 e4
  refine fd_yprobeI (fun s hs => ⟨i7 s hs, (i4.2.2.1 s hs).2⟩) i4.1 i4.2.1 i8 i4.2.2.2.2.1 i4.2.2.2.2.2 i2 i3 h1 h2 h3 a1 a2 b1 b2 t1 u1 (fun r' tot sp on pk ot bk hm hr' => ⟨?_, fd_in ⟨i1, i2, i3, fd_xqPut i4 h2, i5, i6, i7, i8⟩⟩)
  rcases hr with ⟨z, w⟩ | ⟨z, w⟩
  · rcases hr' with ⟨z', w'⟩ | ⟨z', w'⟩
    · rw [z, z']
    · exact absurd w w'
  · rcases hr' with ⟨z', w'⟩ | ⟨z', w'⟩
    · exact absurd w' w
    · rw [z, z']
theorem fd_ypAdd {p id a t b u : Nat} {fb fp : Nat → Nat × Nat} {held picks outs backs homes : Nat → Int32} (h : fd_YP p fb fp held picks outs backs homes) (hp : p < 32) (hid : id < 5) (hb : p.testBit id = false) : fd_YP (p + 2 ^ id) (fd_pt fb id (b, u)) (fd_pt fp id (a, t)) (upd held id 1) (upd picks id (nI a)) (upd outs id (nI t)) (upd backs id (nI b)) (upd homes id (nI u)) := by
  intro j hj
  by_cases e : j = id
  · subst e
    refine ⟨fun z => absurd ((fd_bons hp hid hb).symm.trans z) (by decide), fun _ => ?_⟩
    rw [pk_us, pk_us, pk_us, pk_us, pk_us, fd_pts, fd_pts]; exact ⟨rfl, rfl, rfl, rfl, rfl⟩
  · rw [pk_un e, pk_un e, pk_un e, pk_un e, pk_un e, fd_ptn e, fd_ptn e, fd_bonn hp hid hb (by omega) e]
    exact h j hj
theorem i_vc_book {k : Nat} {u : SX} {v : SY} (I : i_Rel k u v) (hk : k + 5 ≤ 2564) (v1 : Int32) (v2 : Int32) (v3 : Int32) (v4 : Int32) : wpX_book (fun r u' => wpY_book (fun r' v' => r' = r ∧ i_Rel (k + 5) u' v') v v1 v2 v3 v4) u v1 v2 v3 v4 := by
  refine fd_el (C := fun u v => wpX_book (fun r u' => wpY_book (fun r' v' => r' = r ∧ i_Rel (k + 5) u' v') v v1 v2 v3 v4) u v1 v2 v3 v4) ?_ I
  intro f_capacity f_present f_takers f_givers f_lineEnd f_planKnown a_pickSet a_pickTime a_backSet a_backTime a_stocks a_askPick a_askBack a_takerSet a_takerTime a_giverSet a_giverTime a_takerOf a_reachedFrom a_giverOf a_line a_planPick a_planBack g_most g_extra g_gone g_goneSet g_goneAt g_floorAt g_floorFrom g_floor g_total b_stocks b_held b_picks b_outs b_backs b_homes b_on b_pick b_out b_back b_home b_spread cap p gs ga st fb fp hI
  obtain ⟨i1, i2, i3, i4, i5, i6, i7, i8⟩ := hI
  have p32 := fd_p32 i4.1 i4.2.1
  have c5 := i4.1
  unfold wpX_book
  refine fd_xprobe i4 (fun hg => br_t (by decide) ?_) (fun hg hall => br_t (by decide) ?_) ?_
  · unfold wpY_book
    exact fd_yprobeB hg (br_t (by decide) ⟨rfl, fd_in ⟨i1, i2, i3, i4, i5, i6, i7, i8⟩⟩)
  · unfold wpY_book
    exact fd_yprobeF hg i4.1 p32 i8 hall (br_t (by decide) ⟨rfl, fd_in ⟨i1, i2, i3, i4, i5, i6, i7, i8⟩⟩)
  · intro id a t b u r ap ab tk gv le ts tt gz gw to rf go li h1 h2 h3 e1 e2 e3 e4 a1 a2 b1 b2 t1 u1 hr
    subst e1 e2 e3 e4
    obtain ⟨o1, o2⟩ := fd_bon1 id (by omega) p p32 h2
    have ci : (nI id).toNatClampNeg = id := nI_clamp (by omega)
    have vi : vp_in (nI id) 5 := vp_in_nI (by omega) (by omega)
    rcases hr with ⟨z, w⟩ | ⟨z, w⟩
    · subst z
      refine br_f (nI_pos (by omega)) (nm_r o1 ?_)
      unfold wpY_book
      refine fd_yprobeI (fun s hs => ⟨i7 s hs, (i4.2.2.1 s hs).2⟩) i4.1 i4.2.1 i8 i4.2.2.2.2.1 i4.2.2.2.2.2 i2 i3 h1 h2 h3 a1 a2 b1 b2 t1 u1 (fun r' tot sp on pk ot bk hm hr' => ?_)
      rcases hr' with ⟨z', w'⟩ | ⟨z', w'⟩
      · subst z'
        refine br_f (nI_pos (by omega)) (br_f (nI_ge (b := 5) (by omega) (by decide)) ⟨vi, nm_r (e' := upd b_held id 1) (by rw [ci, fd_b1]) ⟨vi, nm_r (e' := upd b_picks id (nI a)) (by rw [ci]) ⟨vi, nm_r (e' := upd b_outs id (nI t)) (by rw [ci]) ⟨vi, nm_r (e' := upd b_backs id (nI b)) (by rw [ci]) ⟨vi, nm_r (e' := upd b_homes id (nI u)) (by rw [ci]) ⟨rfl, ?_⟩⟩⟩⟩⟩⟩)
        exact fd_in ⟨i1, i2, i3, fd_xqAdd i4 h1 h2 a1 a2 b1 b2 t1 u1, w, fun z => absurd rfl z, i7, fd_ypAdd i8 p32 (by omega) h2⟩
      · exact absurd w w'
    · subst z
      refine br_t (by decide) ?_
      unfold wpY_book
      refine fd_yprobeI (fun s hs => ⟨i7 s hs, (i4.2.2.1 s hs).2⟩) i4.1 i4.2.1 i8 i4.2.2.2.2.1 i4.2.2.2.2.2 i2 i3 h1 h2 h3 a1 a2 b1 b2 t1 u1 (fun r' tot sp on pk ot bk hm hr' => ?_)
      rcases hr' with ⟨z', w'⟩ | ⟨z', w'⟩
      · exact absurd w' w
      · subst z'
        exact br_t (by decide) ⟨rfl, fd_in ⟨i1, i2, i3, fd_xqPut i4 h2, i5, i6, i7, i8⟩⟩
end
section
/-! cancel, setStock, the plan's questions -/
theorem fd_xqOff {cap p q : Nat} {st : Nat → Nat} {fb fp : Nat → Nat × Nat} {sk ps pt bs bt : Nat → Int32} (hQ : fd_XQ cap p st fb fp sk ps pt bs bt) (hq : q < 2 ^ cap) (hb : ∀ j, j < 6 → q.testBit j = true → p.testBit j = true) : fd_XQ cap q st fb fp sk ps pt bs bt := by
  obtain ⟨q1, q2, q3, q4, q5, q6⟩ := hQ
  exact ⟨q1, hq, q3, fun i hi ho => q4 i hi (hb i (by omega) ho), fun j hj ho => q5 j hj (hb j hj ho), fun j hj ho => q6 j hj (hb j hj ho)⟩
theorem fd_ypOff {p id : Nat} {fb fp : Nat → Nat × Nat} {held picks outs backs homes : Nat → Int32} (h : fd_YP p fb fp held picks outs backs homes) (hp : p < 32) (hid : id < 5) (hb : p.testBit id = true) : fd_YP (p - 2 ^ id) fb fp (upd held id 0) picks outs backs homes := by
  intro j hj
  have ej := fd_boffb id hid p hp hb j (by omega)
  by_cases e : j = id
  · subst e
    refine ⟨fun _ => pk_us, fun z => ?_⟩
    rw [ej] at z
    simp at z
  · have : (p - 2 ^ id).testBit j = p.testBit j := by rw [ej]; simp [e]
    rw [pk_un e, this]
    exact h j hj
theorem i_vc_cancel {k : Nat} {u : SX} {v : SY} (I : i_Rel k u v) (hk : k + 5 ≤ 2564) (v1 : Int32) : wpX_cancel (fun r u' => wpY_cancel (fun r' v' => r' = r ∧ i_Rel (k + 5) u' v') v v1) u v1 := by
  refine fd_el (C := fun u v => wpX_cancel (fun r u' => wpY_cancel (fun r' v' => r' = r ∧ i_Rel (k + 5) u' v') v v1) u v1) ?_ I
  intro f_capacity f_present f_takers f_givers f_lineEnd f_planKnown a_pickSet a_pickTime a_backSet a_backTime a_stocks a_askPick a_askBack a_takerSet a_takerTime a_giverSet a_giverTime a_takerOf a_reachedFrom a_giverOf a_line a_planPick a_planBack g_most g_extra g_gone g_goneSet g_goneAt g_floorAt g_floorFrom g_floor g_total b_stocks b_held b_picks b_outs b_backs b_homes b_on b_pick b_out b_back b_home b_spread cap p gs ga st fb fp hI
  obtain ⟨i1, i2, i3, i4, i5, i6, i7, i8⟩ := hI
  have p32 := fd_p32 i4.1 i4.2.1
  have c5 := i4.1
  unfold wpX_cancel
  refine fd_holds i4.1 p32 (fun hd => br_f (by decide) ?_) (fun hd => br_t rfl ?_)
  · obtain ⟨id, rfl, h1, h2⟩ := hd
    obtain ⟨o1, o2⟩ := fd_boff id (by omega) p p32 h2
    have ob := fd_boffb id (by omega) p p32 h2
    have ci : (nI id).toNatClampNeg = id := nI_clamp (by omega)
    have q : p - 2 ^ id < 2 ^ cap := Nat.lt_of_le_of_lt (Nat.sub_le _ _) i4.2.1
    have q32 := fd_p32 i4.1 q
    have sub : ∀ j, j < 6 → (p - 2 ^ id).testBit j = true → p.testBit j = true := by
      intro j hj z
      rw [ob j hj, Bool.and_eq_true] at z
      exact z.1
    have xq := fd_xqOff i4 q sub
    refine nm_r o1 (fd_feas xq (fun r ap ab tk gv le ts tt gz gw to rf go li r1 r2 => ?_))
    have Y : ∀ (postY : Int32 → SY → Prop), (fd_ask (p - 2 ^ id).testBit fb fp st [] 0 → ∀ (tot : Int32) (sp on pk ot bk hm : Nat → Int32), postY (nI id) (nI cap, 0, 0, nI gs, nI ga, 0, 9, 0, tot, b_stocks, upd b_held id 0, b_picks, b_outs, b_backs, b_homes, on, pk, ot, bk, hm, sp)) → (¬ fd_ask (p - 2 ^ id).testBit fb fp st [] 0 → ∀ (tot : Int32) (sp on pk ot bk hm : Nat → Int32), postY (-3) (nI cap, 0, 0, nI gs, nI ga, 0, 9, 0, tot, b_stocks, b_held, b_picks, b_outs, b_backs, b_homes, on, pk, ot, bk, hm, sp)) → wpY_cancel postY (nI cap, g_extra, g_gone, nI gs, nI ga, g_floorAt, g_floorFrom, g_floor, g_total, b_stocks, b_held, b_picks, b_outs, b_backs, b_homes, b_on, b_pick, b_out, b_back, b_home, b_spread) (nI id) := by
      intro postY hy hn
      unfold wpY_cancel
      refine fd_there i4.1 i4.2.1 i8 (fun _ => br_f (by decide) ?_) (fun z => absurd ⟨id, rfl, h1, h2⟩ z)
      refine fd_yask (fun on pk ot bk hm g1 g5 => ⟨vp_in_nI (by omega) (by omega), nm_r (e' := upd on id 0) (by rw [ci, fd_b0]) ?_⟩)
      refine fd_fitsP (fun s hs => ⟨i7 s hs, (i4.2.2.1 s hs).2⟩) (fd_ye (fd_yqA p32 i8 g1 g5) ob) xq.2.2.2.2.1 xq.2.2.2.2.2 (fd_bl5 _ q32) i2 i3 (fun r' tot sp r1' r2' => ?_)
      rcases r1' with z | z
      · subst z
        exact br_t rfl (hn (fun w => absurd (r2'.mpr w) (by decide)) tot sp _ pk ot bk hm)
      · subst z
        exact br_f (by decide) ⟨vp_in_nI (by omega) (by omega), nm_r (e' := upd b_held id 0) (by rw [ci, fd_b0]) (hy (r2'.mp rfl) tot sp _ pk ot bk hm)⟩
    rcases r1 with z | z
    · subst z
      refine br_t rfl (nm_r o2 (Y _ (fun w => absurd (r2.mpr w) (by decide)) (fun _ tot sp on pk ot bk hm => ⟨rfl, fd_in ⟨i1, i2, i3, i4, i5, i6, i7, i8⟩⟩)))
    · subst z
      refine br_f (by decide) (Y _ (fun w tot sp on pk ot bk hm => ⟨rfl, fd_in ⟨i1, i2, i3, xq, w, fun z => absurd rfl z, i7, fd_ypOff i8 p32 (by omega) h2⟩⟩) (fun w => absurd (r2.mp rfl) w))
  · unfold wpY_cancel
    exact fd_there i4.1 i4.2.1 i8 (fun z => absurd z hd) (fun _ => br_t rfl ⟨rfl, fd_in ⟨i1, i2, i3, i4, i5, i6, i7, i8⟩⟩)
def fd_sts (st : Nat → Nat) (s n : Nat) : Nat → Nat := fun i => if i = s then n else st i
theorem fd_stss {st : Nat → Nat} {s n : Nat} : fd_sts st s n s = n := if_pos rfl
theorem fd_stsn {st : Nat → Nat} {s n i : Nat} (h : i ≠ s) : fd_sts st s n i = st i := if_neg h
theorem fd_stq {st : Nat → Nat} {s n : Nat} {sk : Nat → Int32} (hn : n ≤ 3) (h : ∀ i, i < 4 → sk i = nI (st i) ∧ st i ≤ 3) : ∀ i, i < 4 → upd sk s (nI n) i = nI (fd_sts st s n i) ∧ fd_sts st s n i ≤ 3 := by
  intro i hi
  by_cases e : i = s
  · subst e; rw [pk_us, fd_stss]; exact ⟨rfl, hn⟩
  · rw [pk_un e, fd_stsn e]; exact h i hi
theorem fd_stb {st : Nat → Nat} {s : Nat} {x : Int32} {sk : Nat → Int32} (h : ∀ i, i < 4 → sk i = nI (st i) ∧ st i ≤ 3) (hs : s < 4) : ∀ i, i < 4 → upd (upd sk s x) s (nI (st s)) i = nI (st i) ∧ st i ≤ 3 := by
  intro i hi
  rw [fd_upu]
  by_cases e : i = s
  · subst e; rw [pk_us]; exact ⟨rfl, (h i hi).2⟩
  · rw [pk_un e]; exact h i hi
theorem i_vc_setStock {k : Nat} {u : SX} {v : SY} (I : i_Rel k u v) (hk : k + 5 ≤ 2564) (v1 : Int32) (v2 : Int32) : wpX_setStock (fun r u' => wpY_setStock (fun r' v' => r' = r ∧ i_Rel (k + 5) u' v') v v1 v2) u v1 v2 := by
  refine fd_el (C := fun u v => wpX_setStock (fun r u' => wpY_setStock (fun r' v' => r' = r ∧ i_Rel (k + 5) u' v') v v1 v2) u v1 v2) ?_ I
  intro f_capacity f_present f_takers f_givers f_lineEnd f_planKnown a_pickSet a_pickTime a_backSet a_backTime a_stocks a_askPick a_askBack a_takerSet a_takerTime a_giverSet a_giverTime a_takerOf a_reachedFrom a_giverOf a_line a_planPick a_planBack g_most g_extra g_gone g_goneSet g_goneAt g_floorAt g_floorFrom g_floor g_total b_stocks b_held b_picks b_outs b_backs b_homes b_on b_pick b_out b_back b_home b_spread cap p gs ga st fb fp hI
  have J : i_Rel (k + 5) (nI cap, nI p, f_takers, f_givers, f_lineEnd, f_planKnown, a_pickSet, a_pickTime, a_backSet, a_backTime, a_stocks, a_askPick, a_askBack, a_takerSet, a_takerTime, a_giverSet, a_giverTime, a_takerOf, a_reachedFrom, a_giverOf, a_line, a_planPick, a_planBack) (nI cap, g_extra, g_gone, nI gs, nI ga, g_floorAt, g_floorFrom, g_floor, g_total, b_stocks, b_held, b_picks, b_outs, b_backs, b_homes, b_on, b_pick, b_out, b_back, b_home, b_spread) := fd_in hI
  obtain ⟨i1, i2, i3, i4, i5, i6, i7, i8⟩ := hI
  have p32 := fd_p32 i4.1 i4.2.1
  unfold wpX_setStock
  by_cases c1 : v1 < 0
  · exact br_t c1 (br_t c1 ⟨rfl, J⟩)
  by_cases c2 : 3 < v1
  · exact br_f c1 (br_t c2 (br_f c1 (br_t c2 ⟨rfl, J⟩)))
  by_cases c3 : v2 < 0
  · exact br_f c1 (br_f c2 (br_t c3 (br_f c1 (br_f c2 (br_t c3 ⟨rfl, J⟩)))))
  by_cases c4 : v2 ≤ 3
  rotate_left
  · exact br_f c1 (br_f c2 (br_f c3 (br_f c4 (br_f c1 (br_f c2 (br_f c3 (br_f c4 ⟨rfl, J⟩)))))))
  obtain ⟨s, rfl, _, hs⟩ := fd_rg (x := v1) 0 3 (by omega) c1 c2 (by omega)
  obtain ⟨n, rfl, _, hn⟩ := fd_rg (x := v2) 0 3 (by omega) c3 (Int32.not_lt.mpr c4) (by omega)
  have ci : (nI s).toNatClampNeg = s := nI_clamp (by omega)
  have vi : vp_in (nI s) 4 := vp_in_nI (by omega) (by omega)
  have xs := i4.2.2.1 s (by omega)
  have xq : fd_XQ cap p (fd_sts st s n) fb fp (upd a_stocks s (nI n)) a_pickSet a_pickTime a_backSet a_backTime := ⟨i4.1, i4.2.1, fd_stq hn i4.2.2.1, i4.2.2.2⟩
  have ys : ∀ i, i < 4 → b_stocks i = nI (st i) ∧ st i ≤ 3 := fun i hi => ⟨i7 i hi, (i4.2.2.1 i hi).2⟩
  refine br_f c1 (br_f c2 (br_f c3 (br_t c4 ⟨vi, nm_r (e' := nI (st s)) (by rw [ci, xs.1]) ⟨vi, nm_r (e' := upd a_stocks s (nI n)) (by rw [ci, fd_byte2 (by omega)]) (fd_feas xq (fun r ap ab tk gv le ts tt gz gw to rf go li r1 r2 => ?_))⟩⟩)))
  have Y : ∀ (postY : Int32 → SY → Prop), (fd_ask p.testBit fb fp (fd_sts st s n) [] 0 → ∀ (tot : Int32) (sp on pk ot bk hm : Nat → Int32), postY (nI n) (nI cap, 0, 0, nI gs, nI ga, 0, 9, 0, tot, upd b_stocks s (nI n), b_held, b_picks, b_outs, b_backs, b_homes, on, pk, ot, bk, hm, sp)) → (¬ fd_ask p.testBit fb fp (fd_sts st s n) [] 0 → ∀ (tot : Int32) (sp on pk ot bk hm : Nat → Int32), postY (-3) (nI cap, 0, 0, nI gs, nI ga, 0, 9, 0, tot, upd (upd b_stocks s (nI n)) s (nI (st s)), b_held, b_picks, b_outs, b_backs, b_homes, on, pk, ot, bk, hm, sp)) → wpY_setStock postY (nI cap, g_extra, g_gone, nI gs, nI ga, g_floorAt, g_floorFrom, g_floor, g_total, b_stocks, b_held, b_picks, b_outs, b_backs, b_homes, b_on, b_pick, b_out, b_back, b_home, b_spread) (nI s) (nI n) := by
    intro postY hy hn'
    unfold wpY_setStock
    refine br_f c1 (br_f c2 (br_f c3 (br_t c4 ⟨vi, nm_r (e' := nI (st s)) (by rw [ci, i7 s (by omega)]) ⟨vi, nm_r (e' := upd b_stocks s (nI n)) (by rw [ci]) (fd_yask (fun on pk ot bk hm g1 g5 => ?_))⟩⟩)))
    refine fd_fitsP (fd_stq hn ys) (fd_yqA p32 i8 g1 g5) i4.2.2.2.2.1 i4.2.2.2.2.2 (fd_bl5 _ p32) i2 i3 (fun r' tot sp r1' r2' => ?_)
    rcases r1' with z | z
    · subst z
      exact br_t rfl ⟨vi, nm_r (e' := upd (upd b_stocks s (nI n)) s (nI (st s))) (by rw [ci]) (hn' (fun w => absurd (r2'.mpr w) (by decide)) tot sp _ pk ot bk hm)⟩
    · subst z
      exact br_f (by decide) (hy (r2'.mp rfl) tot sp _ pk ot bk hm)
  rcases r1 with z | z
  · subst z
    refine br_t rfl ⟨vi, nm_r (e' := upd (upd a_stocks s (nI n)) s (nI (st s))) (by rw [ci, fd_byte2 (by omega)]) (Y _ (fun w => absurd (r2.mpr w) (by decide)) (fun _ tot sp on pk ot bk hm => ⟨rfl, fd_in ⟨i1, i2, i3, ⟨i4.1, i4.2.1, fd_stb i4.2.2.1 (by omega), i4.2.2.2⟩, i5, i6, fun i hi => (fd_stb ys (by omega) i hi).1, i8⟩⟩))⟩
  · subst z
    exact br_f (by decide) (Y _ (fun w tot sp on pk ot bk hm => ⟨rfl, fd_in ⟨i1, i2, i3, xq, w, fun z => absurd rfl z, fun i hi => (fd_stq hn ys i hi).1, i8⟩⟩) (fun w => absurd (r2.mp rfl) w))
theorem i_vc_pickupOf {k : Nat} {u : SX} {v : SY} (I : i_Rel k u v) (hk : k + 5 ≤ 2564) (v1 : Int32) : wpX_pickupOf (fun r u' => wpY_pickupOf (fun r' v' => r' = r ∧ i_Rel (k + 5) u' v') v v1) u v1 := by
  refine fd_el (C := fun u v => wpX_pickupOf (fun r u' => wpY_pickupOf (fun r' v' => r' = r ∧ i_Rel (k + 5) u' v') v v1) u v1) ?_ I
  intro f_capacity f_present f_takers f_givers f_lineEnd f_planKnown a_pickSet a_pickTime a_backSet a_backTime a_stocks a_askPick a_askBack a_takerSet a_takerTime a_giverSet a_giverTime a_takerOf a_reachedFrom a_giverOf a_line a_planPick a_planBack g_most g_extra g_gone g_goneSet g_goneAt g_floorAt g_floorFrom g_floor g_total b_stocks b_held b_picks b_outs b_backs b_homes b_on b_pick b_out b_back b_home b_spread cap p gs ga st fb fp hI
  obtain ⟨i1, i2, i3, i4, i5, i6, i7, i8⟩ := hI
  have p32 := fd_p32 i4.1 i4.2.1
  have c5 := i4.1
  unfold wpX_pickupOf
  refine fd_holds i4.1 p32 (fun hd => br_f (by decide) ?_) (fun hd => br_t rfl ?_)
  · obtain ⟨id, rfl, h1, h2⟩ := hd
    have ci : (nI id).toNatClampNeg = id := nI_clamp (by omega)
    refine fd_plan i4 i5 i6 (fun kn ap ab pp pb tk gv le ts tt gz gw to rf go li hP => ⟨vp_in_nI (by omega) (by omega), ?_⟩)
    rw [ci]
    unfold wpY_pickupOf
    refine fd_there i4.1 i4.2.1 i8 (fun _ => br_f (by decide) ?_) (fun z => absurd ⟨id, rfl, h1, h2⟩ z)
    refine fd_first (fun s hs => ⟨i7 s hs, (i4.2.2.1 s hs).2⟩) p32 i8 i4.2.2.2.2.1 i4.2.2.2.2.2 i5 i2 i3 (by omega) (fun tot sp on pk ot bk hm hY => ⟨vp_in_nI (by omega) (by omega), ?_⟩)
    have e := ((hY id (by omega)).2 h2).2.1
    rw [fd_pln1 h2] at e
    have e2 : (fd_nr (fd_pln p.testBit st fb fp id).2 id (2 ^ fd_pp p.testBit st fb fp id) id).1 = 2 ^ fd_pp p.testBit st fb fp id := congrArg Prod.fst fd_pts
    have kk := (fd_ppk i4.2.2.2.2.1 i4.2.2.2.2.2 i5 (j := id) (by omega) h2).1.1
    have e3 : pk id = nI (2 ^ fd_pp p.testBit st fb fp id) := e.trans (congrArg nI e2)
    rw [ci, e3]
    exact fd_stof kk ⟨(hP id h1 h2).1.symm, fd_in ⟨i1, i2, i3, i4, i5, fun _ => hP, i7, i8⟩⟩
  · unfold wpY_pickupOf
    exact fd_there i4.1 i4.2.1 i8 (fun z => absurd z hd) (fun _ => br_t rfl ⟨rfl, fd_in ⟨i1, i2, i3, i4, i5, i6, i7, i8⟩⟩)
theorem i_vc_returnOf {k : Nat} {u : SX} {v : SY} (I : i_Rel k u v) (hk : k + 5 ≤ 2564) (v1 : Int32) : wpX_returnOf (fun r u' => wpY_returnOf (fun r' v' => r' = r ∧ i_Rel (k + 5) u' v') v v1) u v1 := by
  refine fd_el (C := fun u v => wpX_returnOf (fun r u' => wpY_returnOf (fun r' v' => r' = r ∧ i_Rel (k + 5) u' v') v v1) u v1) ?_ I
  intro f_capacity f_present f_takers f_givers f_lineEnd f_planKnown a_pickSet a_pickTime a_backSet a_backTime a_stocks a_askPick a_askBack a_takerSet a_takerTime a_giverSet a_giverTime a_takerOf a_reachedFrom a_giverOf a_line a_planPick a_planBack g_most g_extra g_gone g_goneSet g_goneAt g_floorAt g_floorFrom g_floor g_total b_stocks b_held b_picks b_outs b_backs b_homes b_on b_pick b_out b_back b_home b_spread cap p gs ga st fb fp hI
  obtain ⟨i1, i2, i3, i4, i5, i6, i7, i8⟩ := hI
  have p32 := fd_p32 i4.1 i4.2.1
  have c5 := i4.1
  unfold wpX_returnOf
  refine fd_holds i4.1 p32 (fun hd => br_f (by decide) ?_) (fun hd => br_t rfl ?_)
  · obtain ⟨id, rfl, h1, h2⟩ := hd
    have ci : (nI id).toNatClampNeg = id := nI_clamp (by omega)
    refine fd_plan i4 i5 i6 (fun kn ap ab pp pb tk gv le ts tt gz gw to rf go li hP => ⟨vp_in_nI (by omega) (by omega), ?_⟩)
    rw [ci]
    unfold wpY_returnOf
    refine fd_there i4.1 i4.2.1 i8 (fun _ => br_f (by decide) ?_) (fun z => absurd ⟨id, rfl, h1, h2⟩ z)
    refine fd_first (fun s hs => ⟨i7 s hs, (i4.2.2.1 s hs).2⟩) p32 i8 i4.2.2.2.2.1 i4.2.2.2.2.2 i5 i2 i3 (by omega) (fun tot sp on pk ot bk hm hY => ⟨vp_in_nI (by omega) (by omega), ?_⟩)
    have e := ((hY id (by omega)).2 h2).2.2.2.1
    rw [fd_pln1 h2] at e
    have e2 : (fd_nr (fd_pln p.testBit st fb fp id).1 id (2 ^ fd_pb p.testBit st fb fp id) id).1 = 2 ^ fd_pb p.testBit st fb fp id := congrArg Prod.fst fd_pts
    have kk := (fd_ppk i4.2.2.2.2.1 i4.2.2.2.2.2 i5 (j := id) (by omega) h2).2.1
    have e3 : bk id = nI (2 ^ fd_pb p.testBit st fb fp id) := e.trans (congrArg nI e2)
    rw [ci, e3]
    exact fd_stof kk ⟨(hP id h1 h2).2.symm, fd_in ⟨i1, i2, i3, i4, i5, fun _ => hP, i7, i8⟩⟩
  · unfold wpY_returnOf
    exact fd_there i4.1 i4.2.1 i8 (fun z => absurd z hd) (fun _ => br_t rfl ⟨rfl, fd_in ⟨i1, i2, i3, i4, i5, i6, i7, i8⟩⟩)
theorem i_vc_couldPick {k : Nat} {u : SX} {v : SY} (I : i_Rel k u v) (hk : k + 5 ≤ 2564) (v1 : Int32) (v2 : Int32) : wpX_couldPick (fun r u' => wpY_couldPick (fun r' v' => r' = r ∧ i_Rel (k + 5) u' v') v v1 v2) u v1 v2 := by
  refine fd_el (C := fun u v => wpX_couldPick (fun r u' => wpY_couldPick (fun r' v' => r' = r ∧ i_Rel (k + 5) u' v') v v1 v2) u v1 v2) ?_ I
  intro f_capacity f_present f_takers f_givers f_lineEnd f_planKnown a_pickSet a_pickTime a_backSet a_backTime a_stocks a_askPick a_askBack a_takerSet a_takerTime a_giverSet a_giverTime a_takerOf a_reachedFrom a_giverOf a_line a_planPick a_planBack g_most g_extra g_gone g_goneSet g_goneAt g_floorAt g_floorFrom g_floor g_total b_stocks b_held b_picks b_outs b_backs b_homes b_on b_pick b_out b_back b_home b_spread cap p gs ga st fb fp hI
  have J : i_Rel (k + 5) (nI cap, nI p, f_takers, f_givers, f_lineEnd, f_planKnown, a_pickSet, a_pickTime, a_backSet, a_backTime, a_stocks, a_askPick, a_askBack, a_takerSet, a_takerTime, a_giverSet, a_giverTime, a_takerOf, a_reachedFrom, a_giverOf, a_line, a_planPick, a_planBack) (nI cap, g_extra, g_gone, nI gs, nI ga, g_floorAt, g_floorFrom, g_floor, g_total, b_stocks, b_held, b_picks, b_outs, b_backs, b_homes, b_on, b_pick, b_out, b_back, b_home, b_spread) := fd_in hI
  obtain ⟨i1, i2, i3, i4, i5, i6, i7, i8⟩ := hI
  have p32 := fd_p32 i4.1 i4.2.1
  have c5 := i4.1
  unfold wpX_couldPick
  refine fd_holds i4.1 p32 (fun hd => br_f (by decide) ?_) (fun hd => br_t rfl ?_)
  · have Y0 : ∀ postY : Int32 → SY → Prop, ((v2 < 0 → postY 0 (nI cap, g_extra, g_gone, nI gs, nI ga, g_floorAt, g_floorFrom, g_floor, g_total, b_stocks, b_held, b_picks, b_outs, b_backs, b_homes, b_on, b_pick, b_out, b_back, b_home, b_spread)) ∧ (¬ v2 < 0 → ((3 < v2 → postY 0 (nI cap, g_extra, g_gone, nI gs, nI ga, g_floorAt, g_floorFrom, g_floor, g_total, b_stocks, b_held, b_picks, b_outs, b_backs, b_homes, b_on, b_pick, b_out, b_back, b_home, b_spread)) ∧ (¬ 3 < v2 → wpY_couldPick postY (nI cap, g_extra, g_gone, nI gs, nI ga, g_floorAt, g_floorFrom, g_floor, g_total, b_stocks, b_held, b_picks, b_outs, b_backs, b_homes, b_on, b_pick, b_out, b_back, b_home, b_spread) v1 v2)))) → wpY_couldPick postY (nI cap, g_extra, g_gone, nI gs, nI ga, g_floorAt, g_floorFrom, g_floor, g_total, b_stocks, b_held, b_picks, b_outs, b_backs, b_homes, b_on, b_pick, b_out, b_back, b_home, b_spread) v1 v2 := by
      intro postY h
      by_cases c1 : v2 < 0
      · unfold wpY_couldPick
        exact fd_there i4.1 i4.2.1 i8 (fun _ => br_f (by decide) (br_t c1 (h.1 c1))) (fun z => absurd hd z)
      · by_cases c2 : 3 < v2
        · unfold wpY_couldPick
          exact fd_there i4.1 i4.2.1 i8 (fun _ => br_f (by decide) (br_f c1 (br_t c2 ((h.2 c1).1 c2)))) (fun z => absurd hd z)
        · exact (h.2 c1).2 c2
    by_cases c1 : v2 < 0
    · exact br_t c1 (Y0 _ (br_t c1 ⟨rfl, J⟩))
    by_cases c2 : 3 < v2
    · exact br_f c1 (br_t c2 (Y0 _ (br_f c1 (br_t c2 ⟨rfl, J⟩))))
    obtain ⟨s, rfl, _, hs⟩ := fd_rg (x := v2) 0 3 (by omega) c1 c2 (by omega)
    have hd' := hd
    obtain ⟨id, rfl, h1, h2⟩ := hd'
    have ci : (nI id).toNatClampNeg = id := nI_clamp (by omega)
    obtain ⟨x1, x2, x3, x4⟩ := i4.2.2.2.1 id h1 h2
    have hset := (i4.2.2.2.2.2 id (by omega) h2).2.1
    obtain ⟨y1, y2, y3, y4, y5⟩ := (i8 id (by omega)).2 h2
    refine br_f c1 (br_f c2 ⟨vp_in_nI (by omega) (by omega), ?_⟩)
    rw [ci, x1]
    by_cases b : (fp id).1.testBit s = true
    · have hb0 : ¬ ((nI (fp id).1 >>> (nI s &&& 31)) &&& 1) = 0 := by rw [fd_bit _ hset s (by omega), if_pos b]; decide
      refine br_f hb0 (fd_askP i4.1 (fun ap ab hA => ⟨vp_in_nI (by omega) (by omega), nm_r (e' := upd ap id (nI (2 ^ s))) (by rw [fd_shb (by omega)]) (fd_missing (fd_xqP (fd_xqA i4 hA) (by omega)) (fun c tk gv le ts tt gz gw to rf go li m1 m2 => ?_))⟩))
      have Y : ∀ (postY : Int32 → SY → Prop), (∀ (r tot : Int32) (sp on pk ot bk hm : Nat → Int32), (r = 0 ∨ r = 1) → (r = 1 ↔ fd_ask p.testBit fb (fd_nr fp id (2 ^ s)) st [] 0) → postY r (nI cap, 0, 0, nI gs, nI ga, 0, 9, 0, tot, b_stocks, b_held, b_picks, b_outs, b_backs, b_homes, on, pk, ot, bk, hm, sp)) → wpY_couldPick postY (nI cap, g_extra, g_gone, nI gs, nI ga, g_floorAt, g_floorFrom, g_floor, g_total, b_stocks, b_held, b_picks, b_outs, b_backs, b_homes, b_on, b_pick, b_out, b_back, b_home, b_spread) (nI id) (nI s) := by
        intro postY h
        unfold wpY_couldPick
        refine fd_there i4.1 i4.2.1 i8 (fun _ => br_f (by decide) (br_f c1 (br_f c2 ⟨vp_in_nI (by omega) (by omega), ?_⟩))) (fun z => absurd hd z)
        rw [ci, y2]
        refine br_f hb0 (fd_yask (fun on pk ot bk hm g1 g5 => ⟨vp_in_nI (by omega) (by omega), nm_r (e' := upd pk id (nI (2 ^ s))) (by rw [fd_one s (by omega)]) ?_⟩))
        refine fd_fitsP (fun s hs => ⟨i7 s hs, (i4.2.2.1 s hs).2⟩) (fd_yqP (fd_yqA p32 i8 g1 g5)) i4.2.2.2.2.1 (fd_oknr i4.2.2.2.2.2 (by omega)) (fd_bl5 _ p32) i2 i3 (fun r' tot sp r1' r2' => ⟨?_, h r' tot sp _ _ _ _ _ r1' r2'⟩)
        rcases r1' with z | z
        · rw [z]; rfl
        · rw [z]; rfl
      have m0 := m1 0
      by_cases z : c = 0
      · subst z
        refine br_t rfl (Y _ (fun r tot sp on pk ot bk hm r1 r2 => ⟨r2.mpr (m0.mpr (Nat.le_refl _)), fd_in ⟨i1, i2, i3, i4, i5, i6, i7, i8⟩⟩))
      · refine br_f (nI_ne0 (by omega) (by omega)) (Y _ (fun r tot sp on pk ot bk hm r1 r2 => ⟨r1.resolve_right (fun e => ?_), fd_in ⟨i1, i2, i3, i4, i5, i6, i7, i8⟩⟩))
        have := m0.mp (r2.mp e)
        omega
    · have hb0 : ((nI (fp id).1 >>> (nI s &&& 31)) &&& 1) = 0 := by rw [fd_bit _ hset s (by omega), if_neg b]
      refine br_t hb0 ?_
      unfold wpY_couldPick
      refine fd_there i4.1 i4.2.1 i8 (fun _ => br_f (by decide) (br_f c1 (br_f c2 ⟨vp_in_nI (by omega) (by omega), ?_⟩))) (fun z => absurd hd z)
      rw [ci, y2]
      exact br_t hb0 ⟨rfl, J⟩
  · unfold wpY_couldPick
    exact fd_there i4.1 i4.2.1 i8 (fun z => absurd z hd) (fun _ => br_t rfl ⟨rfl, J⟩)
theorem i_vc_couldReturn {k : Nat} {u : SX} {v : SY} (I : i_Rel k u v) (hk : k + 5 ≤ 2564) (v1 : Int32) (v2 : Int32) : wpX_couldReturn (fun r u' => wpY_couldReturn (fun r' v' => r' = r ∧ i_Rel (k + 5) u' v') v v1 v2) u v1 v2 := by
  refine fd_el (C := fun u v => wpX_couldReturn (fun r u' => wpY_couldReturn (fun r' v' => r' = r ∧ i_Rel (k + 5) u' v') v v1 v2) u v1 v2) ?_ I
  intro f_capacity f_present f_takers f_givers f_lineEnd f_planKnown a_pickSet a_pickTime a_backSet a_backTime a_stocks a_askPick a_askBack a_takerSet a_takerTime a_giverSet a_giverTime a_takerOf a_reachedFrom a_giverOf a_line a_planPick a_planBack g_most g_extra g_gone g_goneSet g_goneAt g_floorAt g_floorFrom g_floor g_total b_stocks b_held b_picks b_outs b_backs b_homes b_on b_pick b_out b_back b_home b_spread cap p gs ga st fb fp hI
  have J : i_Rel (k + 5) (nI cap, nI p, f_takers, f_givers, f_lineEnd, f_planKnown, a_pickSet, a_pickTime, a_backSet, a_backTime, a_stocks, a_askPick, a_askBack, a_takerSet, a_takerTime, a_giverSet, a_giverTime, a_takerOf, a_reachedFrom, a_giverOf, a_line, a_planPick, a_planBack) (nI cap, g_extra, g_gone, nI gs, nI ga, g_floorAt, g_floorFrom, g_floor, g_total, b_stocks, b_held, b_picks, b_outs, b_backs, b_homes, b_on, b_pick, b_out, b_back, b_home, b_spread) := fd_in hI
  obtain ⟨i1, i2, i3, i4, i5, i6, i7, i8⟩ := hI
  have p32 := fd_p32 i4.1 i4.2.1
  have c5 := i4.1
  unfold wpX_couldReturn
  refine fd_holds i4.1 p32 (fun hd => br_f (by decide) ?_) (fun hd => br_t rfl ?_)
  · have Y0 : ∀ postY : Int32 → SY → Prop, ((v2 < 0 → postY 0 (nI cap, g_extra, g_gone, nI gs, nI ga, g_floorAt, g_floorFrom, g_floor, g_total, b_stocks, b_held, b_picks, b_outs, b_backs, b_homes, b_on, b_pick, b_out, b_back, b_home, b_spread)) ∧ (¬ v2 < 0 → ((3 < v2 → postY 0 (nI cap, g_extra, g_gone, nI gs, nI ga, g_floorAt, g_floorFrom, g_floor, g_total, b_stocks, b_held, b_picks, b_outs, b_backs, b_homes, b_on, b_pick, b_out, b_back, b_home, b_spread)) ∧ (¬ 3 < v2 → wpY_couldReturn postY (nI cap, g_extra, g_gone, nI gs, nI ga, g_floorAt, g_floorFrom, g_floor, g_total, b_stocks, b_held, b_picks, b_outs, b_backs, b_homes, b_on, b_pick, b_out, b_back, b_home, b_spread) v1 v2)))) → wpY_couldReturn postY (nI cap, g_extra, g_gone, nI gs, nI ga, g_floorAt, g_floorFrom, g_floor, g_total, b_stocks, b_held, b_picks, b_outs, b_backs, b_homes, b_on, b_pick, b_out, b_back, b_home, b_spread) v1 v2 := by
      intro postY h
      by_cases c1 : v2 < 0
      · unfold wpY_couldReturn
        exact fd_there i4.1 i4.2.1 i8 (fun _ => br_f (by decide) (br_t c1 (h.1 c1))) (fun z => absurd hd z)
      · by_cases c2 : 3 < v2
        · unfold wpY_couldReturn
          exact fd_there i4.1 i4.2.1 i8 (fun _ => br_f (by decide) (br_f c1 (br_t c2 ((h.2 c1).1 c2)))) (fun z => absurd hd z)
        · exact (h.2 c1).2 c2
    by_cases c1 : v2 < 0
    · exact br_t c1 (Y0 _ (br_t c1 ⟨rfl, J⟩))
    by_cases c2 : 3 < v2
    · exact br_f c1 (br_t c2 (Y0 _ (br_f c1 (br_t c2 ⟨rfl, J⟩))))
    obtain ⟨s, rfl, _, hs⟩ := fd_rg (x := v2) 0 3 (by omega) c1 c2 (by omega)
    have hd' := hd
    obtain ⟨id, rfl, h1, h2⟩ := hd'
    have ci : (nI id).toNatClampNeg = id := nI_clamp (by omega)
    obtain ⟨x1, x2, x3, x4⟩ := i4.2.2.2.1 id h1 h2
    have hset := (i4.2.2.2.2.1 id (by omega) h2).2.1
    obtain ⟨y1, y2, y3, y4, y5⟩ := (i8 id (by omega)).2 h2
    refine br_f c1 (br_f c2 ⟨vp_in_nI (by omega) (by omega), ?_⟩)
    rw [ci, x3]
    by_cases b : (fb id).1.testBit s = true
    · have hb0 : ¬ ((nI (fb id).1 >>> (nI s &&& 31)) &&& 1) = 0 := by rw [fd_bit _ hset s (by omega), if_pos b]; decide
      refine br_f hb0 (fd_askP i4.1 (fun ap ab hA => ⟨vp_in_nI (by omega) (by omega), nm_r (e' := upd ab id (nI (2 ^ s))) (by rw [fd_shb (by omega)]) (fd_missing (fd_xqB (fd_xqA i4 hA) (by omega)) (fun c tk gv le ts tt gz gw to rf go li m1 m2 => ?_))⟩))
      have Y : ∀ (postY : Int32 → SY → Prop), (∀ (r tot : Int32) (sp on pk ot bk hm : Nat → Int32), (r = 0 ∨ r = 1) → (r = 1 ↔ fd_ask p.testBit (fd_nr fb id (2 ^ s)) fp st [] 0) → postY r (nI cap, 0, 0, nI gs, nI ga, 0, 9, 0, tot, b_stocks, b_held, b_picks, b_outs, b_backs, b_homes, on, pk, ot, bk, hm, sp)) → wpY_couldReturn postY (nI cap, g_extra, g_gone, nI gs, nI ga, g_floorAt, g_floorFrom, g_floor, g_total, b_stocks, b_held, b_picks, b_outs, b_backs, b_homes, b_on, b_pick, b_out, b_back, b_home, b_spread) (nI id) (nI s) := by
        intro postY h
        unfold wpY_couldReturn
        refine fd_there i4.1 i4.2.1 i8 (fun _ => br_f (by decide) (br_f c1 (br_f c2 ⟨vp_in_nI (by omega) (by omega), ?_⟩))) (fun z => absurd hd z)
        rw [ci, y4]
        refine br_f hb0 (fd_yask (fun on pk ot bk hm g1 g5 => ⟨vp_in_nI (by omega) (by omega), nm_r (e' := upd bk id (nI (2 ^ s))) (by rw [fd_one s (by omega)]) ?_⟩))
        refine fd_fitsP (fun s hs => ⟨i7 s hs, (i4.2.2.1 s hs).2⟩) (fd_yqB (fd_yqA p32 i8 g1 g5)) (fd_oknr i4.2.2.2.2.1 (by omega)) i4.2.2.2.2.2 (fd_bl5 _ p32) i2 i3 (fun r' tot sp r1' r2' => ⟨?_, h r' tot sp _ _ _ _ _ r1' r2'⟩)
        rcases r1' with z | z
        · rw [z]; rfl
        · rw [z]; rfl
      have m0 := m1 0
      by_cases z : c = 0
      · subst z
        refine br_t rfl (Y _ (fun r tot sp on pk ot bk hm r1 r2 => ⟨r2.mpr (m0.mpr (Nat.le_refl _)), fd_in ⟨i1, i2, i3, i4, i5, i6, i7, i8⟩⟩))
      · refine br_f (nI_ne0 (by omega) (by omega)) (Y _ (fun r tot sp on pk ot bk hm r1 r2 => ⟨r1.resolve_right (fun e => ?_), fd_in ⟨i1, i2, i3, i4, i5, i6, i7, i8⟩⟩))
        have := m0.mp (r2.mp e)
        omega
    · have hb0 : ((nI (fb id).1 >>> (nI s &&& 31)) &&& 1) = 0 := by rw [fd_bit _ hset s (by omega), if_neg b]
      refine br_t hb0 ?_
      unfold wpY_couldReturn
      refine fd_there i4.1 i4.2.1 i8 (fun _ => br_f (by decide) (br_f c1 (br_f c2 ⟨vp_in_nI (by omega) (by omega), ?_⟩))) (fun z => absurd hd z)
      rw [ci, y4]
      exact br_t hb0 ⟨rfl, J⟩
  · unfold wpY_couldReturn
    exact fd_there i4.1 i4.2.1 i8 (fun z => absurd z hd) (fun _ => br_t rfl ⟨rfl, J⟩)
end
section
/-! shortage and spare -/
theorem fd_mkn {T G : List (Nat × Nat)} {x : Nat × Nat} (hs : fd_sut x (15, 0)) (h : fd_mk fd_sut (fun _ => True) T G) : ∀ n, fd_mk fd_sut (fun _ => True) (List.replicate n x ++ T) (G ++ List.replicate n (15, 0))
  | 0 => by rw [List.replicate_zero, List.replicate_zero, List.append_nil]; exact h
  | n + 1 => by
    have ih := fd_mkn hs h n
    have m : ((15, 0) : Nat × Nat) ∈ G ++ List.replicate (n + 1) (15, 0) := by
      rw [List.mem_append]; exact Or.inr (List.mem_replicate.mpr ⟨by omega, rfl⟩)
    rw [List.replicate_succ (a := x), List.cons_append]
    refine ⟨(15, 0), m, hs, fd_permG fd_pit _ _ _ ?_ ih⟩
    have p1 := List.perm_cons_erase m
    have p2 : (G ++ List.replicate (n + 1) ((15, 0) : Nat × Nat)).Perm ((15, 0) :: (G ++ List.replicate n (15, 0))) := by
      rw [List.replicate_succ]; exact List.perm_middle
    exact (p2.symm.trans p1).cons_inv
theorem fd_askn {on : Nat → Bool} {fb fp : Nat → Nat × Nat} {st : Nat → Nat} {a t n : Nat} (a1 : 1 ≤ a) (a2 : a ≤ 15) (h : fd_ask on fb fp st [] 0) : fd_ask on fb fp st (List.replicate n (a, t)) n := by
  obtain ⟨s, h1, h2⟩ := fd_nz a (by omega) a1
  unfold fd_ask at h ⊢
  rw [List.nil_append, List.replicate_zero, List.append_nil] at h
  exact fd_mkn ⟨Nat.zero_le _, s, h1, fd_bits15 s h1, h2⟩ h n
/-- nine takers at one station are too many -/
theorem fd_no9 {p s x : Nat} {fb fp : Nat → Nat × Nat} {st : Nat → Nat} (hp : p < 32) (hst : ∀ s, s < 4 → st s ≤ 3) (hs : s < 4) : ¬ fd_ask p.testBit fb fp st (List.replicate 9 (2 ^ s, x)) 0 := by
  intro h
  unfold fd_ask at h
  have c := fd_hall (fun t => decide (t.1 = 2 ^ s)) (fun g => g.1.testBit s) _ _ (fun t _ g _ hp hr => ?_) h
  · rw [List.countP_append, List.countP_append, List.countP_append, List.replicate_zero, List.countP_nil] at c
    have e1 : (List.replicate 9 ((2 ^ s, x) : Nat × Nat)).countP (fun t => decide (t.1 = 2 ^ s)) = 9 := by
      rw [List.countP_replicate]; simp
    have e2 : (fd_bl p.testBit fb 6).countP (fun g => g.1.testBit s) ≤ 5 := Nat.le_trans List.countP_le_length (fd_bl5 fb hp)
    have e3 : (fd_stk st).countP (fun g => g.1.testBit s) ≤ 3 := by
      have s0 := hst 0 (by omega)
      have s1 := hst 1 (by omega)
      have s2 := hst 2 (by omega)
      have s3 := hst 3 (by omega)
      unfold fd_stk
      rw [List.countP_append, List.countP_append, List.countP_append, List.countP_append, List.countP_replicate, List.countP_replicate, List.countP_replicate, List.countP_replicate, List.countP_nil]
      match s, hs with
      | 0, _ => simp [Nat.testBit]; omega
      | 1, _ => simp [Nat.testBit]; omega
      | 2, _ => simp [Nat.testBit]; omega
      | 3, _ => simp [Nat.testBit]; omega
    omega
  · have hp' : t.1 = 2 ^ s := of_decide_eq_true hp
    obtain ⟨_, s', k1, k2, k3⟩ := hr
    rw [hp', Nat.testBit_two_pow] at k3
    have : s = s' := of_decide_eq_true k3
    subst this
    exact k2
theorem fd_fst (D : Nat → Prop) : ∀ n, ¬ D n → ∃ K, K ≤ n ∧ ¬ D K ∧ ∀ k, k < K → D k := by
  intro n
  induction n using Nat.strongRecOn with
  | ind n ih =>
    intro hn
    by_cases h : ∀ k, k < n → D k
    · exact ⟨n, Nat.le_refl _, hn, h⟩
    · obtain ⟨k, hk⟩ := Classical.not_forall.mp h
      obtain ⟨h1, h2⟩ := Classical.not_imp.mp hk
      obtain ⟨K, k1, k2, k3⟩ := ih k h1 h2
      exact ⟨K, by omega, k2, k3⟩
section
variable {f_capacity f_present f_takers f_givers f_lineEnd f_planKnown : Int32} {a_pickSet a_pickTime a_backSet a_backTime a_stocks a_askPick a_askBack a_takerSet a_takerTime a_giverSet a_giverTime a_takerOf a_reachedFrom a_giverOf a_line a_planPick a_planBack : Nat → Int32}
theorem fd_short44 {post : Int32 → SX → Prop} {cap p a t n : Nat} {st : Nat → Nat} {fb fp : Nat → Nat × Nat} {G : List (Nat × Nat)} (q1 : cap ≤ 5) (q2 : p < 2 ^ cap) (q3 : ∀ s, s < 4 → st s ≤ 3) (q5 : fd_ok p.testBit fb) (q6 : fd_ok p.testBit fp) (hG : fd_HL a_giverSet a_giverTime G) (eG : G = fd_stk st ++ fd_fw p.testBit fb cap) (a1 : 1 ≤ a) (a2 : a ≤ 15) (t2 : t ≤ 8) (hn : n ≤ 9)
    (h : ∀ (c : Nat) (tk le : Int32) (ts tt to rf go li : Nat → Int32), (∀ x, fd_ask p.testBit fb fp st (List.replicate n (a, t)) x ↔ c ≤ x) → c ≤ 24 → post (nI c) (f_capacity, f_present, tk, nI G.length, le, f_planKnown, a_pickSet, a_pickTime, a_backSet, a_backTime, a_stocks, a_askPick, a_askBack, ts, tt, a_giverSet, a_giverTime, to, rf, go, li, a_planPick, a_planBack)) :
    ∀ (d m q : Nat) (T : List (Nat × Nat)) (ts tt : Nat → Int32), q + d = n → d < m → fd_HL ts tt T → T = fd_fw p.testBit fp cap ++ List.replicate q (a, t) →
    wX_shortage_44 post (nI a) (nI t) (nI n) m (nI q) f_capacity f_present (nI T.length) (nI G.length) f_lineEnd f_planKnown a_pickSet a_pickTime a_backSet a_backTime a_stocks a_askPick a_askBack ts tt a_giverSet a_giverTime a_takerOf a_reachedFrom a_giverOf a_line a_planPick a_planBack := by
  intro d
  induction d with
  | zero =>
    intro m q T ts tt hd hm hT eT
    obtain ⟨m, rfl⟩ : ∃ m', m = m' + 1 := ⟨m - 1, by omega⟩
    have : q = n := by omega
    subst this
    rw [wX_shortage_44]
    refine br_t (nI_le (Nat.le_refl _) (by omega)) (fd_unmq q1 q2 q3 q5 q6 hG hT eG eT (by rw [List.length_replicate]; omega) (fun x hx => ?_) (fun c e rf li to go h1 h2 => h c _ e ts tt to rf go li h1 h2))
    rw [List.eq_of_mem_replicate hx]
    exact ⟨by show a < 16; omega, t2, fd_nz a (by omega) a1⟩
  | succ d ih =>
    intro m q T ts tt hd hm hT eT
    obtain ⟨m, rfl⟩ : ∃ m', m = m' + 1 := ⟨m - 1, by omega⟩
    have l := fd_bfl p.testBit fp cap
    have lT : T.length < 24 := by rw [eT, List.length_append, List.length_replicate]; omega
    rw [wX_shortage_44]
    refine br_f (nI_ge (by omega) (by omega)) (fd_addT lT (by omega) (by omega) hT (fun ts' tt' hT' => nm_r (nI_1 q) (ih m (q + 1) _ ts' tt' (by omega) (by omega) hT' ?_)))
    rw [eT, List.append_assoc, ← List.replicate_succ']
theorem fd_xshort {post : Int32 → SX → Prop} {cap p a t n : Nat} {st : Nat → Nat} {fb fp : Nat → Nat × Nat} (hQ : fd_XQ cap p st fb fp a_stocks a_pickSet a_pickTime a_backSet a_backTime) (a1 : 1 ≤ a) (a2 : a ≤ 15) (t2 : t ≤ 8) (hn : n ≤ 9)
    (h : ∀ (c : Nat) (ap ab : Nat → Int32) (tk gv le : Int32) (ts tt gz gw to rf go li : Nat → Int32), (∀ x, fd_ask p.testBit fb fp st (List.replicate n (a, t)) x ↔ c ≤ x) → post (nI c) (nI cap, nI p, tk, gv, le, f_planKnown, a_pickSet, a_pickTime, a_backSet, a_backTime, a_stocks, ap, ab, ts, tt, gz, gw, to, rf, go, li, a_planPick, a_planBack)) : wpX_shortage post (nI cap, nI p, f_takers, f_givers, f_lineEnd, f_planKnown, a_pickSet, a_pickTime, a_backSet, a_backTime, a_stocks, a_askPick, a_askBack, a_takerSet, a_takerTime, a_giverSet, a_giverTime, a_takerOf, a_reachedFrom, a_giverOf, a_line, a_planPick, a_planBack) (nI a) (nI t) (nI n) := by
  unfold wpX_shortage
  refine br_f (nI_nlt (b := 1) a1 (by omega)) (br_f (nI_nlt (a := 15) a2 (by omega)) (br_f (nI_pos (by omega)) (br_f (nI_nlt (a := 8) t2 (by omega)) (br_f (nI_pos (by omega)) (br_t (nI_le (b := 9) hn (by omega)) (fd_askP hQ.1 (fun ap ab hA => ?_)))))))
  have xq := fd_xqA hQ hA
  refine fd_gather xq (fun G T gz gw ts tt hG hT eG eT => ?_)
  obtain ⟨q1, q2, q3, q4, q5, q6⟩ := xq
  exact ⟨n + 1, fd_short44 q1 q2 (fun s hs => (q3 s hs).2) q5 q6 hG eG a1 a2 t2 hn (fun c tk le ts tt to rf go li h1 h2 => h c ap ab tk _ le ts tt gz gw to rf go li h1) n (n + 1) 0 T ts tt (by omega) (by omega) hT (by rw [List.replicate_zero, List.append_nil]; exact eT)⟩
theorem fd_spare52 {post : Int32 → SX → Prop} {J : _} {cap p s x k : Nat} {x3 : Int32} {st : Nat → Nat} {fb fp : Nat → Nat × Nat} {G : List (Nat × Nat)} (q1 : cap ≤ 5) (q2 : p < 2 ^ cap) (q3 : ∀ s, s < 4 → st s ≤ 3) (q5 : fd_ok p.testBit fb) (q6 : fd_ok p.testBit fp) (hG : fd_HL a_giverSet a_giverTime G) (eG : G = fd_stk st ++ fd_fw p.testBit fb cap) (hs : s < 4) (hx : x ≤ 8) (hk : k ≤ 17)
    (h : ∀ (tk le : Int32) (ts tt to rf go li : Nat → Int32), (fd_ask p.testBit fb fp st (List.replicate k (2 ^ s, x)) 0 → J (nI k) 1 (nI (k + 1)) f_capacity f_present tk (nI G.length) le f_planKnown a_pickSet a_pickTime a_backSet a_backTime a_stocks a_askPick a_askBack ts tt a_giverSet a_giverTime to rf go li a_planPick a_planBack) ∧ (¬ fd_ask p.testBit fb fp st (List.replicate k (2 ^ s, x)) 0 → J x3 0 (nI (k + 1)) f_capacity f_present tk (nI G.length) le f_planKnown a_pickSet a_pickTime a_backSet a_backTime a_stocks a_askPick a_askBack ts tt a_giverSet a_giverTime to rf go li a_planPick a_planBack)) :
    ∀ (d m q : Nat) (T : List (Nat × Nat)) (ts tt : Nat → Int32), q + d = k → d < m → fd_HL ts tt T → T = fd_fw p.testBit fp cap ++ List.replicate q (2 ^ s, x) →
    wX_spare_52 post J (nI s) (nI x) x3 (nI k) m (nI q) f_capacity f_present (nI T.length) (nI G.length) f_lineEnd f_planKnown a_pickSet a_pickTime a_backSet a_backTime a_stocks a_askPick a_askBack ts tt a_giverSet a_giverTime a_takerOf a_reachedFrom a_giverOf a_line a_planPick a_planBack := by
  have s16 := fd_2s hs
  intro d
  induction d with
  | zero =>
    intro m q T ts tt hd hm hT eT
    obtain ⟨m, rfl⟩ : ∃ m', m = m' + 1 := ⟨m - 1, by omega⟩
    have : q = k := by omega
    subst this
    rw [wX_spare_52]
    refine br_t (nI_le (Nat.le_refl _) (by omega)) (fd_unmq q1 q2 q3 q5 q6 hG hT eG eT (by rw [List.length_replicate]; omega) (fun y hy => ?_) (fun c e rf li to go h1 h2 => ?_))
    · rw [List.eq_of_mem_replicate hy]
      exact ⟨s16, hx, s, hs, Nat.testBit_two_pow_self⟩
    · have m0 := h1 0
      obtain ⟨hy, hn⟩ := h (nI T.length) e ts tt to rf go li
      by_cases z : c = 0
      · subst z
        exact br_t rfl (br_f (by decide) (nm_r (nI_1 q) (hy (m0.mpr (Nat.le_refl _)))))
      · exact br_f (nI_ne0 (by omega) (by omega)) (br_t rfl (nm_r (nI_1 q) (hn (fun w => by have := m0.mp w; omega))))
  | succ d ih =>
    intro m q T ts tt hd hm hT eT
    obtain ⟨m, rfl⟩ : ∃ m', m = m' + 1 := ⟨m - 1, by omega⟩
    have l := fd_bfl p.testBit fp cap
    have lT : T.length < 24 := by rw [eT, List.length_append, List.length_replicate]; omega
    rw [wX_spare_52]
    refine br_f (nI_ge (by omega) (by omega)) ?_
    rw [fd_one s (by omega)]
    refine fd_addT lT (by omega) (by omega) hT (fun ts' tt' hT' => nm_r (nI_1 q) (ih m (q + 1) _ ts' tt' (by omega) (by omega) hT' ?_))
    rw [eT, List.append_assoc, ← List.replicate_succ']
theorem fd_spare29 {post : Int32 → SX → Prop} {cap p s x K : Nat} {st : Nat → Nat} {fb fp : Nat → Nat × Nat} (hQ : fd_XQ cap p st fb fp a_stocks a_pickSet a_pickTime a_backSet a_backTime) (hs : s < 4) (hx : x ≤ 8) (K1 : 1 ≤ K) (K9 : K ≤ 9) (hD : ∀ k, 1 ≤ k → k < K → fd_ask p.testBit fb fp st (List.replicate k (2 ^ s, x)) 0) (hN : ¬ fd_ask p.testBit fb fp st (List.replicate K (2 ^ s, x)) 0)
    (h : ∀ (ap ab : Nat → Int32) (tk gv le : Int32) (ts tt gz gw to rf go li : Nat → Int32), post (nI (K - 1)) (nI cap, nI p, tk, gv, le, f_planKnown, a_pickSet, a_pickTime, a_backSet, a_backTime, a_stocks, ap, ab, ts, tt, gz, gw, to, rf, go, li, a_planPick, a_planBack)) :
    ∀ (d m k : Nat) (ap ab : Nat → Int32) (tk gv le : Int32) (ts tt gz gw to rf go li : Nat → Int32), k + d = K → d + 1 < m → 1 ≤ k → 
    wX_spare_29 post (nI s) (nI x) m (nI (k - 1)) 1 (nI k) (nI cap) (nI p) tk gv le f_planKnown a_pickSet a_pickTime a_backSet a_backTime a_stocks ap ab ts tt gz gw to rf go li a_planPick a_planBack := by
  intro d
  induction d with
  | zero =>
    intro m k ap ab tk gv le ts tt gz gw to rf go li hd hm k1
    obtain ⟨m, rfl⟩ : ∃ m', m = m' + 1 := ⟨m - 1, by omega⟩
    have : k = K := by omega
    subst this
    rw [wX_spare_29]
    refine br_f (nI_nlt (a := 17) (by omega) (by omega)) (br_f (by decide) (fd_askP hQ.1 (fun ap ab hA => ?_)))
    have xq := fd_xqA hQ hA
    refine fd_gather xq (fun G T gz gw ts tt hG hT eG eT => ?_)
    obtain ⟨q1, q2, q3, q4, q5, q6⟩ := xq
    refine ⟨k + 1, fd_spare52 q1 q2 (fun s hs => (q3 s hs).2) q5 q6 hG eG hs hx (by omega) (fun tk le ts tt to rf go li => ⟨fun w => absurd w hN, fun _ => ?_⟩) k (k + 1) 0 T ts tt (by omega) (by omega) hT (by rw [List.replicate_zero, List.append_nil]; exact eT)⟩
    obtain ⟨m, rfl⟩ : ∃ m', m = m' + 1 := ⟨m - 1, by omega⟩
    rw [wX_spare_29]
    exact br_c (fun _ => h ap ab tk _ le ts tt gz gw to rf go li) (fun _ => br_t rfl (h ap ab tk _ le ts tt gz gw to rf go li))
  | succ d ih =>
    intro m k ap ab tk gv le ts tt gz gw to rf go li hd hm k1
    obtain ⟨m, rfl⟩ : ∃ m', m = m' + 1 := ⟨m - 1, by omega⟩
    rw [wX_spare_29]
    refine br_f (nI_nlt (a := 17) (by omega) (by omega)) (br_f (by decide) (fd_askP hQ.1 (fun ap ab hA => ?_)))
    have xq := fd_xqA hQ hA
    refine fd_gather xq (fun G T gz gw ts tt hG hT eG eT => ?_)
    obtain ⟨q1, q2, q3, q4, q5, q6⟩ := xq
    exact ⟨k + 1, fd_spare52 q1 q2 (fun s hs => (q3 s hs).2) q5 q6 hG eG hs hx (by omega) (fun tk le ts tt to rf go li => ⟨fun _ => ih m (k + 1) ap ab tk _ le ts tt gz gw to rf go li (by omega) (by omega) (by omega), fun w => absurd (hD k k1 (by omega)) w⟩) k (k + 1) 0 T ts tt (by omega) (by omega) hT (by rw [List.replicate_zero, List.append_nil]; exact eT)⟩
end
section
variable {g_most g_extra g_gone g_goneSet g_goneAt g_floorAt g_floorFrom g_floor g_total : Int32} {b_stocks b_held b_picks b_outs b_backs b_homes b_on b_pick b_out b_back b_home b_spread : Nat → Int32}
theorem fd_short55 {post : Int32 → SY → Prop} {p a t n c : Nat} {st : Nat → Nat} {fb fp : Nat → Nat × Nat} (hst : ∀ s, s < 4 → b_stocks s = nI (st s) ∧ st s ≤ 3) (hp : p < 32) (hY : fd_YQ p.testBit fb fp b_on b_pick b_out b_back b_home) (hb : fd_ok p.testBit fb) (hpk : fd_ok p.testBit fp) (a2 : a ≤ 15) (t2 : t ≤ 8) (hn : n ≤ 9) (hc : ∀ x, fd_ask p.testBit fb fp st (List.replicate n (a, t)) x ↔ c ≤ x) (c9 : c ≤ 9)
    (h : ∀ (ex tot : Int32) (sp : Nat → Int32), post (nI c) (g_most, ex, nI n, nI a, nI t, 0, 9, 0, tot, b_stocks, b_held, b_picks, b_outs, b_backs, b_homes, b_on, b_pick, b_out, b_back, b_home, sp)) :
    ∀ (d m e : Nat) (ex tot : Int32) (sp : Nat → Int32), e + d = 9 → d < m → e ≤ c → wY_shortage_55 post m (nI e) g_most ex (nI n) (nI a) (nI t) 0 9 0 tot b_stocks b_held b_picks b_outs b_backs b_homes b_on b_pick b_out b_back b_home sp := by
  intro d
  induction d with
  | zero =>
    intro m e ex tot sp hd hm he
    obtain ⟨m, rfl⟩ : ∃ m', m = m' + 1 := ⟨m - 1, by omega⟩
    have e9 : e = 9 := by omega
    have ec : c = 9 := by omega
    subst e9 ec
    rw [wY_shortage_55]
    exact br_t (nI_le (a := 9) (by omega) (by omega)) (h ex tot sp)
  | succ d ih =>
    intro m e ex tot sp hd hm he
    obtain ⟨m, rfl⟩ : ∃ m', m = m' + 1 := ⟨m - 1, by omega⟩
    rw [wY_shortage_55]
    refine br_f (nI_ge (b := 9) (by omega) (by decide)) (fd_fits (e := e) (gn := n) (gs := a) (ga := t) (fa := 0) (ff := 9) (fl := 0) hst hY hb hpk (fd_bl5 _ hp) (by omega) hn (by omega) t2 (by omega) (by omega) (by omega) (Or.inr rfl) (fun r tot' sp' r1 r2 => ?_))
    have r2' : r = 1 ↔ c ≤ e := r2.trans (hc e)
    rcases r1 with z | z
    · subst z
      have : ¬ c ≤ e := fun w => absurd (r2'.mpr w) (by decide)
      exact br_t rfl (nm_r (nI_1 e) (ih m (e + 1) _ tot' sp' (by omega) (by omega) (by omega)))
    · subst z
      have : c = e := by have := r2'.mp rfl; omega
      subst this
      exact br_f (by decide) (h _ tot' sp')
theorem fd_yshort {post : Int32 → SY → Prop} {p a t n c : Nat} {st : Nat → Nat} {fb fp : Nat → Nat × Nat} (hst : ∀ s, s < 4 → b_stocks s = nI (st s) ∧ st s ≤ 3) (hp : p < 32) (hY : fd_YP p fb fp b_held b_picks b_outs b_backs b_homes) (hb : fd_ok p.testBit fb) (hpk : fd_ok p.testBit fp) (a1 : 1 ≤ a) (a2 : a ≤ 15) (t2 : t ≤ 8) (hn : n ≤ 9) (hc : ∀ x, fd_ask p.testBit fb fp st (List.replicate n (a, t)) x ↔ c ≤ x) (c9 : c ≤ 9)
    (h : ∀ (ex tot : Int32) (sp on pk ot bk hm : Nat → Int32), post (nI c) (g_most, ex, nI n, nI a, nI t, 0, 9, 0, tot, b_stocks, b_held, b_picks, b_outs, b_backs, b_homes, on, pk, ot, bk, hm, sp)) : wpY_shortage post (g_most, g_extra, g_gone, g_goneSet, g_goneAt, g_floorAt, g_floorFrom, g_floor, g_total, b_stocks, b_held, b_picks, b_outs, b_backs, b_homes, b_on, b_pick, b_out, b_back, b_home, b_spread) (nI a) (nI t) (nI n) := by
  unfold wpY_shortage
  refine br_f (nI_nlt (b := 1) a1 (by omega)) (br_f (nI_nlt (a := 15) a2 (by omega)) (br_f (nI_pos (by omega)) (br_f (nI_nlt (a := 8) t2 (by omega)) (br_f (nI_pos (by omega)) (br_t (nI_le (b := 9) hn (by omega)) (fd_yask (fun on pk ot bk hm g1 g5 => ?_)))))))
  exact ⟨10, fd_short55 hst hp (fd_yqA hp hY g1 g5) hb hpk a2 t2 hn hc c9 (fun ex tot sp => h ex tot sp on pk ot bk hm) 9 10 0 _ _ _ (by omega) (by omega) (by omega)⟩
theorem fd_spare37 {post : Int32 → SY → Prop} {p s x K gs ga : Nat} {st : Nat → Nat} {fb fp : Nat → Nat × Nat} (hst : ∀ s, s < 4 → b_stocks s = nI (st s) ∧ st s ≤ 3) (hp : p < 32) (hY : fd_YQ p.testBit fb fp b_on b_pick b_out b_back b_home) (hb : fd_ok p.testBit fb) (hpk : fd_ok p.testBit fp) (hgs : gs < 16) (hga : ga ≤ 8) (hs : s < 4) (hx : x ≤ 8) (K1 : 1 ≤ K) (K9 : K ≤ 9) (hD : ∀ k, 1 ≤ k → k < K → fd_ask p.testBit fb fp st (List.replicate k (2 ^ s, x)) 0) (hN : ¬ fd_ask p.testBit fb fp st (List.replicate K (2 ^ s, x)) 0)
    (h : ∀ (fl tot : Int32) (sp : Nat → Int32), post (nI (K - 1)) (g_most, 0, 0, nI gs, nI ga, nI s, nI x, fl, tot, b_stocks, b_held, b_picks, b_outs, b_backs, b_homes, b_on, b_pick, b_out, b_back, b_home, sp)) :
    ∀ (d m n : Nat) (fl tot : Int32) (sp : Nat → Int32), n + d = 9 → d < m → 1 ≤ n → n ≤ K → wY_spare_37 post m (nI n) g_most 0 0 (nI gs) (nI ga) (nI s) (nI x) fl tot b_stocks b_held b_picks b_outs b_backs b_homes b_on b_pick b_out b_back b_home sp := by
  intro d
  induction d with
  | zero =>
    intro m n fl tot sp hd hm n1 nK
    obtain ⟨m, rfl⟩ : ∃ m', m = m' + 1 := ⟨m - 1, by omega⟩
    have e9 : n = 9 := by omega
    have eK : K = 9 := by omega
    subst e9 eK
    rw [wY_spare_37]
    exact br_t (nI_lt (a := 8) (by omega) (by omega)) (h fl tot sp)
  | succ d ih =>
    intro m n fl tot sp hd hm n1 nK
    obtain ⟨m, rfl⟩ : ∃ m', m = m' + 1 := ⟨m - 1, by omega⟩
    rw [wY_spare_37]
    refine br_f (nI_nlt (a := 8) (by omega) (by omega)) (fd_fits (e := 0) (gn := 0) (gs := gs) (ga := ga) (fa := s) (ff := x) (fl := n) hst hY hb hpk (fd_bl5 _ hp) (by omega) (by omega) hgs hga hs (by omega) (by omega) (Or.inl hx) (fun r tot' sp' r1 r2 => ?_))
    rw [List.replicate_zero, List.append_nil] at r2
    by_cases e : n = K
    · subst e
      have : r = 0 := r1.resolve_right (fun z => hN (r2.mp z))
      subst this
      obtain ⟨n', rfl⟩ : ∃ n', n = n' + 1 := ⟨n - 1, by omega⟩
      refine br_t rfl ?_
      rw [nI_pred]
      exact h _ tot' sp'
    · have : r = 1 := r2.mpr (hD n n1 (by omega))
      subst this
      exact br_f (by decide) (nm_r (nI_1 n) (ih m (n + 1) _ tot' sp' (by omega) (by omega) (by omega) (by omega)))
theorem fd_yspare {post : Int32 → SY → Prop} {p s x K gs ga : Nat} {st : Nat → Nat} {fb fp : Nat → Nat × Nat} (hst : ∀ s, s < 4 → b_stocks s = nI (st s) ∧ st s ≤ 3) (hp : p < 32) (hY : fd_YP p fb fp b_held b_picks b_outs b_backs b_homes) (hb : fd_ok p.testBit fb) (hpk : fd_ok p.testBit fp) (hgs : gs < 16) (hga : ga ≤ 8) (hs : s < 4) (hx : x ≤ 8) (K1 : 1 ≤ K) (K9 : K ≤ 9) (hD : ∀ k, 1 ≤ k → k < K → fd_ask p.testBit fb fp st (List.replicate k (2 ^ s, x)) 0) (hN : ¬ fd_ask p.testBit fb fp st (List.replicate K (2 ^ s, x)) 0)
    (h : ∀ (fl tot : Int32) (sp on pk ot bk hm : Nat → Int32), post (nI (K - 1)) (g_most, 0, 0, nI gs, nI ga, nI s, nI x, fl, tot, b_stocks, b_held, b_picks, b_outs, b_backs, b_homes, on, pk, ot, bk, hm, sp)) : wpY_spare post (g_most, g_extra, g_gone, nI gs, nI ga, g_floorAt, g_floorFrom, g_floor, g_total, b_stocks, b_held, b_picks, b_outs, b_backs, b_homes, b_on, b_pick, b_out, b_back, b_home, b_spread) (nI s) (nI x) := by
  unfold wpY_spare
  refine br_f (nI_pos (by omega)) (br_f (nI_nlt (a := 3) (by omega) (by omega)) (br_f (nI_pos (by omega)) (br_t (nI_le (b := 8) hx (by omega)) (fd_yask (fun on pk ot bk hm g1 g5 => ?_)))))
  exact ⟨9, fd_spare37 hst hp (fd_yqA hp hY g1 g5) hb hpk hgs hga hs hx K1 K9 hD hN (fun fl tot sp => h fl tot sp on pk ot bk hm) 8 9 1 _ _ _ (by omega) (by omega) (by omega) K1⟩
end
theorem i_vc_shortage {k : Nat} {u : SX} {v : SY} (I : i_Rel k u v) (hk : k + 5 ≤ 2564) (v1 : Int32) (v2 : Int32) (v3 : Int32) : wpX_shortage (fun r u' => wpY_shortage (fun r' v' => r' = r ∧ i_Rel (k + 5) u' v') v v1 v2 v3) u v1 v2 v3 := by
  refine fd_el (C := fun u v => wpX_shortage (fun r u' => wpY_shortage (fun r' v' => r' = r ∧ i_Rel (k + 5) u' v') v v1 v2 v3) u v1 v2 v3) ?_ I
  intro f_capacity f_present f_takers f_givers f_lineEnd f_planKnown a_pickSet a_pickTime a_backSet a_backTime a_stocks a_askPick a_askBack a_takerSet a_takerTime a_giverSet a_giverTime a_takerOf a_reachedFrom a_giverOf a_line a_planPick a_planBack g_most g_extra g_gone g_goneSet g_goneAt g_floorAt g_floorFrom g_floor g_total b_stocks b_held b_picks b_outs b_backs b_homes b_on b_pick b_out b_back b_home b_spread cap p gs ga st fb fp hI
  have J : i_Rel (k + 5) (nI cap, nI p, f_takers, f_givers, f_lineEnd, f_planKnown, a_pickSet, a_pickTime, a_backSet, a_backTime, a_stocks, a_askPick, a_askBack, a_takerSet, a_takerTime, a_giverSet, a_giverTime, a_takerOf, a_reachedFrom, a_giverOf, a_line, a_planPick, a_planBack) (nI cap, g_extra, g_gone, nI gs, nI ga, g_floorAt, g_floorFrom, g_floor, g_total, b_stocks, b_held, b_picks, b_outs, b_backs, b_homes, b_on, b_pick, b_out, b_back, b_home, b_spread) := fd_in hI
  obtain ⟨i1, i2, i3, i4, i5, i6, i7, i8⟩ := hI
  have p32 := fd_p32 i4.1 i4.2.1
  by_cases c1 : v1 < 1
  · exact br_t c1 (br_t c1 ⟨rfl, J⟩)
  by_cases c2 : 15 < v1
  · exact br_f c1 (br_t c2 (br_f c1 (br_t c2 ⟨rfl, J⟩)))
  by_cases c3 : v2 < 0
  · exact br_f c1 (br_f c2 (br_t c3 (br_f c1 (br_f c2 (br_t c3 ⟨rfl, J⟩)))))
  by_cases c4 : 8 < v2
  · exact br_f c1 (br_f c2 (br_f c3 (br_t c4 (br_f c1 (br_f c2 (br_f c3 (br_t c4 ⟨rfl, J⟩)))))))
  by_cases c5 : v3 < 0
  · exact br_f c1 (br_f c2 (br_f c3 (br_f c4 (br_t c5 (br_f c1 (br_f c2 (br_f c3 (br_f c4 (br_t c5 ⟨rfl, J⟩)))))))))
  by_cases c6 : v3 ≤ 9
  rotate_left
  · exact br_f c1 (br_f c2 (br_f c3 (br_f c4 (br_f c5 (br_f c6 (br_f c1 (br_f c2 (br_f c3 (br_f c4 (br_f c5 (br_f c6 ⟨rfl, J⟩)))))))))))
  obtain ⟨a, rfl, a1, a2⟩ := fd_rg (x := v1) 1 15 (by omega) c1 c2 (by omega)
  obtain ⟨t, rfl, _, t2⟩ := fd_rg (x := v2) 0 8 (by omega) c3 c4 (by omega)
  obtain ⟨n, rfl, _, hn⟩ := fd_rg (x := v3) 0 9 (by omega) c5 (Int32.not_lt.mpr c6) (by omega)
  refine fd_xshort i4 a1 a2 t2 hn (fun c ap ab tk gv le ts tt gz gw to rf go li hc => ?_)
  have cn : c ≤ n := (hc n).mp (fd_askn a1 a2 i5)
  exact fd_yshort (fun s hs => ⟨i7 s hs, (i4.2.2.1 s hs).2⟩) p32 i8 i4.2.2.2.2.1 i4.2.2.2.2.2 a1 a2 t2 hn hc (by omega) (fun ex tot sp on pk ot bk hm => ⟨rfl, fd_in ⟨i1, by omega, t2, i4, i5, i6, i7, i8⟩⟩)
theorem i_vc_spare {k : Nat} {u : SX} {v : SY} (I : i_Rel k u v) (hk : k + 5 ≤ 2564) (v1 : Int32) (v2 : Int32) : wpX_spare (fun r u' => wpY_spare (fun r' v' => r' = r ∧ i_Rel (k + 5) u' v') v v1 v2) u v1 v2 := by
  refine fd_el (C := fun u v => wpX_spare (fun r u' => wpY_spare (fun r' v' => r' = r ∧ i_Rel (k + 5) u' v') v v1 v2) u v1 v2) ?_ I
  intro f_capacity f_present f_takers f_givers f_lineEnd f_planKnown a_pickSet a_pickTime a_backSet a_backTime a_stocks a_askPick a_askBack a_takerSet a_takerTime a_giverSet a_giverTime a_takerOf a_reachedFrom a_giverOf a_line a_planPick a_planBack g_most g_extra g_gone g_goneSet g_goneAt g_floorAt g_floorFrom g_floor g_total b_stocks b_held b_picks b_outs b_backs b_homes b_on b_pick b_out b_back b_home b_spread cap p gs ga st fb fp hI
  have J : i_Rel (k + 5) (nI cap, nI p, f_takers, f_givers, f_lineEnd, f_planKnown, a_pickSet, a_pickTime, a_backSet, a_backTime, a_stocks, a_askPick, a_askBack, a_takerSet, a_takerTime, a_giverSet, a_giverTime, a_takerOf, a_reachedFrom, a_giverOf, a_line, a_planPick, a_planBack) (nI cap, g_extra, g_gone, nI gs, nI ga, g_floorAt, g_floorFrom, g_floor, g_total, b_stocks, b_held, b_picks, b_outs, b_backs, b_homes, b_on, b_pick, b_out, b_back, b_home, b_spread) := fd_in hI
  obtain ⟨i1, i2, i3, i4, i5, i6, i7, i8⟩ := hI
  have p32 := fd_p32 i4.1 i4.2.1
  by_cases c1 : v1 < 0
  · exact br_t c1 (br_t c1 ⟨rfl, J⟩)
  by_cases c2 : 3 < v1
  · exact br_f c1 (br_t c2 (br_f c1 (br_t c2 ⟨rfl, J⟩)))
  by_cases c3 : v2 < 0
  · exact br_f c1 (br_f c2 (br_t c3 (br_f c1 (br_f c2 (br_t c3 ⟨rfl, J⟩)))))
  by_cases c4 : v2 ≤ 8
  rotate_left
  · exact br_f c1 (br_f c2 (br_f c3 (br_f c4 (br_f c1 (br_f c2 (br_f c3 (br_f c4 ⟨rfl, J⟩)))))))
  obtain ⟨s, rfl, _, hs⟩ := fd_rg (x := v1) 0 3 (by omega) c1 c2 (by omega)
  obtain ⟨x, rfl, _, hx⟩ := fd_rg (x := v2) 0 8 (by omega) c3 (Int32.not_lt.mpr c4) (by omega)
  obtain ⟨K, K9, KN, KD⟩ := fd_fst (fun k => k = 0 ∨ fd_ask p.testBit fb fp st (List.replicate k (2 ^ s, x)) 0) 9 (fun w => w.elim (by omega) (fd_no9 p32 (fun s hs => (i4.2.2.1 s hs).2) (by omega)))
  have K1 : 1 ≤ K := by
    by_cases z : K = 0
    · exact absurd (Or.inl z) KN
    · omega
  have hD : ∀ k, 1 ≤ k → k < K → fd_ask p.testBit fb fp st (List.replicate k (2 ^ s, x)) 0 := fun k h1 h2 => (KD k h2).resolve_left (by omega)
  have hN : ¬ fd_ask p.testBit fb fp st (List.replicate K (2 ^ s, x)) 0 := fun w => KN (Or.inr w)
  refine br_f c1 (br_f c2 (br_f c3 (br_t c4 ⟨K + 1, fd_spare29 i4 (by omega) hx K1 K9 hD hN (fun ap ab tk gv le ts tt gz gw to rf go li => ?_) (K - 1) (K + 1) 1 _ _ _ _ _ _ _ _ _ _ _ _ _ (by omega) (by omega) (by omega)⟩)))
  exact fd_yspare (fun s hs => ⟨i7 s hs, (i4.2.2.1 s hs).2⟩) p32 i8 i4.2.2.2.2.1 i4.2.2.2.2.2 i2 i3 (by omega) hx K1 K9 hD hN (fun fl tot sp on pk ot bk hm => ⟨rfl, fd_in ⟨i1, i2, i3, i4, i5, i6, i7, i8⟩⟩)
end
