section
/-! bits (rows ag_bt .. ag_bsshr began as kit/laws/BITS.to-paste), a pigeonhole, arrays filled in order -/
def ag_bt (x : Int32) (i : Nat) : Bool := x.toBitVec.getLsbD i
theorem ag_bext {x y : Int32} (h : ∀ i, i < 32 → ag_bt x i = ag_bt y i) : x = y := Int32.toBitVec_inj.mp (BitVec.eq_of_getLsbD_eq (fun i hi => h i hi))
theorem ag_bor (x y : Int32) (i : Nat) : ag_bt (x ||| y) i = (ag_bt x i || ag_bt y i) := by unfold ag_bt; rw [Int32.toBitVec_or, BitVec.getLsbD_or]
theorem ag_band (x y : Int32) (i : Nat) : ag_bt (x &&& y) i = (ag_bt x i && ag_bt y i) := by unfold ag_bt; rw [Int32.toBitVec_and, BitVec.getLsbD_and]
theorem ag_bxor (x y : Int32) (i : Nat) : ag_bt (x ^^^ y) i = (ag_bt x i ^^ ag_bt y i) := by unfold ag_bt; rw [Int32.toBitVec_xor, BitVec.getLsbD_xor]
theorem ag_bm1 : ∀ i, i < 32 → ag_bt (-1) i = true := by decide +kernel
theorem ag_b0 (i : Nat) : ag_bt 0 i = false := BitVec.getLsbD_zero
theorem ag_b1 : ∀ i, i < 32 → ag_bt 1 i = decide (i = 0) := by decide +kernel
theorem ag_sl : ∀ n, n < 32 → ((nI n &&& 31).toBitVec.smod 32).toNat = n := by decide +kernel
theorem ag_bshl (n : Nat) (hn : n < 32) (x : Int32) {i : Nat} (hi : i < 32) : ag_bt (x <<< (nI n &&& 31)) i = (decide (n ≤ i) && ag_bt x (i - n)) := by
  unfold ag_bt
  rw [Int32.toBitVec_shiftLeft]
  show (x.toBitVec <<< ((nI n &&& 31).toBitVec.smod 32).toNat).getLsbD i = _
  rw [ag_sl n hn, BitVec.getLsbD_shiftLeft]
  rcases Nat.lt_or_ge i n with h | h
  · simp [h, Nat.not_le.mpr h]
  · simp [hi, h, Nat.not_lt.mpr h]
theorem ag_bsshr (n : Nat) (hn : n < 32) (x : Int32) {i : Nat} (hi : i < 32) : ag_bt (x >>> (nI n &&& 31)) i = if n + i < 32 then ag_bt x (n + i) else ag_bt x 31 := by
  unfold ag_bt
  rw [Int32.toBitVec_shiftRight]
  show (x.toBitVec.sshiftRight ((nI n &&& 31).toBitVec.smod 32).toNat).getLsbD i = _
  rw [ag_sl n hn, BitVec.getLsbD_sshiftRight, BitVec.msb_eq_getLsbD_last]
  simp [hi]
theorem ag_b1s (p i : Nat) (hp : p < 32) (hi : i < 32) : ag_bt ((1 : Int32) <<< (nI p &&& 31)) i = decide (i = p) := by
  rw [ag_bshl p hp 1 hi, ag_b1 (i - p) (by omega), Bool.eq_iff_iff, Bool.and_eq_true, decide_eq_true_eq, decide_eq_true_eq, decide_eq_true_eq]
  omega
theorem ag_bit (x : Int32) (c : Nat) (hc : c < 32) : (x >>> (nI c &&& 31)) &&& 1 = nI (ag_bt x c).toNat := by
  apply ag_bext
  intro i hi
  rw [ag_band, ag_b1 i hi, ag_bsshr c hc x hi]
  by_cases e : i = 0
  · subst e
    rw [if_pos (show c + 0 < 32 by omega), decide_eq_true (rfl : 0 = 0), Bool.and_true, Nat.add_zero]
    cases ag_bt x c <;> decide
  · rw [decide_eq_false e, Bool.and_false]
    cases ag_bt x c
    · exact (ag_b0 i).symm
    · exact ((ag_b1 i hi).trans (decide_eq_false e)).symm
theorem ag_bit0 (x : Int32) (c : Nat) (hc : c < 32) : ((x >>> (nI c &&& 31)) &&& 1) = 0 ↔ ag_bt x c = false := by
  rw [ag_bit x c hc]
  cases ag_bt x c <;> decide
theorem ag_bit1 (x : Int32) (c : Nat) (hc : c < 32) : ((x >>> (nI c &&& 31)) &&& 1) = 1 ↔ ag_bt x c = true := by
  rw [ag_bit x c hc]
  cases ag_bt x c <;> decide
theorem ag_and0 (x : Int32) (p : Nat) (hp : p < 32) : (x &&& ((1 : Int32) <<< (nI p &&& 31))) = 0 ↔ ag_bt x p = false := by
  constructor
  · intro h
    have t : ag_bt (x &&& ((1 : Int32) <<< (nI p &&& 31))) p = ag_bt 0 p := by rw [h]
    rw [ag_band, ag_b1s p p hp hp, ag_b0, decide_eq_true rfl, Bool.and_true] at t
    exact t
  · intro h
    apply ag_bext
    intro i hi
    rw [ag_band, ag_b1s p i hp hi, ag_b0]
    by_cases e : i = p
    · rw [e, h, Bool.false_and]
    · rw [decide_eq_false e, Bool.and_false]
theorem ag_and0o (x : Int32) (p q : Nat) (hp : p < 32) (hq : q < 32) : (x &&& (((1 : Int32) <<< (nI p &&& 31)) ||| ((1 : Int32) <<< (nI q &&& 31)))) = 0 ↔ ag_bt x p = false ∧ ag_bt x q = false := by
  constructor
  · intro h
    have t : ∀ i, ag_bt (x &&& (((1 : Int32) <<< (nI p &&& 31)) ||| ((1 : Int32) <<< (nI q &&& 31)))) i = ag_bt 0 i := by intro i; rw [h]
    constructor
    · have t1 := t p
      rw [ag_band, ag_bor, ag_b1s p p hp hp, ag_b0, decide_eq_true rfl, Bool.true_or, Bool.and_true] at t1
      exact t1
    · have t1 := t q
      rw [ag_band, ag_bor, ag_b1s q q hq hq, ag_b0, decide_eq_true rfl, Bool.or_true, Bool.and_true] at t1
      exact t1
  · intro h
    apply ag_bext
    intro i hi
    rw [ag_band, ag_bor, ag_b1s p i hp hi, ag_b1s q i hq hi, ag_b0]
    by_cases e : i = p
    · rw [e, h.1, Bool.false_and]
    · by_cases e2 : i = q
      · rw [e2, h.2, Bool.false_and]
      · rw [decide_eq_false e, decide_eq_false e2, Bool.or_false, Bool.and_false]
theorem ag_xx (x y : Int32) : (x ^^^ y) ^^^ y = x := by
  apply ag_bext
  intro i _
  rw [ag_bxor, ag_bxor]
  cases ag_bt x i <;> cases ag_bt y i <;> rfl
theorem ag_bflip (x : Int32) (c : Nat) (hc : c < 32) : ag_bt (x ^^^ ((1 : Int32) <<< (nI c &&& 31))) c = !ag_bt x c := by
  rw [ag_bxor, ag_b1s c c hc hc, decide_eq_true rfl]
  cases ag_bt x c <;> rfl
theorem ag_tb : ∀ t, t < 8 → ∀ i, i < 3 → (((nI t >>> (nI i &&& 31)) &&& 1) = 1 ↔ t / 2 ^ i % 2 = 1) := by decide +kernel
theorem ag_p2 : ∀ i, i < 3 → (1 : Int32) <<< (nI i &&& 31) = nI (2 ^ i) := by decide +kernel
theorem ag_pig : ∀ (n m : Nat) (f : Nat → Nat), (∀ i, i < m → f i < n) → (∀ i j, i < j → j < m → f i ≠ f j) → m ≤ n := by
  intro n
  induction n with
  | zero =>
    intro m f h _
    rcases m with _ | m
    · omega
    · exact absurd (h 0 (by omega)) (by omega)
  | succ n ih =>
    intro m f h hi
    rcases m with _ | m
    · omega
    · have t := ih m (fun i => if f m < f i then f i - 1 else f i) (fun i him => by
        have h1 := h i (by omega)
        have h2 := h m (by omega)
        have h3 := hi i m him (by omega)
        split <;> omega) (fun i j hij hjm => by
        have h1 := hi i j hij (by omega)
        have h2 := hi i m (by omega) (by omega)
        have h3 := hi j m hjm (by omega)
        split <;> split <;> omega)
      omega
theorem ag_fill {f s : Nat → Int32} {k : Nat} {x : Int32} (h : ∀ j, j < k → s j = f j) (hx : x = f k) : ∀ j, j < k + 1 → upd s k x j = f j := by
  intro j hj
  by_cases e : j = k
  · rw [e, pk_us, hx]
  · rw [pk_un e]
    exact h j (by omega)
theorem ag_upd {n : Nat} {a b : Nat → Int32} {k : Nat} {x y : Int32} (h : ∀ j, j < n → a j = b j) (e : x = y) : ∀ j, j < n → upd a k x j = upd b k y j := by
  intro j hj
  by_cases z : j = k
  · rw [z, pk_us, pk_us, e]
  · rw [pk_un z, pk_un z]
    exact h j hj
theorem ag_updI {a : Nat → Int32} {k : Nat} {x : Int32} : upd (upd a k x) k (a k) = a := by
  funext j
  by_cases z : j = k
  · rw [z, pk_us]
  · rw [pk_un z, pk_un z]
theorem ag_neg {x : Int32} (h : x < 0) (j : Nat) (hj : j < 2 ^ 31) : x ≠ nI j := fun e => nI_pos hj (e ▸ h)
theorem ag_m1 (j : Nat) (hj : j < 2 ^ 31) : (-1 : Int32) ≠ nI j := ag_neg (by decide) j hj
end
section
/-! distances on the grid's graph, pure -/
def ag_E (ST : Nat → Int32) (c j : Nat) : Prop := ∃ d, d < 4 ∧ ST (4 * c + d) = nI j
def ag_W (ST : Nat → Int32) (g : Nat) : Nat → Nat → Prop
  | 0 => fun c => c = g
  | k + 1 => fun c => ∃ j, j < 12 ∧ ag_E ST c j ∧ ag_W ST g k j
def ag_ls (ST : Nat → Int32) (g c n : Nat) : Prop := ag_W ST g n c ∧ ∀ k, k < n → ¬ ag_W ST g k c
theorem ag_ls_u {ST : Nat → Int32} {g c m n : Nat} (h : ag_ls ST g c m) (h2 : ag_ls ST g c n) : m = n := by
  rcases Nat.lt_trichotomy m n with z | z | z
  · exact absurd h.1 (h2.2 m z)
  · exact z
  · exact absurd h2.1 (h.2 n z)
theorem ag_ls_s {ST : Nat → Int32} {g c k : Nat} (h : ag_ls ST g c (k + 1)) : ∃ j, j < 12 ∧ ag_E ST c j ∧ ag_ls ST g j k := by
  obtain ⟨j, hj, he, hw⟩ := h.1
  exact ⟨j, hj, he, hw, fun i hi z => h.2 (i + 1) (by omega) ⟨j, hj, he, z⟩⟩
theorem ag_ls_all {ST : Nat → Int32} {g : Nat} : ∀ n c, c < 12 → ag_ls ST g c n → ∀ k, k ≤ n → ∃ x, x < 12 ∧ ag_ls ST g x k := by
  intro n
  induction n with
  | zero =>
    intro c hc h k hk
    have e : k = 0 := by omega
    exact ⟨c, hc, e ▸ h⟩
  | succ n ih =>
    intro c hc h k hk
    by_cases e : k = n + 1
    · exact ⟨c, hc, e ▸ h⟩
    · obtain ⟨j, hj, _, hl⟩ := ag_ls_s h
      exact ih j hj hl k (by omega)
theorem ag_ls_11 {ST : Nat → Int32} {g c n : Nat} (hc : c < 12) (h : ag_ls ST g c n) : n ≤ 11 := by
  have t : ∀ k, ∃ x, k ≤ n → x < 12 ∧ ag_ls ST g x k := by
    intro k
    by_cases hk : k ≤ n
    · obtain ⟨x, hx⟩ := ag_ls_all n c hc h k hk
      exact ⟨x, fun _ => hx⟩
    · exact ⟨0, fun z => absurd z hk⟩
  obtain ⟨f, hf⟩ := Classical.skolem.mp t
  have p := ag_pig 12 (n + 1) f (fun i hi => (hf i (by omega)).1) (fun i j hij hj z => by
    have h1 := (hf i (by omega)).2
    have h2 := (hf j (by omega)).2
    rw [z] at h1
    have := ag_ls_u h1 h2
    omega)
  omega
def ag_sp (ST : Nat → Int32) (g c n : Nat) : Prop := ag_ls ST g c n ∨ (n = 1000000 ∧ ∀ k, ¬ ag_W ST g k c)
theorem ag_dex (ST : Nat → Int32) (g : Nat) : ∃ d : Nat → Nat, ∀ c, ag_sp ST g c (d c) := by
  refine Classical.skolem.mp (fun c => ?_)
  by_cases h : ∃ k, ag_W ST g k c
  · obtain ⟨k, hk, hl⟩ := pk_least _ h
    exact ⟨k, Or.inl ⟨hk, hl⟩⟩
  · exact ⟨1000000, Or.inr ⟨rfl, fun k hk => h ⟨k, hk⟩⟩⟩
noncomputable def ag_d (ST : Nat → Int32) (g : Nat) : Nat → Nat := Classical.choose (ag_dex ST g)
theorem ag_ds (ST : Nat → Int32) (g c : Nat) : ag_sp ST g c (ag_d ST g c) := Classical.choose_spec (ag_dex ST g) c
theorem ag_d4 (ST : Nat → Int32) (g c : Nat) (hc : c < 12) : ag_d ST g c ≤ 11 ∨ ag_d ST g c = 1000000 := by
  rcases ag_ds ST g c with h | h
  · exact Or.inl (ag_ls_11 hc h)
  · exact Or.inr h.1
theorem ag_dlt (ST : Nat → Int32) (g c : Nat) (hc : c < 12) : ag_d ST g c ≤ 1000000 := by
  rcases ag_d4 ST g c hc with h | h <;> omega
theorem ag_d3 (ST : Nat → Int32) (g c : Nat) : ag_d ST g c = 0 ↔ c = g := by
  constructor
  · intro e
    rcases ag_ds ST g c with h | h
    · rw [e] at h
      exact h.1
    · omega
  · intro e
    rcases ag_ds ST g c with h | h
    · rcases Nat.eq_zero_or_pos (ag_d ST g c) with z | z
      · exact z
      · exact absurd (show ag_W ST g 0 c from e) (h.2 0 z)
    · exact absurd (show ag_W ST g 0 c from e) (h.2 0)
theorem ag_d1 {ST : Nat → Int32} {g c j : Nat} (hj : j < 12) (he : ag_E ST c j) (h : ag_d ST g j < 1000000) : ag_d ST g c ≤ ag_d ST g j + 1 := by
  rcases ag_ds ST g j with a | a
  · have w : ag_W ST g (ag_d ST g j + 1) c := ⟨j, hj, he, a.1⟩
    rcases ag_ds ST g c with b | b
    · rcases Nat.lt_or_ge (ag_d ST g j + 1) (ag_d ST g c) with z | z
      · exact absurd w (b.2 _ z)
      · exact z
    · exact absurd w (b.2 _)
  · omega
theorem ag_d2 {ST : Nat → Int32} {g c k : Nat} (h : ag_d ST g c = k + 1) (hk : k + 1 < 1000000) : ∃ j, j < 12 ∧ ag_E ST c j ∧ ag_d ST g j = k := by
  rcases ag_ds ST g c with a | a
  · rw [h] at a
    obtain ⟨j, hj, he, hl⟩ := ag_ls_s a
    refine ⟨j, hj, he, ?_⟩
    rcases ag_ds ST g j with b | b
    · exact ag_ls_u b hl
    · exact absurd hl.1 (b.2 k)
  · omega
/-- where one can be after so many turns, each a step or a stay -/
def ag_F (ST : Nat → Int32) (p : Nat) : Nat → Nat → Prop
  | 0 => fun c => c = p
  | k + 1 => fun c => ag_F ST p k c ∨ ∃ j, j < 12 ∧ ag_F ST p k j ∧ ag_E ST j c
theorem ag_F1 {ST : Nat → Int32} {p g : Nat} : ∀ t c, c < 12 → ag_F ST p t c → ag_d ST g c < 1000000 → ag_d ST g p ≤ t + ag_d ST g c := by
  intro t
  induction t with
  | zero =>
    intro c _ h _
    have e : c = p := h
    rw [e]
    omega
  | succ t ih =>
    intro c hc h hd
    rcases h with h | ⟨j, hj, hf, he⟩
    · have := ih c hc h hd
      omega
    · have h1 := ag_d1 hc he hd
      have h4 := ag_d4 ST g c hc
      have := ih j hj hf (by omega)
      omega
theorem ag_Fm {ST : Nat → Int32} {p c t : Nat} (h : ag_F ST p t c) : ∀ k, ag_F ST p (t + k) c := by
  intro k
  induction k with
  | zero => exact h
  | succ k ih => exact Or.inl ih
theorem ag_F2 {ST : Nat → Int32} {p g : Nat} : ∀ m t c, c < 12 → ag_F ST p t c → ag_d ST g c = m → m < 1000000 → ag_F ST p (t + m) g := by
  intro m
  induction m with
  | zero =>
    intro t c _ h e _
    rw [← (ag_d3 ST g c).mp e]
    exact h
  | succ m ih =>
    intro t c hc h e hm
    obtain ⟨j, hj, he, hd⟩ := ag_d2 e hm
    have := ih (t + 1) j hj (Or.inr ⟨c, hc, h, he⟩) hd (by omega)
    rw [show t + (m + 1) = t + 1 + m by omega]
    exact this
theorem ag_Fd {ST : Nat → Int32} {p g t : Nat} (hp : p < 12) (hg : g < 12) (ht : t < 1000) : ag_F ST p t g ↔ ag_d ST g p ≤ t := by
  have z : ag_d ST g g = 0 := (ag_d3 ST g g).mpr rfl
  constructor
  · intro h
    have := ag_F1 (g := g) t g hg h (by omega)
    omega
  · intro h
    have f := ag_F2 (ST := ST) (p := p) (g := g) (ag_d ST g p) 0 p hp rfl rfl (by omega)
    have := ag_Fm f (t - ag_d ST g p)
    rw [show 0 + ag_d ST g p + (t - ag_d ST g p) = t by omega] at this
    exact this
/-- the distance between any two: one who has gone k of the way -/
theorem ag_tri {ST : Nat → Int32} {p c g t : Nat} (hp : p < 12) (hc : c < 12) (ht : t < 1000) (hF : ag_F ST p t c) (e : ag_d ST g p = t + ag_d ST g c) (hm : ag_d ST g c < 1000000) : ag_d ST c p = t := by
  have h1 : ag_d ST c p ≤ t := (ag_Fd hp hc ht).mp hF
  have f : ag_F ST p (ag_d ST c p) c := (ag_Fd hp hc (by omega)).mpr (Nat.le_refl _)
  have h2 := ag_F1 (g := g) _ c hc f hm
  omega
end
section
/-! the grid: isReady, isOpen, beside, laySteps, leadsTo, findDistances -/
def ag_is (w pd : Int32) (a1 a2 a3 : Nat → Int32) (u : St1) : Prop := u.1 = w ∧ u.2.1 = pd ∧ u.2.2.2.2.2.2.2.2.1 = a1 ∧ u.2.2.2.2.2.2.2.2.2.1 = a2 ∧ u.2.2.2.2.2.2.2.2.2.2.1 = a3
def ag_g3 (a : Nat → Int32) : Prop := ∀ i, i < 3 → ∃ j, j < 12 ∧ a i = nI j
def ag_rk (w : Int32) (a2 a3 : Nat → Int32) (t k : Nat) : Prop := (∀ i, i < k → t / 2 ^ i % 2 = 1 → ag_bt w (a2 i).toNatClampNeg = false ∧ ag_bt w (a3 i).toNatClampNeg = false) ∧ (∀ i j, i < j → j < k → t / 2 ^ i % 2 = 1 → t / 2 ^ j % 2 = 1 → a2 i ≠ a2 j ∧ a3 i ≠ a3 j)
def ag_rd (w pd : Int32) (a2 a3 : Nat → Int32) (t : Nat) : Prop := 1 ≤ t ∧ t ≤ 7 ∧ (nI t &&& (pd ^^^ (-1))) = 0 ∧ ag_rk w a2 a3 t 3
section
variable {w pd ct be bs pf ps tn : Int32} {a1 a2 a3 a4 a5 a6 a7 a8 a9 a10 a11 a12 a13 a14 a15 a16 a17 a18 a19 a20 a21 : Nat → Int32}
theorem ag_isR_or {x : Int32} {a : Nat → Int32} {t k p : Nat} (hp : p < 12) (ep : a k = nI p) (hb : t / 2 ^ k % 2 = 1) (h : ∀ q, q < 32 → (ag_bt x q = true ↔ ∃ i, i < k ∧ t / 2 ^ i % 2 = 1 ∧ a i = nI q)) : ∀ q, q < 32 → (ag_bt (x ||| ((1 : Int32) <<< (nI p &&& 31))) q = true ↔ ∃ i, i < k + 1 ∧ t / 2 ^ i % 2 = 1 ∧ a i = nI q) := by
  intro q hq
  rw [ag_bor, ag_b1s p q (by omega) hq, Bool.or_eq_true, h q hq, decide_eq_true_eq]
  constructor
  · rintro (⟨i, hi, h1, h2⟩ | e)
    · exact ⟨i, by omega, h1, h2⟩
    · exact ⟨k, by omega, hb, by rw [ep, e]⟩
  · rintro ⟨i, hi, h1, h2⟩
    by_cases e : i = k
    · right
      rw [e, ep, nI_eq (by omega) (by omega)] at h2
      exact h2.symm
    · exact Or.inl ⟨i, by omega, h1, h2⟩
theorem ag_isR_keep {x : Int32} {a : Nat → Int32} {t k : Nat} (hb : ¬ t / 2 ^ k % 2 = 1) (h : ∀ q, q < 32 → (ag_bt x q = true ↔ ∃ i, i < k ∧ t / 2 ^ i % 2 = 1 ∧ a i = nI q)) : ∀ q, q < 32 → (ag_bt x q = true ↔ ∃ i, i < k + 1 ∧ t / 2 ^ i % 2 = 1 ∧ a i = nI q) := by
  intro q hq
  rw [h q hq]
  constructor
  · rintro ⟨i, hi, h1, h2⟩
    exact ⟨i, by omega, h1, h2⟩
  · rintro ⟨i, hi, h1, h2⟩
    by_cases e : i = k
    · exact absurd (e ▸ h1) hb
    · exact ⟨i, by omega, h1, h2⟩
theorem ag_isR31 {post : Int32 → Prop} {t : Nat} (ht : t < 8) (g2 : ag_g3 a2) (g3 : ag_g3 a3) (h1 : ag_rk w a2 a3 t 3 → post 1) (h0 : ¬ ag_rk w a2 a3 t 3 → post 0) :
    ∀ (m k : Nat) (x2 x3 : Int32), k + m = 3 → ag_rk w a2 a3 t k → (∀ q, q < 32 → (ag_bt x2 q = true ↔ ∃ i, i < k ∧ t / 2 ^ i % 2 = 1 ∧ a2 i = nI q)) → (∀ q, q < 32 → (ag_bt x3 q = true ↔ ∃ i, i < k ∧ t / 2 ^ i % 2 = 1 ∧ a3 i = nI q)) → wX_isReady_31 post (nI t) w pd ct be bs pf ps tn a1 a2 a3 a4 a5 a6 a7 a8 a9 a10 a11 a12 a13 a14 a15 a16 a17 a18 a19 a20 a21 (m + 1) x2 x3 (nI k) := by
  intro m
  induction m with
  | zero =>
    intro k x2 x3 hk hr _ _
    have e : k = 3 := by omega
    subst e
    exact pk_le 3 3 (fun _ => h1 hr) (fun z => absurd z (by omega))
  | succ m ih =>
    intro k x2 x3 hk hr hx hy
    obtain ⟨p, hp, ep⟩ := g2 k (by omega)
    obtain ⟨q, hq, eq⟩ := g3 k (by omega)
    have cp : (a2 k).toNatClampNeg = p := by rw [ep, nI_clamp (by omega)]
    have cq : (a3 k).toNatClampNeg = q := by rw [eq, nI_clamp (by omega)]
    refine pk_le 3 k (fun z => absurd z (by omega)) (fun _ => ek_if (ag_tb t ht k (by omega)) (fun hb => ?_) (fun hb => ?_))
    · refine ⟨pk_in k 3 (by omega), nm_r (e' := (1 : Int32) <<< (nI p &&& 31)) (by rw [nI_clamp (by omega), ep]) ⟨pk_in k 3 (by omega), nm_r (e' := (1 : Int32) <<< (nI q &&& 31)) (by rw [nI_clamp (by omega), eq]) ?_⟩⟩
      refine ek_if (ag_and0 x2 p (by omega)) (fun z1 => ek_if (ag_and0 x3 q (by omega)) (fun z2 => ek_if (ag_and0o w p q (by omega) (by omega)) (fun z3 => nm_e (nm_e (nm_r (nI_1 k) (ih (k + 1) _ _ (by omega) ?_ (ag_isR_or hp ep hb hx) (ag_isR_or hq eq hb hy))))) (fun z3 => h0 (fun r => z3 ?_))) (fun z2 => h0 (fun r => ?_))) (fun z1 => h0 (fun r => ?_))
      · constructor
        · intro i hi hbi
          by_cases e : i = k
          · rw [e, cp, cq]
            exact z3
          · exact hr.1 i (by omega) hbi
        · intro i j hij hj hbi hbj
          by_cases e : j = k
          · constructor
            · intro z
              have := (hx p (by omega)).mpr ⟨i, by omega, hbi, by rw [z, e, ep]⟩
              rw [z1] at this
              exact absurd this (by decide)
            · intro z
              have := (hy q (by omega)).mpr ⟨i, by omega, hbi, by rw [z, e, eq]⟩
              rw [z2] at this
              exact absurd this (by decide)
          · exact hr.2 i j hij (by omega) hbi hbj
      · have := r.1 k (by omega) hb
        rw [cp, cq] at this
        exact this
      · obtain ⟨i, hi, hbi, hei⟩ := (hy q (by omega)).mp (by cases hh : ag_bt x3 q; exact absurd hh z2; rfl)
        exact (r.2 i k hi (by omega) hbi hb).2 (by rw [hei, eq])
      · obtain ⟨i, hi, hbi, hei⟩ := (hx p (by omega)).mp (by cases hh : ag_bt x2 p; exact absurd hh z1; rfl)
        exact (r.2 i k hi (by omega) hbi hb).1 (by rw [hei, ep])
    · refine nm_r (nI_1 k) (ih (k + 1) x2 x3 (by omega) ⟨?_, ?_⟩ (ag_isR_keep hb hx) (ag_isR_keep hb hy))
      · intro i hi hbi
        by_cases e : i = k
        · exact absurd (e ▸ hbi) hb
        · exact hr.1 i (by omega) hbi
      · intro i j hij hj hbi hbj
        by_cases e : j = k
        · exact absurd (e ▸ hbj) hb
        · exact hr.2 i j hij (by omega) hbi hbj
theorem ag_isReady {post : Int32 → Prop} {t : Nat} (ht : t ≤ 8) (g2 : ag_g3 a2) (g3 : ag_g3 a3) (h1 : ag_rd w pd a2 a3 t → post 1) (h0 : ¬ ag_rd w pd a2 a3 t → post 0) : wpX_isReady post (w, pd, ct, be, bs, pf, ps, tn, a1, a2, a3, a4, a5, a6, a7, a8, a9, a10, a11, a12, a13, a14, a15, a16, a17, a18, a19, a20, a21) (nI t) := by
  unfold wpX_isReady
  refine pk_lt t 1 (fun z => h0 (fun r => absurd r.1 (by omega))) (fun z => pk_lt 7 t (fun z2 => h0 (fun r => absurd r.2.1 (by omega))) (fun z2 => br_c (fun z3 => ⟨4, ?_⟩) (fun z3 => h0 (fun r => z3 r.2.2.1))))
  refine ag_isR31 (by omega) g2 g3 (fun r => h1 ⟨z, z2, z3, r⟩) (fun r => h0 (fun y => r y.2.2.2)) 3 0 0 0 rfl ⟨fun i hi => absurd hi (by omega), fun i j _ hj => absurd hj (by omega)⟩ ?_ ?_
  · intro q _
    rw [ag_b0]
    exact ⟨fun z => absurd z (by decide), fun ⟨i, hi, _⟩ => absurd hi (by omega)⟩
  · intro q _
    rw [ag_b0]
    exact ⟨fun z => absurd z (by decide), fun ⟨i, hi, _⟩ => absurd hi (by omega)⟩
theorem ag_isOpen {post : Int32 → Prop} {c : Nat} (hc : c < 12) (h1 : ag_bt w c = false → post 1) (h0 : ag_bt w c = true → post 0) : wpX_isOpen post (w, pd, ct, be, bs, pf, ps, tn, a1, a2, a3, a4, a5, a6, a7, a8, a9, a10, a11, a12, a13, a14, a15, a16, a17, a18, a19, a20, a21) (nI c) := by
  unfold wpX_isOpen
  exact ek_if (ag_bit0 w c (by omega)) h1 (fun h => h0 (by cases hh : ag_bt w c; exact absurd hh h; rfl))
def ag_bs (c d : Nat) : Int32 := if 2 < d then (if c % 4 ≤ 0 then -1 else nI c - 1) else if d = 0 then (if c / 4 ≤ 0 then -1 else nI c - 4) else if d = 1 then (if 3 ≤ c % 4 then -1 else nI c + 1) else if 2 ≤ c / 4 then -1 else nI c + 4
theorem ag_bs_ok : ∀ c, c < 12 → ∀ d, d < 4 → (ag_bs c d = -1 ∨ ∃ j, j < 12 ∧ ag_bs c d = nI j) := by decide +kernel
theorem ag_beside {post : Int32 → Prop} {c d : Nat} (hc : c < 12) (hd : d < 4) (hp : post (ag_bs c d)) : wpX_beside post () (nI c) (nI d) := by
  unfold wpX_beside
  refine ⟨by decide, nm_r (pk_div (d := 4) (by omega) (by omega) (by omega)) ⟨by decide, nm_r (pk_rem (d := 4) (by omega) (by omega) (by omega)) ?_⟩⟩
  unfold ag_bs at hp
  refine br_f (nI_pos (by omega)) (pk_lt 2 d (fun h => ?_) (fun h => pk_eq d 0 (fun h1 => ?_) (fun h1 => pk_eq d 1 (fun h2 => ?_) (fun h2 => pk_eq d 2 (fun h3 => ?_) (fun _ => trivial)))))
  · rw [if_pos h] at hp
    exact pk_le (c % 4) 0 (fun z => by rw [if_pos z] at hp; exact hp) (fun z => by rw [if_neg (by omega)] at hp; exact hp)
  · rw [if_neg (by omega), if_pos h1] at hp
    exact pk_le (c / 4) 0 (fun z => by rw [if_pos z] at hp; exact hp) (fun z => by rw [if_neg (by omega)] at hp; exact hp)
  · rw [if_neg (by omega), if_neg h1, if_pos h2] at hp
    exact pk_le 3 (c % 4) (fun z => by rw [if_pos z] at hp; exact hp) (fun z => by rw [if_neg (by omega)] at hp; exact hp)
  · rw [if_neg (by omega), if_neg h1, if_neg h2] at hp
    exact pk_le 2 (c / 4) (fun z => by rw [if_pos z] at hp; exact hp) (fun z => by rw [if_neg (by omega)] at hp; exact hp)
/-- the cell to which one can step from cell i / 4 in direction i % 4 -/
def ag_ST (w : Int32) (a1 : Nat → Int32) (i : Nat) : Int32 := if ag_bs (i / 4) (i % 4) < 0 then -1 else if ag_bt w (i / 4) = true then -1 else if ag_bt w (ag_bs (i / 4) (i % 4)).toNatClampNeg = true then -1 else if ((a1 (i / 4) >>> (nI (i % 4) &&& 31)) &&& 1) = 1 then ag_bs (i / 4) (i % 4) else -1
def ag_ok (ST : Nat → Int32) : Prop := ∀ i, i < 48 → ST i = -1 ∨ ∃ j, j < 12 ∧ ST i = nI j
theorem ag_STo (w : Int32) (a1 : Nat → Int32) {i : Nat} (hi : i < 48) : ag_ST w a1 i = -1 ∨ ∃ j, j < 12 ∧ ag_ST w a1 i = nI j ∧ ag_bt w j = false := by
  unfold ag_ST
  split
  · exact Or.inl rfl
  · split
    · exact Or.inl rfl
    · split
      · exact Or.inl rfl
      · rename_i h1 h2 h3
        split
        · rcases ag_bs_ok (i / 4) (by omega) (i % 4) (by omega) with e | ⟨j, hj, e⟩
          · exact Or.inl e
          · refine Or.inr ⟨j, hj, e, ?_⟩
            rw [e, nI_clamp (by omega)] at h3
            cases hh : ag_bt w j
            · rfl
            · exact absurd hh h3
        · exact Or.inl rfl
theorem ag_STok (w : Int32) (a1 : Nat → Int32) : ag_ok (ag_ST w a1) := by
  intro i hi
  rcases ag_STo w a1 hi with e | ⟨j, hj, e, _⟩
  · exact Or.inl e
  · exact Or.inr ⟨j, hj, e⟩
theorem ag_ix4 (c d : Nat) : (4 : Int32) * nI c + nI d = nI (4 * c + d) := by rw [show (4 : Int32) = nI 4 from rfl, pk_mul, nI_add]
theorem ag_ix12 (c d : Nat) : (12 : Int32) * nI c + nI d = nI (12 * c + d) := by rw [show (12 : Int32) = nI 12 from rfl, pk_mul, nI_add]
theorem ag_lay10 {post : St1 → Prop} {J : (Int32 → (Nat → Int32) → (Nat → Int32) → (Nat → Int32) → (Nat → Int32) → (Nat → Int32) → (Nat → Int32) → (Nat → Int32) → (Nat → Int32) → (Nat → Int32) → (Nat → Int32) → (Nat → Int32) → (Nat → Int32) → (Nat → Int32) → (Nat → Int32) → (Nat → Int32) → (Nat → Int32) → (Nat → Int32) → (Nat → Int32) → (Nat → Int32) → (Nat → Int32) → (Nat → Int32) → Prop)} {c : Nat} (hc : c < 12) (hJ : ∀ a4' : Nat → Int32, (∀ i, i < 4 * (c + 1) → a4' i = ag_ST w a1 i) → J (nI (c + 1)) a1 a2 a3 a4' a5 a6 a7 a8 a9 a10 a11 a12 a13 a14 a15 a16 a17 a18 a19 a20 a21) :
    ∀ (m d : Nat) (a4 : Nat → Int32), d + m = 4 → (∀ i, i < 4 * c + d → a4 i = ag_ST w a1 i) → wX_laySteps_10 post J (nI c) w pd ct be bs pf ps tn (m + 1) (nI d) a1 a2 a3 a4 a5 a6 a7 a8 a9 a10 a11 a12 a13 a14 a15 a16 a17 a18 a19 a20 a21 := by
  intro m
  induction m with
  | zero =>
    intro d a4 hd hI
    exact pk_le 4 d (fun _ => nm_r (nI_1 c) (hJ a4 (fun i hi => hI i (by omega)))) (fun z => absurd z (by omega))
  | succ m ih =>
    intro d a4 hd hI
    have q1 : (4 * c + d) / 4 = c := by omega
    have q2 : (4 * c + d) % 4 = d := by omega
    have U : ag_ST w a1 (4 * c + d) = if ag_bs c d < 0 then -1 else if ag_bt w c = true then -1 else if ag_bt w (ag_bs c d).toNatClampNeg = true then -1 else if ((a1 c >>> (nI d &&& 31)) &&& 1) = 1 then ag_bs c d else -1 := by
      unfold ag_ST
      rw [q1, q2]
    have K0 : ∀ x3 : Int32, ag_ST w a1 (4 * c + d) = -1 → wX_laySteps_59 post J (wX_laySteps_10 post J (nI c) w pd ct be bs pf ps tn (m + 1)) (nI c) (nI d) x3 w pd ct be bs pf ps tn a1 a2 a3 a4 a5 a6 a7 a8 a9 a10 a11 a12 a13 a14 a15 a16 a17 a18 a19 a20 a21 := fun x3 e =>
      br_t rfl ⟨pk_in (4 * c + d) 48 (by omega) (ag_ix4 c d), nm_r (by rw [ag_ix4, nI_clamp (by omega)]) (nm_r (nI_1 d) (ih (d + 1) (upd a4 (4 * c + d) (-1)) (by omega) (ag_fill hI e.symm)))⟩
    refine pk_le 4 d (fun z => absurd z (by omega)) (fun _ => ag_beside hc (by omega) ?_)
    rcases ag_bs_ok c hc d (by omega) with e | ⟨j, hj, e⟩
    · rw [e]
      exact br_t (by decide) (K0 _ (by rw [U, e, if_pos (by decide)]))
    · have n0 : ¬ nI j < 0 := nI_pos (by omega)
      rw [e]
      refine br_f n0 (ag_isOpen hc (fun o1 => br_f (by decide) (ag_isOpen hj (fun o2 => br_f (by decide) ⟨pk_in c 12 hc, ?_⟩) (fun o2 => br_t rfl (K0 _ ?_)))) (fun o1 => br_t rfl (K0 _ ?_)))
      · rw [nI_clamp (show c < 2 ^ 31 by omega)]
        refine br_c (fun y => br_f (by decide) ⟨pk_in (4 * c + d) 48 (by omega) (ag_ix4 c d), nm_r (by rw [ag_ix4, nI_clamp (by omega)]) (nm_r (nI_1 d) (ih (d + 1) (upd a4 (4 * c + d) (nI j)) (by omega) (ag_fill (k := 4 * c + d) hI ?_)))⟩) (fun y => K0 _ ?_)
        · rw [U, e, if_neg n0, if_neg (by rw [o1]; decide), nI_clamp (show j < 2 ^ 31 by omega), if_neg (by rw [o2]; decide), if_pos y]
        · rw [U, e, if_neg n0, if_neg (by rw [o1]; decide), nI_clamp (show j < 2 ^ 31 by omega), if_neg (by rw [o2]; decide), if_neg y]
      · rw [U, e, if_neg n0, if_neg (by rw [o1]; decide), nI_clamp (show j < 2 ^ 31 by omega), if_pos o2]
      · rw [U, e, if_neg n0, if_pos o1]
theorem ag_lay2 {post : St1 → Prop} (hp : ∀ a4' : Nat → Int32, (∀ i, i < 48 → a4' i = ag_ST w a1 i) → post (w, pd, ct, be, bs, pf, ps, tn, a1, a2, a3, a4', a5, a6, a7, a8, a9, a10, a11, a12, a13, a14, a15, a16, a17, a18, a19, a20, a21)) :
    ∀ (m c : Nat) (a4 : Nat → Int32), c + m = 12 → (∀ i, i < 4 * c → a4 i = ag_ST w a1 i) → wX_laySteps_2 post w pd ct be bs pf ps tn (m + 1) (nI c) a1 a2 a3 a4 a5 a6 a7 a8 a9 a10 a11 a12 a13 a14 a15 a16 a17 a18 a19 a20 a21 := by
  intro m
  induction m with
  | zero =>
    intro c a4 hc hI
    exact pk_le 12 c (fun _ => hp a4 (fun i hi => hI i (by omega))) (fun z => absurd z (by omega))
  | succ m ih =>
    intro c a4 hc hI
    exact pk_le 12 c (fun z => absurd z (by omega)) (fun _ => ⟨5, ag_lay10 (by omega) (fun a4' h => ih (c + 1) a4' (by omega) h) 4 0 a4 rfl hI⟩)
theorem ag_lay {post : St1 → Prop} (hp : ∀ a4' : Nat → Int32, (∀ i, i < 48 → a4' i = ag_ST w a1 i) → post (w, pd, ct, be, bs, pf, ps, tn, a1, a2, a3, a4', a5, a6, a7, a8, a9, a10, a11, a12, a13, a14, a15, a16, a17, a18, a19, a20, a21)) : wpX_laySteps post (w, pd, ct, be, bs, pf, ps, tn, a1, a2, a3, a4, a5, a6, a7, a8, a9, a10, a11, a12, a13, a14, a15, a16, a17, a18, a19, a20, a21) := by
  unfold wpX_laySteps
  exact ⟨13, ag_lay2 hp 12 0 a4 rfl (fun i hi => absurd hi (by omega))⟩
theorem ag_leads2 {post : Int32 → Prop} {ST : Nat → Int32} {c : Nat} {x2 : Int32} (ok : ag_ok ST) (h4 : ∀ i, i < 48 → a4 i = ST i) (hc : c < 12)
    (h1 : (∃ j, j < 12 ∧ ag_E ST c j ∧ a6 j = x2) → post 1) (h0 : (¬ ∃ j, j < 12 ∧ ag_E ST c j ∧ a6 j = x2) → post 0) :
    ∀ (m d : Nat), d + m = 4 → (∀ e, e < d → ∀ j, j < 12 → ST (4 * c + e) = nI j → ¬ a6 j = x2) → wX_leadsTo_2 post (nI c) x2 w pd ct be bs pf ps tn a1 a2 a3 a4 a5 a6 a7 a8 a9 a10 a11 a12 a13 a14 a15 a16 a17 a18 a19 a20 a21 (m + 1) (nI d) := by
  intro m
  induction m with
  | zero =>
    intro d hd hI
    refine pk_le 4 d (fun _ => h0 ?_) (fun z => absurd z (by omega))
    rintro ⟨j, hj, ⟨e, he, ee⟩, h6⟩
    exact hI e (by omega) j hj ee h6
  | succ m ih =>
    intro d hd hI
    refine pk_le 4 d (fun z => absurd z (by omega)) (fun _ => ⟨pk_in (4 * c + d) 48 (by omega) (ag_ix4 c d), nm_r (e' := ST (4 * c + d)) (by rw [ag_ix4, nI_clamp (by omega), h4 _ (by omega)]) ?_⟩)
    rcases ok (4 * c + d) (by omega) with e | ⟨j, hj, e⟩
    · rw [e]
      refine br_t (by decide) (nm_r (nI_1 d) (ih (d + 1) (by omega) (fun e' he' j hj ej => ?_)))
      by_cases z : e' = d
      · rw [z, e] at ej
        exact absurd ej (ag_m1 j (by omega))
      · exact hI e' (by omega) j hj ej
    · rw [e]
      refine br_f (nI_pos (by omega)) ⟨pk_in j 12 hj, ?_⟩
      rw [nI_clamp (show j < 2 ^ 31 by omega)]
      refine br_c (fun y => h1 ⟨j, hj, ⟨d, by omega, e⟩, y⟩) (fun y => nm_r (nI_1 d) (ih (d + 1) (by omega) (fun e' he' j' hj' ej => ?_)))
      by_cases z : e' = d
      · rw [z, e, nI_eq (by omega) (by omega)] at ej
        rw [← ej]
        exact y
      · exact hI e' (by omega) j' hj' ej
theorem ag_leads {post : Int32 → Prop} {ST : Nat → Int32} {c : Nat} {x2 : Int32} (ok : ag_ok ST) (h4 : ∀ i, i < 48 → a4 i = ST i) (hc : c < 12)
    (h1 : (∃ j, j < 12 ∧ ag_E ST c j ∧ a6 j = x2) → post 1) (h0 : (¬ ∃ j, j < 12 ∧ ag_E ST c j ∧ a6 j = x2) → post 0) : wpX_leadsTo post (w, pd, ct, be, bs, pf, ps, tn, a1, a2, a3, a4, a5, a6, a7, a8, a9, a10, a11, a12, a13, a14, a15, a16, a17, a18, a19, a20, a21) (nI c) x2 := by
  unfold wpX_leadsTo
  exact ⟨5, ag_leads2 ok h4 hc h1 h0 4 0 rfl (fun e he => absurd he (by omega))⟩
end
def ag_lv (D : Nat → Nat) (r c : Nat) : Int32 := if D c < r then nI (D c) else 1000000
theorem ag_lv_in {D : Nat → Nat} {r c k : Nat} (hr : r ≤ 2000) (hk : k ≤ 2000) : ag_lv D r c = nI k ↔ D c < r ∧ D c = k := by
  unfold ag_lv
  split
  · rename_i h
    rw [nI_eq (by omega) (by omega)]
    exact ⟨fun e => ⟨h, e⟩, fun e => e.2⟩
  · rename_i h
    rw [show (1000000 : Int32) = nI 1000000 from rfl, nI_eq (by omega) (by omega)]
    exact ⟨fun e => absurd e (by omega), fun e => absurd e.1 h⟩
theorem ag_lv_nv {D : Nat → Nat} {r c : Nat} (hr : r ≤ 2000) : ag_lv D r c = 1000000 ↔ ¬ D c < r := by
  unfold ag_lv
  split
  · rename_i h
    rw [show (1000000 : Int32) = nI 1000000 from rfl, nI_eq (by omega) (by omega)]
    exact ⟨fun e => absurd e (by omega), fun e => absurd h e⟩
  · rename_i h
    exact ⟨fun _ => h, fun _ => rfl⟩
theorem ag_ring {ST : Nat → Int32} {g c r : Nat} (hr : r < 2000) (h : ¬ ag_d ST g c < r + 1) : (∃ j, j < 12 ∧ ag_E ST c j ∧ ag_d ST g j = r) ↔ ag_d ST g c = r + 1 := by
  constructor
  · rintro ⟨j, hj, he, hd⟩
    have := ag_d1 (g := g) hj he (by omega)
    omega
  · intro e
    exact ag_d2 e (by omega)
theorem ag_lv_s {D : Nat → Nat} {r c : Nat} (h : D c ≠ r) : ag_lv D (r + 1) c = ag_lv D r c := by
  unfold ag_lv
  by_cases z : D c < r
  · rw [if_pos z, if_pos (by omega)]
  · rw [if_neg z, if_neg (by omega)]
theorem ag_lv_e {D : Nat → Nat} {r c : Nat} (h : D c = r) : ag_lv D (r + 1) c = nI r := by
  unfold ag_lv
  rw [if_pos (by omega), h]
section
variable {w pd ct be bs pf ps tn : Int32} {a1 a2 a3 a4 a5 a6 a7 a8 a9 a10 a11 a12 a13 a14 a15 a16 a17 a18 a19 a20 a21 : Nat → Int32}
theorem ag_fd41 {post : St1 → Prop} {J : (Int32 → (Nat → Int32) → (Nat → Int32) → (Nat → Int32) → (Nat → Int32) → (Nat → Int32) → (Nat → Int32) → (Nat → Int32) → (Nat → Int32) → (Nat → Int32) → (Nat → Int32) → (Nat → Int32) → (Nat → Int32) → (Nat → Int32) → (Nat → Int32) → (Nat → Int32) → (Nat → Int32) → (Nat → Int32) → (Nat → Int32) → (Nat → Int32) → (Nat → Int32) → (Nat → Int32) → Prop)} {ST : Nat → Int32} {g r : Nat} (ok : ag_ok ST) (h4 : ∀ i, i < 48 → a4 i = ST i) (hr : r < 12)
    (hJ : ∀ a6' : Nat → Int32, (∀ i, i < 12 → a6' i = ag_lv (ag_d ST g) (r + 2) i) → J (nI (r + 2)) a1 a2 a3 a4 a5 a6' a7 a8 a9 a10 a11 a12 a13 a14 a15 a16 a17 a18 a19 a20 a21) :
    ∀ (m c : Nat) (a6 : Nat → Int32), c + m = 12 → (∀ i, i < 12 → a6 i = if i < c then ag_lv (ag_d ST g) (r + 2) i else ag_lv (ag_d ST g) (r + 1) i) → wX_findDistances_41 post J (nI (r + 1)) w pd ct be bs pf ps tn (m + 1) (nI c) a1 a2 a3 a4 a5 a6 a7 a8 a9 a10 a11 a12 a13 a14 a15 a16 a17 a18 a19 a20 a21 := by
  intro m
  induction m with
  | zero =>
    intro c a6 hc hI
    exact pk_le 12 c (fun _ => nm_r (nI_1 (r + 1)) (hJ a6 (fun i hi => by rw [hI i hi, if_pos (by omega)]))) (fun z => absurd z (by omega))
  | succ m ih =>
    intro c a6 hc hI
    have hcc : a6 c = ag_lv (ag_d ST g) (r + 1) c := by rw [hI c (by omega), if_neg (by omega)]
    have same : ag_d ST g c ≠ r + 1 → ∀ i, i < 12 → a6 i = if i < c + 1 then ag_lv (ag_d ST g) (r + 2) i else ag_lv (ag_d ST g) (r + 1) i := by
      intro hne i hi
      by_cases z : i = c
      · rw [z, if_pos (by omega), hcc, ag_lv_s hne]
      · rw [hI i hi]
        by_cases y : i < c
        · rw [if_pos y, if_pos (by omega)]
        · rw [if_neg y, if_neg (by omega)]
    have look : ∀ j, j < 12 → (a6 j = nI r ↔ ag_d ST g j = r) := by
      intro j hj
      rw [hI j hj]
      split
      · rw [ag_lv_in (by omega) (by omega)]
        omega
      · rw [ag_lv_in (by omega) (by omega)]
        omega
    refine pk_le 12 c (fun z => absurd z (by omega)) (fun _ => ⟨pk_in c 12 (by omega), ?_⟩)
    rw [nI_clamp (show c < 2 ^ 31 by omega), hcc]
    refine ek_if (ag_lv_nv (by omega)) (fun hn => ?_) (fun hn => nm_r (nI_1 c) (ih (c + 1) a6 (by omega) (same (by omega))))
    have lk : (∃ j, j < 12 ∧ ag_E ST c j ∧ a6 j = nI r) ↔ ag_d ST g c = r + 1 := by
      rw [← ag_ring (by omega) hn]
      constructor
      · rintro ⟨j, hj, he, h6⟩
        exact ⟨j, hj, he, (look j hj).mp h6⟩
      · rintro ⟨j, hj, he, h6⟩
        exact ⟨j, hj, he, (look j hj).mpr h6⟩
    rw [nI_pred r]
    refine ag_leads ok h4 (by omega) (fun hy => br_f (by decide) ⟨pk_in c 12 (by omega), ?_⟩) (fun hy => br_t rfl (nm_r (nI_1 c) (ih (c + 1) a6 (by omega) (same (fun z => hy (lk.mpr z))))))
    refine nm_r (e' := upd a6 c (nI (r + 1))) rfl (nm_r (nI_1 c) (ih (c + 1) _ (by omega) (fun i hi => ?_)))
    by_cases z : i = c
    · rw [z, pk_us, if_pos (by omega), ag_lv_e (lk.mp hy)]
    · rw [pk_un z, hI i hi]
      by_cases y : i < c
      · rw [if_pos y, if_pos (by omega)]
      · rw [if_neg y, if_neg (by omega)]
theorem ag_fd33 {post : St1 → Prop} {ST : Nat → Int32} {g : Nat} (ok : ag_ok ST) (h4 : ∀ i, i < 48 → a4 i = ST i)
    (hp : ∀ a6' : Nat → Int32, (∀ i, i < 12 → a6' i = nI (ag_d ST g i)) → post (w, pd, ct, be, bs, pf, ps, tn, a1, a2, a3, a4, a5, a6', a7, a8, a9, a10, a11, a12, a13, a14, a15, a16, a17, a18, a19, a20, a21)) :
    ∀ (m r : Nat) (a6 : Nat → Int32), r + 1 + m = 12 → (∀ i, i < 12 → a6 i = ag_lv (ag_d ST g) (r + 1) i) → wX_findDistances_33 post w pd ct be bs pf ps tn (m + 1) (nI (r + 1)) a1 a2 a3 a4 a5 a6 a7 a8 a9 a10 a11 a12 a13 a14 a15 a16 a17 a18 a19 a20 a21 := by
  intro m
  induction m with
  | zero =>
    intro r a6 hr hI
    refine pk_le 12 (r + 1) (fun _ => hp a6 (fun i hi => ?_)) (fun z => absurd z (by omega))
    rw [hI i hi]
    unfold ag_lv
    rcases ag_d4 ST g i hi with e | e
    · rw [if_pos (by omega)]
    · rw [if_neg (by omega), e]
      rfl
  | succ m ih =>
    intro r a6 hr hI
    refine pk_le 12 (r + 1) (fun z => absurd z (by omega)) (fun _ => ⟨13, ag_fd41 ok h4 (by omega) (fun a6' h => ih (r + 1) a6' (by omega) h) 12 0 a6 rfl (fun i hi => ?_)⟩)
    rw [if_neg (by omega)]
    exact hI i hi
theorem ag_fd2 {post : St1 → Prop} {ST : Nat → Int32} {g : Nat} (ok : ag_ok ST) (h4 : ∀ i, i < 48 → a4 i = ST i) (hg : g < 12)
    (hp : ∀ a6' : Nat → Int32, (∀ i, i < 12 → a6' i = nI (ag_d ST g i)) → post (w, pd, ct, be, bs, pf, ps, tn, a1, a2, a3, a4, a5, a6', a7, a8, a9, a10, a11, a12, a13, a14, a15, a16, a17, a18, a19, a20, a21)) :
    ∀ (m c : Nat) (a6 : Nat → Int32), c + m = 12 → (∀ i, i < c → a6 i = ag_lv (ag_d ST g) 1 i) → wX_findDistances_2 post (nI g) w pd ct be bs pf ps tn (m + 1) (nI c) a1 a2 a3 a4 a5 a6 a7 a8 a9 a10 a11 a12 a13 a14 a15 a16 a17 a18 a19 a20 a21 := by
  intro m
  induction m with
  | zero =>
    intro c a6 hc hI
    exact pk_le 12 c (fun _ => ⟨12, ag_fd33 ok h4 hp 11 0 a6 rfl (fun i hi => hI i (by omega))⟩) (fun z => absurd z (by omega))
  | succ m ih =>
    intro c a6 hc hI
    refine pk_le 12 c (fun z => absurd z (by omega)) (fun _ => pk_eq c g (fun e => ⟨pk_in c 12 (by omega), ?_⟩) (fun e => ⟨pk_in c 12 (by omega), ?_⟩))
    · refine nm_r (e' := upd a6 c 0) (by rw [nI_clamp (by omega)]) (nm_r (nI_1 c) (ih (c + 1) _ (by omega) (ag_fill hI ?_)))
      exact (ag_lv_e ((ag_d3 ST g c).mpr e)).symm
    · refine nm_r (e' := upd a6 c 1000000) (by rw [nI_clamp (by omega)]) (nm_r (nI_1 c) (ih (c + 1) _ (by omega) (ag_fill hI ?_)))
      refine ((ag_lv_nv (by omega)).mpr (fun z => e ?_)).symm
      exact (ag_d3 ST g c).mp (by omega)
theorem ag_fd {post : St1 → Prop} {ST : Nat → Int32} {g : Nat} (ok : ag_ok ST) (h4 : ∀ i, i < 48 → a4 i = ST i) (hg : g < 12)
    (hp : ∀ a6' : Nat → Int32, (∀ i, i < 12 → a6' i = nI (ag_d ST g i)) → post (w, pd, ct, be, bs, pf, ps, tn, a1, a2, a3, a4, a5, a6', a7, a8, a9, a10, a11, a12, a13, a14, a15, a16, a17, a18, a19, a20, a21)) : wpX_findDistances post (w, pd, ct, be, bs, pf, ps, tn, a1, a2, a3, a4, a5, a6, a7, a8, a9, a10, a11, a12, a13, a14, a15, a16, a17, a18, a19, a20, a21) (nI g) := by
  unfold wpX_findDistances
  exact ⟨13, ag_fd2 ok h4 hg hp 12 0 a6 rfl (fun i hi => absurd hi (by omega))⟩
end
end
section
/-! each walker alone: findGoalDistances, alone, nextAlone, clashNow, clashAlone -/
section
variable {w pd ct be bs pf ps tn : Int32} {a1 a2 a3 a4 a5 a6 a7 a8 a9 a10 a11 a12 a13 a14 a15 a16 a17 a18 a19 a20 a21 : Nat → Int32}
theorem ag_fg32 {post : St1 → Prop} {J : (Int32 → Int32 → Int32 → Int32 → Int32 → Int32 → Int32 → Int32 → Int32 → (Nat → Int32) → (Nat → Int32) → (Nat → Int32) → (Nat → Int32) → (Nat → Int32) → (Nat → Int32) → (Nat → Int32) → (Nat → Int32) → (Nat → Int32) → (Nat → Int32) → (Nat → Int32) → (Nat → Int32) → (Nat → Int32) → (Nat → Int32) → (Nat → Int32) → (Nat → Int32) → (Nat → Int32) → (Nat → Int32) → (Nat → Int32) → (Nat → Int32) → (Nat → Int32) → Prop)} {x1 : Int32} {k : Nat} {b5 : Nat → Int32} (hk : k < 3)
    (hJ : ∀ a5' : Nat → Int32, (∀ i, i < 12 → a5' (12 * k + i) = a6 i) → (∀ i, ¬ (12 * k ≤ i ∧ i < 12 * k + 12) → a5' i = b5 i) → J (nI (k + 1)) w pd ct be bs pf ps tn a1 a2 a3 a4 a5' a6 a7 a8 a9 a10 a11 a12 a13 a14 a15 a16 a17 a18 a19 a20 a21) :
    ∀ (m c : Nat) (a5 : Nat → Int32), c + m = 12 → (∀ i, i < c → a5 (12 * k + i) = a6 i) → (∀ i, ¬ (12 * k ≤ i ∧ i < 12 * k + 12) → a5 i = b5 i) → wX_findGoalDistances_32 post J x1 (nI k) w pd ct be bs pf ps tn (m + 1) (nI c) a1 a2 a3 a4 a5 a6 a7 a8 a9 a10 a11 a12 a13 a14 a15 a16 a17 a18 a19 a20 a21 := by
  intro m
  induction m with
  | zero =>
    intro c a5 hc hI hO
    exact pk_le 12 c (fun _ => nm_r (nI_1 k) (hJ a5 (fun i hi => hI i (by omega)) hO)) (fun z => absurd z (by omega))
  | succ m ih =>
    intro c a5 hc hI hO
    refine pk_le 12 c (fun z => absurd z (by omega)) (fun _ => ⟨pk_in c 12 (by omega), pk_in (12 * k + c) 36 (by omega) (ag_ix12 k c), nm_r (e' := upd a5 (12 * k + c) (a6 c)) (by rw [ag_ix12, nI_clamp (show 12 * k + c < 2 ^ 31 by omega), nI_clamp (show c < 2 ^ 31 by omega)]) (nm_r (nI_1 c) (ih (c + 1) _ (by omega) (fun i hi => ?_) (fun i hi => ?_)))⟩)
    · by_cases z : i = c
      · rw [z, pk_us]
      · rw [pk_un (by omega)]
        exact hI i (by omega)
    · rw [pk_un (by omega)]
      exact hO i hi
theorem ag_fg6 {post : St1 → Prop} {ST : Nat → Int32} {t : Nat} (ok : ag_ok ST) (h4 : ∀ i, i < 48 → a4 i = ST i) (g3 : ag_g3 a3) (ht : t < 8)
    (hp : ∀ a5' a6' : Nat → Int32, (∀ i, i < 3 → t / 2 ^ i % 2 = 1 → ∀ c, c < 12 → a5' (12 * i + c) = nI (ag_d ST (a3 i).toNatClampNeg c)) → post (w, pd, ct, be, bs, pf, ps, tn, a1, a2, a3, a4, a5', a6', a7, a8, a9, a10, a11, a12, a13, a14, a15, a16, a17, a18, a19, a20, a21)) :
    ∀ (m k : Nat) (a5 a6 : Nat → Int32), k + m = 3 → (∀ i, i < k → t / 2 ^ i % 2 = 1 → ∀ c, c < 12 → a5 (12 * i + c) = nI (ag_d ST (a3 i).toNatClampNeg c)) → wX_findGoalDistances_6 post (nI t) (m + 1) (nI k) w pd ct be bs pf ps tn a1 a2 a3 a4 a5 a6 a7 a8 a9 a10 a11 a12 a13 a14 a15 a16 a17 a18 a19 a20 a21 := by
  intro m
  induction m with
  | zero =>
    intro k a5 a6 hk hI
    exact pk_le 3 k (fun _ => hp a5 a6 (fun i hi => hI i (by omega))) (fun z => absurd z (by omega))
  | succ m ih =>
    intro k a5 a6 hk hI
    refine pk_le 3 k (fun z => absurd z (by omega)) (fun _ => ek_if (ag_tb t ht k (by omega)) (fun hb => ⟨pk_in k 3 (by omega), ?_⟩) (fun hb => nm_r (nI_1 k) (ih (k + 1) a5 a6 (by omega) (fun i hi hbi => ?_))))
    · obtain ⟨g, hg, eg⟩ := g3 k (by omega)
      rw [nI_clamp (show k < 2 ^ 31 by omega), eg]
      refine ag_fd ok h4 hg (fun a6' h6 => ⟨13, ag_fg32 (b5 := a5) (by omega) (fun a5' h5 h5' => ih (k + 1) a5' a6' (by omega) (fun i hi hbi c hc => ?_)) 12 0 a5 rfl (fun i hi => absurd hi (by omega)) (fun i _ => rfl)⟩)
      by_cases z : i = k
      · rw [z, h5 c hc, h6 c hc, eg, nI_clamp (by omega)]
      · rw [h5' _ (by omega)]
        exact hI i (by omega) hbi c hc
    · by_cases z : i = k
      · exact absurd (z ▸ hbi) hb
      · exact hI i (by omega) hbi
theorem ag_fgd {post : St1 → Prop} {t : Nat} (g3 : ag_g3 a3) (ht : t < 8)
    (hp : ∀ a4' a5' a6' : Nat → Int32, (∀ i, i < 48 → a4' i = ag_ST w a1 i) → (∀ i, i < 3 → t / 2 ^ i % 2 = 1 → ∀ c, c < 12 → a5' (12 * i + c) = nI (ag_d (ag_ST w a1) (a3 i).toNatClampNeg c)) → post (w, pd, ct, be, bs, pf, ps, tn, a1, a2, a3, a4', a5', a6', a7, a8, a9, a10, a11, a12, a13, a14, a15, a16, a17, a18, a19, a20, a21)) : wpX_findGoalDistances post (w, pd, ct, be, bs, pf, ps, tn, a1, a2, a3, a4, a5, a6, a7, a8, a9, a10, a11, a12, a13, a14, a15, a16, a17, a18, a19, a20, a21) (nI t) := by
  unfold wpX_findGoalDistances
  exact ag_lay (fun a4' h4 => ⟨4, ag_fg6 (ag_STok w a1) h4 g3 ht (fun a5' a6' h5 => hp a4' a5' a6' h4 h5) 3 0 a5 a6 rfl (fun i hi => absurd hi (by omega))⟩)
theorem ag_len {post : Int32 → Prop} {k p : Nat} {y : Int32} (hk : k < 3) (hp : p < 12) (e : a2 k = nI p) (e5 : a5 (12 * k + p) = y) (h : post y) : wpX_lengthAlone post (w, pd, ct, be, bs, pf, ps, tn, a1, a2, a3, a4, a5, a6, a7, a8, a9, a10, a11, a12, a13, a14, a15, a16, a17, a18, a19, a20, a21) (nI k) := by
  unfold wpX_lengthAlone
  have t1 : (12 : Int32) * nI k + a2 (nI k).toNatClampNeg = nI (12 * k + p) := by rw [nI_clamp (by omega), e, ag_ix12]
  refine ⟨pk_in k 3 hk, pk_in (12 * k + p) 36 (by omega) t1, ?_⟩
  rw [t1, nI_clamp (by omega), e5]
  exact h
end
/-- alone: the answer hangs on the lengths alone -/
theorem ag_al7 {t : Nat} (ht : t < 8) (b : Int32) (y : Nat → Int32) : ∀ (m k : Nat) (x2 x3 : Int32), k + m = 3 → ∃ v : Int32, ∀ (w pd ct be bs pf ps tn : Int32) (a1 a2 a3 a4 a5 a6 a7 a8 a9 a10 a11 a12 a13 a14 a15 a16 a17 a18 a19 a20 a21 : Nat → Int32) (post : Int32 → Prop), be = b → ag_g3 a2 → (∀ i, i < 3 → t / 2 ^ i % 2 = 1 → a5 (12 * i + (a2 i).toNatClampNeg) = y i) → post v → wX_alone_7 post (nI t) w pd ct be bs pf ps tn a1 a2 a3 a4 a5 a6 a7 a8 a9 a10 a11 a12 a13 a14 a15 a16 a17 a18 a19 a20 a21 (m + 1) x2 x3 (nI k) := by
  intro m
  induction m with
  | zero =>
    intro k x2 x3 hk
    by_cases h1 : x2 = 1000000
    · exact ⟨-2, fun w pd ct be bs pf ps tn a1 a2 a3 a4 a5 a6 a7 a8 a9 a10 a11 a12 a13 a14 a15 a16 a17 a18 a19 a20 a21 post _ _ _ hp => pk_le 3 k (fun _ => br_t h1 hp) (fun z => absurd z (by omega))⟩
    · by_cases h2 : b = 0
      · exact ⟨x2, fun w pd ct be bs pf ps tn a1 a2 a3 a4 a5 a6 a7 a8 a9 a10 a11 a12 a13 a14 a15 a16 a17 a18 a19 a20 a21 post eb _ _ hp => pk_le 3 k (fun _ => br_f h1 (br_t (eb.trans h2) hp)) (fun z => absurd z (by omega))⟩
      · exact ⟨x3, fun w pd ct be bs pf ps tn a1 a2 a3 a4 a5 a6 a7 a8 a9 a10 a11 a12 a13 a14 a15 a16 a17 a18 a19 a20 a21 post eb _ _ hp => pk_le 3 k (fun _ => br_f h1 (br_f (fun z => h2 (eb.symm.trans z)) hp)) (fun z => absurd z (by omega))⟩
  | succ m ih =>
    intro k x2 x3 hk
    by_cases hb : t / 2 ^ k % 2 = 1
    · by_cases hl : y k ≤ x2
      · obtain ⟨v, hv⟩ := ih (k + 1) x2 (x3 + y k) (by omega)
        refine ⟨v, fun w pd ct be bs pf ps tn a1 a2 a3 a4 a5 a6 a7 a8 a9 a10 a11 a12 a13 a14 a15 a16 a17 a18 a19 a20 a21 post eb g2 h5 hp => pk_le 3 k (fun z => absurd z (by omega)) (fun _ => br_t ((ag_tb t ht k (by omega)).mpr hb) ?_)⟩
        obtain ⟨p, hp12, ep⟩ := g2 k (by omega)
        have e5 := h5 k (by omega) hb
        rw [ep, nI_clamp (by omega)] at e5
        exact ag_len (by omega) hp12 ep e5 (br_t hl (nm_e (nm_r (nI_1 k) (hv w pd ct be bs pf ps tn a1 a2 a3 a4 a5 a6 a7 a8 a9 a10 a11 a12 a13 a14 a15 a16 a17 a18 a19 a20 a21 post eb g2 h5 hp))))
      · obtain ⟨v, hv⟩ := ih (k + 1) (y k) (x3 + y k) (by omega)
        refine ⟨v, fun w pd ct be bs pf ps tn a1 a2 a3 a4 a5 a6 a7 a8 a9 a10 a11 a12 a13 a14 a15 a16 a17 a18 a19 a20 a21 post eb g2 h5 hp => pk_le 3 k (fun z => absurd z (by omega)) (fun _ => br_t ((ag_tb t ht k (by omega)).mpr hb) ?_)⟩
        obtain ⟨p, hp12, ep⟩ := g2 k (by omega)
        have e5 := h5 k (by omega) hb
        rw [ep, nI_clamp (by omega)] at e5
        exact ag_len (by omega) hp12 ep e5 (br_f hl (nm_e (nm_r (nI_1 k) (hv w pd ct be bs pf ps tn a1 a2 a3 a4 a5 a6 a7 a8 a9 a10 a11 a12 a13 a14 a15 a16 a17 a18 a19 a20 a21 post eb g2 h5 hp))))
    · obtain ⟨v, hv⟩ := ih (k + 1) x2 x3 (by omega)
      exact ⟨v, fun w pd ct be bs pf ps tn a1 a2 a3 a4 a5 a6 a7 a8 a9 a10 a11 a12 a13 a14 a15 a16 a17 a18 a19 a20 a21 post eb g2 h5 hp => pk_le 3 k (fun z => absurd z (by omega)) (fun _ => br_f (fun z => hb ((ag_tb t ht k (by omega)).mp z)) (nm_r (nI_1 k) (hv w pd ct be bs pf ps tn a1 a2 a3 a4 a5 a6 a7 a8 a9 a10 a11 a12 a13 a14 a15 a16 a17 a18 a19 a20 a21 post eb g2 h5 hp)))⟩
theorem ag_al {t : Nat} (ht : t < 8) (b : Int32) (y : Nat → Int32) : ∃ v : Int32, ∀ (w pd ct be bs pf ps tn : Int32) (a1 a2 a3 a4 a5 a6 a7 a8 a9 a10 a11 a12 a13 a14 a15 a16 a17 a18 a19 a20 a21 : Nat → Int32) (post : Int32 → Prop), be = b → ag_g3 a2 → (∀ i, i < 3 → t / 2 ^ i % 2 = 1 → a5 (12 * i + (a2 i).toNatClampNeg) = y i) → post v → wpX_alone post (w, pd, ct, be, bs, pf, ps, tn, a1, a2, a3, a4, a5, a6, a7, a8, a9, a10, a11, a12, a13, a14, a15, a16, a17, a18, a19, a20, a21) (nI t) := by
  obtain ⟨v, hv⟩ := ag_al7 ht b y 3 0 0 0 rfl
  refine ⟨v, fun w pd ct be bs pf ps tn a1 a2 a3 a4 a5 a6 a7 a8 a9 a10 a11 a12 a13 a14 a15 a16 a17 a18 a19 a20 a21 post eb g2 h5 hp => ?_⟩
  unfold wpX_alone
  exact ⟨4, hv w pd ct be bs pf ps tn a1 a2 a3 a4 a5 a6 a7 a8 a9 a10 a11 a12 a13 a14 a15 a16 a17 a18 a19 a20 a21 post eb g2 h5 hp⟩
def ag_pv (n : Nat) : Int32 := if n = 1000000 then -2 else nI n
section
variable {w pd ct be bs pf ps tn : Int32} {a1 a2 a3 a4 a5 a6 a7 a8 a9 a10 a11 a12 a13 a14 a15 a16 a17 a18 a19 a20 a21 : Nat → Int32}
/-- alone, one walker -/
theorem ag_al1 {post : Int32 → Prop} {t i p n : Nat} (ht : t < 8) (hi : i < 3) (hb : ∀ k, k < 3 → (t / 2 ^ k % 2 = 1 ↔ k = i)) (hp : p < 12) (ep : a2 i = nI p) (hn : n < 2 ^ 31) (e5 : a5 (12 * i + p) = nI n) (h : post (ag_pv n)) :
    ∀ (m k : Nat) (x : Int32), k + m = 3 → (x = if k ≤ i then 0 else nI n) → wX_alone_7 post (nI t) w pd ct be bs pf ps tn a1 a2 a3 a4 a5 a6 a7 a8 a9 a10 a11 a12 a13 a14 a15 a16 a17 a18 a19 a20 a21 (m + 1) x x (nI k) := by
  intro m
  induction m with
  | zero =>
    intro k x hk hx
    rw [if_neg (by omega)] at hx
    subst hx
    unfold ag_pv at h
    refine pk_le 3 k (fun _ => ?_) (fun z => absurd z (by omega))
    refine pk_eq n 1000000 (fun z => ?_) (fun z => ?_)
    · rw [if_pos z] at h
      exact h
    · rw [if_neg z] at h
      exact br_c (fun _ => h) (fun _ => h)
  | succ m ih =>
    intro k x hk hx
    refine pk_le 3 k (fun z => absurd z (by omega)) (fun _ => ek_if (ag_tb t ht k (by omega)) (fun hbk => ?_) (fun hbk => nm_r (nI_1 k) (ih (k + 1) x (by omega) ?_)))
    · have e : k = i := (hb k (by omega)).mp hbk
      subst e
      rw [if_pos (Nat.le_refl k)] at hx
      subst hx
      refine ag_len hi hp ep e5 (pk_le n 0 (fun z => nm_r (e' := nI n) ?_ (nm_r (nI_1 k) ?_)) (fun z => nm_r (e' := nI n) ?_ (nm_r (nI_1 k) (ih (k + 1) (nI n) (by omega) (by rw [if_neg (by omega)])))))
      · rw [show (0 : Int32) = nI 0 from rfl, nI_add, Nat.zero_add]
      · have e0 : n = 0 := by omega
        subst e0
        exact ih (k + 1) (nI 0) (by omega) (by rw [if_neg (by omega)])
      · rw [show (0 : Int32) = nI 0 from rfl, nI_add, Nat.zero_add]
    · have hne : k ≠ i := fun z => hbk ((hb k (by omega)).mpr z)
      rw [hx]
      by_cases z : k ≤ i
      · rw [if_pos z, if_pos (by omega)]
      · rw [if_neg z, if_neg (by omega)]
theorem ag_alone1 {post : Int32 → Prop} {t i p n : Nat} (ht : t < 8) (hi : i < 3) (hb : ∀ k, k < 3 → (t / 2 ^ k % 2 = 1 ↔ k = i)) (hp : p < 12) (ep : a2 i = nI p) (hn : n < 2 ^ 31) (e5 : a5 (12 * i + p) = nI n) (h : post (ag_pv n)) : wpX_alone post (w, pd, ct, be, bs, pf, ps, tn, a1, a2, a3, a4, a5, a6, a7, a8, a9, a10, a11, a12, a13, a14, a15, a16, a17, a18, a19, a20, a21) (nI t) := by
  unfold wpX_alone
  exact ⟨4, ag_al1 ht hi hb hp ep hn e5 h 3 0 0 rfl (by rw [if_pos (by omega)])⟩
end
/-- nextAlone -/
theorem ag_nx2 {ST : Nat → Int32} (ok : ag_ok ST) {D : Nat → Nat} (hD : ∀ c, c < 12 → D c ≤ 1000000) {k c : Nat} (hk : k < 3) (hc : c < 12) : ∀ (m d : Nat), d + m = 4 → ∃ r : Nat, r < 12 ∧ ∀ (w pd ct be bs pf ps tn : Int32) (a1 a2 a3 a4 a5 a6 a7 a8 a9 a10 a11 a12 a13 a14 a15 a16 a17 a18 a19 a20 a21 : Nat → Int32) (post : Int32 → Prop), (∀ i, i < 48 → a4 i = ST i) → (∀ c, c < 12 → a5 (12 * k + c) = nI (D c)) → post (nI r) → wX_nextAlone_2 post (nI k) (nI c) w pd ct be bs pf ps tn a1 a2 a3 a4 a5 a6 a7 a8 a9 a10 a11 a12 a13 a14 a15 a16 a17 a18 a19 a20 a21 (m + 1) (nI d) := by
  intro m
  induction m with
  | zero =>
    intro d hd
    exact ⟨c, hc, fun w pd ct be bs pf ps tn a1 a2 a3 a4 a5 a6 a7 a8 a9 a10 a11 a12 a13 a14 a15 a16 a17 a18 a19 a20 a21 post h4 h5 hp => pk_le 4 d (fun _ => hp) (fun z => absurd z (by omega))⟩
  | succ m ih =>
    intro d hd
    obtain ⟨r, hr, hv⟩ := ih (d + 1) (by omega)
    rcases ok (4 * c + d) (by omega) with e | ⟨j, hj, e⟩
    · exact ⟨r, hr, fun w pd ct be bs pf ps tn a1 a2 a3 a4 a5 a6 a7 a8 a9 a10 a11 a12 a13 a14 a15 a16 a17 a18 a19 a20 a21 post h4 h5 hp => pk_le 4 d (fun z => absurd z (by omega)) (fun _ => ⟨pk_in (4 * c + d) 48 (by omega) (ag_ix4 c d), nm_r (e' := -1) (by rw [ag_ix4, nI_clamp (by omega), h4 _ (by omega), e]) (br_t (by decide) (nm_r (nI_1 d) (hv w pd ct be bs pf ps tn a1 a2 a3 a4 a5 a6 a7 a8 a9 a10 a11 a12 a13 a14 a15 a16 a17 a18 a19 a20 a21 post h4 h5 hp)))⟩)⟩
    · have hcj := hD j hj
      have hcc := hD c hc
      have pre : ∀ (w pd ct be bs pf ps tn : Int32) (a1 a2 a3 a4 a5 a6 a7 a8 a9 a10 a11 a12 a13 a14 a15 a16 a17 a18 a19 a20 a21 : Nat → Int32) (post : Int32 → Prop), (∀ i, i < 48 → a4 i = ST i) → (∀ c, c < 12 → a5 (12 * k + c) = nI (D c)) → (D c ≤ D j → wX_nextAlone_2 post (nI k) (nI c) w pd ct be bs pf ps tn a1 a2 a3 a4 a5 a6 a7 a8 a9 a10 a11 a12 a13 a14 a15 a16 a17 a18 a19 a20 a21 (m + 1) (nI (d + 1))) → (¬ D c ≤ D j → post (nI j)) → wX_nextAlone_2 post (nI k) (nI c) w pd ct be bs pf ps tn a1 a2 a3 a4 a5 a6 a7 a8 a9 a10 a11 a12 a13 a14 a15 a16 a17 a18 a19 a20 a21 (m + 1 + 1) (nI d) := by
        intro w pd ct be bs pf ps tn a1 a2 a3 a4 a5 a6 a7 a8 a9 a10 a11 a12 a13 a14 a15 a16 a17 a18 a19 a20 a21 post h4 h5 q1 q2
        refine pk_le 4 d (fun z => absurd z (by omega)) (fun _ => ⟨pk_in (4 * c + d) 48 (by omega) (ag_ix4 c d), nm_r (e' := nI j) (by rw [ag_ix4, nI_clamp (by omega), h4 _ (by omega), e]) (br_f (nI_pos (by omega)) ⟨pk_in (12 * k + j) 36 (by omega) (ag_ix12 k j), pk_in (12 * k + c) 36 (by omega) (ag_ix12 k c), ?_⟩)⟩)
        rw [ag_ix12, ag_ix12, nI_clamp (show 12 * k + j < 2 ^ 31 by omega), nI_clamp (show 12 * k + c < 2 ^ 31 by omega), h5 j hj, h5 c hc]
        exact pk_le (D c) (D j) (fun z => nm_r (nI_1 d) (q1 z)) (fun z => q2 (by omega))
      by_cases hl : D c ≤ D j
      · exact ⟨r, hr, fun w pd ct be bs pf ps tn a1 a2 a3 a4 a5 a6 a7 a8 a9 a10 a11 a12 a13 a14 a15 a16 a17 a18 a19 a20 a21 post h4 h5 hp => pre w pd ct be bs pf ps tn a1 a2 a3 a4 a5 a6 a7 a8 a9 a10 a11 a12 a13 a14 a15 a16 a17 a18 a19 a20 a21 post h4 h5 (fun _ => hv w pd ct be bs pf ps tn a1 a2 a3 a4 a5 a6 a7 a8 a9 a10 a11 a12 a13 a14 a15 a16 a17 a18 a19 a20 a21 post h4 h5 hp) (fun z => absurd hl z)⟩
      · exact ⟨j, hj, fun w pd ct be bs pf ps tn a1 a2 a3 a4 a5 a6 a7 a8 a9 a10 a11 a12 a13 a14 a15 a16 a17 a18 a19 a20 a21 post h4 h5 hp => pre w pd ct be bs pf ps tn a1 a2 a3 a4 a5 a6 a7 a8 a9 a10 a11 a12 a13 a14 a15 a16 a17 a18 a19 a20 a21 post h4 h5 (fun z => absurd z hl) (fun _ => hp)⟩
theorem ag_nx {ST : Nat → Int32} (ok : ag_ok ST) {D : Nat → Nat} (hD : ∀ c, c < 12 → D c ≤ 1000000) {k c : Nat} (hk : k < 3) (hc : c < 12) : ∃ r : Nat, r < 12 ∧ ∀ (w pd ct be bs pf ps tn : Int32) (a1 a2 a3 a4 a5 a6 a7 a8 a9 a10 a11 a12 a13 a14 a15 a16 a17 a18 a19 a20 a21 : Nat → Int32) (post : Int32 → Prop), (∀ i, i < 48 → a4 i = ST i) → (∀ c, c < 12 → a5 (12 * k + c) = nI (D c)) → post (nI r) → wpX_nextAlone post (w, pd, ct, be, bs, pf, ps, tn, a1, a2, a3, a4, a5, a6, a7, a8, a9, a10, a11, a12, a13, a14, a15, a16, a17, a18, a19, a20, a21) (nI k) (nI c) := by
  obtain ⟨r, hr, hv⟩ := ag_nx2 ok hD hk hc 4 0 rfl
  refine ⟨r, hr, fun w pd ct be bs pf ps tn a1 a2 a3 a4 a5 a6 a7 a8 a9 a10 a11 a12 a13 a14 a15 a16 a17 a18 a19 a20 a21 post h4 h5 hp => ?_⟩
  unfold wpX_nextAlone
  exact ⟨5, hv w pd ct be bs pf ps tn a1 a2 a3 a4 a5 a6 a7 a8 a9 a10 a11 a12 a13 a14 a15 a16 a17 a18 a19 a20 a21 post h4 h5 hp⟩
def ag_tm (t : Nat) : Prop := t = 1 ∨ t = 2 ∨ t = 4 ∨ t = 6
theorem ag_tm8 {t : Nat} (h : ag_tm t) : t < 8 := by rcases h with h | h | h | h <;> omega
section
variable {w pd ct be bs pf ps tn : Int32} {a1 a2 a3 a4 a5 a6 a7 a8 a9 a10 a11 a12 a13 a14 a15 a16 a17 a18 a19 a20 a21 : Nat → Int32}
theorem ag_meet {post : Int32 → Prop} {c0 n0 c1 n1 : Nat} (h1 : c0 < 12) (h2 : n0 < 12) (h3 : c1 < 12) (h4 : n1 < 12) (hy : (n0 = n1 ∨ (n0 = c1 ∧ n1 = c0)) → post 1) (hn : ¬ (n0 = n1 ∨ (n0 = c1 ∧ n1 = c0)) → post 0) : wpX_meet post () (nI c0) (nI n0) (nI c1) (nI n1) := by
  unfold wpX_meet
  exact pk_eq n0 n1 (fun z => hy (Or.inl z)) (fun z => pk_eq n0 c1 (fun y => pk_eq n1 c0 (fun x => hy (Or.inr ⟨y, x⟩)) (fun x => hn (by omega))) (fun y => hn (by omega)))
theorem ag_cn27 {post J : Int32 → Prop} {t k i j : Nat} (ht : t < 8) (hi : i < 3) (hj : j < 3) (hn : ¬ (t / 2 ^ i % 2 = 1 ∧ t / 2 ^ j % 2 = 1)) (hJ : J (nI (k + 1))) : wX_clashNow_27 post J (nI t) (nI k) (nI i) (nI j) w pd ct be bs pf ps tn a1 a2 a3 a4 a5 a6 a7 a8 a9 a10 a11 a12 a13 a14 a15 a16 a17 a18 a19 a20 a21 :=
  ek_if (ag_tb t ht i hi) (fun b1 => ek_if (ag_tb t ht j hj) (fun b2 => absurd ⟨b1, b2⟩ hn) (fun _ => br_t rfl (nm_r (nI_1 k) hJ))) (fun _ => br_t rfl (nm_r (nI_1 k) hJ))
theorem ag_cn {post : Int32 → Prop} {t : Nat} {cs ns : Nat → Nat} (ht : ag_tm t) (hc : ∀ i, i < 3 → t / 2 ^ i % 2 = 1 → cs i < 12 ∧ a15 i = nI (cs i)) (hn : ∀ i, i < 3 → t / 2 ^ i % 2 = 1 → ns i < 12 ∧ a16 i = nI (ns i))
    (h6 : t = 6 → (ns 1 = ns 2 ∨ (ns 1 = cs 2 ∧ ns 2 = cs 1)) → post 6) (h0 : ¬ (t = 6 ∧ (ns 1 = ns 2 ∨ (ns 1 = cs 2 ∧ ns 2 = cs 1))) → post 0) : wpX_clashNow post (w, pd, ct, be, bs, pf, ps, tn, a1, a2, a3, a4, a5, a6, a7, a8, a9, a10, a11, a12, a13, a14, a15, a16, a17, a18, a19, a20, a21) (nI t) := by
  unfold wpX_clashNow
  have t8 := ag_tm8 ht
  have n01 : ¬ (t / 2 ^ 0 % 2 = 1 ∧ t / 2 ^ 1 % 2 = 1) := by rcases ht with h | h | h | h <;> subst h <;> decide
  have n02 : ¬ (t / 2 ^ 0 % 2 = 1 ∧ t / 2 ^ 2 % 2 = 1) := by rcases ht with h | h | h | h <;> subst h <;> decide
  refine ⟨4, ?_⟩
  refine pk_le 3 0 (fun z => absurd z (by omega)) (fun _ => pk_eq 0 2 (fun z => absurd z (by omega)) (fun _ => pk_eq 0 0 (fun _ => ag_cn27 (k := 0) (i := 0) (j := 1) t8 (by omega) (by omega) n01 ?_) (fun z => absurd rfl z)))
  refine pk_le 3 1 (fun z => absurd z (by omega)) (fun _ => pk_eq 1 2 (fun z => absurd z (by omega)) (fun _ => pk_eq 1 0 (fun z => absurd z (by omega)) (fun _ => ag_cn27 (k := 1) (i := 0) (j := 2) t8 (by omega) (by omega) n02 ?_)))
  refine pk_le 3 2 (fun z => absurd z (by omega)) (fun _ => pk_eq 2 2 (fun _ => pk_eq 2 0 (fun z => absurd z (by omega)) (fun _ => ?_)) (fun z => absurd rfl z))
  by_cases e : t = 6
  · subst e
    obtain ⟨c1, d1⟩ := hc 1 (by omega) (by decide)
    obtain ⟨c2, d2⟩ := hc 2 (by omega) (by decide)
    obtain ⟨m1, e1⟩ := hn 1 (by omega) (by decide)
    obtain ⟨m2, e2⟩ := hn 2 (by omega) (by decide)
    refine br_t (by decide) (br_t (by decide) (br_f (by decide) ⟨by exact pk_in 1 3 (by omega), by exact pk_in 1 3 (by omega), by exact pk_in 2 3 (by omega), by exact pk_in 2 3 (by omega), ?_⟩))
    have w1 : a15 (1 : Int32).toNatClampNeg = nI (cs 1) := d1
    have w2 : a15 (2 : Int32).toNatClampNeg = nI (cs 2) := d2
    have w3 : a16 (1 : Int32).toNatClampNeg = nI (ns 1) := e1
    have w4 : a16 (2 : Int32).toNatClampNeg = nI (ns 2) := e2
    rw [w1, w2, w3, w4]
    exact ag_meet c1 m1 c2 m2 (fun z => br_f (by decide) (h6 rfl z)) (fun z => br_t rfl (nm_r (nI_1 2) (pk_le 3 3 (fun _ => h0 (fun y => z y.2)) (fun y => absurd y (by omega)))))
  · refine ag_cn27 (k := 2) (i := 1) (j := 2) t8 (by omega) (by omega) ?_ (pk_le 3 3 (fun _ => h0 (fun y => e y.1)) (fun y => absurd y (by omega)))
    rcases ht with h | h | h | h
    · subst h; decide
    · subst h; decide
    · subst h; decide
    · exact absurd h e
theorem ag_ca91 {post : Int32 → St1 → Prop} {J : (Int32 → (Nat → Int32) → (Nat → Int32) → (Nat → Int32) → (Nat → Int32) → (Nat → Int32) → (Nat → Int32) → (Nat → Int32) → (Nat → Int32) → (Nat → Int32) → (Nat → Int32) → (Nat → Int32) → (Nat → Int32) → (Nat → Int32) → (Nat → Int32) → (Nat → Int32) → (Nat → Int32) → (Nat → Int32) → (Nat → Int32) → (Nat → Int32) → (Nat → Int32) → (Nat → Int32) → Prop)} {x1 : Int32} {k : Nat} (hJ : ∀ a15' : Nat → Int32, (∀ j, j < 3 → a15' j = a16 j) → J (nI (k + 1)) a1 a2 a3 a4 a5 a6 a7 a8 a9 a10 a11 a12 a13 a14 a15' a16 a17 a18 a19 a20 a21) :
    ∀ (m i : Nat) (a15 : Nat → Int32), i + m = 3 → (∀ j, j < i → a15 j = a16 j) → wX_clashAlone_91 post J x1 (nI k) w pd ct be bs pf ps tn (m + 1) (nI i) a1 a2 a3 a4 a5 a6 a7 a8 a9 a10 a11 a12 a13 a14 a15 a16 a17 a18 a19 a20 a21 := by
  intro m
  induction m with
  | zero =>
    intro i a15 hi hI
    exact pk_le 3 i (fun _ => nm_r (nI_1 k) (hJ a15 (fun j hj => hI j (by omega)))) (fun z => absurd z (by omega))
  | succ m ih =>
    intro i a15 hi hI
    exact pk_le 3 i (fun z => absurd z (by omega)) (fun _ => ⟨pk_in i 3 (by omega), pk_in i 3 (by omega), nm_r (e' := upd a15 i (a16 i)) (by rw [nI_clamp (by omega)]) (nm_r (nI_1 i) (ih (i + 1) _ (by omega) (ag_fill hI rfl)))⟩)
end
theorem ag_ca35 {ST : Nat → Int32} (ok : ag_ok ST) {D : Nat → Nat → Nat} (hD : ∀ k c, k < 3 → c < 12 → D k c ≤ 1000000) {t : Nat} (ht : ag_tm t) {f : Nat → Nat → Nat} (hf : ∀ k c, k < 3 → c < 12 → f k c < 12 ∧ ∀ (w pd ct be bs pf ps tn : Int32) (a1 a2 a3 a4 a5 a6 a7 a8 a9 a10 a11 a12 a13 a14 a15 a16 a17 a18 a19 a20 a21 : Nat → Int32) (post : Int32 → Prop), (∀ i, i < 48 → a4 i = ST i) → (∀ c, c < 12 → a5 (12 * k + c) = nI (D k c)) → post (nI (f k c)) → wpX_nextAlone post (w, pd, ct, be, bs, pf, ps, tn, a1, a2, a3, a4, a5, a6, a7, a8, a9, a10, a11, a12, a13, a14, a15, a16, a17, a18, a19, a20, a21) (nI k) (nI c))
    {w pd ct be bs pf ps tn : Int32} {a1 a2 a3 a4 a5 a6 a7 a8 a9 a10 a11 a12 a13 a14 a15 a16 a17 a18 a19 a20 a21 : Nat → Int32} {post : Int32 → St1 → Prop} {J : (Int32 → (Nat → Int32) → (Nat → Int32) → (Nat → Int32) → (Nat → Int32) → (Nat → Int32) → (Nat → Int32) → (Nat → Int32) → (Nat → Int32) → (Nat → Int32) → (Nat → Int32) → (Nat → Int32) → (Nat → Int32) → (Nat → Int32) → (Nat → Int32) → (Nat → Int32) → (Nat → Int32) → (Nat → Int32) → (Nat → Int32) → (Nat → Int32) → (Nat → Int32) → (Nat → Int32) → Prop)} {q : Nat} {cs : Nat → Nat} (h4 : ∀ i, i < 48 → a4 i = ST i) (h5 : ∀ k, k < 3 → t / 2 ^ k % 2 = 1 → ∀ c, c < 12 → a5 (12 * k + c) = nI (D k c)) (hc : ∀ i, i < 3 → t / 2 ^ i % 2 = 1 → cs i < 12 ∧ a15 i = nI (cs i))
    (hX : ∀ a16' : Nat → Int32, (∀ i, i < 3 → t / 2 ^ i % 2 = 1 → a16' i = nI (f i (cs i))) → wpX_clashNow (fun r => (r = 0 → ∃ fu91 : Nat, wX_clashAlone_91 post J (nI t) (nI q) w pd ct be bs pf ps tn fu91 0 a1 a2 a3 a4 a5 a6 a7 a8 a9 a10 a11 a12 a13 a14 a15 a16' a17 a18 a19 a20 a21) ∧ (¬ r = 0 → post r (w, pd, ct, be, bs, pf, ps, tn, a1, a2, a3, a4, a5, a6, a7, a8, a9, a10, a11, a12, a13, a14, a15, a16', a17, a18, a19, a20, a21))) (w, pd, ct, be, bs, pf, ps, tn, a1, a2, a3, a4, a5, a6, a7, a8, a9, a10, a11, a12, a13, a14, a15, a16', a17, a18, a19, a20, a21) (nI t)) :
    ∀ (m k : Nat) (a16 : Nat → Int32), k + m = 3 → (∀ i, i < k → t / 2 ^ i % 2 = 1 → a16 i = nI (f i (cs i))) → wX_clashAlone_35 post J (nI t) (nI q) w pd ct be bs pf ps tn (m + 1) (nI k) a1 a2 a3 a4 a5 a6 a7 a8 a9 a10 a11 a12 a13 a14 a15 a16 a17 a18 a19 a20 a21 := by
  intro m
  induction m with
  | zero =>
    intro k a16 hk hI
    exact pk_le 3 k (fun _ => hX a16 (fun i hi => hI i (by omega))) (fun z => absurd z (by omega))
  | succ m ih =>
    intro k a16 hk hI
    refine pk_le 3 k (fun z => absurd z (by omega)) (fun _ => ek_if (ag_tb t (ag_tm8 ht) k (by omega)) (fun hb => ⟨pk_in k 3 (by omega), ?_⟩) (fun hb => ⟨pk_in k 3 (by omega), nm_r (e' := upd a16 k (-1)) (by rw [nI_clamp (by omega)]) (nm_r (nI_1 k) (ih (k + 1) _ (by omega) (fun i hi hbi => ?_)))⟩))
    · obtain ⟨c12, ec⟩ := hc k (by omega) hb
      rw [nI_clamp (show k < 2 ^ 31 by omega), ec]
      refine (hf k (cs k) (by omega) c12).2 w pd ct be bs pf ps tn a1 a2 a3 a4 a5 a6 a7 a8 a9 a10 a11 a12 a13 a14 a15 a16 a17 a18 a19 a20 a21 _ h4 (h5 k (by omega) hb) ⟨pk_in k 3 (by omega), nm_e (nm_r (nI_1 k) (ih (k + 1) _ (by omega) (fun i hi hbi => ?_)))⟩
      by_cases z : i = k
      · rw [z, pk_us]
      · rw [pk_un z]
        exact hI i (by omega) hbi
    · by_cases z : i = k
      · exact absurd (z ▸ hbi) hb
      · rw [pk_un z]
        exact hI i (by omega) hbi
theorem ag_ca27 {ST : Nat → Int32} (ok : ag_ok ST) {D : Nat → Nat → Nat} (hD : ∀ k c, k < 3 → c < 12 → D k c ≤ 1000000) {t : Nat} (ht : ag_tm t) {f : Nat → Nat → Nat} (hf : ∀ k c, k < 3 → c < 12 → f k c < 12 ∧ ∀ (w pd ct be bs pf ps tn : Int32) (a1 a2 a3 a4 a5 a6 a7 a8 a9 a10 a11 a12 a13 a14 a15 a16 a17 a18 a19 a20 a21 : Nat → Int32) (post : Int32 → Prop), (∀ i, i < 48 → a4 i = ST i) → (∀ c, c < 12 → a5 (12 * k + c) = nI (D k c)) → post (nI (f k c)) → wpX_nextAlone post (w, pd, ct, be, bs, pf, ps, tn, a1, a2, a3, a4, a5, a6, a7, a8, a9, a10, a11, a12, a13, a14, a15, a16, a17, a18, a19, a20, a21) (nI k) (nI c)) :
    ∀ (m q : Nat) (cs : Nat → Nat), q + m = 12 → (∀ i, i < 3 → t / 2 ^ i % 2 = 1 → cs i < 12) → ∃ v : Int32, (v = 0 ∨ (t = 6 ∧ v = 6)) ∧ ∀ (w pd ct be bs pf ps tn : Int32) (a1 a2 a3 a4 a5 a6 a7 a8 a9 a10 a11 a12 a13 a14 a15 a16 a17 a18 a19 a20 a21 : Nat → Int32) (post : Int32 → St1 → Prop), (∀ i, i < 48 → a4 i = ST i) → (∀ k, k < 3 → t / 2 ^ k % 2 = 1 → ∀ c, c < 12 → a5 (12 * k + c) = nI (D k c)) → (∀ i, i < 3 → t / 2 ^ i % 2 = 1 → a15 i = nI (cs i)) → (∀ a15' a16' : Nat → Int32, post v (w, pd, ct, be, bs, pf, ps, tn, a1, a2, a3, a4, a5, a6, a7, a8, a9, a10, a11, a12, a13, a14, a15', a16', a17, a18, a19, a20, a21)) → wX_clashAlone_27 post (nI t) w pd ct be bs pf ps tn (m + 1) (nI q) a1 a2 a3 a4 a5 a6 a7 a8 a9 a10 a11 a12 a13 a14 a15 a16 a17 a18 a19 a20 a21 := by
  intro m
  induction m with
  | zero =>
    intro q cs hq _
    exact ⟨0, Or.inl rfl, fun w pd ct be bs pf ps tn a1 a2 a3 a4 a5 a6 a7 a8 a9 a10 a11 a12 a13 a14 a15 a16 a17 a18 a19 a20 a21 post _ _ _ hp => pk_le 12 q (fun _ => hp a15 a16) (fun z => absurd z (by omega))⟩
  | succ m ih =>
    intro q cs hq hcs
    have hns : ∀ i, i < 3 → t / 2 ^ i % 2 = 1 → f i (cs i) < 12 := fun i hi hb => (hf i (cs i) hi (hcs i hi hb)).1
    by_cases hm : t = 6 ∧ (f 1 (cs 1) = f 2 (cs 2) ∨ (f 1 (cs 1) = cs 2 ∧ f 2 (cs 2) = cs 1))
    · refine ⟨6, Or.inr ⟨hm.1, rfl⟩, fun w pd ct be bs pf ps tn a1 a2 a3 a4 a5 a6 a7 a8 a9 a10 a11 a12 a13 a14 a15 a16 a17 a18 a19 a20 a21 post h4 h5 hc hp => pk_le 12 q (fun z => absurd z (by omega)) (fun _ => ⟨4, ag_ca35 (a16 := a16) ok hD ht hf h4 h5 (fun i hi hb => ⟨hcs i hi hb, hc i hi hb⟩) (fun a16' h16 => ?_) 3 0 a16 rfl (fun i hi => absurd hi (by omega))⟩)⟩
      exact ag_cn (cs := cs) (ns := fun i => f i (cs i)) ht (fun i hi hb => ⟨hcs i hi hb, hc i hi hb⟩) (fun i hi hb => ⟨hns i hi hb, h16 i hi hb⟩) (fun _ _ => br_f (by decide) (hp a15 a16')) (fun z => absurd hm z)
    · obtain ⟨v, hv0, hv⟩ := ih (q + 1) (fun i => f i (cs i)) (by omega) hns
      refine ⟨v, hv0, fun w pd ct be bs pf ps tn a1 a2 a3 a4 a5 a6 a7 a8 a9 a10 a11 a12 a13 a14 a15 a16 a17 a18 a19 a20 a21 post h4 h5 hc hp => pk_le 12 q (fun z => absurd z (by omega)) (fun _ => ⟨4, ag_ca35 (a16 := a16) ok hD ht hf h4 h5 (fun i hi hb => ⟨hcs i hi hb, hc i hi hb⟩) (fun a16' h16 => ?_) 3 0 a16 rfl (fun i hi => absurd hi (by omega))⟩)⟩
      exact ag_cn (cs := cs) (ns := fun i => f i (cs i)) ht (fun i hi hb => ⟨hcs i hi hb, hc i hi hb⟩) (fun i hi hb => ⟨hns i hi hb, h16 i hi hb⟩) (fun e z => absurd ⟨e, z⟩ hm) (fun _ => br_t rfl ⟨4, ag_ca91 (fun a15' h15 => hv w pd ct be bs pf ps tn a1 a2 a3 a4 a5 a6 a7 a8 a9 a10 a11 a12 a13 a14 a15' a16' a17 a18 a19 a20 a21 post h4 h5 (fun i hi hb => by rw [h15 i hi]; exact h16 i hi hb) hp) 3 0 a15 rfl (fun i hi => absurd hi (by omega))⟩)
section
variable {w pd ct be bs pf ps tn : Int32} {a1 a2 a3 a4 a5 a6 a7 a8 a9 a10 a11 a12 a13 a14 a15 a16 a17 a18 a19 a20 a21 : Nat → Int32}
theorem ag_ca2 {post : Int32 → St1 → Prop} {x1 : Int32} (h : ∀ a15' : Nat → Int32, (∀ j, j < 3 → a15' j = a2 j) → ∃ n, wX_clashAlone_27 post x1 w pd ct be bs pf ps tn n 0 a1 a2 a3 a4 a5 a6 a7 a8 a9 a10 a11 a12 a13 a14 a15' a16 a17 a18 a19 a20 a21) :
    ∀ (m i : Nat) (a15 : Nat → Int32), i + m = 3 → (∀ j, j < i → a15 j = a2 j) → wX_clashAlone_2 post x1 w pd ct be bs pf ps tn (m + 1) (nI i) a1 a2 a3 a4 a5 a6 a7 a8 a9 a10 a11 a12 a13 a14 a15 a16 a17 a18 a19 a20 a21 := by
  intro m
  induction m with
  | zero =>
    intro i a15 hi hI
    exact pk_le 3 i (fun _ => h a15 (fun j hj => hI j (by omega))) (fun z => absurd z (by omega))
  | succ m ih =>
    intro i a15 hi hI
    exact pk_le 3 i (fun z => absurd z (by omega)) (fun _ => ⟨pk_in i 3 (by omega), pk_in i 3 (by omega), nm_r (e' := upd a15 i (a2 i)) (by rw [nI_clamp (by omega)]) (nm_r (nI_1 i) (ih (i + 1) _ (by omega) (ag_fill hI rfl)))⟩)
end
theorem ag_ca {ST : Nat → Int32} (ok : ag_ok ST) {D : Nat → Nat → Nat} (hD : ∀ k c, k < 3 → c < 12 → D k c ≤ 1000000) {t : Nat} (ht : ag_tm t) {ps : Nat → Nat} (hps : ∀ i, i < 3 → ps i < 12) : ∃ v : Int32, (v = 0 ∨ (t = 6 ∧ v = 6)) ∧ ∀ (w pd ct be bs pf pS tn : Int32) (a1 a2 a3 a4 a5 a6 a7 a8 a9 a10 a11 a12 a13 a14 a15 a16 a17 a18 a19 a20 a21 : Nat → Int32) (post : Int32 → St1 → Prop), (∀ i, i < 48 → a4 i = ST i) → (∀ k, k < 3 → t / 2 ^ k % 2 = 1 → ∀ c, c < 12 → a5 (12 * k + c) = nI (D k c)) → (∀ i, i < 3 → a2 i = nI (ps i)) → (∀ a15' a16' : Nat → Int32, post v (w, pd, ct, be, bs, pf, pS, tn, a1, a2, a3, a4, a5, a6, a7, a8, a9, a10, a11, a12, a13, a14, a15', a16', a17, a18, a19, a20, a21)) → wpX_clashAlone post (w, pd, ct, be, bs, pf, pS, tn, a1, a2, a3, a4, a5, a6, a7, a8, a9, a10, a11, a12, a13, a14, a15, a16, a17, a18, a19, a20, a21) (nI t) := by
  have h0 : ∀ k c : Nat, ∃ r : Nat, k < 3 → c < 12 → r < 12 ∧ ∀ (w pd ct be bs pf ps tn : Int32) (a1 a2 a3 a4 a5 a6 a7 a8 a9 a10 a11 a12 a13 a14 a15 a16 a17 a18 a19 a20 a21 : Nat → Int32) (post : Int32 → Prop), (∀ i, i < 48 → a4 i = ST i) → (∀ c, c < 12 → a5 (12 * k + c) = nI (D k c)) → post (nI r) → wpX_nextAlone post (w, pd, ct, be, bs, pf, ps, tn, a1, a2, a3, a4, a5, a6, a7, a8, a9, a10, a11, a12, a13, a14, a15, a16, a17, a18, a19, a20, a21) (nI k) (nI c) := by
    intro k c
    by_cases hk : k < 3
    · by_cases hc : c < 12
      · obtain ⟨r, hr, hv⟩ := ag_nx ok (fun c hc => hD k c hk hc) hk hc
        exact ⟨r, fun _ _ => ⟨hr, hv⟩⟩
      · exact ⟨0, fun _ z => absurd z hc⟩
    · exact ⟨0, fun z => absurd z hk⟩
  obtain ⟨f, hf⟩ := Classical.skolem.mp (fun k => Classical.skolem.mp (h0 k))
  obtain ⟨v, hv0, hv⟩ := ag_ca27 ok hD ht hf 12 0 ps rfl (fun i hi _ => hps i hi)
  refine ⟨v, hv0, fun w pd ct be bs pf pS tn a1 a2 a3 a4 a5 a6 a7 a8 a9 a10 a11 a12 a13 a14 a15 a16 a17 a18 a19 a20 a21 post h4 h5 h2 hp => ?_⟩
  unfold wpX_clashAlone
  exact ⟨4, ag_ca2 (fun a15' h15 => ⟨13, hv w pd ct be bs pf pS tn a1 a2 a3 a4 a5 a6 a7 a8 a9 a10 a11 a12 a13 a14 a15' a16 a17 a18 a19 a20 a21 post h4 h5 (fun i hi _ => by rw [h15 i hi, h2 i hi]) hp⟩) 3 0 a15 rfl (fun i hi => absurd hi (by omega))⟩
end
section
/-! walkers together: gather, stateOf, layCells, choices, chosen, steps, guess -/
def ag_ct (t : Nat) : Nat → Nat
  | 0 => 0
  | k + 1 => ag_ct t k + t / 2 ^ k % 2
theorem ag_ct_le (t : Nat) : ∀ k, ag_ct t k ≤ k := by
  intro k
  induction k with
  | zero => exact Nat.le_refl 0
  | succ k ih =>
    have : t / 2 ^ k % 2 < 2 := Nat.mod_lt _ (by omega)
    show ag_ct t k + t / 2 ^ k % 2 ≤ k + 1
    omega
theorem ag_ct_lt {t i k : Nat} (h : i < k) (hb : t / 2 ^ i % 2 = 1) : ag_ct t i < ag_ct t k := by
  induction k with
  | zero => omega
  | succ k ih =>
    show ag_ct t i < ag_ct t k + t / 2 ^ k % 2
    by_cases e : i = k
    · rw [← e]
      omega
    · have := ih (by omega)
      omega
section
variable {w pd ct be bs pf ps tn : Int32} {a1 a2 a3 a4 a5 a6 a7 a8 a9 a10 a11 a12 a13 a14 a15 a16 a17 a18 a19 a20 a21 : Nat → Int32}
theorem ag_ga7 {post : St1 → Prop} {t : Nat} (ht : t < 8) (hp : ∀ a7' : Nat → Int32, (∀ i, i < 3 → t / 2 ^ i % 2 = 1 → a7' (ag_ct t i) = nI i) → post (w, pd, nI (ag_ct t 3), be, bs, pf, ps, tn, a1, a2, a3, a4, a5, a6, a7', a8, a9, a10, a11, a12, a13, a14, a15, a16, a17, a18, a19, a20, a21)) :
    ∀ (m k : Nat) (a7 : Nat → Int32), k + m = 3 → (∀ i, i < k → t / 2 ^ i % 2 = 1 → a7 (ag_ct t i) = nI i) → wX_gather_7 post (nI t) w pd be bs pf ps tn (m + 1) (nI k) (nI (ag_ct t k)) a1 a2 a3 a4 a5 a6 a7 a8 a9 a10 a11 a12 a13 a14 a15 a16 a17 a18 a19 a20 a21 := by
  intro m
  induction m with
  | zero =>
    intro k a7 hk hI
    have e : k = 3 := by omega
    subst e
    exact pk_le 3 3 (fun _ => hp a7 hI) (fun z => absurd z (by omega))
  | succ m ih =>
    intro k a7 hk hI
    have hc := ag_ct_le t k
    refine pk_le 3 k (fun z => absurd z (by omega)) (fun _ => ek_if (ag_tb t ht k (by omega)) (fun hb => ?_) (fun hb => ?_))
    · have es : ag_ct t (k + 1) = ag_ct t k + 1 := by show ag_ct t k + t / 2 ^ k % 2 = _; rw [hb]
      refine ⟨pk_in (ag_ct t k) 3 (by omega), nm_r (e' := upd a7 (ag_ct t k) (nI k)) (by rw [nI_clamp (by omega)]) (nm_r (e' := nI (ag_ct t (k + 1))) (by rw [nI_1, es]) (nm_r (nI_1 k) (ih (k + 1) _ (by omega) (fun i hi hbi => ?_))))⟩
      by_cases z : i = k
      · rw [z, pk_us]
      · have := ag_ct_lt (t := t) (show i < k by omega) hbi
        rw [pk_un (by omega)]
        exact hI i (by omega) hbi
    · have es : ag_ct t (k + 1) = ag_ct t k := by
        show ag_ct t k + t / 2 ^ k % 2 = _
        have : t / 2 ^ k % 2 < 2 := Nat.mod_lt _ (by omega)
        omega
      have := ih (k + 1) a7 (by omega) (fun i hi hbi => by
        by_cases z : i = k
        · exact absurd (z ▸ hbi) hb
        · exact hI i (by omega) hbi)
      rw [es] at this
      exact nm_r (nI_1 k) this
theorem ag_ga {post : St1 → Prop} {t : Nat} (ht : t < 8) (hp : ∀ a7' : Nat → Int32, (∀ i, i < 3 → t / 2 ^ i % 2 = 1 → a7' (ag_ct t i) = nI i) → post (w, pd, nI (ag_ct t 3), be, bs, pf, ps, tn, a1, a2, a3, a4, a5, a6, a7', a8, a9, a10, a11, a12, a13, a14, a15, a16, a17, a18, a19, a20, a21)) : wpX_gather post (w, pd, ct, be, bs, pf, ps, tn, a1, a2, a3, a4, a5, a6, a7, a8, a9, a10, a11, a12, a13, a14, a15, a16, a17, a18, a19, a20, a21) (nI t) := by
  unfold wpX_gather
  exact ⟨4, ag_ga7 ht hp 3 0 a7 rfl (fun i hi => absurd hi (by omega))⟩
end
/-- the number of a team's state -/
def ag_sv (vs : Nat → Nat) : Nat → Nat
  | 0 => 0
  | i + 1 => ag_sv vs i + 12 ^ i * vs i
theorem ag_sv_lt {vs : Nat → Nat} : ∀ k, (∀ j, j < k → vs j < 12) → ag_sv vs k < 12 ^ k := by
  intro k
  induction k with
  | zero => intro _; exact Nat.one_pos
  | succ k ih =>
    intro h
    have h1 := ih (fun j hj => h j (by omega))
    have h2 := h k (by omega)
    show ag_sv vs k + 12 ^ k * vs k < 12 ^ (k + 1)
    have h3 : 12 ^ k * vs k ≤ 12 ^ k * 11 := Nat.mul_le_mul_left _ (by omega)
    rw [Nat.pow_succ]
    omega
section
variable {w pd ct be bs pf ps tn : Int32} {a1 a2 a3 a4 a5 a6 a7 a8 a9 a10 a11 a12 a13 a14 a15 a16 a17 a18 a19 a20 a21 : Nat → Int32}
theorem ag_so7 {post : Int32 → Prop} {x1 : Int32} {k : Nat} {wh vs : Nat → Nat} (hk : k ≤ 3) (hw : ∀ j, j < k → wh j < 3 ∧ a7 j = nI (wh j)) (h0 : x1 = 0 → ∀ j, j < k → a2 (wh j) = nI (vs j)) (h1 : ¬ x1 = 0 → ∀ j, j < k → a3 (wh j) = nI (vs j)) (hc : ct = nI k) (hp : post (nI (ag_sv vs k))) :
    ∀ (m i : Nat), i + m = k → wX_stateOf_7 post x1 w pd ct be bs pf ps tn a1 a2 a3 a4 a5 a6 a7 a8 a9 a10 a11 a12 a13 a14 a15 a16 a17 a18 a19 a20 a21 (m + 1) (nI (ag_sv vs i)) (nI (12 ^ i)) (nI i) := by
  intro m
  induction m with
  | zero =>
    intro i hi
    have e : i = k := by omega
    subst e
    exact pk_le i i (fun _ => hp) (fun z => absurd z (by omega)) hc
  | succ m ih =>
    intro i hi
    obtain ⟨w3, ew⟩ := hw i (by omega)
    have cl : (a7 (nI i).toNatClampNeg) = nI (wh i) := by rw [nI_clamp (by omega), ew]
    have fin : ∀ z : Int32, z = nI (vs i) → wX_stateOf_49 post (wX_stateOf_7 post x1 w pd ct be bs pf ps tn a1 a2 a3 a4 a5 a6 a7 a8 a9 a10 a11 a12 a13 a14 a15 a16 a17 a18 a19 a20 a21 (m + 1)) x1 (nI (12 ^ i)) (nI i) z (nI (12 ^ i)) (nI (ag_sv vs i)) w pd ct be bs pf ps tn a1 a2 a3 a4 a5 a6 a7 a8 a9 a10 a11 a12 a13 a14 a15 a16 a17 a18 a19 a20 a21 := by
      intro z ez
      subst ez
      exact nm_r (e' := nI (ag_sv vs (i + 1))) (by rw [pk_mul, nI_add]; rfl) (nm_r (e' := nI (12 ^ (i + 1))) (by rw [show (12 : Int32) = nI 12 from rfl, pk_mul, Nat.pow_succ]) (nm_r (nI_1 i) (ih (i + 1) (by omega))))
    refine pk_le k i (fun z => absurd z (by omega)) (fun _ => br_c (fun z => ⟨pk_in i 3 (by omega), pk_in (wh i) 3 w3 cl, fin _ ?_⟩) (fun z => ⟨pk_in i 3 (by omega), pk_in (wh i) 3 w3 cl, fin _ ?_⟩)) hc
    · rw [cl, nI_clamp (by omega)]
      exact h0 z i (by omega)
    · rw [cl, nI_clamp (by omega)]
      exact h1 z i (by omega)
theorem ag_so {post : Int32 → Prop} {x1 : Int32} {k : Nat} {wh vs : Nat → Nat} (hk : k ≤ 3) (hw : ∀ j, j < k → wh j < 3 ∧ a7 j = nI (wh j)) (h0 : x1 = 0 → ∀ j, j < k → a2 (wh j) = nI (vs j)) (h1 : ¬ x1 = 0 → ∀ j, j < k → a3 (wh j) = nI (vs j)) (hc : ct = nI k) (hp : post (nI (ag_sv vs k))) : wpX_stateOf post (w, pd, ct, be, bs, pf, ps, tn, a1, a2, a3, a4, a5, a6, a7, a8, a9, a10, a11, a12, a13, a14, a15, a16, a17, a18, a19, a20, a21) x1 := by
  unfold wpX_stateOf
  exact ⟨k + 1, ag_so7 hk hw h0 h1 hc hp k 0 (by omega)⟩
theorem ag_lc4 {post : St1 → Prop} {k s : Nat} (hk : k ≤ 3) (hs : s < 2 ^ 31) (hc : ct = nI k) (hp : ∀ a13' : Nat → Int32, (∀ j, j < k → a13' j = nI (s / 12 ^ j % 12)) → post (w, pd, ct, be, bs, pf, ps, tn, a1, a2, a3, a4, a5, a6, a7, a8, a9, a10, a11, a12, a13', a14, a15, a16, a17, a18, a19, a20, a21)) :
    ∀ (m i : Nat) (a13 : Nat → Int32), i + m = k → (∀ j, j < i → a13 j = nI (s / 12 ^ j % 12)) → wX_layCells_4 post w pd ct be bs pf ps tn (m + 1) (nI (s / 12 ^ i)) (nI i) a1 a2 a3 a4 a5 a6 a7 a8 a9 a10 a11 a12 a13 a14 a15 a16 a17 a18 a19 a20 a21 := by
  intro m
  induction m with
  | zero =>
    intro i a13 hi hI
    have e : i = k := by omega
    subst e
    exact pk_le i i (fun _ => hp a13 hI) (fun z => absurd z (by omega)) hc
  | succ m ih =>
    intro i a13 hi hI
    have hq : s / 12 ^ i < 2 ^ 31 := Nat.lt_of_le_of_lt (Nat.div_le_self _ _) hs
    refine pk_le k i (fun z => absurd z (by omega)) (fun _ => ⟨by decide, pk_in i 3 (by omega), nm_r (e' := upd a13 i (nI (s / 12 ^ i % 12))) ?_ ⟨by decide, nm_r (e' := nI (s / 12 ^ (i + 1))) ?_ (nm_r (nI_1 i) (ih (i + 1) _ (by omega) (ag_fill (f := fun j => nI (s / 12 ^ j % 12)) hI rfl)))⟩⟩) hc
    · rw [show (12 : Int32) = nI 12 from rfl, pk_rem hq (by omega) (by omega), nI_clamp (by omega)]
    · rw [show (12 : Int32) = nI 12 from rfl, pk_div hq (by omega) (by omega), Nat.pow_succ, Nat.div_div_eq_div_mul]
theorem ag_lc {post : St1 → Prop} {k s : Nat} (hk : k ≤ 3) (hs : s < 2 ^ 31) (hc : ct = nI k) (hp : ∀ a13' : Nat → Int32, (∀ j, j < k → a13' j = nI (s / 12 ^ j % 12)) → post (w, pd, ct, be, bs, pf, ps, tn, a1, a2, a3, a4, a5, a6, a7, a8, a9, a10, a11, a12, a13', a14, a15, a16, a17, a18, a19, a20, a21)) : wpX_layCells post (w, pd, ct, be, bs, pf, ps, tn, a1, a2, a3, a4, a5, a6, a7, a8, a9, a10, a11, a12, a13, a14, a15, a16, a17, a18, a19, a20, a21) (nI s) := by
  unfold wpX_layCells
  have := ag_lc4 hk hs hc hp k 0 a13 (by omega) (fun j hj => absurd hj (by omega))
  rw [Nat.pow_zero, Nat.div_one] at this
  exact ⟨k + 1, this⟩
theorem ag_ch1 {post : Int32 → Prop} (hc : ct = nI 1) (hp : post 5) : wpX_choices post (w, pd, ct, be, bs, pf, ps, tn, a1, a2, a3, a4, a5, a6, a7, a8, a9, a10, a11, a12, a13, a14, a15, a16, a17, a18, a19, a20, a21) := by
  unfold wpX_choices
  exact br_t hc hp
theorem ag_ch2 {post : Int32 → Prop} (hc : ct = nI 2) (hp : post 25) : wpX_choices post (w, pd, ct, be, bs, pf, ps, tn, a1, a2, a3, a4, a5, a6, a7, a8, a9, a10, a11, a12, a13, a14, a15, a16, a17, a18, a19, a20, a21) := by
  unfold wpX_choices
  exact br_f (by rw [hc]; decide) (br_t hc hp)
end
/-- where an option leads from a cell: 0 stays -/
def ag_nt (ST : Nat → Int32) (c o : Nat) : Int32 := if o = 0 then nI c else ST (4 * c + o - 1)
theorem ag_nt_ok {ST : Nat → Int32} (ok : ag_ok ST) {c o : Nat} (hc : c < 12) (ho : o < 5) : ag_nt ST c o = -1 ∨ ∃ j, j < 12 ∧ ag_nt ST c o = nI j := by
  unfold ag_nt
  split
  · exact Or.inr ⟨c, hc, rfl⟩
  · exact ok _ (by omega)
section
variable {w pd ct be bs pf ps tn : Int32} {a1 a2 a3 a4 a5 a6 a7 a8 a9 a10 a11 a12 a13 a14 a15 a16 a17 a18 a19 a20 a21 : Nat → Int32}
/-- one turn of chosen's loop -/
theorem ag_chS {post : Int32 → St1 → Prop} {ST : Nat → Int32} {k i c n rest st un : Nat} (ok : ag_ok ST) (h4 : ∀ i, i < 48 → a4 i = ST i) (hk : k ≤ 3) (hc : ct = nI k) (hi : i < k) (hcc : c < 12) (h13 : a13 i = nI c) (hr : rest < 2 ^ 31)
    (hf : ag_nt ST c (rest % 5) = -1 → post (-1) (w, pd, ct, be, bs, pf, ps, tn, a1, a2, a3, a4, a5, a6, a7, a8, a9, a10, a11, a12, a13, a14, a15, a16, a17, a18, a19, a20, a21)) (hg : ∀ j, j < 12 → ag_nt ST c (rest % 5) = nI j → wX_chosen_10 post w pd ct be bs pf ps tn n (nI (rest / 5)) (nI (st + un * j)) (nI (un * 12)) (nI (i + 1)) a1 a2 a3 a4 a5 a6 a7 a8 a9 a10 a11 a12 a13 (upd a14 i (nI j)) a15 a16 a17 a18 a19 a20 a21) :
    wX_chosen_10 post w pd ct be bs pf ps tn (n + 1) (nI rest) (nI st) (nI un) (nI i) a1 a2 a3 a4 a5 a6 a7 a8 a9 a10 a11 a12 a13 a14 a15 a16 a17 a18 a19 a20 a21 := by
  have fin : ∀ z : Int32, z = ag_nt ST c (rest % 5) → wX_chosen_62 post (wX_chosen_10 post w pd ct be bs pf ps tn n) (nI (rest / 5)) (nI st) (nI un) (nI i) z w pd ct be bs pf ps tn a1 a2 a3 a4 a5 a6 a7 a8 a9 a10 a11 a12 a13 a14 a15 a16 a17 a18 a19 a20 a21 := by
    intro z ez
    rcases ag_nt_ok ok hcc (show rest % 5 < 5 by omega) with e | ⟨j, hj, e⟩
    · rw [ez, e]
      exact br_f (by decide) (hf e)
    · rw [ez, e]
      refine br_t (nI_pos' (by omega)) ⟨pk_in i 3 (by omega), nm_r (e' := upd a14 i (nI j)) (by rw [nI_clamp (by omega)]) (nm_r (e' := nI (st + un * j)) (by rw [pk_mul, nI_add]) (nm_r (e' := nI (un * 12)) (by rw [show (12 : Int32) = nI 12 from rfl, pk_mul]) (nm_r (nI_1 i) (hg j hj e))))⟩
  refine pk_le k i (fun z => absurd z (by omega)) (fun _ => ⟨by decide, nm_r (e' := nI (rest % 5)) (pk_rem (d := 5) hr (by omega) (by omega)) ⟨by decide, nm_r (e' := nI (rest / 5)) (pk_div (d := 5) hr (by omega) (by omega)) ?_⟩⟩) hc
  have cl : a13 (nI i).toNatClampNeg = nI c := by rw [nI_clamp (by omega), h13]
  refine pk_eq (rest % 5) 0 (fun z => ⟨pk_in i 3 (by omega), fin _ ?_⟩) (fun z => ?_)
  · rw [cl]
    unfold ag_nt
    rw [if_pos z]
  · have ix : (4 : Int32) * a13 (nI i).toNatClampNeg + nI (rest % 5) - 1 = nI (4 * c + rest % 5 - 1) := by
      rw [cl, ag_ix4, show (1 : Int32) = nI 1 from rfl, pk_sub (by omega)]
    refine ⟨pk_in i 3 (by omega), pk_in (4 * c + rest % 5 - 1) 48 (by omega) ix, fin _ ?_⟩
    rw [ix, nI_clamp (by omega), h4 _ (by omega)]
    unfold ag_nt
    rw [if_neg z]
theorem ag_st4 {post : Int32 → Prop} {k : Nat} {cs ns : Nat → Nat} (hk : k ≤ 3) (hc : ct = nI k) (h13 : ∀ j, j < k → cs j < 12 ∧ a13 j = nI (cs j)) (h14 : ∀ j, j < k → ns j < 12 ∧ a14 j = nI (ns j)) : ∀ (m i x : Nat), i + m = k → (∀ v : Nat, v = x + ((List.range m).countP (fun j => ns (i + j) ≠ cs (i + j))) → post (nI v)) → wX_steps_4 post w pd ct be bs pf ps tn a1 a2 a3 a4 a5 a6 a7 a8 a9 a10 a11 a12 a13 a14 a15 a16 a17 a18 a19 a20 a21 (m + 1) (nI x) (nI i) := by
  intro m
  induction m with
  | zero =>
    intro i x hi hp
    have e : i = k := by omega
    subst e
    exact pk_le i i (fun _ => hp x rfl) (fun z => absurd z (by omega)) hc
  | succ m ih =>
    intro i x hi hp
    obtain ⟨hb, eb⟩ := h13 i (by omega)
    obtain ⟨hn, en⟩ := h14 i (by omega)
    have e1 : (List.range (m + 1)).countP (fun j => decide (ns (i + j) ≠ cs (i + j))) = (if ns i ≠ cs i then 1 else 0) + (List.range m).countP (fun j => decide (ns (i + 1 + j) ≠ cs (i + 1 + j))) := by
      rw [List.range_succ_eq_map, List.countP_cons, List.countP_map, Nat.add_comm]
      congr 1
      · simp
      · congr 1
        funext j
        simp only [Function.comp]
        rw [show i + 1 + j = i + (j + 1) by omega]
    refine pk_le k i (fun z => absurd z (by omega)) (fun _ => ⟨pk_in i 3 (by omega), pk_in i 3 (by omega), ?_⟩) hc
    rw [nI_clamp (show i < 2 ^ 31 by omega), eb, en]
    refine pk_eq (ns i) (cs i) (fun z => nm_r (e' := nI x) ?_ (nm_r (nI_1 i) (ih (i + 1) x (by omega) (fun v hv => hp v ?_)))) (fun z => nm_r (nI_1 x) (nm_r (nI_1 i) (ih (i + 1) (x + 1) (by omega) (fun v hv => hp v ?_))))
    · rw [show (0 : Int32) = nI 0 from rfl, nI_add, Nat.add_zero]
    · rw [e1, if_neg (by omega), hv]
      omega
    · rw [e1, if_pos z, hv]
      omega
theorem ag_kc {post : Int32 → Prop} {c0 c1 n0 n1 : Nat} (h0 : c0 < 12) (h1 : c1 < 12) (h2 : n0 < 12) (h3 : n1 < 12) (e0 : a13 0 = nI c0) (e1 : a13 1 = nI c1) (f0 : a14 0 = nI n0) (f1 : a14 1 = nI n1) (hy : (n0 ≠ n1 ∧ ¬ (n0 = c1 ∧ n1 = c0)) → post 1) (hn : ¬ (n0 ≠ n1 ∧ ¬ (n0 = c1 ∧ n1 = c0)) → post 0) : wpX_keepClear post (w, pd, ct, be, bs, pf, ps, tn, a1, a2, a3, a4, a5, a6, a7, a8, a9, a10, a11, a12, a13, a14, a15, a16, a17, a18, a19, a20, a21) 0 1 := by
  have i0 : vp_in 0 3 := pk_in 0 3 (by omega)
  have i1 : vp_in 1 3 := pk_in 1 3 (by omega)
  have E0 : a13 (0 : Int32).toNatClampNeg = nI c0 := e0
  have E1 : a13 (1 : Int32).toNatClampNeg = nI c1 := e1
  have F0 : a14 (0 : Int32).toNatClampNeg = nI n0 := f0
  have F1 : a14 (1 : Int32).toNatClampNeg = nI n1 := f1
  have g0 : ¬ (n0 = c1 ∧ n1 = c0) → wX_keepClear_35 post 0 1 0 w pd ct be bs pf ps tn a1 a2 a3 a4 a5 a6 a7 a8 a9 a10 a11 a12 a13 a14 a15 a16 a17 a18 a19 a20 a21 := by
    intro hx
    refine ⟨i0, i1, ?_⟩
    rw [F0, F1]
    exact pk_eq n0 n1 (fun z => hn (fun y => y.1 z)) (fun z => br_t rfl (hy ⟨z, hx⟩))
  have g1 : (n0 = c1 ∧ n1 = c0) → wX_keepClear_35 post 0 1 1 w pd ct be bs pf ps tn a1 a2 a3 a4 a5 a6 a7 a8 a9 a10 a11 a12 a13 a14 a15 a16 a17 a18 a19 a20 a21 := by
    intro hx
    refine ⟨i0, i1, ?_⟩
    exact br_c (fun z => hn (fun y => y.2 hx)) (fun z => br_f (by decide) (hn (fun y => y.2 hx)))
  unfold wpX_keepClear
  refine ⟨i0, i1, ?_⟩
  rw [F0, E1, F1, E0]
  exact pk_eq n0 c1 (fun z => ⟨i1, i0, pk_eq n1 c0 (fun y => g1 ⟨z, y⟩) (fun y => g0 (fun x => y x.2))⟩) (fun z => g0 (fun x => z x.1))
/-- chosen, one walker -/
theorem ag_cho1 {post : Int32 → St1 → Prop} {ST : Nat → Int32} {c ch : Nat} (ok : ag_ok ST) (h4 : ∀ i, i < 48 → a4 i = ST i) (hc : ct = nI 1) (hcc : c < 12) (h13 : a13 0 = nI c) (hch : ch < 5) (hp : ∀ a14' : Nat → Int32, post (ag_nt ST c ch) (w, pd, ct, be, bs, pf, ps, tn, a1, a2, a3, a4, a5, a6, a7, a8, a9, a10, a11, a12, a13, a14', a15, a16, a17, a18, a19, a20, a21)) : wpX_chosen post (w, pd, ct, be, bs, pf, ps, tn, a1, a2, a3, a4, a5, a6, a7, a8, a9, a10, a11, a12, a13, a14, a15, a16, a17, a18, a19, a20, a21) (nI ch) := by
  unfold wpX_chosen
  have m5 : ch % 5 = ch := Nat.mod_eq_of_lt hch
  refine ⟨2, ag_chS (st := 0) (un := 1) (i := 0) ok h4 (by omega) hc (by omega) hcc h13 (by omega) (fun e => ?_) (fun j hj e => ?_)⟩
  · rw [m5] at e
    have := hp a14
    rw [e] at this
    exact this
  · rw [m5] at e
    have := hp (upd a14 0 (nI j))
    rw [e] at this
    refine pk_le 1 1 (fun _ => br_t (by rw [hc]; decide) (br_f (by decide) ?_)) (fun z => absurd z (by omega)) hc
    rw [show 0 + 1 * j = j by omega]
    exact this
end
/-- chosen, two walkers: the answer and the steps hang on cells and grid alone -/
theorem ag_cho2 {ST : Nat → Int32} (ok : ag_ok ST) {c0 c1 ch : Nat} (h0 : c0 < 12) (h1 : c1 < 12) (hch : ch < 25) : ∃ R Q : Int32, (R = -1 ∨ ∃ s, s < 144 ∧ R = nI s) ∧ ∀ (w pd ct be bs pf ps tn : Int32) (a1 a2 a3 a4 a5 a6 a7 a8 a9 a10 a11 a12 a13 a14 a15 a16 a17 a18 a19 a20 a21 : Nat → Int32) (post : Int32 → St1 → Prop), (∀ i, i < 48 → a4 i = ST i) → ct = nI 2 → a13 0 = nI c0 → a13 1 = nI c1 → (∀ a14' : Nat → Int32, (¬ R < 0 → ∀ P : Int32 → Prop, P Q → wpX_steps P (w, pd, ct, be, bs, pf, ps, tn, a1, a2, a3, a4, a5, a6, a7, a8, a9, a10, a11, a12, a13, a14', a15, a16, a17, a18, a19, a20, a21)) → post R (w, pd, ct, be, bs, pf, ps, tn, a1, a2, a3, a4, a5, a6, a7, a8, a9, a10, a11, a12, a13, a14', a15, a16, a17, a18, a19, a20, a21)) → wpX_chosen post (w, pd, ct, be, bs, pf, ps, tn, a1, a2, a3, a4, a5, a6, a7, a8, a9, a10, a11, a12, a13, a14, a15, a16, a17, a18, a19, a20, a21) (nI ch) := by
  have pre : ∀ (w pd ct be bs pf ps tn : Int32) (a1 a2 a3 a4 a5 a6 a7 a8 a9 a10 a11 a12 a13 a14 a15 a16 a17 a18 a19 a20 a21 : Nat → Int32) (post : Int32 → St1 → Prop), (∀ i, i < 48 → a4 i = ST i) → ct = nI 2 → a13 0 = nI c0 → a13 1 = nI c1 → (∀ a14' : Nat → Int32, (ag_nt ST c0 (ch % 5) = -1 ∨ ag_nt ST c1 (ch / 5 % 5) = -1) → post (-1) (w, pd, ct, be, bs, pf, ps, tn, a1, a2, a3, a4, a5, a6, a7, a8, a9, a10, a11, a12, a13, a14', a15, a16, a17, a18, a19, a20, a21)) → (∀ j0 j1, j0 < 12 → j1 < 12 → ag_nt ST c0 (ch % 5) = nI j0 → ag_nt ST c1 (ch / 5 % 5) = nI j1 → wX_chosen_10 post w pd ct be bs pf ps tn 1 (nI (ch / 5 / 5)) (nI (0 + 1 * j0 + 1 * 12 * j1)) (nI (1 * 12 * 12)) (nI 2) a1 a2 a3 a4 a5 a6 a7 a8 a9 a10 a11 a12 a13 (upd (upd a14 0 (nI j0)) 1 (nI j1)) a15 a16 a17 a18 a19 a20 a21) → wpX_chosen post (w, pd, ct, be, bs, pf, ps, tn, a1, a2, a3, a4, a5, a6, a7, a8, a9, a10, a11, a12, a13, a14, a15, a16, a17, a18, a19, a20, a21) (nI ch) := by
    intro w pd ct be bs pf ps tn a1 a2 a3 a4 a5 a6 a7 a8 a9 a10 a11 a12 a13 a14 a15 a16 a17 a18 a19 a20 a21 post h4 hc e0 e1 q1 q2
    unfold wpX_chosen
    refine ⟨3, ag_chS (st := 0) (un := 1) (i := 0) ok h4 (by omega) hc (by omega) h0 e0 (by omega) (fun e => q1 a14 (Or.inl e)) (fun j0 hj0 ej0 => ?_)⟩
    exact ag_chS (i := 1) ok h4 (by omega) hc (by omega) h1 e1 (by omega) (fun e => q1 _ (Or.inr e)) (fun j1 hj1 ej1 => q2 j0 j1 hj0 hj1 ej0 ej1)
  rcases ag_nt_ok ok h0 (show ch % 5 < 5 by omega) with E | ⟨n0, hn0, E⟩
  · exact ⟨-1, 0, Or.inl rfl, fun w pd ct be bs pf ps tn a1 a2 a3 a4 a5 a6 a7 a8 a9 a10 a11 a12 a13 a14 a15 a16 a17 a18 a19 a20 a21 post h4 hc e0 e1 hp => pre w pd ct be bs pf ps tn a1 a2 a3 a4 a5 a6 a7 a8 a9 a10 a11 a12 a13 a14 a15 a16 a17 a18 a19 a20 a21 post h4 hc e0 e1 (fun a14' _ => hp a14' (fun z => absurd (show (-1 : Int32) < 0 by decide) z)) (fun j0 j1 hj0 _ ej _ => absurd (E.symm.trans ej) (ag_m1 j0 (by omega)))⟩
  · rcases ag_nt_ok ok h1 (show ch / 5 % 5 < 5 by omega) with E' | ⟨n1, hn1, E'⟩
    · exact ⟨-1, 0, Or.inl rfl, fun w pd ct be bs pf ps tn a1 a2 a3 a4 a5 a6 a7 a8 a9 a10 a11 a12 a13 a14 a15 a16 a17 a18 a19 a20 a21 post h4 hc e0 e1 hp => pre w pd ct be bs pf ps tn a1 a2 a3 a4 a5 a6 a7 a8 a9 a10 a11 a12 a13 a14 a15 a16 a17 a18 a19 a20 a21 post h4 hc e0 e1 (fun a14' _ => hp a14' (fun z => absurd (show (-1 : Int32) < 0 by decide) z)) (fun j0 j1 _ hj1 _ ej => absurd (E'.symm.trans ej) (ag_m1 j1 (by omega)))⟩
    · have pre2 : ∀ (w pd ct be bs pf ps tn : Int32) (a1 a2 a3 a4 a5 a6 a7 a8 a9 a10 a11 a12 a13 a14 a15 a16 a17 a18 a19 a20 a21 : Nat → Int32) (post : Int32 → St1 → Prop), (∀ i, i < 48 → a4 i = ST i) → ct = nI 2 → a13 0 = nI c0 → a13 1 = nI c1 → ((n0 ≠ n1 ∧ ¬ (n0 = c1 ∧ n1 = c0)) → post (nI (n0 + 12 * n1)) (w, pd, ct, be, bs, pf, ps, tn, a1, a2, a3, a4, a5, a6, a7, a8, a9, a10, a11, a12, a13, upd (upd a14 0 (nI n0)) 1 (nI n1), a15, a16, a17, a18, a19, a20, a21)) → (¬ (n0 ≠ n1 ∧ ¬ (n0 = c1 ∧ n1 = c0)) → post (-1) (w, pd, ct, be, bs, pf, ps, tn, a1, a2, a3, a4, a5, a6, a7, a8, a9, a10, a11, a12, a13, upd (upd a14 0 (nI n0)) 1 (nI n1), a15, a16, a17, a18, a19, a20, a21)) → wpX_chosen post (w, pd, ct, be, bs, pf, ps, tn, a1, a2, a3, a4, a5, a6, a7, a8, a9, a10, a11, a12, a13, a14, a15, a16, a17, a18, a19, a20, a21) (nI ch) := by
        intro w pd ct be bs pf ps tn a1 a2 a3 a4 a5 a6 a7 a8 a9 a10 a11 a12 a13 a14 a15 a16 a17 a18 a19 a20 a21 post h4 hc e0 e1 q1 q2
        refine pre w pd ct be bs pf ps tn a1 a2 a3 a4 a5 a6 a7 a8 a9 a10 a11 a12 a13 a14 a15 a16 a17 a18 a19 a20 a21 post h4 hc e0 e1 (fun a14' z => ?_) (fun j0 j1 hj0 hj1 ej0 ej1 => ?_)
        · rcases z with z | z
          · exact absurd (z.symm.trans E) (ag_m1 n0 (by omega))
          · exact absurd (z.symm.trans E') (ag_m1 n1 (by omega))
        · have s0 : j0 = n0 := (nI_eq (by omega) (by omega)).mp (ej0.symm.trans E)
          have s1 : j1 = n1 := (nI_eq (by omega) (by omega)).mp (ej1.symm.trans E')
          subst s0 s1
          refine pk_le 2 2 (fun _ => br_f (by rw [hc]; decide) ?_) (fun z => absurd z (by omega)) hc
          refine ag_kc h0 h1 hj0 hj1 e0 e1 (by rw [pk_un (by omega), pk_us]) (by rw [pk_us]) (fun y => br_f (by decide) (br_t (by rw [hc]; decide) (br_f (by decide) ?_))) (fun y => br_t rfl (br_t rfl (q2 y)))
          rw [show 0 + 1 * j0 + 1 * 12 * j1 = j0 + 12 * j1 by omega]
          exact q1 y
      by_cases cl : n0 ≠ n1 ∧ ¬ (n0 = c1 ∧ n1 = c0)
      · refine ⟨nI (n0 + 12 * n1), nI (0 + (List.range 2).countP (fun j => decide ((if 0 + j = 0 then n0 else n1) ≠ (if 0 + j = 0 then c0 else c1)))), Or.inr ⟨n0 + 12 * n1, by omega, rfl⟩, fun w pd ct be bs pf ps tn a1 a2 a3 a4 a5 a6 a7 a8 a9 a10 a11 a12 a13 a14 a15 a16 a17 a18 a19 a20 a21 post h4 hc e0 e1 hp => pre2 w pd ct be bs pf ps tn a1 a2 a3 a4 a5 a6 a7 a8 a9 a10 a11 a12 a13 a14 a15 a16 a17 a18 a19 a20 a21 post h4 hc e0 e1 (fun _ => hp _ (fun _ P hP => ?_)) (fun z => absurd cl z)⟩
        unfold wpX_steps
        refine ⟨3, ag_st4 (k := 2) (cs := fun j => if j = 0 then c0 else c1) (ns := fun j => if j = 0 then n0 else n1) (by omega) hc (fun j hj => ?_) (fun j hj => ?_) 2 0 0 rfl (fun v hv => ?_)⟩
        · rcases (show j = 0 ∨ j = 1 by omega) with z | z
          · subst z
            exact ⟨h0, e0⟩
          · subst z
            exact ⟨h1, e1⟩
        · rcases (show j = 0 ∨ j = 1 by omega) with z | z
          · subst z
            exact ⟨hn0, by rw [pk_un (by omega), pk_us]; rfl⟩
          · subst z
            exact ⟨hn1, by rw [pk_us]; rfl⟩
        · rw [hv]
          exact hP
      · exact ⟨-1, 0, Or.inl rfl, fun w pd ct be bs pf ps tn a1 a2 a3 a4 a5 a6 a7 a8 a9 a10 a11 a12 a13 a14 a15 a16 a17 a18 a19 a20 a21 post h4 hc e0 e1 hp => pre2 w pd ct be bs pf ps tn a1 a2 a3 a4 a5 a6 a7 a8 a9 a10 a11 a12 a13 a14 a15 a16 a17 a18 a19 a20 a21 post h4 hc e0 e1 (fun z => absurd z cl) (fun _ => hp _ (fun z => absurd (show (-1 : Int32) < 0 by decide) z))⟩
/-- guess, walkers 1 and 2 -/
theorem ag_gu10 {TG : Nat → Nat → Int32} (b : Int32) : ∀ (m i rest : Nat) (x3 x4 : Int32), i + m = 2 → rest < 2 ^ 31 → ∃ v : Int32, ∀ (w pd ct be bs pf ps tn : Int32) (a1 a2 a3 a4 a5 a6 a7 a8 a9 a10 a11 a12 a13 a14 a15 a16 a17 a18 a19 a20 a21 : Nat → Int32) (post : Int32 → Prop), ct = nI 2 → be = b → (∀ i, i < 2 → a7 i = nI (i + 1)) → (∀ i, i < 2 → ∀ c, c < 12 → a5 (12 * (i + 1) + c) = TG (i + 1) c) → post v → wX_guess_10 post w pd ct be bs pf ps tn a1 a2 a3 a4 a5 a6 a7 a8 a9 a10 a11 a12 a13 a14 a15 a16 a17 a18 a19 a20 a21 (m + 1) (nI rest) x3 x4 (nI i) := by
  intro m
  induction m with
  | zero =>
    intro i rest x3 x4 hi _
    by_cases h1 : x3 = 1000000
    · exact ⟨1000000, fun w pd ct be bs pf ps tn a1 a2 a3 a4 a5 a6 a7 a8 a9 a10 a11 a12 a13 a14 a15 a16 a17 a18 a19 a20 a21 post hc _ _ _ hp => pk_le 2 i (fun _ => br_t h1 hp) (fun z => absurd z (by omega)) hc⟩
    · by_cases h2 : b = 0
      · exact ⟨x3, fun w pd ct be bs pf ps tn a1 a2 a3 a4 a5 a6 a7 a8 a9 a10 a11 a12 a13 a14 a15 a16 a17 a18 a19 a20 a21 post hc eb _ _ hp => pk_le 2 i (fun _ => br_f h1 (br_t (eb.trans h2) hp)) (fun z => absurd z (by omega)) hc⟩
      · exact ⟨x4, fun w pd ct be bs pf ps tn a1 a2 a3 a4 a5 a6 a7 a8 a9 a10 a11 a12 a13 a14 a15 a16 a17 a18 a19 a20 a21 post hc eb _ _ hp => pk_le 2 i (fun _ => br_f h1 (br_f (fun z => h2 (eb.symm.trans z)) hp)) (fun z => absurd z (by omega)) hc⟩
  | succ m ih =>
    intro i rest x3 x4 hi hr
    have hq : rest / 12 < 2 ^ 31 := Nat.lt_of_le_of_lt (Nat.div_le_self _ _) hr
    have pre : ∀ (w pd ct be bs pf ps tn : Int32) (a1 a2 a3 a4 a5 a6 a7 a8 a9 a10 a11 a12 a13 a14 a15 a16 a17 a18 a19 a20 a21 : Nat → Int32) (post : Int32 → Prop), ct = nI 2 → (∀ i, i < 2 → a7 i = nI (i + 1)) → (∀ i, i < 2 → ∀ c, c < 12 → a5 (12 * (i + 1) + c) = TG (i + 1) c) → (TG (i + 1) (rest % 12) ≤ x3 → wX_guess_10 post w pd ct be bs pf ps tn a1 a2 a3 a4 a5 a6 a7 a8 a9 a10 a11 a12 a13 a14 a15 a16 a17 a18 a19 a20 a21 (m + 1) (nI (rest / 12)) x3 (x4 + TG (i + 1) (rest % 12)) (nI (i + 1))) → (¬ TG (i + 1) (rest % 12) ≤ x3 → wX_guess_10 post w pd ct be bs pf ps tn a1 a2 a3 a4 a5 a6 a7 a8 a9 a10 a11 a12 a13 a14 a15 a16 a17 a18 a19 a20 a21 (m + 1) (nI (rest / 12)) (TG (i + 1) (rest % 12)) (x4 + TG (i + 1) (rest % 12)) (nI (i + 1))) → wX_guess_10 post w pd ct be bs pf ps tn a1 a2 a3 a4 a5 a6 a7 a8 a9 a10 a11 a12 a13 a14 a15 a16 a17 a18 a19 a20 a21 (m + 1 + 1) (nI rest) x3 x4 (nI i) := by
      intro w pd ct be bs pf ps tn a1 a2 a3 a4 a5 a6 a7 a8 a9 a10 a11 a12 a13 a14 a15 a16 a17 a18 a19 a20 a21 post hc h7 h5 q1 q2
      have ix : (12 : Int32) * a7 (nI i).toNatClampNeg + (nI rest - nI rest / 12 * 12) = nI (12 * (i + 1) + rest % 12) := by
        rw [nI_clamp (by omega), h7 i (by omega), show nI rest - nI rest / 12 * 12 = nI (rest % 12) from pk_rem (d := 12) hr (by omega) (by omega), ag_ix12]
      refine pk_le 2 i (fun z => absurd z (by omega)) (fun _ => ⟨pk_in i 3 (by omega), by decide, pk_in (12 * (i + 1) + rest % 12) 36 (by omega) ix, nm_r (e' := TG (i + 1) (rest % 12)) ?_ ⟨by decide, nm_r (e' := nI (rest / 12)) (pk_div (d := 12) hr (by omega) (by omega)) (br_c (fun z => nm_e (nm_r (nI_1 i) (q1 z))) (fun z => nm_e (nm_r (nI_1 i) (q2 z))))⟩⟩) hc
      rw [ix, nI_clamp (by omega), h5 i (by omega) _ (by omega)]
    by_cases hl : TG (i + 1) (rest % 12) ≤ x3
    · obtain ⟨v, hv⟩ := ih (i + 1) (rest / 12) x3 (x4 + TG (i + 1) (rest % 12)) (by omega) hq
      exact ⟨v, fun w pd ct be bs pf ps tn a1 a2 a3 a4 a5 a6 a7 a8 a9 a10 a11 a12 a13 a14 a15 a16 a17 a18 a19 a20 a21 post hc eb h7 h5 hp => pre w pd ct be bs pf ps tn a1 a2 a3 a4 a5 a6 a7 a8 a9 a10 a11 a12 a13 a14 a15 a16 a17 a18 a19 a20 a21 post hc h7 h5 (fun _ => hv w pd ct be bs pf ps tn a1 a2 a3 a4 a5 a6 a7 a8 a9 a10 a11 a12 a13 a14 a15 a16 a17 a18 a19 a20 a21 post hc eb h7 h5 hp) (fun z => absurd hl z)⟩
    · obtain ⟨v, hv⟩ := ih (i + 1) (rest / 12) (TG (i + 1) (rest % 12)) (x4 + TG (i + 1) (rest % 12)) (by omega) hq
      exact ⟨v, fun w pd ct be bs pf ps tn a1 a2 a3 a4 a5 a6 a7 a8 a9 a10 a11 a12 a13 a14 a15 a16 a17 a18 a19 a20 a21 post hc eb h7 h5 hp => pre w pd ct be bs pf ps tn a1 a2 a3 a4 a5 a6 a7 a8 a9 a10 a11 a12 a13 a14 a15 a16 a17 a18 a19 a20 a21 post hc h7 h5 (fun z => absurd z hl) (fun _ => hv w pd ct be bs pf ps tn a1 a2 a3 a4 a5 a6 a7 a8 a9 a10 a11 a12 a13 a14 a15 a16 a17 a18 a19 a20 a21 post hc eb h7 h5 hp)⟩
end
section
/-! two planned together: expand, closeBest, raiseBest, solve -/
def ag_C2 (ST : Nat → Int32) (TG : Nat → Nat → Int32) (b ct be : Int32) (a4 a5 a7 : Nat → Int32) : Prop := ct = nI 2 ∧ be = b ∧ (∀ i, i < 48 → a4 i = ST i) ∧ (∀ i, i < 2 → a7 i = nI (i + 1)) ∧ (∀ i, i < 2 → ∀ c, c < 12 → a5 (12 * (i + 1) + c) = TG (i + 1) c)
theorem ag_gu {ST : Nat → Int32} {TG : Nat → Nat → Int32} {b : Int32} {s : Nat} (hs : s < 1728) : ∃ v : Int32, ∀ (w pd ct be bs pf ps tn : Int32) (a1 a2 a3 a4 a5 a6 a7 a8 a9 a10 a11 a12 a13 a14 a15 a16 a17 a18 a19 a20 a21 : Nat → Int32) (post : Int32 → Prop), ag_C2 ST TG b ct be a4 a5 a7 → post v → wpX_guess post (w, pd, ct, be, bs, pf, ps, tn, a1, a2, a3, a4, a5, a6, a7, a8, a9, a10, a11, a12, a13, a14, a15, a16, a17, a18, a19, a20, a21) (nI s) := by
  obtain ⟨v, hv⟩ := ag_gu10 (TG := TG) b 2 0 s 0 0 rfl (by omega)
  refine ⟨v, fun w pd ct be bs pf ps tn a1 a2 a3 a4 a5 a6 a7 a8 a9 a10 a11 a12 a13 a14 a15 a16 a17 a18 a19 a20 a21 post X hp => ?_⟩
  unfold wpX_guess
  exact ⟨3, hv w pd ct be bs pf ps tn a1 a2 a3 a4 a5 a6 a7 a8 a9 a10 a11 a12 a13 a14 a15 a16 a17 a18 a19 a20 a21 post X.1 X.2.1 X.2.2.2.1 X.2.2.2.2 hp⟩
theorem ag_ex12 {ST : Nat → Int32} {TG : Nat → Nat → Int32} {b : Int32} (ok : ag_ok ST) {s c0 c1 : Nat} (hs : s < 1728) (h0 : c0 < 12) (h1 : c1 < 12) :
    ∀ (m ch : Nat) (C : Nat → Int32), ch + m = 25 → ∃ C' : Nat → Int32, ∀ (w pd ct be bs pf ps tn : Int32) (a1 a2 a3 a4 a5 a6 a7 a8 a9 a10 a11 a12 a13 a14 a15 a16 a17 a18 a19 a20 a21 : Nat → Int32) (post : St1 → Prop), ag_C2 ST TG b ct be a4 a5 a7 → a13 0 = nI c0 → a13 1 = nI c1 → (∀ i, i < 1728 → a8 i = C i) → (∀ a8' a9' a14' : Nat → Int32, (∀ i, i < 1728 → a8' i = C' i) → post (w, pd, ct, be, bs, pf, ps, tn, a1, a2, a3, a4, a5, a6, a7, a8', a9', a10, a11, a12, a13, a14', a15, a16, a17, a18, a19, a20, a21)) → wX_expand_12 post (nI s) (nI 25) (m + 1) (nI ch) w pd ct be bs pf ps tn a1 a2 a3 a4 a5 a6 a7 a8 a9 a10 a11 a12 a13 a14 a15 a16 a17 a18 a19 a20 a21 := by
  intro m
  induction m with
  | zero =>
    intro ch C hch
    exact ⟨C, fun w pd ct be bs pf ps tn a1 a2 a3 a4 a5 a6 a7 a8 a9 a10 a11 a12 a13 a14 a15 a16 a17 a18 a19 a20 a21 post _ _ _ h8 hp => pk_le 25 ch (fun _ => hp a8 a9 a14 h8) (fun z => absurd z (by omega))⟩
  | succ m ih =>
    intro ch C hch
    obtain ⟨R, Q, hR, hv⟩ := ag_cho2 ok h0 h1 (show ch < 25 by omega)
    rcases hR with e | ⟨q, hq, e⟩
    · subst e
      obtain ⟨C', hC⟩ := ih (ch + 1) C (by omega)
      exact ⟨C', fun w pd ct be bs pf ps tn a1 a2 a3 a4 a5 a6 a7 a8 a9 a10 a11 a12 a13 a14 a15 a16 a17 a18 a19 a20 a21 post X e0 e1 h8 hp => pk_le 25 ch (fun z => absurd z (by omega)) (fun _ => hv w pd ct be bs pf ps tn a1 a2 a3 a4 a5 a6 a7 a8 a9 a10 a11 a12 a13 a14 a15 a16 a17 a18 a19 a20 a21 _ X.2.2.1 X.1 e0 e1 (fun a14' _ => br_t (by decide) (nm_r (nI_1 ch) (hC w pd ct be bs pf ps tn a1 a2 a3 a4 a5 a6 a7 a8 a9 a10 a11 a12 a13 a14' a15 a16 a17 a18 a19 a20 a21 post X e0 e1 h8 hp))))⟩
    · subst e
      have pre : ∀ (w pd ct be bs pf ps tn : Int32) (a1 a2 a3 a4 a5 a6 a7 a8 a9 a10 a11 a12 a13 a14 a15 a16 a17 a18 a19 a20 a21 : Nat → Int32) (post : St1 → Prop), ag_C2 ST TG b ct be a4 a5 a7 → a13 0 = nI c0 → a13 1 = nI c1 → (∀ a14' : Nat → Int32, wX_expand_50 post (wX_expand_12 post (nI s) (nI 25) (m + 1)) (nI s) (nI 25) (nI ch) (nI q) (if b = 0 then 1 else Q) (a8 s) w pd ct be bs pf ps tn a1 a2 a3 a4 a5 a6 a7 a8 a9 a10 a11 a12 a13 a14' a15 a16 a17 a18 a19 a20 a21) → wX_expand_12 post (nI s) (nI 25) (m + 1 + 1) (nI ch) w pd ct be bs pf ps tn a1 a2 a3 a4 a5 a6 a7 a8 a9 a10 a11 a12 a13 a14 a15 a16 a17 a18 a19 a20 a21 := by
        intro w pd ct be bs pf ps tn a1 a2 a3 a4 a5 a6 a7 a8 a9 a10 a11 a12 a13 a14 a15 a16 a17 a18 a19 a20 a21 post X e0 e1 h
        refine pk_le 25 ch (fun z => absurd z (by omega)) (fun _ => hv w pd ct be bs pf ps tn a1 a2 a3 a4 a5 a6 a7 a8 a9 a10 a11 a12 a13 a14 a15 a16 a17 a18 a19 a20 a21 _ X.2.2.1 X.1 e0 e1 (fun a14' hst => br_f (nI_pos (by omega)) ⟨pk_in s 1728 hs, ?_⟩))
        have t := h a14'
        rw [nI_clamp (show s < 2 ^ 31 by omega)]
        by_cases hb : b = 0
        · rw [if_pos hb] at t
          exact br_t (X.2.1.trans hb) t
        · rw [if_neg hb] at t
          exact br_f (fun z => hb (X.2.1.symm.trans z)) (hst (nI_pos (by omega)) _ t)
      by_cases hl : C q ≤ C s + (if b = 0 then 1 else Q)
      · obtain ⟨C', hC⟩ := ih (ch + 1) C (by omega)
        exact ⟨C', fun w pd ct be bs pf ps tn a1 a2 a3 a4 a5 a6 a7 a8 a9 a10 a11 a12 a13 a14 a15 a16 a17 a18 a19 a20 a21 post X e0 e1 h8 hp => pre w pd ct be bs pf ps tn a1 a2 a3 a4 a5 a6 a7 a8 a9 a10 a11 a12 a13 a14 a15 a16 a17 a18 a19 a20 a21 post X e0 e1 (fun a14' => nm_r (e' := C s + (if b = 0 then 1 else Q)) (by rw [h8 s hs]) ⟨pk_in q 1728 (by omega), br_t (by rw [nI_clamp (by omega), h8 q (by omega)]; exact hl) (nm_r (nI_1 ch) (hC w pd ct be bs pf ps tn a1 a2 a3 a4 a5 a6 a7 a8 a9 a10 a11 a12 a13 a14' a15 a16 a17 a18 a19 a20 a21 post X e0 e1 h8 hp))⟩)⟩
      · obtain ⟨C', hC⟩ := ih (ch + 1) (upd C q (C s + (if b = 0 then 1 else Q))) (by omega)
        exact ⟨C', fun w pd ct be bs pf ps tn a1 a2 a3 a4 a5 a6 a7 a8 a9 a10 a11 a12 a13 a14 a15 a16 a17 a18 a19 a20 a21 post X e0 e1 h8 hp => pre w pd ct be bs pf ps tn a1 a2 a3 a4 a5 a6 a7 a8 a9 a10 a11 a12 a13 a14 a15 a16 a17 a18 a19 a20 a21 post X e0 e1 (fun a14' => nm_r (e' := C s + (if b = 0 then 1 else Q)) (by rw [h8 s hs]) ⟨pk_in q 1728 (by omega), br_f (by rw [nI_clamp (by omega), h8 q (by omega)]; exact hl) ⟨pk_in q 1728 (by omega), nm_r (e' := upd a8 q (C s + (if b = 0 then 1 else Q))) (by rw [nI_clamp (by omega)]) ⟨pk_in q 1728 (by omega), nm_e (nm_r (nI_1 ch) (hC w pd ct be bs pf ps tn a1 a2 a3 a4 a5 a6 a7 (upd a8 q (C s + (if b = 0 then 1 else Q))) _ a10 a11 a12 a13 a14' a15 a16 a17 a18 a19 a20 a21 post X e0 e1 (ag_upd h8 rfl) hp))⟩⟩⟩)⟩
theorem ag_ex {ST : Nat → Int32} {TG : Nat → Nat → Int32} {b : Int32} (ok : ag_ok ST) {s : Nat} (hs : s < 1728) (C : Nat → Int32) : ∃ C' : Nat → Int32, ∀ (w pd ct be bs pf ps tn : Int32) (a1 a2 a3 a4 a5 a6 a7 a8 a9 a10 a11 a12 a13 a14 a15 a16 a17 a18 a19 a20 a21 : Nat → Int32) (post : St1 → Prop), ag_C2 ST TG b ct be a4 a5 a7 → (∀ i, i < 1728 → a8 i = C i) → (∀ a8' a9' a13' a14' : Nat → Int32, (∀ i, i < 1728 → a8' i = C' i) → post (w, pd, ct, be, bs, pf, ps, tn, a1, a2, a3, a4, a5, a6, a7, a8', a9', a10, a11, a12, a13', a14', a15, a16, a17, a18, a19, a20, a21)) → wpX_expand post (w, pd, ct, be, bs, pf, ps, tn, a1, a2, a3, a4, a5, a6, a7, a8, a9, a10, a11, a12, a13, a14, a15, a16, a17, a18, a19, a20, a21) (nI s) := by
  obtain ⟨C', hC⟩ := ag_ex12 (TG := TG) (b := b) ok hs (show s / 12 ^ 0 % 12 < 12 by omega) (show s / 12 ^ 1 % 12 < 12 by omega) 24 1 C rfl
  refine ⟨C', fun w pd ct be bs pf ps tn a1 a2 a3 a4 a5 a6 a7 a8 a9 a10 a11 a12 a13 a14 a15 a16 a17 a18 a19 a20 a21 post X h8 hp => ?_⟩
  unfold wpX_expand
  exact ag_lc (k := 2) (by omega) (by omega) X.1 (fun a13' h13 => ag_ch2 X.1 ⟨25, hC w pd ct be bs pf ps tn a1 a2 a3 a4 a5 a6 a7 a8 a9 a10 a11 a12 a13' a14 a15 a16 a17 a18 a19 a20 a21 post X (h13 0 (by omega)) (h13 1 (by omega)) h8 (fun a8' a9' a14' h => hp a8' a9' a13' a14' h)⟩)
theorem ag_cb4 {ST : Nat → Int32} {TG : Nat → Nat → Int32} {b q : Int32} (ok : ag_ok ST) :
    ∀ (m s : Nat) (C D : Nat → Int32) (any : Int32), s + m = 1728 → (any = 0 ∨ any = 1) → ∃ (C' D' : Nat → Int32) (any' : Int32), (any' = 0 ∨ any' = 1) ∧ ∀ (w pd ct be bs pf ps tn : Int32) (a1 a2 a3 a4 a5 a6 a7 a8 a9 a10 a11 a12 a13 a14 a15 a16 a17 a18 a19 a20 a21 : Nat → Int32) (post : Int32 → St1 → Prop), ag_C2 ST TG b ct be a4 a5 a7 → bs = q → (∀ i, i < 1728 → a8 i = C i) → (∀ i, i < 1728 → a10 i = D i) → (∀ a8' a9' a10' a13' a14' : Nat → Int32, (∀ i, i < 1728 → a8' i = C' i) → (∀ i, i < 1728 → a10' i = D' i) → post any' (w, pd, ct, be, bs, pf, ps, tn, a1, a2, a3, a4, a5, a6, a7, a8', a9', a10', a11, a12, a13', a14', a15, a16, a17, a18, a19, a20, a21)) → wX_closeBest_4 post (m + 1) any (nI s) w pd ct be bs pf ps tn a1 a2 a3 a4 a5 a6 a7 a8 a9 a10 a11 a12 a13 a14 a15 a16 a17 a18 a19 a20 a21 := by
  intro m
  induction m with
  | zero =>
    intro s C D any hs ha
    exact ⟨C, D, any, ha, fun w pd ct be bs pf ps tn a1 a2 a3 a4 a5 a6 a7 a8 a9 a10 a11 a12 a13 a14 a15 a16 a17 a18 a19 a20 a21 post _ _ h8 h10 hp => pk_le 1728 s (fun _ => ⟨by rcases ha with h | h <;> subst h <;> rfl, hp a8 a9 a10 a13 a14 h8 h10⟩) (fun z => absurd z (by omega))⟩
  | succ m ih =>
    intro s C D any hs ha
    have hs' : s < 1728 := by omega
    by_cases h1 : (1000000 : Int32) ≤ C s
    · obtain ⟨C', D', any', ha', hC⟩ := ih (s + 1) C D any (by omega) ha
      exact ⟨C', D', any', ha', fun w pd ct be bs pf ps tn a1 a2 a3 a4 a5 a6 a7 a8 a9 a10 a11 a12 a13 a14 a15 a16 a17 a18 a19 a20 a21 post X eq h8 h10 hp => pk_le 1728 s (fun z => absurd z (by omega)) (fun _ => ⟨pk_in s 1728 hs', br_t (by rw [nI_clamp (by omega), h8 s hs']; exact h1) (nm_r (nI_1 s) (hC w pd ct be bs pf ps tn a1 a2 a3 a4 a5 a6 a7 a8 a9 a10 a11 a12 a13 a14 a15 a16 a17 a18 a19 a20 a21 post X eq h8 h10 hp))⟩)⟩
    · by_cases h2 : D s = 0
      · obtain ⟨v, hv⟩ := ag_gu (ST := ST) (TG := TG) (b := b) hs'
        by_cases h3 : C s + v = q
        · obtain ⟨C1, hE⟩ := ag_ex (TG := TG) (b := b) ok hs' C
          obtain ⟨C', D', any', ha', hC⟩ := ih (s + 1) C1 (upd D s 1) 1 (by omega) (Or.inr rfl)
          exact ⟨C', D', any', ha', fun w pd ct be bs pf ps tn a1 a2 a3 a4 a5 a6 a7 a8 a9 a10 a11 a12 a13 a14 a15 a16 a17 a18 a19 a20 a21 post X eq h8 h10 hp => pk_le 1728 s (fun z => absurd z (by omega)) (fun _ => ⟨pk_in s 1728 hs', br_f (by rw [nI_clamp (by omega), h8 s hs']; exact h1) ⟨pk_in s 1728 hs', br_t (by rw [nI_clamp (by omega), h10 s hs']; exact h2) ⟨pk_in s 1728 hs', hv w pd ct be bs pf ps tn a1 a2 a3 a4 a5 a6 a7 a8 a9 a10 a11 a12 a13 a14 a15 a16 a17 a18 a19 a20 a21 _ X (nm_r (e' := C s + v) (by rw [nI_clamp (by omega), h8 s hs']) (br_t (h3.trans eq.symm) ⟨pk_in s 1728 hs', nm_r (e' := upd a10 s 1) (by rw [nI_clamp (by omega)]) (hE w pd ct be bs pf ps tn a1 a2 a3 a4 a5 a6 a7 a8 a9 (upd a10 s 1) a11 a12 a13 a14 a15 a16 a17 a18 a19 a20 a21 _ X h8 (fun a8' a9' a13' a14' h8' => nm_r (nI_1 s) (hC w pd ct be bs pf ps tn a1 a2 a3 a4 a5 a6 a7 a8' a9' (upd a10 s 1) a11 a12 a13' a14' a15 a16 a17 a18 a19 a20 a21 post X eq h8' (ag_upd h10 rfl) hp)))⟩))⟩⟩⟩)⟩
        · obtain ⟨C', D', any', ha', hC⟩ := ih (s + 1) C D any (by omega) ha
          exact ⟨C', D', any', ha', fun w pd ct be bs pf ps tn a1 a2 a3 a4 a5 a6 a7 a8 a9 a10 a11 a12 a13 a14 a15 a16 a17 a18 a19 a20 a21 post X eq h8 h10 hp => pk_le 1728 s (fun z => absurd z (by omega)) (fun _ => ⟨pk_in s 1728 hs', br_f (by rw [nI_clamp (by omega), h8 s hs']; exact h1) ⟨pk_in s 1728 hs', br_t (by rw [nI_clamp (by omega), h10 s hs']; exact h2) ⟨pk_in s 1728 hs', hv w pd ct be bs pf ps tn a1 a2 a3 a4 a5 a6 a7 a8 a9 a10 a11 a12 a13 a14 a15 a16 a17 a18 a19 a20 a21 _ X (nm_r (e' := C s + v) (by rw [nI_clamp (by omega), h8 s hs']) (br_f (fun z => h3 (z.trans eq)) (nm_r (nI_1 s) (hC w pd ct be bs pf ps tn a1 a2 a3 a4 a5 a6 a7 a8 a9 a10 a11 a12 a13 a14 a15 a16 a17 a18 a19 a20 a21 post X eq h8 h10 hp))))⟩⟩⟩)⟩
      · obtain ⟨C', D', any', ha', hC⟩ := ih (s + 1) C D any (by omega) ha
        exact ⟨C', D', any', ha', fun w pd ct be bs pf ps tn a1 a2 a3 a4 a5 a6 a7 a8 a9 a10 a11 a12 a13 a14 a15 a16 a17 a18 a19 a20 a21 post X eq h8 h10 hp => pk_le 1728 s (fun z => absurd z (by omega)) (fun _ => ⟨pk_in s 1728 hs', br_f (by rw [nI_clamp (by omega), h8 s hs']; exact h1) ⟨pk_in s 1728 hs', br_f (by rw [nI_clamp (by omega), h10 s hs']; exact h2) (nm_r (nI_1 s) (hC w pd ct be bs pf ps tn a1 a2 a3 a4 a5 a6 a7 a8 a9 a10 a11 a12 a13 a14 a15 a16 a17 a18 a19 a20 a21 post X eq h8 h10 hp))⟩⟩)⟩
theorem ag_cb {ST : Nat → Int32} {TG : Nat → Nat → Int32} (b q : Int32) (ok : ag_ok ST) (C D : Nat → Int32) : ∃ (C' D' : Nat → Int32) (any' : Int32), ∀ (w pd ct be bs pf ps tn : Int32) (a1 a2 a3 a4 a5 a6 a7 a8 a9 a10 a11 a12 a13 a14 a15 a16 a17 a18 a19 a20 a21 : Nat → Int32) (post : Int32 → St1 → Prop), ag_C2 ST TG b ct be a4 a5 a7 → bs = q → (∀ i, i < 1728 → a8 i = C i) → (∀ i, i < 1728 → a10 i = D i) → (∀ a8' a9' a10' a13' a14' : Nat → Int32, (∀ i, i < 1728 → a8' i = C' i) → (∀ i, i < 1728 → a10' i = D' i) → post any' (w, pd, ct, be, bs, pf, ps, tn, a1, a2, a3, a4, a5, a6, a7, a8', a9', a10', a11, a12, a13', a14', a15, a16, a17, a18, a19, a20, a21)) → wpX_closeBest post (w, pd, ct, be, bs, pf, ps, tn, a1, a2, a3, a4, a5, a6, a7, a8, a9, a10, a11, a12, a13, a14, a15, a16, a17, a18, a19, a20, a21) := by
  obtain ⟨C', D', any', _, hC⟩ := ag_cb4 (TG := TG) (b := b) (q := q) ok 1728 0 C D 0 rfl (Or.inl rfl)
  refine ⟨C', D', any', fun w pd ct be bs pf ps tn a1 a2 a3 a4 a5 a6 a7 a8 a9 a10 a11 a12 a13 a14 a15 a16 a17 a18 a19 a20 a21 post X eq h8 h10 hp => ?_⟩
  unfold wpX_closeBest
  exact ⟨1728 + 1, hC w pd ct be bs pf ps tn a1 a2 a3 a4 a5 a6 a7 a8 a9 a10 a11 a12 a13 a14 a15 a16 a17 a18 a19 a20 a21 post X eq h8 h10 hp⟩
theorem ag_rb5 {ST : Nat → Int32} {TG : Nat → Nat → Int32} {b : Int32} {C D : Nat → Int32} :
    ∀ (m s : Nat) (x : Int32), s + m = 1728 → ∃ v : Int32, ∀ (w pd ct be bs pf ps tn : Int32) (a1 a2 a3 a4 a5 a6 a7 a8 a9 a10 a11 a12 a13 a14 a15 a16 a17 a18 a19 a20 a21 : Nat → Int32) (post : St1 → Prop), ag_C2 ST TG b ct be a4 a5 a7 → (∀ i, i < 1728 → a8 i = C i) → (∀ i, i < 1728 → a10 i = D i) → post (w, pd, ct, be, v, pf, ps, tn, a1, a2, a3, a4, a5, a6, a7, a8, a9, a10, a11, a12, a13, a14, a15, a16, a17, a18, a19, a20, a21) → wX_raiseBest_5 post w pd ct be bs pf ps tn a1 a2 a3 a4 a5 a6 a7 a8 a9 a10 a11 a12 a13 a14 a15 a16 a17 a18 a19 a20 a21 (m + 1) x (nI s) := by
  intro m
  induction m with
  | zero =>
    intro s x hs
    exact ⟨x, fun w pd ct be bs pf ps tn a1 a2 a3 a4 a5 a6 a7 a8 a9 a10 a11 a12 a13 a14 a15 a16 a17 a18 a19 a20 a21 post _ _ _ hp => pk_le 1728 s (fun _ => hp) (fun z => absurd z (by omega))⟩
  | succ m ih =>
    intro s x hs
    have hs' : s < 1728 := by omega
    by_cases h1 : (1000000 : Int32) ≤ C s
    · obtain ⟨v, hv⟩ := ih (s + 1) x (by omega)
      exact ⟨v, fun w pd ct be bs pf ps tn a1 a2 a3 a4 a5 a6 a7 a8 a9 a10 a11 a12 a13 a14 a15 a16 a17 a18 a19 a20 a21 post X h8 h10 hp => pk_le 1728 s (fun z => absurd z (by omega)) (fun _ => ⟨pk_in s 1728 hs', br_t (by rw [nI_clamp (by omega), h8 s hs']; exact h1) (nm_r (nI_1 s) (hv w pd ct be bs pf ps tn a1 a2 a3 a4 a5 a6 a7 a8 a9 a10 a11 a12 a13 a14 a15 a16 a17 a18 a19 a20 a21 post X h8 h10 hp))⟩)⟩
    · by_cases h2 : D s = 0
      · obtain ⟨g, hg⟩ := ag_gu (ST := ST) (TG := TG) (b := b) hs'
        by_cases h3 : x ≤ C s + g
        · obtain ⟨v, hv⟩ := ih (s + 1) x (by omega)
          exact ⟨v, fun w pd ct be bs pf ps tn a1 a2 a3 a4 a5 a6 a7 a8 a9 a10 a11 a12 a13 a14 a15 a16 a17 a18 a19 a20 a21 post X h8 h10 hp => pk_le 1728 s (fun z => absurd z (by omega)) (fun _ => ⟨pk_in s 1728 hs', br_f (by rw [nI_clamp (by omega), h8 s hs']; exact h1) ⟨pk_in s 1728 hs', br_t (by rw [nI_clamp (by omega), h10 s hs']; exact h2) ⟨pk_in s 1728 hs', hg w pd ct be bs pf ps tn a1 a2 a3 a4 a5 a6 a7 a8 a9 a10 a11 a12 a13 a14 a15 a16 a17 a18 a19 a20 a21 _ X (nm_r (e' := C s + g) (by rw [nI_clamp (by omega), h8 s hs']) (br_t h3 (nm_r (nI_1 s) (hv w pd ct be bs pf ps tn a1 a2 a3 a4 a5 a6 a7 a8 a9 a10 a11 a12 a13 a14 a15 a16 a17 a18 a19 a20 a21 post X h8 h10 hp))))⟩⟩⟩)⟩
        · obtain ⟨v, hv⟩ := ih (s + 1) (C s + g) (by omega)
          exact ⟨v, fun w pd ct be bs pf ps tn a1 a2 a3 a4 a5 a6 a7 a8 a9 a10 a11 a12 a13 a14 a15 a16 a17 a18 a19 a20 a21 post X h8 h10 hp => pk_le 1728 s (fun z => absurd z (by omega)) (fun _ => ⟨pk_in s 1728 hs', br_f (by rw [nI_clamp (by omega), h8 s hs']; exact h1) ⟨pk_in s 1728 hs', br_t (by rw [nI_clamp (by omega), h10 s hs']; exact h2) ⟨pk_in s 1728 hs', hg w pd ct be bs pf ps tn a1 a2 a3 a4 a5 a6 a7 a8 a9 a10 a11 a12 a13 a14 a15 a16 a17 a18 a19 a20 a21 _ X (nm_r (e' := C s + g) (by rw [nI_clamp (by omega), h8 s hs']) (br_f h3 (nm_r (nI_1 s) (hv w pd ct be bs pf ps tn a1 a2 a3 a4 a5 a6 a7 a8 a9 a10 a11 a12 a13 a14 a15 a16 a17 a18 a19 a20 a21 post X h8 h10 hp))))⟩⟩⟩)⟩
      · obtain ⟨v, hv⟩ := ih (s + 1) x (by omega)
        exact ⟨v, fun w pd ct be bs pf ps tn a1 a2 a3 a4 a5 a6 a7 a8 a9 a10 a11 a12 a13 a14 a15 a16 a17 a18 a19 a20 a21 post X h8 h10 hp => pk_le 1728 s (fun z => absurd z (by omega)) (fun _ => ⟨pk_in s 1728 hs', br_f (by rw [nI_clamp (by omega), h8 s hs']; exact h1) ⟨pk_in s 1728 hs', br_f (by rw [nI_clamp (by omega), h10 s hs']; exact h2) (nm_r (nI_1 s) (hv w pd ct be bs pf ps tn a1 a2 a3 a4 a5 a6 a7 a8 a9 a10 a11 a12 a13 a14 a15 a16 a17 a18 a19 a20 a21 post X h8 h10 hp))⟩⟩)⟩
theorem ag_rb {ST : Nat → Int32} {TG : Nat → Nat → Int32} (b : Int32) (C D : Nat → Int32) : ∃ v : Int32, ∀ (w pd ct be bs pf ps tn : Int32) (a1 a2 a3 a4 a5 a6 a7 a8 a9 a10 a11 a12 a13 a14 a15 a16 a17 a18 a19 a20 a21 : Nat → Int32) (post : St1 → Prop), ag_C2 ST TG b ct be a4 a5 a7 → (∀ i, i < 1728 → a8 i = C i) → (∀ i, i < 1728 → a10 i = D i) → post (w, pd, ct, be, v, pf, ps, tn, a1, a2, a3, a4, a5, a6, a7, a8, a9, a10, a11, a12, a13, a14, a15, a16, a17, a18, a19, a20, a21) → wpX_raiseBest post (w, pd, ct, be, bs, pf, ps, tn, a1, a2, a3, a4, a5, a6, a7, a8, a9, a10, a11, a12, a13, a14, a15, a16, a17, a18, a19, a20, a21) := by
  obtain ⟨v, hv⟩ := ag_rb5 (ST := ST) (TG := TG) (b := b) (C := C) (D := D) 1728 0 1000000 rfl
  refine ⟨v, fun w pd ct be bs pf ps tn a1 a2 a3 a4 a5 a6 a7 a8 a9 a10 a11 a12 a13 a14 a15 a16 a17 a18 a19 a20 a21 post X h8 h10 hp => ?_⟩
  unfold wpX_raiseBest
  exact ⟨1728 + 1, hv w pd ct be bs pf ps tn a1 a2 a3 a4 a5 a6 a7 a8 a9 a10 a11 a12 a13 a14 a15 a16 a17 a18 a19 a20 a21 post X h8 h10 hp⟩
theorem ag_so77 {ST : Nat → Int32} {TG : Nat → Nat → Int32} {b : Int32} (ok : ag_ok ST) {g : Nat} (hg : g < 1728) :
    ∀ (m r : Nat) (C D : Nat → Int32) (q : Int32), r + m = 20000 → ∃ v : Int32, ∀ (w pd ct be bs pf ps tn : Int32) (a1 a2 a3 a4 a5 a6 a7 a8 a9 a10 a11 a12 a13 a14 a15 a16 a17 a18 a19 a20 a21 : Nat → Int32) (post : Int32 → St1 → Prop), ag_C2 ST TG b ct be a4 a5 a7 → bs = q → (∀ i, i < 1728 → a8 i = C i) → (∀ i, i < 1728 → a10 i = D i) → (∀ (bs' : Int32) (a8' a9' a10' a13' a14' : Nat → Int32), post v (w, pd, ct, be, bs', pf, ps, tn, a1, a2, a3, a4, a5, a6, a7, a8', a9', a10', a11, a12, a13', a14', a15, a16, a17, a18, a19, a20, a21)) → wX_solve_77 post (nI g) (m + 1) (nI r) w pd ct be bs pf ps tn a1 a2 a3 a4 a5 a6 a7 a8 a9 a10 a11 a12 a13 a14 a15 a16 a17 a18 a19 a20 a21 := by
  have fin : ∀ C D : Nat → Int32, ∃ v : Int32, ∀ (w pd ct be bs pf ps tn : Int32) (a1 a2 a3 a4 a5 a6 a7 a8 a9 a10 a11 a12 a13 a14 a15 a16 a17 a18 a19 a20 a21 : Nat → Int32) (post : Int32 → St1 → Prop), (∀ i, i < 1728 → a8 i = C i) → (∀ i, i < 1728 → a10 i = D i) → post v (w, pd, ct, be, bs, pf, ps, tn, a1, a2, a3, a4, a5, a6, a7, a8, a9, a10, a11, a12, a13, a14, a15, a16, a17, a18, a19, a20, a21) → wX_solve_124 post (nI g) w pd ct be bs pf ps tn a1 a2 a3 a4 a5 a6 a7 a8 a9 a10 a11 a12 a13 a14 a15 a16 a17 a18 a19 a20 a21 := by
    intro C D
    by_cases h : D g = 0
    · exact ⟨-2, fun w pd ct be bs pf ps tn a1 a2 a3 a4 a5 a6 a7 a8 a9 a10 a11 a12 a13 a14 a15 a16 a17 a18 a19 a20 a21 post h8 h10 hp => ⟨pk_in g 1728 hg, br_t (by rw [nI_clamp (by omega), h10 g hg]; exact h) hp⟩⟩
    · refine ⟨C g, fun w pd ct be bs pf ps tn a1 a2 a3 a4 a5 a6 a7 a8 a9 a10 a11 a12 a13 a14 a15 a16 a17 a18 a19 a20 a21 post h8 h10 hp => ⟨pk_in g 1728 hg, br_f (by rw [nI_clamp (by omega), h10 g hg]; exact h) ⟨pk_in g 1728 hg, ?_⟩⟩⟩
      rw [nI_clamp (by omega), h8 g hg]
      exact hp
  intro m
  induction m with
  | zero =>
    intro r C D q hr
    obtain ⟨v, hv⟩ := fin C D
    exact ⟨v, fun w pd ct be bs pf ps tn a1 a2 a3 a4 a5 a6 a7 a8 a9 a10 a11 a12 a13 a14 a15 a16 a17 a18 a19 a20 a21 post X eq h8 h10 hp => pk_le 20000 r (fun _ => hv w pd ct be bs pf ps tn a1 a2 a3 a4 a5 a6 a7 a8 a9 a10 a11 a12 a13 a14 a15 a16 a17 a18 a19 a20 a21 post h8 h10 (hp bs a8 a9 a10 a13 a14)) (fun z => absurd z (by omega))⟩
  | succ m ih =>
    intro r C D q hr
    by_cases h1 : (1000000 : Int32) ≤ q
    · obtain ⟨v, hv⟩ := fin C D
      exact ⟨v, fun w pd ct be bs pf ps tn a1 a2 a3 a4 a5 a6 a7 a8 a9 a10 a11 a12 a13 a14 a15 a16 a17 a18 a19 a20 a21 post X eq h8 h10 hp => pk_le 20000 r (fun z => absurd z (by omega)) (fun _ => br_t (by rw [eq]; exact h1) (hv w pd ct be bs pf ps tn a1 a2 a3 a4 a5 a6 a7 a8 a9 a10 a11 a12 a13 a14 a15 a16 a17 a18 a19 a20 a21 post h8 h10 (hp bs a8 a9 a10 a13 a14)))⟩
    · by_cases h2 : D g = 0
      · obtain ⟨C', D', any', hC⟩ := ag_cb (TG := TG) b q ok C D
        by_cases h3 : any' = 0
        · obtain ⟨q', hq⟩ := ag_rb (ST := ST) (TG := TG) b C' D'
          obtain ⟨v, hv⟩ := ih (r + 1) C' D' q' (by omega)
          exact ⟨v, fun w pd ct be bs pf ps tn a1 a2 a3 a4 a5 a6 a7 a8 a9 a10 a11 a12 a13 a14 a15 a16 a17 a18 a19 a20 a21 post X eq h8 h10 hp => pk_le 20000 r (fun z => absurd z (by omega)) (fun _ => br_f (by rw [eq]; exact h1) ⟨pk_in g 1728 hg, br_t (by rw [nI_clamp (by omega), h10 g hg]; exact h2) (hC w pd ct be bs pf ps tn a1 a2 a3 a4 a5 a6 a7 a8 a9 a10 a11 a12 a13 a14 a15 a16 a17 a18 a19 a20 a21 _ X eq h8 h10 (fun a8' a9' a10' a13' a14' h8' h10' => br_t h3 (hq w pd ct be bs pf ps tn a1 a2 a3 a4 a5 a6 a7 a8' a9' a10' a11 a12 a13' a14' a15 a16 a17 a18 a19 a20 a21 _ X h8' h10' (nm_r (nI_1 r) (hv w pd ct be q' pf ps tn a1 a2 a3 a4 a5 a6 a7 a8' a9' a10' a11 a12 a13' a14' a15 a16 a17 a18 a19 a20 a21 post X rfl h8' h10' hp)))))⟩)⟩
        · obtain ⟨v, hv⟩ := ih (r + 1) C' D' q (by omega)
          exact ⟨v, fun w pd ct be bs pf ps tn a1 a2 a3 a4 a5 a6 a7 a8 a9 a10 a11 a12 a13 a14 a15 a16 a17 a18 a19 a20 a21 post X eq h8 h10 hp => pk_le 20000 r (fun z => absurd z (by omega)) (fun _ => br_f (by rw [eq]; exact h1) ⟨pk_in g 1728 hg, br_t (by rw [nI_clamp (by omega), h10 g hg]; exact h2) (hC w pd ct be bs pf ps tn a1 a2 a3 a4 a5 a6 a7 a8 a9 a10 a11 a12 a13 a14 a15 a16 a17 a18 a19 a20 a21 _ X eq h8 h10 (fun a8' a9' a10' a13' a14' h8' h10' => br_f h3 (nm_r (nI_1 r) (hv w pd ct be bs pf ps tn a1 a2 a3 a4 a5 a6 a7 a8' a9' a10' a11 a12 a13' a14' a15 a16 a17 a18 a19 a20 a21 post X eq h8' h10' hp))))⟩)⟩
      · obtain ⟨v, hv⟩ := fin C D
        exact ⟨v, fun w pd ct be bs pf ps tn a1 a2 a3 a4 a5 a6 a7 a8 a9 a10 a11 a12 a13 a14 a15 a16 a17 a18 a19 a20 a21 post X eq h8 h10 hp => pk_le 20000 r (fun z => absurd z (by omega)) (fun _ => br_f (by rw [eq]; exact h1) ⟨pk_in g 1728 hg, br_f (by rw [nI_clamp (by omega), h10 g hg]; exact h2) (hv w pd ct be bs pf ps tn a1 a2 a3 a4 a5 a6 a7 a8 a9 a10 a11 a12 a13 a14 a15 a16 a17 a18 a19 a20 a21 post h8 h10 (hp bs a8 a9 a10 a13 a14))⟩)⟩
section
variable {w pd ct be bs pf ps tn : Int32} {a1 a2 a3 a4 a5 a6 a7 a8 a9 a10 a11 a12 a13 a14 a15 a16 a17 a18 a19 a20 a21 : Nat → Int32}
theorem ag_so20 {post : Int32 → St1 → Prop} {x2 x3 : Int32}
    (h : ∀ a8' a10' : Nat → Int32, (∀ j, j < 1728 → a8' j = 1000000) → (∀ j, j < 1728 → a10' j = 0) → vp_in x2 1728 ∧ ∀ am28, am28 = upd a8' x2.toNatClampNeg 0 → (vp_in x2 1728 ∧ ∀ am29, am29 = upd a9 x2.toNatClampNeg x2 → wpX_guess (fun r => ∃ fu77 : Nat, wX_solve_77 post x3 fu77 0 w pd ct be r pf ps tn a1 a2 a3 a4 a5 a6 a7 am28 am29 a10' a11 a12 a13 a14 a15 a16 a17 a18 a19 a20 a21) (w, pd, ct, be, bs, pf, ps, tn, a1, a2, a3, a4, a5, a6, a7, am28, am29, a10', a11, a12, a13, a14, a15, a16, a17, a18, a19, a20, a21) x2)) :
    ∀ (m i : Nat) (a8 a10 : Nat → Int32), i + m = 1728 → (∀ j, j < i → a8 j = 1000000) → (∀ j, j < i → a10 j = 0) → wX_solve_20 post x2 x3 w pd ct be bs pf ps tn (m + 1) (nI i) a1 a2 a3 a4 a5 a6 a7 a8 a9 a10 a11 a12 a13 a14 a15 a16 a17 a18 a19 a20 a21 := by
  intro m
  induction m with
  | zero =>
    intro i a8 a10 hi h8 h10
    exact pk_le 1728 i (fun _ => h a8 a10 (fun j hj => h8 j (by omega)) (fun j hj => h10 j (by omega))) (fun z => absurd z (by omega))
  | succ m ih =>
    intro i a8 a10 hi h8 h10
    exact pk_le 1728 i (fun z => absurd z (by omega)) (fun _ => ⟨pk_in i 1728 (by omega), nm_r (e' := upd a8 i 1000000) (by rw [nI_clamp (by omega)]) ⟨pk_in i 1728 (by omega), nm_r (e' := upd a10 i 0) (by rw [nI_clamp (by omega)]) (nm_r (nI_1 i) (ih (i + 1) _ _ (by omega) (ag_fill (f := fun _ => 1000000) h8 rfl) (ag_fill (f := fun _ => 0) h10 rfl)))⟩⟩)
end
theorem ag_solve {ST : Nat → Int32} {TG : Nat → Nat → Int32} (b : Int32) (ok : ag_ok ST) {ps gs : Nat → Nat} (hps : ∀ j, j < 3 → ps j < 12) (hgs : ∀ j, j < 3 → gs j < 12) : ∃ v : Int32, ∀ (w pd ct be bs pf pS tn : Int32) (a1 a2 a3 a4 a5 a6 a7 a8 a9 a10 a11 a12 a13 a14 a15 a16 a17 a18 a19 a20 a21 : Nat → Int32) (post : Int32 → St1 → Prop), be = b → (∀ i, i < 48 → a4 i = ST i) → (∀ i, i < 2 → ∀ c, c < 12 → a5 (12 * (i + 1) + c) = TG (i + 1) c) → (∀ j, j < 3 → a2 j = nI (ps j)) → (∀ j, j < 3 → a3 j = nI (gs j)) → (∀ (ct' bs' : Int32) (a7' a8' a9' a10' a13' a14' : Nat → Int32), post v (w, pd, ct', be, bs', pf, pS, tn, a1, a2, a3, a4, a5, a6, a7', a8', a9', a10', a11, a12, a13', a14', a15, a16, a17, a18, a19, a20, a21)) → wpX_solve post (w, pd, ct, be, bs, pf, pS, tn, a1, a2, a3, a4, a5, a6, a7, a8, a9, a10, a11, a12, a13, a14, a15, a16, a17, a18, a19, a20, a21) 6 := by
  have ls : ag_sv (fun j => ps (j + 1)) 2 < 12 ^ 2 := ag_sv_lt 2 (fun j hj => hps (j + 1) (by omega))
  have lg : ag_sv (fun j => gs (j + 1)) 2 < 12 ^ 2 := ag_sv_lt 2 (fun j hj => hgs (j + 1) (by omega))
  obtain ⟨q, hq⟩ := ag_gu (ST := ST) (TG := TG) (b := b) (s := ag_sv (fun j => ps (j + 1)) 2) (by omega)
  obtain ⟨v, hv⟩ := ag_so77 (TG := TG) (b := b) ok (g := ag_sv (fun j => gs (j + 1)) 2) (by omega) 20000 0 (upd (fun _ => 1000000) (ag_sv (fun j => ps (j + 1)) 2) 0) (fun _ => 0) q rfl
  refine ⟨v, fun w pd ct be bs pf pS tn a1 a2 a3 a4 a5 a6 a7 a8 a9 a10 a11 a12 a13 a14 a15 a16 a17 a18 a19 a20 a21 post eb h4 h5 h2 h3 hp => ?_⟩
  unfold wpX_solve
  refine ag_ga (t := 6) (by omega) (fun a7' h7 => ?_)
  have w7 : ∀ i, i < 2 → a7' i = nI (i + 1) := by
    intro i hi
    rcases (show i = 0 ∨ i = 1 by omega) with z | z
    · subst z
      exact h7 1 (by omega) (by decide)
    · subst z
      exact h7 2 (by omega) (by decide)
  have X : ag_C2 ST TG b (nI (ag_ct 6 3)) be a4 a5 a7' := ⟨rfl, eb, h4, w7, h5⟩
  refine ag_so (k := 2) (wh := fun j => j + 1) (vs := fun j => ps (j + 1)) (by omega) (fun j hj => ⟨by omega, w7 j hj⟩) (fun _ j hj => h2 (j + 1) (by omega)) (fun z => absurd rfl z) rfl ?_
  refine ag_so (k := 2) (wh := fun j => j + 1) (vs := fun j => gs (j + 1)) (by omega) (fun j hj => ⟨by omega, w7 j hj⟩) (fun z => absurd z (by decide)) (fun _ j hj => h3 (j + 1) (by omega)) rfl ?_
  refine ⟨1728 + 1, ag_so20 (fun a8' a10' h8 h10 => ⟨pk_in (ag_sv (fun j => ps (j + 1)) 2) 1728 (by omega), nm_r (e' := upd a8' (ag_sv (fun j => ps (j + 1)) 2) 0) (by rw [nI_clamp (by omega)]) ⟨pk_in (ag_sv (fun j => ps (j + 1)) 2) 1728 (by omega), nm_e (hq w pd (nI (ag_ct 6 3)) be bs pf pS tn a1 a2 a3 a4 a5 a6 a7' _ _ a10' a11 a12 a13 a14 a15 a16 a17 a18 a19 a20 a21 _ X ⟨20000 + 1, hv w pd (nI (ag_ct 6 3)) be q pf pS tn a1 a2 a3 a4 a5 a6 a7' _ _ a10' a11 a12 a13 a14 a15 a16 a17 a18 a19 a20 a21 post X rfl ?_ h10 (fun bs' a8' a9' a10' a13' a14' => hp _ bs' a7' a8' a9' a10' a13' a14')⟩)⟩⟩) 1728 0 a8 a10 rfl (fun j hj => absurd hj (by omega)) (fun j hj => absurd hj (by omega))⟩
  exact ag_upd (b := fun _ => 1000000) h8 rfl
end
section
/-! plan, fastest, easiest, needed, distance -/
theorem ag_g3c {a : Nat → Int32} (g : ag_g3 a) {i : Nat} (hi : i < 3) : (a i).toNatClampNeg < 12 ∧ a i = nI (a i).toNatClampNeg := by
  obtain ⟨j, hj, e⟩ := g i hi
  rw [e, nI_clamp (by omega)]
  exact ⟨hj, rfl⟩
def ag_Q (w pd : Int32) (a1 a2 a3 : Nat → Int32) (W : (Int32 → St1 → Prop) → St1 → Prop) (v : Int32) : Prop := ∀ u, ag_is w pd a1 a2 a3 u → ∀ post : Int32 → St1 → Prop, (∀ u', ag_is w pd a1 a2 a3 u' → post v u') → W post u
theorem ag_Qi {w pd : Int32} {a1 a2 a3 : Nat → Int32} {W : (Int32 → St1 → Prop) → St1 → Prop} {v : Int32} (h : ∀ (ct be bs pf ps tn : Int32) (a4 a5 a6 a7 a8 a9 a10 a11 a12 a13 a14 a15 a16 a17 a18 a19 a20 a21 : Nat → Int32) (post : Int32 → St1 → Prop), (∀ u', ag_is w pd a1 a2 a3 u' → post v u') → W post (w, pd, ct, be, bs, pf, ps, tn, a1, a2, a3, a4, a5, a6, a7, a8, a9, a10, a11, a12, a13, a14, a15, a16, a17, a18, a19, a20, a21)) : ag_Q w pd a1 a2 a3 W v := by
  intro u hu post hp
  obtain ⟨w_, pd_, ct_, be_, bs_, pf_, ps_, tn_, a1_, a2_, a3_, a4_, a5_, a6_, a7_, a8_, a9_, a10_, a11_, a12_, a13_, a14_, a15_, a16_, a17_, a18_, a19_, a20_, a21_⟩ := u
  obtain ⟨e1, e2, e3, e4, e5⟩ : w_ = w ∧ pd_ = pd ∧ a1_ = a1 ∧ a2_ = a2 ∧ a3_ = a3 := hu
  subst e1 e2 e3 e4 e5
  exact h ct_ be_ bs_ pf_ ps_ tn_ a4_ a5_ a6_ a7_ a8_ a9_ a10_ a11_ a12_ a13_ a14_ a15_ a16_ a17_ a18_ a19_ a20_ a21_ post hp
theorem ag_2b : ∀ i, i < 3 → ∀ k, k < 3 → (2 ^ i / 2 ^ k % 2 = 1 ↔ k = i) := by decide
theorem ag_2t {i : Nat} (hi : i < 3) : ag_tm (2 ^ i) := by
  rcases (show i = 0 ∨ i = 1 ∨ i = 2 by omega) with h | h | h <;> subst h
  · exact Or.inl rfl
  · exact Or.inr (Or.inl rfl)
  · exact Or.inr (Or.inr (Or.inl rfl))
theorem ag_2n {i : Nat} (hi : i < 3) : 2 ^ i ≠ 6 := by
  rcases (show i = 0 ∨ i = 1 ∨ i = 2 by omega) with h | h | h <;> subst h <;> decide
/-- one walker's length: from its place to its goal -/
noncomputable def ag_n (w : Int32) (a1 a2 a3 : Nat → Int32) (i : Nat) : Nat := ag_d (ag_ST w a1) (a3 i).toNatClampNeg (a2 i).toNatClampNeg
theorem ag_n4 {w : Int32} {a1 a2 a3 : Nat → Int32} {i : Nat} (g2 : ag_g3 a2) (hi : i < 3) : ag_n w a1 a2 a3 i ≤ 11 ∨ ag_n w a1 a2 a3 i = 1000000 := ag_d4 _ _ _ (ag_g3c g2 hi).1
theorem ag_pv0 {n : Nat} (h : n ≤ 11 ∨ n = 1000000) : (n ≤ 11 ∧ ag_pv n = nI n ∧ 0 ≤ ag_pv n ∧ ¬ ag_pv n < 0) ∨ (n = 1000000 ∧ ag_pv n = -2 ∧ ¬ 0 ≤ ag_pv n ∧ ag_pv n < 0) := by
  rcases h with h | h
  · left
    have e : ag_pv n = nI n := by unfold ag_pv; rw [if_neg (by omega)]
    rw [e]
    exact ⟨h, rfl, nI_pos' (by omega), nI_pos (by omega)⟩
  · right
    have e : ag_pv n = -2 := by unfold ag_pv; rw [if_pos h]
    rw [e]
    exact ⟨h, rfl, by decide, by decide⟩
section
variable {w pd ct be bs pf ps tn : Int32} {a1 a2 a3 a4 a5 a6 a7 a8 a9 a10 a11 a12 a13 a14 a15 a16 a17 a18 a19 a20 a21 : Nat → Int32}
theorem ag_plan1 {post : Int32 → St1 → Prop} {i : Nat} (hi : i < 3) (g2 : ag_g3 a2) (g3 : ag_g3 a3)
    (hp : ∀ a4' a5' a6' a15' a16' : Nat → Int32, (∀ i, i < 48 → a4' i = ag_ST w a1 i) → post (ag_pv (ag_n w a1 a2 a3 i)) (w, pd, ct, be, bs, pf, ps, tn, a1, a2, a3, a4', a5', a6', a7, a8, a9, a10, a11, a12, a13, a14, a15', a16', a17, a18, a19, a20, a21)) : wpX_plan post (w, pd, ct, be, bs, pf, ps, tn, a1, a2, a3, a4, a5, a6, a7, a8, a9, a10, a11, a12, a13, a14, a15, a16, a17, a18, a19, a20, a21) (nI (2 ^ i)) := by
  obtain ⟨vc, hc0, hc⟩ := ag_ca (ag_STok w a1) (D := fun k c => ag_d (ag_ST w a1) (a3 k).toNatClampNeg c) (fun k c _ hc => ag_dlt _ _ c hc) (ag_2t hi) (ps := fun k => (a2 k).toNatClampNeg) (fun k hk => (ag_g3c g2 hk).1)
  have z : vc = 0 := by
    rcases hc0 with h | h
    · exact h
    · exact absurd h.1 (ag_2n hi)
  subst z
  unfold wpX_plan
  refine ag_fgd g3 (ag_tm8 (ag_2t hi)) (fun a4' a5' a6' h4 h5 => ?_)
  have e5 : a5' (12 * i + (a2 i).toNatClampNeg) = nI (ag_n w a1 a2 a3 i) := h5 i hi ((ag_2b i hi i hi).mpr rfl) _ (ag_g3c g2 hi).1
  have n4 : ag_n w a1 a2 a3 i ≤ 11 ∨ ag_n w a1 a2 a3 i = 1000000 := ag_n4 g2 hi
  refine ag_alone1 (ag_tm8 (ag_2t hi)) hi (ag_2b i hi) (ag_g3c g2 hi).1 (ag_g3c g2 hi).2 (by omega) e5 ?_
  rcases ag_pv0 n4 with ⟨_, _, h0, _⟩ | ⟨_, e, h0, _⟩
  · exact br_t h0 (hc w pd ct be bs pf ps tn a1 a2 a3 a4' a5' a6' a7 a8 a9 a10 a11 a12 a13 a14 a15 a16 a17 a18 a19 a20 a21 _ h4 h5 (fun k hk => (ag_g3c g2 hk).2) (fun a15' a16' => br_t rfl (hp a4' a5' a6' a15' a16' h4)))
  · refine br_f h0 ?_
    have t := hp a4' a5' a6' a15 a16 h4
    rw [e] at t
    exact t
end
theorem ag_plan6 {w : Int32} {a1 a2 a3 : Nat → Int32} (g2 : ag_g3 a2) (g3 : ag_g3 a3) (b : Int32) : ∃ v : Int32, ∀ (pd : Int32) (ct be bs pf ps tn : Int32) (a4 a5 a6 a7 a8 a9 a10 a11 a12 a13 a14 a15 a16 a17 a18 a19 a20 a21 : Nat → Int32) (post : Int32 → St1 → Prop), be = b → (∀ u', ag_is w pd a1 a2 a3 u' → post v u') → wpX_plan post (w, pd, ct, be, bs, pf, ps, tn, a1, a2, a3, a4, a5, a6, a7, a8, a9, a10, a11, a12, a13, a14, a15, a16, a17, a18, a19, a20, a21) 6 := by
  obtain ⟨vc, hc0, hc⟩ := ag_ca (ag_STok w a1) (D := fun k c => ag_d (ag_ST w a1) (a3 k).toNatClampNeg c) (fun k c _ hc => ag_dlt _ _ c hc) (Or.inr (Or.inr (Or.inr rfl)) : ag_tm 6) (ps := fun k => (a2 k).toNatClampNeg) (fun k hk => (ag_g3c g2 hk).1)
  obtain ⟨va, ha⟩ := ag_al (t := 6) (by omega) b (fun k => nI (ag_d (ag_ST w a1) (a3 k).toNatClampNeg (a2 k).toNatClampNeg))
  obtain ⟨vs, hs⟩ := ag_solve (TG := fun k c => nI (ag_d (ag_ST w a1) (a3 k).toNatClampNeg c)) b (ag_STok w a1) (ps := fun k => (a2 k).toNatClampNeg) (gs := fun k => (a3 k).toNatClampNeg) (fun k hk => (ag_g3c g2 hk).1) (fun k hk => (ag_g3c g3 hk).1)
  have pre : ∀ (pd : Int32) (ct be bs pf ps tn : Int32) (a4 a5 a6 a7 a8 a9 a10 a11 a12 a13 a14 a15 a16 a17 a18 a19 a20 a21 : Nat → Int32) (post : Int32 → St1 → Prop), be = b → (∀ a4' a5' a6' : Nat → Int32, (∀ i, i < 48 → a4' i = ag_ST w a1 i) → (∀ i, i < 3 → 6 / 2 ^ i % 2 = 1 → ∀ c, c < 12 → a5' (12 * i + c) = nI (ag_d (ag_ST w a1) (a3 i).toNatClampNeg c)) → (0 ≤ va → ∀ a15' a16' : Nat → Int32, (vc = 0 → post va (w, pd, ct, be, bs, pf, ps, tn, a1, a2, a3, a4', a5', a6', a7, a8, a9, a10, a11, a12, a13, a14, a15', a16', a17, a18, a19, a20, a21)) ∧ (¬ vc = 0 → ∀ (ct' bs' : Int32) (a7' a8' a9' a10' a13' a14' : Nat → Int32), post vs (w, pd, ct', be, bs', pf, ps, tn, a1, a2, a3, a4', a5', a6', a7', a8', a9', a10', a11, a12, a13', a14', a15', a16', a17, a18, a19, a20, a21))) ∧ (¬ 0 ≤ va → post (-2) (w, pd, ct, be, bs, pf, ps, tn, a1, a2, a3, a4', a5', a6', a7, a8, a9, a10, a11, a12, a13, a14, a15, a16, a17, a18, a19, a20, a21))) → wpX_plan post (w, pd, ct, be, bs, pf, ps, tn, a1, a2, a3, a4, a5, a6, a7, a8, a9, a10, a11, a12, a13, a14, a15, a16, a17, a18, a19, a20, a21) 6 := by
    intro pd ct be bs pf ps tn a4 a5 a6 a7 a8 a9 a10 a11 a12 a13 a14 a15 a16 a17 a18 a19 a20 a21 post eb h
    unfold wpX_plan
    refine ag_fgd (t := 6) g3 (by omega) (fun a4' a5' a6' h4 h5 => ?_)
    obtain ⟨q1, q2⟩ := h a4' a5' a6' h4 h5
    refine ha w pd ct be bs pf ps tn a1 a2 a3 a4' a5' a6' a7 a8 a9 a10 a11 a12 a13 a14 a15 a16 a17 a18 a19 a20 a21 _ eb g2 (fun i hi hb => h5 i hi hb _ (ag_g3c g2 hi).1) (br_c (fun h0 => ?_) (fun h0 => q2 h0))
    refine hc w pd ct be bs pf ps tn a1 a2 a3 a4' a5' a6' a7 a8 a9 a10 a11 a12 a13 a14 a15 a16 a17 a18 a19 a20 a21 _ h4 h5 (fun k hk => (ag_g3c g2 hk).2) (fun a15' a16' => br_c (fun hz => (q1 h0 a15' a16').1 hz) (fun hz => ?_))
    have e6 : vc = 6 := by
      rcases hc0 with h | h
      · exact absurd h hz
      · exact h.2
    have t := (q1 h0 a15' a16').2 hz
    rw [e6]
    refine hs w pd ct be bs pf ps tn a1 a2 a3 a4' a5' a6' a7 a8 a9 a10 a11 a12 a13 a14 a15' a16' a17 a18 a19 a20 a21 _ eb h4 (fun i hi c hc => h5 (i + 1) (by omega) ?_ c hc) (fun k hk => (ag_g3c g2 hk).2) (fun k hk => (ag_g3c g3 hk).2) (fun ct' bs' a7' a8' a9' a10' a13' a14' => br_c (fun _ => t ct' bs' a7' a8' a9' a10' a13' a14') (fun _ => br_t rfl (t ct' bs' a7' a8' a9' a10' a13' a14')))
    rcases (show i = 0 ∨ i = 1 by omega) with z | z <;> subst z <;> decide
  by_cases h0 : 0 ≤ va
  · by_cases hz : vc = 0
    · exact ⟨va, fun pd ct be bs pf ps tn a4 a5 a6 a7 a8 a9 a10 a11 a12 a13 a14 a15 a16 a17 a18 a19 a20 a21 post eb hp => pre pd ct be bs pf ps tn a4 a5 a6 a7 a8 a9 a10 a11 a12 a13 a14 a15 a16 a17 a18 a19 a20 a21 post eb (fun a4' a5' a6' _ _ => ⟨fun _ a15' a16' => ⟨fun _ => hp _ ⟨rfl, rfl, rfl, rfl, rfl⟩, fun z => absurd hz z⟩, fun z => absurd h0 z⟩)⟩
    · exact ⟨vs, fun pd ct be bs pf ps tn a4 a5 a6 a7 a8 a9 a10 a11 a12 a13 a14 a15 a16 a17 a18 a19 a20 a21 post eb hp => pre pd ct be bs pf ps tn a4 a5 a6 a7 a8 a9 a10 a11 a12 a13 a14 a15 a16 a17 a18 a19 a20 a21 post eb (fun a4' a5' a6' _ _ => ⟨fun _ a15' a16' => ⟨fun z => absurd z hz, fun _ ct' bs' a7' a8' a9' a10' a13' a14' => hp _ ⟨rfl, rfl, rfl, rfl, rfl⟩⟩, fun z => absurd h0 z⟩)⟩
  · exact ⟨-2, fun pd ct be bs pf ps tn a4 a5 a6 a7 a8 a9 a10 a11 a12 a13 a14 a15 a16 a17 a18 a19 a20 a21 post eb hp => pre pd ct be bs pf ps tn a4 a5 a6 a7 a8 a9 a10 a11 a12 a13 a14 a15 a16 a17 a18 a19 a20 a21 post eb (fun a4' a5' a6' _ _ => ⟨fun z => absurd z h0, fun _ => hp _ ⟨rfl, rfl, rfl, rfl, rfl⟩⟩)⟩
theorem ag_plan {w : Int32} {a1 a2 a3 : Nat → Int32} {t : Nat} (ht : ag_tm t) (g2 : ag_g3 a2) (g3 : ag_g3 a3) (b : Int32) : ∃ v : Int32, (∀ i, i < 3 → t = 2 ^ i → v = ag_pv (ag_n w a1 a2 a3 i)) ∧ ∀ (pd : Int32) (ct be bs pf ps tn : Int32) (a4 a5 a6 a7 a8 a9 a10 a11 a12 a13 a14 a15 a16 a17 a18 a19 a20 a21 : Nat → Int32) (post : Int32 → St1 → Prop), be = b → (∀ u', ag_is w pd a1 a2 a3 u' → post v u') → wpX_plan post (w, pd, ct, be, bs, pf, ps, tn, a1, a2, a3, a4, a5, a6, a7, a8, a9, a10, a11, a12, a13, a14, a15, a16, a17, a18, a19, a20, a21) (nI t) := by
  by_cases e : t = 6
  · subst e
    obtain ⟨v, hv⟩ := ag_plan6 (w := w) (a1 := a1) g2 g3 b
    exact ⟨v, fun i hi z => absurd z.symm (ag_2n hi), hv⟩
  · have : ∃ i, i < 3 ∧ t = 2 ^ i := by
      rcases ht with h | h | h | h
      · exact ⟨0, by omega, h⟩
      · exact ⟨1, by omega, h⟩
      · exact ⟨2, by omega, h⟩
      · exact absurd h e
    obtain ⟨i, hi, et⟩ := this
    subst et
    refine ⟨ag_pv (ag_n w a1 a2 a3 i), fun j hj z => ?_, fun pd ct be bs pf ps tn a4 a5 a6 a7 a8 a9 a10 a11 a12 a13 a14 a15 a16 a17 a18 a19 a20 a21 post _ hp => ag_plan1 hi g2 g3 (fun a4' a5' a6' a15' a16' _ => hp _ ⟨rfl, rfl, rfl, rfl, rfl⟩)⟩
    have : i = j := by
      rcases (show i = 0 ∨ i = 1 ∨ i = 2 by omega) with h | h | h <;> subst h <;> rcases (show j = 0 ∨ j = 1 ∨ j = 2 by omega) with h | h | h <;> subst h <;> first | rfl | exact absurd z (by decide)
    rw [this]
section
variable {w pd : Int32} {a1 a2 a3 : Nat → Int32}
theorem ag_qF {t : Nat} (ht : ag_tm t) (g2 : ag_g3 a2) (g3 : ag_g3 a3) : ∃ v : Int32, ag_Q w pd a1 a2 a3 (fun post u => wpX_fastest post u (nI t)) v ∧ (¬ ag_rd w pd a2 a3 t → v = -1) ∧ (ag_rd w pd a2 a3 t → ∀ i, i < 3 → t = 2 ^ i → v = ag_pv (ag_n w a1 a2 a3 i)) := by
  obtain ⟨v, hv1, hv⟩ := ag_plan (w := w) (a1 := a1) ht g2 g3 0
  have t8 := ag_tm8 ht
  by_cases r : ag_rd w pd a2 a3 t
  · refine ⟨v, ag_Qi (fun ct be bs pf ps tn a4 a5 a6 a7 a8 a9 a10 a11 a12 a13 a14 a15 a16 a17 a18 a19 a20 a21 post hp => ?_), fun z => absurd r z, fun _ => hv1⟩
    unfold wpX_fastest
    exact ag_isReady (by omega) g2 g3 (fun _ => br_f (by decide) (hv pd ct 0 bs pf ps tn a4 a5 a6 a7 a8 a9 a10 a11 a12 a13 a14 a15 a16 a17 a18 a19 a20 a21 _ rfl (fun u' hu' => hp u' hu'))) (fun z => absurd r z)
  · refine ⟨-1, ag_Qi (fun ct be bs pf ps tn a4 a5 a6 a7 a8 a9 a10 a11 a12 a13 a14 a15 a16 a17 a18 a19 a20 a21 post hp => ?_), fun _ => rfl, fun z => absurd z r⟩
    unfold wpX_fastest
    exact ag_isReady (by omega) g2 g3 (fun z => absurd z r) (fun _ => br_t rfl (hp _ ⟨rfl, rfl, rfl, rfl, rfl⟩))
theorem ag_qE {t : Nat} (ht : ag_tm t) (g2 : ag_g3 a2) (g3 : ag_g3 a3) : ∃ v : Int32, ag_Q w pd a1 a2 a3 (fun post u => wpX_easiest post u (nI t)) v ∧ (¬ ag_rd w pd a2 a3 t → v = -1) ∧ (ag_rd w pd a2 a3 t → ∀ i, i < 3 → t = 2 ^ i → v = ag_pv (ag_n w a1 a2 a3 i)) := by
  obtain ⟨v, hv1, hv⟩ := ag_plan (w := w) (a1 := a1) ht g2 g3 1
  have t8 := ag_tm8 ht
  by_cases r : ag_rd w pd a2 a3 t
  · refine ⟨v, ag_Qi (fun ct be bs pf ps tn a4 a5 a6 a7 a8 a9 a10 a11 a12 a13 a14 a15 a16 a17 a18 a19 a20 a21 post hp => ?_), fun z => absurd r z, fun _ => hv1⟩
    unfold wpX_easiest
    exact ag_isReady (by omega) g2 g3 (fun _ => br_f (by decide) (hv pd ct 1 bs pf ps tn a4 a5 a6 a7 a8 a9 a10 a11 a12 a13 a14 a15 a16 a17 a18 a19 a20 a21 _ rfl (fun u' hu' => hp u' hu'))) (fun z => absurd r z)
  · refine ⟨-1, ag_Qi (fun ct be bs pf ps tn a4 a5 a6 a7 a8 a9 a10 a11 a12 a13 a14 a15 a16 a17 a18 a19 a20 a21 post hp => ?_), fun _ => rfl, fun z => absurd z r⟩
    unfold wpX_easiest
    exact ag_isReady (by omega) g2 g3 (fun z => absurd z r) (fun _ => br_t rfl (hp _ ⟨rfl, rfl, rfl, rfl, rfl⟩))
noncomputable def ag_dst (w : Int32) (a1 : Nat → Int32) (p q : Nat) : Int32 := if ag_bt w p = true then -1 else if ag_bt w q = true then -1 else ag_pv (ag_d (ag_ST w a1) q p)
theorem ag_isCell {post : Int32 → Prop} {c : Nat} (hc : c < 12) (h : post 1) : wpX_isCell post () (nI c) := by
  unfold wpX_isCell
  exact br_f (nI_pos (by omega)) (pk_le 12 c (fun z => absurd z (by omega)) (fun _ => h))
theorem ag_qD {p q : Nat} (hp12 : p < 12) (hq : q < 12) : ag_Q w pd a1 a2 a3 (fun post u => wpX_distance post u (nI p) (nI q)) (ag_dst w a1 p q) := by
  refine ag_Qi (fun ct be bs pf ps tn a4 a5 a6 a7 a8 a9 a10 a11 a12 a13 a14 a15 a16 a17 a18 a19 a20 a21 post hp => ?_)
  unfold ag_dst at hp
  unfold wpX_distance
  refine ag_isCell hp12 (br_f (by decide) (ag_isCell hq (br_f (by decide) (ag_isOpen hp12 (fun o1 => br_f (by decide) (ag_isOpen hq (fun o2 => br_f (by decide) ?_) (fun o2 => br_t rfl ?_))) (fun o1 => br_t rfl ?_)))))
  · rw [if_neg (by rw [o1]; decide), if_neg (by rw [o2]; decide)] at hp
    refine ag_lay (fun a4' h4 => ag_fd (ag_STok w a1) h4 hq (fun a6' h6 => ⟨pk_in p 12 hp12, ?_⟩))
    rw [nI_clamp (show p < 2 ^ 31 by omega), h6 p hp12]
    have n4 := ag_d4 (ag_ST w a1) q p hp12
    refine pk_eq (ag_d (ag_ST w a1) q p) 1000000 (fun z => ?_) (fun z => ⟨pk_in p 12 hp12, ?_⟩)
    · unfold ag_pv at hp
      rw [if_pos z] at hp
      exact hp _ ⟨rfl, rfl, rfl, rfl, rfl⟩
    · unfold ag_pv at hp
      rw [if_neg z] at hp
      exact hp _ ⟨rfl, rfl, rfl, rfl, rfl⟩
  · rw [if_neg (by rw [o1]; decide), if_pos o2] at hp
    exact hp _ ⟨rfl, rfl, rfl, rfl, rfl⟩
  · rw [if_pos o1] at hp
    exact hp _ ⟨rfl, rfl, rfl, rfl, rfl⟩
theorem ag_ie2 {t c : Nat} (ht : t < 8) (g2 : ag_g3 a2) (g3 : ag_g3 a3) (hc : c < 12) : ∀ (m k : Nat), k + m = 3 → ∃ v : Int32, ∀ (w pd : Int32) (a1 : Nat → Int32) (ct be bs pf ps tn : Int32) (a4 a5 a6 a7 a8 a9 a10 a11 a12 a13 a14 a15 a16 a17 a18 a19 a20 a21 : Nat → Int32) (post : Int32 → Prop), post v → wX_isEnd_2 post (nI t) (nI c) w pd ct be bs pf ps tn a1 a2 a3 a4 a5 a6 a7 a8 a9 a10 a11 a12 a13 a14 a15 a16 a17 a18 a19 a20 a21 (m + 1) (nI k) := by
  intro m
  induction m with
  | zero =>
    intro k hk
    exact ⟨0, fun w pd a1 ct be bs pf ps tn a4 a5 a6 a7 a8 a9 a10 a11 a12 a13 a14 a15 a16 a17 a18 a19 a20 a21 post hp => pk_le 3 k (fun _ => hp) (fun z => absurd z (by omega))⟩
  | succ m ih =>
    intro k hk
    obtain ⟨v, hv⟩ := ih (k + 1) (by omega)
    by_cases hb : t / 2 ^ k % 2 = 1
    · have B := (ag_tb t ht k (by omega)).mpr hb
      by_cases e2 : a2 k = nI c
      · exact ⟨1, fun w pd a1 ct be bs pf ps tn a4 a5 a6 a7 a8 a9 a10 a11 a12 a13 a14 a15 a16 a17 a18 a19 a20 a21 post hp => pk_le 3 k (fun z => absurd z (by omega)) (fun _ => br_t B ⟨pk_in k 3 (by omega), br_t (by rw [nI_clamp (by omega)]; exact e2) hp⟩)⟩
      · by_cases e3 : a3 k = nI c
        · exact ⟨1, fun w pd a1 ct be bs pf ps tn a4 a5 a6 a7 a8 a9 a10 a11 a12 a13 a14 a15 a16 a17 a18 a19 a20 a21 post hp => pk_le 3 k (fun z => absurd z (by omega)) (fun _ => br_t B ⟨pk_in k 3 (by omega), br_f (by rw [nI_clamp (by omega)]; exact e2) ⟨pk_in k 3 (by omega), br_t (by rw [nI_clamp (by omega)]; exact e3) hp⟩⟩)⟩
        · exact ⟨v, fun w pd a1 ct be bs pf ps tn a4 a5 a6 a7 a8 a9 a10 a11 a12 a13 a14 a15 a16 a17 a18 a19 a20 a21 post hp => pk_le 3 k (fun z => absurd z (by omega)) (fun _ => br_t B ⟨pk_in k 3 (by omega), br_f (by rw [nI_clamp (by omega)]; exact e2) ⟨pk_in k 3 (by omega), br_f (by rw [nI_clamp (by omega)]; exact e3) (nm_r (nI_1 k) (hv w pd a1 ct be bs pf ps tn a4 a5 a6 a7 a8 a9 a10 a11 a12 a13 a14 a15 a16 a17 a18 a19 a20 a21 post hp))⟩⟩)⟩
    · exact ⟨v, fun w pd a1 ct be bs pf ps tn a4 a5 a6 a7 a8 a9 a10 a11 a12 a13 a14 a15 a16 a17 a18 a19 a20 a21 post hp => pk_le 3 k (fun z => absurd z (by omega)) (fun _ => br_f (fun z => hb ((ag_tb t ht k (by omega)).mp z)) (nm_r (nI_1 k) (hv w pd a1 ct be bs pf ps tn a4 a5 a6 a7 a8 a9 a10 a11 a12 a13 a14 a15 a16 a17 a18 a19 a20 a21 post hp)))⟩
theorem ag_ne33 {i : Nat} (hi : i < 3) (g2 : ag_g3 a2) (g3 : ag_g3 a3) {x2 : Int32} : ∀ (m c n : Nat), c + m = 12 → ∃ n', n ≤ n' ∧ n' ≤ n + m ∧ ∀ (ct be bs pf ps tn : Int32) (a4 a5 a6 a7 a8 a9 a10 a11 a12 a13 a14 a15 a16 a17 a18 a19 a20 a21 : Nat → Int32) (post : Int32 → St1 → Prop), (∀ u', ag_is w pd a1 a2 a3 u' → post (nI n') u') → wX_needed_33 post (nI (2 ^ i)) x2 (m + 1) (nI n) (nI c) w pd ct be bs pf ps tn a1 a2 a3 a4 a5 a6 a7 a8 a9 a10 a11 a12 a13 a14 a15 a16 a17 a18 a19 a20 a21 := by
  intro m
  induction m with
  | zero =>
    intro c n hc
    exact ⟨n, by omega, by omega, fun ct be bs pf ps tn a4 a5 a6 a7 a8 a9 a10 a11 a12 a13 a14 a15 a16 a17 a18 a19 a20 a21 post hp => pk_le 12 c (fun _ => hp _ ⟨rfl, rfl, rfl, rfl, rfl⟩) (fun z => absurd z (by omega))⟩
  | succ m ih =>
    intro c n hc
    have hc12 : c < 12 := by omega
    cases ho : ag_bt w c
    · obtain ⟨v, hv⟩ := ag_ie2 (t := 2 ^ i) (ag_tm8 (ag_2t hi)) g2 g3 hc12 3 0 rfl
      have hv' : ∀ (w pd : Int32) (a1 : Nat → Int32) (ct be bs pf ps tn : Int32) (a4 a5 a6 a7 a8 a9 a10 a11 a12 a13 a14 a15 a16 a17 a18 a19 a20 a21 : Nat → Int32) (post : Int32 → Prop), post v → wpX_isEnd post (w, pd, ct, be, bs, pf, ps, tn, a1, a2, a3, a4, a5, a6, a7, a8, a9, a10, a11, a12, a13, a14, a15, a16, a17, a18, a19, a20, a21) (nI (2 ^ i)) (nI c) := by
        intro w pd a1 ct be bs pf ps tn a4 a5 a6 a7 a8 a9 a10 a11 a12 a13 a14 a15 a16 a17 a18 a19 a20 a21 post hp
        unfold wpX_isEnd
        exact ⟨4, hv w pd a1 ct be bs pf ps tn a4 a5 a6 a7 a8 a9 a10 a11 a12 a13 a14 a15 a16 a17 a18 a19 a20 a21 post hp⟩
      by_cases hz : v = 0
      · subst hz
        have go : ∀ n1 : Nat, (ag_pv (ag_n (w ^^^ ((1 : Int32) <<< (nI c &&& 31))) a1 a2 a3 i) = x2 → n1 = n) → (¬ ag_pv (ag_n (w ^^^ ((1 : Int32) <<< (nI c &&& 31))) a1 a2 a3 i) = x2 → n1 = n + 1) → (∃ n', n1 ≤ n' ∧ n' ≤ n1 + m ∧ ∀ (ct be bs pf ps tn : Int32) (a4 a5 a6 a7 a8 a9 a10 a11 a12 a13 a14 a15 a16 a17 a18 a19 a20 a21 : Nat → Int32) (post : Int32 → St1 → Prop), (∀ u', ag_is w pd a1 a2 a3 u' → post (nI n') u') → wX_needed_33 post (nI (2 ^ i)) x2 (m + 1) (nI n1) (nI (c + 1)) w pd ct be bs pf ps tn a1 a2 a3 a4 a5 a6 a7 a8 a9 a10 a11 a12 a13 a14 a15 a16 a17 a18 a19 a20 a21) → ∃ n', n1 ≤ n' ∧ n' ≤ n1 + m ∧ ∀ (ct be bs pf ps tn : Int32) (a4 a5 a6 a7 a8 a9 a10 a11 a12 a13 a14 a15 a16 a17 a18 a19 a20 a21 : Nat → Int32) (post : Int32 → St1 → Prop), (∀ u', ag_is w pd a1 a2 a3 u' → post (nI n') u') → wX_needed_33 post (nI (2 ^ i)) x2 (m + 1 + 1) (nI n) (nI c) w pd ct be bs pf ps tn a1 a2 a3 a4 a5 a6 a7 a8 a9 a10 a11 a12 a13 a14 a15 a16 a17 a18 a19 a20 a21 := by
          intro n1 k1 k2 ⟨n', l1, l2, hn⟩
          refine ⟨n', l1, l2, fun ct be bs pf ps tn a4 a5 a6 a7 a8 a9 a10 a11 a12 a13 a14 a15 a16 a17 a18 a19 a20 a21 post hp => pk_le 12 c (fun z => absurd z (by omega)) (fun _ => ag_isOpen hc12 (fun _ => br_f (by decide) (hv' w pd a1 ct be bs pf ps tn a4 a5 a6 a7 a8 a9 a10 a11 a12 a13 a14 a15 a16 a17 a18 a19 a20 a21 _ (br_t rfl (br_f (by decide) (nm_e (ag_plan1 hi g2 g3 (fun a4' a5' a6' a15' a16' _ => nm_r (ag_xx w _) (br_c (fun e => ?_) (fun e => ?_)))))))) ) (fun z => absurd (ho.symm.trans z) (by decide)))⟩
          · have e1 := k1 e
            subst e1
            refine nm_r (e' := nI n1) ?_ (nm_r (nI_1 c) (hn ct be bs pf ps tn a4' a5' a6' a7 a8 a9 a10 a11 a12 a13 a14 a15' a16' a17 a18 a19 a20 a21 post hp))
            rw [show (0 : Int32) = nI 0 from rfl, nI_add, Nat.add_zero]
          · have e1 := k2 e
            subst e1
            exact nm_r (nI_1 n) (nm_r (nI_1 c) (hn ct be bs pf ps tn a4' a5' a6' a7 a8 a9 a10 a11 a12 a13 a14 a15' a16' a17 a18 a19 a20 a21 post hp))
        by_cases he : ag_pv (ag_n (w ^^^ ((1 : Int32) <<< (nI c &&& 31))) a1 a2 a3 i) = x2
        · obtain ⟨n', l1, l2, hn⟩ := go n (fun _ => rfl) (fun z => absurd he z) (ih (c + 1) n (by omega))
          exact ⟨n', l1, by omega, hn⟩
        · obtain ⟨n', l1, l2, hn⟩ := go (n + 1) (fun z => absurd z he) (fun _ => rfl) (ih (c + 1) (n + 1) (by omega))
          exact ⟨n', by omega, by omega, hn⟩
      · obtain ⟨n', l1, l2, hn⟩ := ih (c + 1) n (by omega)
        exact ⟨n', l1, by omega, fun ct be bs pf ps tn a4 a5 a6 a7 a8 a9 a10 a11 a12 a13 a14 a15 a16 a17 a18 a19 a20 a21 post hp => pk_le 12 c (fun z => absurd z (by omega)) (fun _ => ag_isOpen hc12 (fun _ => br_f (by decide) (hv' w pd a1 ct be bs pf ps tn a4 a5 a6 a7 a8 a9 a10 a11 a12 a13 a14 a15 a16 a17 a18 a19 a20 a21 _ (br_f hz (br_t rfl (nm_r (nI_1 c) (hn ct be bs pf ps tn a4 a5 a6 a7 a8 a9 a10 a11 a12 a13 a14 a15 a16 a17 a18 a19 a20 a21 post hp)))))) (fun z => absurd (ho.symm.trans z) (by decide)))⟩
    · obtain ⟨n', l1, l2, hn⟩ := ih (c + 1) n (by omega)
      exact ⟨n', l1, by omega, fun ct be bs pf ps tn a4 a5 a6 a7 a8 a9 a10 a11 a12 a13 a14 a15 a16 a17 a18 a19 a20 a21 post hp => pk_le 12 c (fun z => absurd z (by omega)) (fun _ => ag_isOpen hc12 (fun z => absurd (ho.symm.trans z) (by decide)) (fun _ => br_t rfl (br_t rfl (nm_r (nI_1 c) (hn ct be bs pf ps tn a4 a5 a6 a7 a8 a9 a10 a11 a12 a13 a14 a15 a16 a17 a18 a19 a20 a21 post hp)))))⟩
theorem ag_qN {i : Nat} (hi : i < 3) (g2 : ag_g3 a2) (g3 : ag_g3 a3) : ∃ v : Int32, ag_Q w pd a1 a2 a3 (fun post u => wpX_needed post u (nI (2 ^ i))) v ∧ (ag_rd w pd a2 a3 (2 ^ i) → ag_n w a1 a2 a3 i ≤ 11 → ¬ v < 0) := by
  have t8 := ag_tm8 (ag_2t hi)
  by_cases r : ag_rd w pd a2 a3 (2 ^ i)
  · rcases ag_pv0 (ag_n4 (w := w) (a1 := a1) (a3 := a3) g2 hi) with ⟨h11, ev, h0, _⟩ | ⟨h11, ev, h0, _⟩
    · obtain ⟨n', l1, l2, hn⟩ := ag_ne33 (w := w) (pd := pd) (a1 := a1) hi g2 g3 (x2 := ag_pv (ag_n w a1 a2 a3 i)) 12 0 0 rfl
      refine ⟨nI n', ag_Qi (fun ct be bs pf ps tn a4 a5 a6 a7 a8 a9 a10 a11 a12 a13 a14 a15 a16 a17 a18 a19 a20 a21 post hp => ?_), fun _ _ => nI_pos (by omega)⟩
      unfold wpX_needed
      exact ag_isReady (by omega) g2 g3 (fun _ => br_f (by decide) (ag_plan1 hi g2 g3 (fun a4' a5' a6' a15' a16' _ => br_t h0 ⟨13, hn ct 0 bs pf ps tn a4' a5' a6' a7 a8 a9 a10 a11 a12 a13 a14 a15' a16' a17 a18 a19 a20 a21 post hp⟩))) (fun z => absurd r z)
    · refine ⟨-2, ag_Qi (fun ct be bs pf ps tn a4 a5 a6 a7 a8 a9 a10 a11 a12 a13 a14 a15 a16 a17 a18 a19 a20 a21 post hp => ?_), fun _ z => absurd z (by omega)⟩
      unfold wpX_needed
      exact ag_isReady (by omega) g2 g3 (fun _ => br_f (by decide) (ag_plan1 hi g2 g3 (fun a4' a5' a6' a15' a16' _ => br_f h0 (hp _ ⟨rfl, rfl, rfl, rfl, rfl⟩)))) (fun z => absurd r z)
  · refine ⟨-1, ag_Qi (fun ct be bs pf ps tn a4 a5 a6 a7 a8 a9 a10 a11 a12 a13 a14 a15 a16 a17 a18 a19 a20 a21 post hp => ?_), fun z => absurd z r⟩
    unfold wpX_needed
    exact ag_isReady (by omega) g2 g3 (fun z => absurd z r) (fun _ => br_t rfl (hp _ ⟨rfl, rfl, rfl, rfl, rfl⟩))
end
end
section
/-! arrangements -/
def ag_my (k : Nat) : Nat := if k = 1 then 5 else 25
theorem ag_cho {ST : Nat → Int32} (ok : ag_ok ST) {k : Nat} (hk : k = 1 ∨ k = 2) {s ch : Nat} (hch : ch < ag_my k) : ∃ R : Int32, (R = -1 ∨ ∃ q, q < 12 ^ k ∧ R = nI q) ∧ ∀ (w pd ct be bs pf ps tn : Int32) (a1 a2 a3 a4 a5 a6 a7 a8 a9 a10 a11 a12 a13 a14 a15 a16 a17 a18 a19 a20 a21 : Nat → Int32) (post : Int32 → St1 → Prop), (∀ i, i < 48 → a4 i = ST i) → ct = nI k → (∀ j, j < k → a13 j = nI (s / 12 ^ j % 12)) → (∀ a14' : Nat → Int32, post R (w, pd, ct, be, bs, pf, ps, tn, a1, a2, a3, a4, a5, a6, a7, a8, a9, a10, a11, a12, a13, a14', a15, a16, a17, a18, a19, a20, a21)) → wpX_chosen post (w, pd, ct, be, bs, pf, ps, tn, a1, a2, a3, a4, a5, a6, a7, a8, a9, a10, a11, a12, a13, a14, a15, a16, a17, a18, a19, a20, a21) (nI ch) := by
  rcases hk with e | e
  · subst e
    refine ⟨ag_nt ST (s / 12 ^ 0 % 12) ch, ag_nt_ok ok (by omega) hch, fun w pd ct be bs pf ps tn a1 a2 a3 a4 a5 a6 a7 a8 a9 a10 a11 a12 a13 a14 a15 a16 a17 a18 a19 a20 a21 post h4 hc h13 hp => ?_⟩
    exact ag_cho1 ok h4 hc (by omega) (h13 0 (by omega)) hch hp
  · subst e
    obtain ⟨R, Q, hR, hv⟩ := ag_cho2 ok (c0 := s / 12 ^ 0 % 12) (c1 := s / 12 ^ 1 % 12) (by omega) (by omega) hch
    exact ⟨R, hR, fun w pd ct be bs pf ps tn a1 a2 a3 a4 a5 a6 a7 a8 a9 a10 a11 a12 a13 a14 a15 a16 a17 a18 a19 a20 a21 post h4 hc h13 hp => hv w pd ct be bs pf ps tn a1 a2 a3 a4 a5 a6 a7 a8 a9 a10 a11 a12 a13 a14 a15 a16 a17 a18 a19 a20 a21 post h4 hc (h13 0 (by omega)) (h13 1 (by omega)) (fun a14' _ => hp a14')⟩
theorem ag_choi {k : Nat} (hk : k = 1 ∨ k = 2) {w pd ct be bs pf ps tn : Int32} {a1 a2 a3 a4 a5 a6 a7 a8 a9 a10 a11 a12 a13 a14 a15 a16 a17 a18 a19 a20 a21 : Nat → Int32} {post : Int32 → Prop} (hc : ct = nI k) (hp : post (nI (ag_my k))) : wpX_choices post (w, pd, ct, be, bs, pf, ps, tn, a1, a2, a3, a4, a5, a6, a7, a8, a9, a10, a11, a12, a13, a14, a15, a16, a17, a18, a19, a20, a21) := by
  rcases hk with e | e
  · subst e
    exact ag_ch1 hc hp
  · subst e
    exact ag_ch2 hc hp
/-- n different states stand in the queue, all closed -/
def ag_qu (k n : Nat) (D : Nat → Int32) (f : Nat → Nat) : Prop := (∀ p, p < n → f p < 12 ^ k ∧ D (f p) ≠ 0) ∧ (∀ i j, i < j → j < n → f i ≠ f j)
theorem ag_qu_le {k n : Nat} {D : Nat → Int32} {f : Nat → Nat} (hk : k = 1 ∨ k = 2) (h : ag_qu k n D f) : n ≤ 144 ∧ 12 ^ k ≤ 144 := by
  have := ag_pig (12 ^ k) n f (fun i hi => (h.1 i hi).1) h.2
  rcases hk with e | e
  · subst e
    omega
  · subst e
    omega
theorem ag_qu_add {k n q : Nat} {D : Nat → Int32} {f : Nat → Nat} (h : ag_qu k n D f) (hq : q < 12 ^ k) (h0 : D q = 0) : ag_qu k (n + 1) (upd D q 1) (fun p => if p = n then q else f p) := by
  have ne : ∀ p, p < n → f p ≠ q := fun p hp e => (h.1 p hp).2 (by rw [e]; exact h0)
  constructor
  · intro p hp
    dsimp only
    by_cases e : p = n
    · rw [if_pos e, pk_us]
      exact ⟨hq, by decide⟩
    · rw [if_neg e, pk_un (ne p (by omega))]
      exact h.1 p (by omega)
  · intro i j hij hj
    dsimp only
    rw [if_neg (show i ≠ n by omega)]
    by_cases e : j = n
    · rw [if_pos e]
      exact ne i (by omega)
    · rw [if_neg e]
      exact h.2 i j hij (by omega)
theorem ag_en10 {ST : Nat → Int32} (ok : ag_ok ST) {k : Nat} (hk : k = 1 ∨ k = 2) {s : Nat} : ∀ (m ch n : Nat) (D : Nat → Int32) (f : Nat → Nat), ch + m = ag_my k → ag_qu k n D f → ∃ (n' : Nat) (D' : Nat → Int32) (f' : Nat → Nat), ag_qu k n' D' f' ∧ ∀ (w pd ct be bs pf ps tn : Int32) (a1 a2 a3 a4 a5 a6 a7 a8 a9 a10 a11 a12 a13 a14 a15 a16 a17 a18 a19 a20 a21 : Nat → Int32) (post : Int32 → St1 → Prop), (∀ i, i < 48 → a4 i = ST i) → ct = nI k → (∀ j, j < k → a13 j = nI (s / 12 ^ j % 12)) → (∀ i, i < 1728 → a10 i = D i) → (∀ p, p < n → a12 p = nI (f p)) → (∀ a10' a12' a14' : Nat → Int32, (∀ i, i < 1728 → a10' i = D' i) → (∀ p, p < n' → a12' p = nI (f' p)) → post (nI n') (w, pd, ct, be, bs, pf, ps, tn, a1, a2, a3, a4, a5, a6, a7, a8, a9, a10', a11, a12', a13, a14', a15, a16, a17, a18, a19, a20, a21)) → wX_enqueue_10 post (nI (ag_my k)) (m + 1) (nI n) (nI ch) w pd ct be bs pf ps tn a1 a2 a3 a4 a5 a6 a7 a8 a9 a10 a11 a12 a13 a14 a15 a16 a17 a18 a19 a20 a21 := by
  have my25 : ag_my k ≤ 25 := by unfold ag_my; split <;> omega
  intro m
  induction m with
  | zero =>
    intro ch n D f hch hq
    exact ⟨n, D, f, hq, fun w_ pd_ ct_ be_ bs_ pf_ ps_ tn_ a1_ a2_ a3_ a4_ a5_ a6_ a7_ a8_ a9_ a10_ a11_ a12_ a13_ a14_ a15_ a16_ a17_ a18_ a19_ a20_ a21_ post h4 hc h13 h10 h12 hp => pk_le (ag_my k) ch (fun _ => hp a10_ a12_ a14_ h10 h12) (fun z => absurd z (by omega))⟩
  | succ m ih =>
    intro ch n D f hch hq
    have hle := ag_qu_le hk hq
    obtain ⟨R, hR, hv⟩ := ag_cho (s := s) ok hk (show ch < ag_my k by omega)
    rcases hR with e | ⟨q, hq12, e⟩
    · subst e
      obtain ⟨n', D', f', hq', hC⟩ := ih (ch + 1) n D f (by omega) hq
      exact ⟨n', D', f', hq', fun w_ pd_ ct_ be_ bs_ pf_ ps_ tn_ a1_ a2_ a3_ a4_ a5_ a6_ a7_ a8_ a9_ a10_ a11_ a12_ a13_ a14_ a15_ a16_ a17_ a18_ a19_ a20_ a21_ post h4 hc h13 h10 h12 hp => pk_le (ag_my k) ch (fun z => absurd z (by omega)) (fun _ => hv w_ pd_ ct_ be_ bs_ pf_ ps_ tn_ a1_ a2_ a3_ a4_ a5_ a6_ a7_ a8_ a9_ a10_ a11_ a12_ a13_ a14_ a15_ a16_ a17_ a18_ a19_ a20_ a21_ _ h4 hc h13 (fun a14' => br_t (by decide) (nm_r (nI_1 ch) (hC w_ pd_ ct_ be_ bs_ pf_ ps_ tn_ a1_ a2_ a3_ a4_ a5_ a6_ a7_ a8_ a9_ a10_ a11_ a12_ a13_ a14' a15_ a16_ a17_ a18_ a19_ a20_ a21_ post h4 hc h13 h10 h12 hp))))⟩
    · subst e
      by_cases h0 : D q = 0
      · obtain ⟨n', D', f', hq', hC⟩ := ih (ch + 1) (n + 1) (upd D q 1) (fun p => if p = n then q else f p) (by omega) (ag_qu_add hq hq12 h0)
        refine ⟨n', D', f', hq', fun w_ pd_ ct_ be_ bs_ pf_ ps_ tn_ a1_ a2_ a3_ a4_ a5_ a6_ a7_ a8_ a9_ a10_ a11_ a12_ a13_ a14_ a15_ a16_ a17_ a18_ a19_ a20_ a21_ post h4 hc h13 h10 h12 hp => pk_le (ag_my k) ch (fun z => absurd z (by omega)) (fun _ => hv w_ pd_ ct_ be_ bs_ pf_ ps_ tn_ a1_ a2_ a3_ a4_ a5_ a6_ a7_ a8_ a9_ a10_ a11_ a12_ a13_ a14_ a15_ a16_ a17_ a18_ a19_ a20_ a21_ _ h4 hc h13 (fun a14' => br_f (nI_pos (by omega)) ⟨pk_in q 1728 (by omega), br_t (by rw [nI_clamp (by omega), h10 q (by omega)]; exact h0) ⟨pk_in q 1728 (by omega), nm_r (e' := upd a10_ q 1) (by rw [nI_clamp (by omega)]) ⟨pk_in n 1728 (by omega), nm_r (e' := upd a12_ n (nI q)) (by rw [nI_clamp (by omega)]) (nm_r (nI_1 n) (nm_r (nI_1 ch) (hC w_ pd_ ct_ be_ bs_ pf_ ps_ tn_ a1_ a2_ a3_ a4_ a5_ a6_ a7_ a8_ a9_ (upd a10_ q 1) a11_ (upd a12_ n (nI q)) a13_ a14' a15_ a16_ a17_ a18_ a19_ a20_ a21_ post h4 hc h13 (ag_upd h10 rfl) (fun p hp => ?_) hp)))⟩⟩⟩))⟩
        by_cases e : p = n
        · rw [e, pk_us, if_pos rfl]
        · rw [pk_un e, if_neg e]
          exact h12 p (by omega)
      · obtain ⟨n', D', f', hq', hC⟩ := ih (ch + 1) n D f (by omega) hq
        exact ⟨n', D', f', hq', fun w_ pd_ ct_ be_ bs_ pf_ ps_ tn_ a1_ a2_ a3_ a4_ a5_ a6_ a7_ a8_ a9_ a10_ a11_ a12_ a13_ a14_ a15_ a16_ a17_ a18_ a19_ a20_ a21_ post h4 hc h13 h10 h12 hp => pk_le (ag_my k) ch (fun z => absurd z (by omega)) (fun _ => hv w_ pd_ ct_ be_ bs_ pf_ ps_ tn_ a1_ a2_ a3_ a4_ a5_ a6_ a7_ a8_ a9_ a10_ a11_ a12_ a13_ a14_ a15_ a16_ a17_ a18_ a19_ a20_ a21_ _ h4 hc h13 (fun a14' => br_f (nI_pos (by omega)) ⟨pk_in q 1728 (by omega), br_f (by rw [nI_clamp (by omega), h10 q (by omega)]; exact h0) (nm_r (nI_1 ch) (hC w_ pd_ ct_ be_ bs_ pf_ ps_ tn_ a1_ a2_ a3_ a4_ a5_ a6_ a7_ a8_ a9_ a10_ a11_ a12_ a13_ a14' a15_ a16_ a17_ a18_ a19_ a20_ a21_ post h4 hc h13 h10 h12 hp))⟩))⟩
section
variable {w pd : Int32} {a1 a2 a3 : Nat → Int32}
theorem ag_ar68 {ST : Nat → Int32} (ok : ag_ok ST) {k : Nat} (hk : k = 1 ∨ k = 2) : ∀ (m x n : Nat) (D : Nat → Int32) (f : Nat → Nat), x + m = 1728 → ag_qu k n D f → ∃ v : Int32, ∀ (ct be bs pf ps tn : Int32) (a4 a5 a6 a7 a8 a9 a10 a11 a12 a13 a14 a15 a16 a17 a18 a19 a20 a21 : Nat → Int32) (post : Int32 → St1 → Prop), (∀ i, i < 48 → a4 i = ST i) → ct = nI k → (∀ i, i < 1728 → a10 i = D i) → (∀ p, p < n → a12 p = nI (f p)) → (∀ u', ag_is w pd a1 a2 a3 u' → post v u') → wX_arrangements_68 post (m + 1) (nI n) (nI x) w pd ct be bs pf ps tn a1 a2 a3 a4 a5 a6 a7 a8 a9 a10 a11 a12 a13 a14 a15 a16 a17 a18 a19 a20 a21 := by
  intro m
  induction m with
  | zero =>
    intro x n D f hx hq
    have hle := ag_qu_le hk hq
    exact ⟨nI n, fun ct be bs pf ps tn a4 a5 a6 a7 a8 a9 a10 a11 a12 a13 a14 a15 a16 a17 a18 a19 a20 a21 post _ _ _ _ hp => pk_le n x (fun _ => hp _ ⟨rfl, rfl, rfl, rfl, rfl⟩) (fun z => absurd z (by omega))⟩
  | succ m ih =>
    intro x n D f hx hq
    have hle := ag_qu_le hk hq
    by_cases hn : n ≤ x
    · exact ⟨nI n, fun ct be bs pf ps tn a4 a5 a6 a7 a8 a9 a10 a11 a12 a13 a14 a15 a16 a17 a18 a19 a20 a21 post _ _ _ _ hp => pk_le n x (fun _ => hp _ ⟨rfl, rfl, rfl, rfl, rfl⟩) (fun z => absurd z (by omega))⟩
    · have hf := (hq.1 x (by omega)).1
      obtain ⟨n', D', f', hq', hC⟩ := ag_en10 (s := f x) ok hk (ag_my k - 1) 1 n D f (by unfold ag_my; split <;> rfl) hq
      obtain ⟨v, hv⟩ := ih (x + 1) n' D' f' (by omega) hq'
      refine ⟨v, fun ct be bs pf ps tn a4 a5 a6 a7 a8 a9 a10 a11 a12 a13 a14 a15 a16 a17 a18 a19 a20 a21 post h4 hc h10 h12 hp => pk_le n x (fun z => absurd z hn) (fun _ => pk_le 1728 x (fun z => absurd z (by omega)) (fun _ => ⟨pk_in x 1728 (by omega), ?_⟩))⟩
      rw [nI_clamp (show x < 2 ^ 31 by omega), h12 x (by omega)]
      refine ag_lc (k := k) (by omega) (by omega) hc (fun a13' h13 => ?_)
      unfold wpX_enqueue
      exact ag_choi hk hc ⟨ag_my k - 1 + 1, hC w pd ct be bs pf ps tn a1 a2 a3 a4 a5 a6 a7 a8 a9 a10 a11 a12 a13' a14 a15 a16 a17 a18 a19 a20 a21 _ h4 hc h13 h10 h12 (fun a10' a12' a14' h10' h12' => nm_r (nI_1 x) (hv ct be bs pf ps tn a4 a5 a6 a7 a8 a9 a10' a11 a12' a13' a14' a15 a16 a17 a18 a19 a20 a21 post h4 hc h10' h12' hp))⟩
theorem ag_ar21 {post : Int32 → St1 → Prop} {w pd ct be bs pf ps tn : Int32} {a1 a2 a3 a4 a5 a6 a7 a8 a9 a10 a11 a12 a13 a14 a15 a16 a17 a18 a19 a20 a21 : Nat → Int32} (h : ∀ a10' : Nat → Int32, (∀ j, j < 1728 → a10' j = 0) → wpX_stateOf (fun r => ∀ am, am = upd a12 0 r → (vp_in (am 0) 1728 ∧ ∀ an, an = upd a10' (am 0).toNatClampNeg 1 → ∃ fu68 : Nat, wX_arrangements_68 post fu68 1 0 w pd ct be bs pf ps tn a1 a2 a3 a4 a5 a6 a7 a8 a9 an a11 am a13 a14 a15 a16 a17 a18 a19 a20 a21)) (w, pd, ct, be, bs, pf, ps, tn, a1, a2, a3, a4, a5, a6, a7, a8, a9, a10', a11, a12, a13, a14, a15, a16, a17, a18, a19, a20, a21) 0) :
    ∀ (m i : Nat) (a10 : Nat → Int32), i + m = 1728 → (∀ j, j < i → a10 j = 0) → wX_arrangements_21 post w pd ct be bs pf ps tn (m + 1) (nI i) a1 a2 a3 a4 a5 a6 a7 a8 a9 a10 a11 a12 a13 a14 a15 a16 a17 a18 a19 a20 a21 := by
  intro m
  induction m with
  | zero =>
    intro i a10 hi h10
    exact pk_le 1728 i (fun _ => h a10 (fun j hj => h10 j (by omega))) (fun z => absurd z (by omega))
  | succ m ih =>
    intro i a10 hi h10
    exact pk_le 1728 i (fun z => absurd z (by omega)) (fun _ => ⟨pk_in i 1728 (by omega), nm_r (e' := upd a10 i 0) (by rw [nI_clamp (by omega)]) (nm_r (nI_1 i) (ih (i + 1) _ (by omega) (ag_fill (f := fun _ => 0) h10 rfl)))⟩)
theorem ag_who {t : Nat} (ht : ag_tm t) : ∃ (k : Nat) (wh : Nat → Nat), (k = 1 ∨ k = 2) ∧ ag_ct t 3 = k ∧ (∀ j, j < k → wh j < 3 ∧ t / 2 ^ wh j % 2 = 1 ∧ ag_ct t (wh j) = j) ∧ (∀ i, i < 3 → t = 2 ^ i → k = 1 ∧ wh 0 = i) ∧ (∀ i j, i < j → j < k → wh i < wh j) := by
  have one : ∀ i, i < 3 → t = 2 ^ i → ∃ (k : Nat) (wh : Nat → Nat), (k = 1 ∨ k = 2) ∧ ag_ct t 3 = k ∧ (∀ j, j < k → wh j < 3 ∧ t / 2 ^ wh j % 2 = 1 ∧ ag_ct t (wh j) = j) ∧ (∀ i, i < 3 → t = 2 ^ i → k = 1 ∧ wh 0 = i) ∧ (∀ i j, i < j → j < k → wh i < wh j) := by
    intro i hi e
    refine ⟨1, fun _ => i, Or.inl rfl, ?_, fun j hj => ?_, fun i' hi' e' => ⟨rfl, ?_⟩, fun a b hab hb => absurd hab (by omega)⟩
    · subst e
      rcases (show i = 0 ∨ i = 1 ∨ i = 2 by omega) with h | h | h <;> subst h <;> rfl
    · have ej : j = 0 := by omega
      subst ej e
      rcases (show i = 0 ∨ i = 1 ∨ i = 2 by omega) with h | h | h <;> subst h <;> exact ⟨by decide, by decide, by rfl⟩
    · subst e
      rcases (show i = 0 ∨ i = 1 ∨ i = 2 by omega) with h | h | h <;> subst h <;> rcases (show i' = 0 ∨ i' = 1 ∨ i' = 2 by omega) with h | h | h <;> subst h <;> first | rfl | exact absurd e' (by decide)
  rcases ht with h | h | h | h
  · exact one 0 (by omega) h
  · exact one 1 (by omega) h
  · exact one 2 (by omega) h
  · subst h
    refine ⟨2, fun j => j + 1, Or.inr rfl, rfl, fun j hj => ?_, fun i hi e => absurd e.symm (ag_2n hi), fun i j hij _ => Nat.succ_lt_succ hij⟩
    rcases (show j = 0 ∨ j = 1 by omega) with h | h <;> subst h <;> exact ⟨by decide, by decide, by rfl⟩
theorem ag_qA {t : Nat} (ht : ag_tm t) (g2 : ag_g3 a2) (g3 : ag_g3 a3) : ∃ v : Int32, ag_Q w pd a1 a2 a3 (fun post u => wpX_arrangements post u (nI t)) v := by
  have t8 := ag_tm8 ht
  by_cases r : ag_rd w pd a2 a3 t
  · obtain ⟨k, wh, hk, ek, hw, _, _⟩ := ag_who ht
    have ls : ag_sv (fun j => (a2 (wh j)).toNatClampNeg) k < 12 ^ k := ag_sv_lt k (fun j hj => (ag_g3c g2 (hw j hj).1).1)
    have hq : ag_qu k 1 (upd (fun _ => 0) (ag_sv (fun j => (a2 (wh j)).toNatClampNeg) k) 1) (fun _ => ag_sv (fun j => (a2 (wh j)).toNatClampNeg) k) := by
      constructor
      · intro p _
        refine ⟨ls, ?_⟩
        rw [pk_us]
        decide
      · intro i j hij hj
        omega
    have h144 := (ag_qu_le hk hq).2
    obtain ⟨v, hv⟩ := ag_ar68 (w := w) (pd := pd) (a1 := a1) (a2 := a2) (a3 := a3) (ag_STok w a1) hk 1728 0 1 _ _ rfl hq
    refine ⟨v, ag_Qi (fun ct be bs pf ps tn a4 a5 a6 a7 a8 a9 a10 a11 a12 a13 a14 a15 a16 a17 a18 a19 a20 a21 post hp => ?_)⟩
    unfold wpX_arrangements
    refine ag_isReady (by omega) g2 g3 (fun _ => br_f (by decide) (ag_lay (fun a4' h4 => ag_ga t8 (fun a7' h7 => ⟨1728 + 1, ag_ar21 (a10 := a10) (fun a10' h10 => ?_) 1728 0 a10 rfl (fun j hj => absurd hj (by omega))⟩)))) (fun z => absurd r z)
    rw [ek]
    refine ag_so (k := k) (wh := wh) (vs := fun j => (a2 (wh j)).toNatClampNeg) (by omega) (fun j hj => ⟨(hw j hj).1, ?_⟩) (fun _ j hj => (ag_g3c g2 (hw j hj).1).2) (fun z => absurd rfl z) rfl (nm_e ?_)
    · have := h7 (wh j) (hw j hj).1 (hw j hj).2.1
      rw [(hw j hj).2.2] at this
      exact this
    · rw [pk_us]
      refine ⟨pk_in (ag_sv (fun j => (a2 (wh j)).toNatClampNeg) k) 1728 (by omega), nm_r (e' := upd a10' (ag_sv (fun j => (a2 (wh j)).toNatClampNeg) k) 1) (by rw [nI_clamp (by omega)]) ⟨1728 + 1, hv (nI k) be bs pf ps tn a4' a5 a6 a7' a8 a9 _ a11 _ a13 a14 a15 a16 a17 a18 a19 a20 a21 post h4 rfl ?_ ?_ hp⟩⟩
      · exact ag_upd (b := fun _ => 0) h10 rfl
      · intro p hp1
        have e0 : p = 0 := by omega
        rw [e0, pk_us]
  · refine ⟨-1, ag_Qi (fun ct be bs pf ps tn a4 a5 a6 a7 a8 a9 a10 a11 a12 a13 a14 a15 a16 a17 a18 a19 a20 a21 post hp => ?_)⟩
    unfold wpX_arrangements
    exact ag_isReady (by omega) g2 g3 (fun z => absurd z r) (fun _ => br_t rfl (hp _ ⟨rfl, rfl, rfl, rfl, rfl⟩))
end
end
section
/-! cellAt, one walker: mayStand, reachesIn, findTurnsLeft, firstNext -/
section
variable {w pd ct be bs pf ps tn : Int32} {a1 a2 a3 a4 a5 a6 a7 a8 a9 a10 a11 a12 a13 a14 a15 a16 a17 a18 a19 a20 a21 : Nat → Int32}
theorem ag_ms0 {post : Int32 → St1 → Prop} {s : Nat} (hc : ct = nI 1) (hs : ¬ s < 12) (hs2 : s < 1728) (hp : post 0 (w, pd, ct, be, bs, pf, ps, tn, a1, a2, a3, a4, a5, a6, a7, a8, a9, a10, a11, a12, a13, a14, a15, a16, a17, a18, a19, a20, a21)) : wpX_mayStand post (w, pd, ct, be, bs, pf, ps, tn, a1, a2, a3, a4, a5, a6, a7, a8, a9, a10, a11, a12, a13, a14, a15, a16, a17, a18, a19, a20, a21) (nI s) := by
  unfold wpX_mayStand wpX_bound
  exact br_t hc (pk_lt s 12 (fun z => absurd z hs) (fun _ => hp))
theorem ag_ms1 {post : Int32 → St1 → Prop} {s : Nat} (hc : ct = nI 1) (hs : s < 12) (hp : ∀ a13' : Nat → Int32, post 1 (w, pd, ct, be, bs, pf, ps, tn, a1, a2, a3, a4, a5, a6, a7, a8, a9, a10, a11, a12, a13', a14, a15, a16, a17, a18, a19, a20, a21)) : wpX_mayStand post (w, pd, ct, be, bs, pf, ps, tn, a1, a2, a3, a4, a5, a6, a7, a8, a9, a10, a11, a12, a13, a14, a15, a16, a17, a18, a19, a20, a21) (nI s) := by
  unfold wpX_mayStand wpX_bound
  refine br_t hc (pk_lt s 12 (fun _ => ag_lc (k := 1) (by omega) (by omega) hc (fun a13' _ => ⟨2, ?_⟩)) (fun z => absurd z (by omega)))
  refine pk_le 1 0 (fun z => absurd z (by omega)) (fun _ => ⟨1, ?_⟩) hc
  refine pk_le 0 0 (fun _ => nm_r (nI_1 0) ?_) (fun z => absurd z (by omega))
  exact pk_le 1 1 (fun _ => ⟨rfl, hp a13'⟩) (fun z => absurd z (by omega)) hc
theorem ag_nt_E {ST : Nat → Int32} {c ch j : Nat} (h : ch ≠ 0) (h5 : ch < 5) (e : ag_nt ST c ch = nI j) : ag_E ST c j := by
  unfold ag_nt at e
  rw [if_neg h] at e
  exact ⟨ch - 1, by omega, by rw [show 4 * c + (ch - 1) = 4 * c + ch - 1 by omega]; exact e⟩
theorem ag_ri13 {post : Int32 → St1 → Prop} {ST : Nat → Int32} {c : Nat} {x2 : Int32} (ok : ag_ok ST) (h4 : ∀ i, i < 48 → a4 i = ST i) (hc : ct = nI 1) (hcc : c < 12) (h13 : a13 0 = nI c)
    (h1 : (∃ j, j < 12 ∧ ag_E ST c j ∧ a8 j = x2) → ∀ a14' : Nat → Int32, post 1 (w, pd, ct, be, bs, pf, ps, tn, a1, a2, a3, a4, a5, a6, a7, a8, a9, a10, a11, a12, a13, a14', a15, a16, a17, a18, a19, a20, a21)) (h0 : (¬ ∃ j, j < 12 ∧ ag_E ST c j ∧ a8 j = x2) → ∀ a14' : Nat → Int32, post 0 (w, pd, ct, be, bs, pf, ps, tn, a1, a2, a3, a4, a5, a6, a7, a8, a9, a10, a11, a12, a13, a14', a15, a16, a17, a18, a19, a20, a21)) :
    ∀ (m ch : Nat) (a14 : Nat → Int32), ch + 1 + m = 5 → (∀ e, e < ch → ∀ j, j < 12 → ST (4 * c + e) = nI j → ¬ a8 j = x2) → wX_reachesIn_13 post x2 (nI 5) (m + 1) (nI (ch + 1)) w pd ct be bs pf ps tn a1 a2 a3 a4 a5 a6 a7 a8 a9 a10 a11 a12 a13 a14 a15 a16 a17 a18 a19 a20 a21 := by
  intro m
  induction m with
  | zero =>
    intro ch a14 hch hI
    refine pk_le 5 (ch + 1) (fun _ => h0 ?_ a14) (fun z => absurd z (by omega))
    rintro ⟨j, hj, ⟨e, he, ee⟩, h8⟩
    exact hI e (by omega) j hj ee h8
  | succ m ih =>
    intro ch a14 hch hI
    have en : ag_nt ST c (ch + 1) = ST (4 * c + ch) := by
      unfold ag_nt
      rw [if_neg (by omega), show 4 * c + (ch + 1) - 1 = 4 * c + ch by omega]
    refine pk_le 5 (ch + 1) (fun z => absurd z (by omega)) (fun _ => ag_cho1 ok h4 hc hcc h13 (by omega) (fun a14' => ?_))
    rw [en]
    rcases ok (4 * c + ch) (by omega) with e | ⟨j, hj, e⟩
    · rw [e]
      refine br_t (by decide) (nm_r (nI_1 (ch + 1)) (ih (ch + 1) a14' (by omega) (fun e' he' j hj ej => ?_)))
      by_cases z : e' = ch
      · rw [z, e] at ej
        exact absurd ej (ag_m1 j (by omega))
      · exact hI e' (by omega) j hj ej
    · rw [e]
      refine br_f (nI_pos (by omega)) ⟨pk_in j 1728 (by omega), ?_⟩
      rw [nI_clamp (show j < 2 ^ 31 by omega)]
      refine br_c (fun y => h1 ⟨j, hj, ⟨ch, by omega, e⟩, y⟩ a14') (fun y => nm_r (nI_1 (ch + 1)) (ih (ch + 1) a14' (by omega) (fun e' he' j' hj' ej => ?_)))
      by_cases z : e' = ch
      · rw [z, e, nI_eq (by omega) (by omega)] at ej
        rw [← ej]
        exact y
      · exact hI e' (by omega) j' hj' ej
theorem ag_ri {post : Int32 → St1 → Prop} {ST : Nat → Int32} {c : Nat} {x2 : Int32} (ok : ag_ok ST) (h4 : ∀ i, i < 48 → a4 i = ST i) (hc : ct = nI 1) (hcc : c < 12)
    (h1 : (∃ j, j < 12 ∧ ag_E ST c j ∧ a8 j = x2) → ∀ a13' a14' : Nat → Int32, post 1 (w, pd, ct, be, bs, pf, ps, tn, a1, a2, a3, a4, a5, a6, a7, a8, a9, a10, a11, a12, a13', a14', a15, a16, a17, a18, a19, a20, a21)) (h0 : (¬ ∃ j, j < 12 ∧ ag_E ST c j ∧ a8 j = x2) → ∀ a13' a14' : Nat → Int32, post 0 (w, pd, ct, be, bs, pf, ps, tn, a1, a2, a3, a4, a5, a6, a7, a8, a9, a10, a11, a12, a13', a14', a15, a16, a17, a18, a19, a20, a21)) : wpX_reachesIn post (w, pd, ct, be, bs, pf, ps, tn, a1, a2, a3, a4, a5, a6, a7, a8, a9, a10, a11, a12, a13, a14, a15, a16, a17, a18, a19, a20, a21) (nI c) x2 := by
  unfold wpX_reachesIn
  refine ag_lc (k := 1) (by omega) (by omega) hc (fun a13' h13 => ag_ch1 hc ⟨5, ?_⟩)
  have e13 : a13' 0 = nI c := by
    rw [h13 0 (by omega), Nat.pow_zero, Nat.div_one, Nat.mod_eq_of_lt hcc]
  exact ag_ri13 ok h4 hc hcc e13 (fun h a14' => h1 h a13' a14') (fun h a14' => h0 h a13' a14') 4 0 a14 rfl (fun e he => absurd he (by omega))
theorem ag_ft53 {post : St1 → Prop} {J : (Int32 → Int32 → Int32 → Int32 → Int32 → Int32 → Int32 → Int32 → Int32 → Int32 → (Nat → Int32) → (Nat → Int32) → (Nat → Int32) → (Nat → Int32) → (Nat → Int32) → (Nat → Int32) → (Nat → Int32) → (Nat → Int32) → (Nat → Int32) → (Nat → Int32) → (Nat → Int32) → (Nat → Int32) → (Nat → Int32) → (Nat → Int32) → (Nat → Int32) → (Nat → Int32) → (Nat → Int32) → (Nat → Int32) → (Nat → Int32) → (Nat → Int32) → (Nat → Int32) → Prop)} {ST : Nat → Int32} {g r : Nat} (ok : ag_ok ST) (h4 : ∀ i, i < 48 → a4 i = ST i) (hc : ct = nI 1) (hr : r < 1728)
    (hJ : ∀ (y : Int32) (a8' a13' a14' : Nat → Int32), (∀ i, i < 12 → a8' i = ag_lv (ag_d ST g) (r + 2) i) → (y = 0 → ∀ i, i < 12 → ag_d ST g i ≠ r + 1) → J y (nI (r + 2)) w pd ct be bs pf ps tn a1 a2 a3 a4 a5 a6 a7 a8' a9 a10 a11 a12 a13' a14' a15 a16 a17 a18 a19 a20 a21) :
    ∀ (m s : Nat) (x1 : Int32) (a8 a13 a14 : Nat → Int32), s + m = 1728 → (∀ i, i < 12 → a8 i = if i < s then ag_lv (ag_d ST g) (r + 2) i else ag_lv (ag_d ST g) (r + 1) i) → (x1 = 0 → ∀ i, i < s → i < 12 → ag_d ST g i ≠ r + 1) → wX_findTurnsLeft_53 post J (nI (r + 1)) (m + 1) x1 (nI s) w pd ct be bs pf ps tn a1 a2 a3 a4 a5 a6 a7 a8 a9 a10 a11 a12 a13 a14 a15 a16 a17 a18 a19 a20 a21 := by
  intro m
  induction m with
  | zero =>
    intro s x1 a8 a13 a14 hs hI hx
    exact pk_le 1728 s (fun _ => nm_r (nI_1 (r + 1)) (hJ x1 a8 a13 a14 (fun i hi => by rw [hI i hi, if_pos (by omega)]) (fun z i hi => hx z i (by omega) hi))) (fun z => absurd z (by omega))
  | succ m ih =>
    intro s x1 a8 a13 a14 hs hI hx
    refine pk_le 1728 s (fun z => absurd z (by omega)) (fun _ => ⟨pk_in s 1728 (by omega), ?_⟩)
    rw [nI_clamp (show s < 2 ^ 31 by omega)]
    by_cases h12 : s < 12
    · have hss : a8 s = ag_lv (ag_d ST g) (r + 1) s := by rw [hI s (by omega), if_neg (by omega)]
      have same : ag_d ST g s ≠ r + 1 → ∀ i, i < 12 → a8 i = if i < s + 1 then ag_lv (ag_d ST g) (r + 2) i else ag_lv (ag_d ST g) (r + 1) i := by
        intro hne i hi
        by_cases z : i = s
        · rw [z, if_pos (by omega), hss, ag_lv_s hne]
        · rw [hI i hi]
          by_cases y : i < s
          · rw [if_pos y, if_pos (by omega)]
          · rw [if_neg y, if_neg (by omega)]
      have more : ag_d ST g s ≠ r + 1 → x1 = 0 → ∀ i, i < s + 1 → i < 12 → ag_d ST g i ≠ r + 1 := by
        intro hne z i hi hi2
        by_cases y : i = s
        · rw [y]
          exact hne
        · exact hx z i (by omega) hi2
      have look : ∀ j, j < 12 → (a8 j = nI r ↔ ag_d ST g j = r) := by
        intro j hj
        rw [hI j hj]
        split
        · rw [ag_lv_in (by omega) (by omega)]
          omega
        · rw [ag_lv_in (by omega) (by omega)]
          omega
      rw [hss]
      refine ek_if (ag_lv_nv (by omega)) (fun hn => ag_ms1 hc h12 (fun a13' => br_f (by decide) ?_)) (fun hn => nm_r (nI_1 s) (ih (s + 1) x1 a8 a13 a14 (by omega) (same (by omega)) (more (by omega))))
      have lk : (∃ j, j < 12 ∧ ag_E ST s j ∧ a8 j = nI r) ↔ ag_d ST g s = r + 1 := by
        rw [← ag_ring (by omega) hn]
        constructor
        · rintro ⟨j, hj, he, h8⟩
          exact ⟨j, hj, he, (look j hj).mp h8⟩
        · rintro ⟨j, hj, he, h8⟩
          exact ⟨j, hj, he, (look j hj).mpr h8⟩
      rw [nI_pred r]
      refine ag_ri ok h4 hc h12 (fun hy a13'' a14'' => br_f (by decide) ⟨pk_in s 1728 (by omega), nm_r (e' := upd a8 s (nI (r + 1))) rfl (nm_r (nI_1 s) (ih (s + 1) 1 _ a13'' a14'' (by omega) (fun i hi => ?_) (fun z => absurd z (by decide))))⟩) (fun hy a13'' a14'' => br_t rfl (nm_r (nI_1 s) (ih (s + 1) x1 a8 a13'' a14'' (by omega) (same (fun z => hy (lk.mpr z))) (more (fun z => hy (lk.mpr z))))))
      by_cases z : i = s
      · rw [z, pk_us, if_pos (by omega), ag_lv_e (lk.mp hy)]
      · rw [pk_un z, hI i hi]
        by_cases y : i < s
        · rw [if_pos y, if_pos (by omega)]
        · rw [if_neg y, if_neg (by omega)]
    · have same : ∀ i, i < 12 → a8 i = if i < s + 1 then ag_lv (ag_d ST g) (r + 2) i else ag_lv (ag_d ST g) (r + 1) i := by
        intro i hi
        rw [hI i hi, if_pos (by omega), if_pos (by omega)]
      exact br_c (fun _ => ag_ms0 hc h12 (by omega) (br_t rfl (nm_r (nI_1 s) (ih (s + 1) x1 a8 a13 a14 (by omega) same (fun z i _ hi2 => hx z i (by omega) hi2))))) (fun _ => nm_r (nI_1 s) (ih (s + 1) x1 a8 a13 a14 (by omega) same (fun z i _ hi2 => hx z i (by omega) hi2)))
theorem ag_done {ST : Nat → Int32} {g r : Nat} (h : ∀ i, i < 12 → ag_d ST g i ≠ r) : ∀ n i, i < 12 → ag_d ST g i = r + n → r + n < 1000000 → False := by
  intro n
  induction n with
  | zero => intro i hi e _; exact h i hi e
  | succ n ih =>
    intro i hi e hl
    obtain ⟨j, hj, _, ej⟩ := ag_d2 (show ag_d ST g i = (r + n) + 1 from e) (by omega)
    exact ih j hj ej (by omega)
theorem ag_ft38 {post : St1 → Prop} {ST : Nat → Int32} {g : Nat} (ok : ag_ok ST) (h4 : ∀ i, i < 48 → a4 i = ST i) (hc : ct = nI 1)
    (hp : ∀ a8' a13' a14' : Nat → Int32, (∀ i, i < 12 → a8' i = nI (ag_d ST g i)) → post (w, pd, ct, be, bs, pf, ps, tn, a1, a2, a3, a4, a5, a6, a7, a8', a9, a10, a11, a12, a13', a14', a15, a16, a17, a18, a19, a20, a21)) :
    ∀ (m r : Nat) (x1 : Int32) (a8 a13 a14 : Nat → Int32), r + 1 + m = 1728 → (∀ i, i < 12 → a8 i = ag_lv (ag_d ST g) (r + 1) i) → (x1 = 0 → ∀ i, i < 12 → ag_d ST g i ≠ r) → wX_findTurnsLeft_38 post (m + 1) x1 (nI (r + 1)) w pd ct be bs pf ps tn a1 a2 a3 a4 a5 a6 a7 a8 a9 a10 a11 a12 a13 a14 a15 a16 a17 a18 a19 a20 a21 := by
  have fin : ∀ (r : Nat) (a8 a13 a14 : Nat → Int32), (∀ i, i < 12 → a8 i = ag_lv (ag_d ST g) (r + 1) i) → (∀ i, i < 12 → ag_d ST g i < r + 1 ∨ ag_d ST g i = 1000000) → post (w, pd, ct, be, bs, pf, ps, tn, a1, a2, a3, a4, a5, a6, a7, a8, a9, a10, a11, a12, a13, a14, a15, a16, a17, a18, a19, a20, a21) := by
    intro r a8 a13 a14 hI hd
    refine hp a8 a13 a14 (fun i hi => ?_)
    rw [hI i hi]
    unfold ag_lv
    by_cases z : ag_d ST g i < r + 1
    · rw [if_pos z]
    · rw [if_neg z]
      rcases hd i hi with y | y
      · exact absurd y z
      · rw [y]
        rfl
  intro m
  induction m with
  | zero =>
    intro r x1 a8 a13 a14 hr hI hx
    refine pk_le 1728 (r + 1) (fun _ => fin r a8 a13 a14 hI (fun i hi => ?_)) (fun z => absurd z (by omega))
    rcases ag_d4 ST g i hi with e | e
    · exact Or.inl (by omega)
    · exact Or.inr e
  | succ m ih =>
    intro r x1 a8 a13 a14 hr hI hx
    refine pk_le 1728 (r + 1) (fun z => absurd z (by omega)) (fun _ => br_c (fun hz => fin r a8 a13 a14 hI (fun i hi => ?_)) (fun hz => ⟨1728 + 1, ag_ft53 ok h4 hc (by omega) (fun y a8' a13' a14' h8 hy => ih (r + 1) y a8' a13' a14' (by omega) h8 hy) 1728 0 0 a8 a13 a14 rfl (fun i hi => ?_) (fun _ i hi => absurd hi (by omega))⟩))
    · rcases Nat.lt_or_ge (ag_d ST g i) r with z | z
      · exact Or.inl (by omega)
      · rcases ag_d4 ST g i hi with e | e
        · exact absurd (ag_done (hx hz) (ag_d ST g i - r) i hi (by omega) (by omega)) (fun z => z)
        · exact Or.inr e
    · rw [if_neg (by omega)]
      exact hI i hi
theorem ag_ft2 {post : St1 → Prop} (h : ∀ a8' : Nat → Int32, (∀ j, j < 1728 → a8' j = 1000000) → wpX_stateOf (fun r => (vp_in r 1728 ∧ ∀ am, am = upd a8' r.toNatClampNeg 0 → ∃ fu38 : Nat, wX_findTurnsLeft_38 post fu38 1 1 w pd ct be bs pf ps tn a1 a2 a3 a4 a5 a6 a7 am a9 a10 a11 a12 a13 a14 a15 a16 a17 a18 a19 a20 a21)) (w, pd, ct, be, bs, pf, ps, tn, a1, a2, a3, a4, a5, a6, a7, a8', a9, a10, a11, a12, a13, a14, a15, a16, a17, a18, a19, a20, a21) 1) :
    ∀ (m i : Nat) (a8 : Nat → Int32), i + m = 1728 → (∀ j, j < i → a8 j = 1000000) → wX_findTurnsLeft_2 post w pd ct be bs pf ps tn (m + 1) (nI i) a1 a2 a3 a4 a5 a6 a7 a8 a9 a10 a11 a12 a13 a14 a15 a16 a17 a18 a19 a20 a21 := by
  intro m
  induction m with
  | zero =>
    intro i a8 hi h8
    exact pk_le 1728 i (fun _ => h a8 (fun j hj => h8 j (by omega))) (fun z => absurd z (by omega))
  | succ m ih =>
    intro i a8 hi h8
    exact pk_le 1728 i (fun z => absurd z (by omega)) (fun _ => ⟨pk_in i 1728 (by omega), nm_r (e' := upd a8 i 1000000) (by rw [nI_clamp (by omega)]) (nm_r (nI_1 i) (ih (i + 1) _ (by omega) (ag_fill (f := fun _ => 1000000) h8 rfl)))⟩)
theorem ag_ft {post : St1 → Prop} {ST : Nat → Int32} {i g : Nat} (ok : ag_ok ST) (h4 : ∀ i, i < 48 → a4 i = ST i) (hc : ct = nI 1) (hi : i < 3) (h7 : a7 0 = nI i) (hg : g < 12) (h3 : a3 i = nI g)
    (hp : ∀ a8' a13' a14' : Nat → Int32, (∀ i, i < 12 → a8' i = nI (ag_d ST g i)) → post (w, pd, ct, be, bs, pf, ps, tn, a1, a2, a3, a4, a5, a6, a7, a8', a9, a10, a11, a12, a13', a14', a15, a16, a17, a18, a19, a20, a21)) : wpX_findTurnsLeft post (w, pd, ct, be, bs, pf, ps, tn, a1, a2, a3, a4, a5, a6, a7, a8, a9, a10, a11, a12, a13, a14, a15, a16, a17, a18, a19, a20, a21) := by
  unfold wpX_findTurnsLeft
  refine ⟨1728 + 1, ag_ft2 (fun a8' h8 => ?_) 1728 0 a8 rfl (fun j hj => absurd hj (by omega))⟩
  have es : ag_sv (fun _ => g) 1 = g := by show 0 + 12 ^ 0 * g = g; omega
  refine ag_so (k := 1) (wh := fun _ => i) (vs := fun _ => g) (by omega) (fun j hj => ⟨hi, ?_⟩) (fun z => absurd z (by decide)) (fun _ j hj => h3) hc ?_
  · have : j = 0 := by omega
    rw [this]
    exact h7
  · rw [es]
    refine ⟨pk_in g 1728 (by omega), nm_r (e' := upd a8' g 0) (by rw [nI_clamp (by omega)]) ⟨1727 + 1, ag_ft38 ok h4 hc hp 1727 0 1 _ a13 a14 rfl (fun j hj => ?_) (fun z => absurd z (by decide))⟩⟩
    by_cases e : j = g
    · rw [e, pk_us, ag_lv_e ((ag_d3 ST g g).mpr rfl)]
      rfl
    · rw [pk_un e, h8 j (by omega)]
      exact ((ag_lv_nv (by omega)).mpr (fun z => e ((ag_d3 ST g j).mp (by omega)))).symm
theorem ag_key {post : Int32 → Prop} {q : Nat} (hc : ct = nI 1) (hq : q < 12) (hp : post (nI q)) : wpX_keyOf post (w, pd, ct, be, bs, pf, ps, tn, a1, a2, a3, a4, a5, a6, a7, a8, a9, a10, a11, a12, a13, a14, a15, a16, a17, a18, a19, a20, a21) (nI q) := by
  unfold wpX_keyOf
  refine ⟨2, pk_le 1 0 (fun z => absurd z (by omega)) (fun _ => ⟨by decide, nm_r (e' := nI q) ?_ ⟨by decide, nm_e (nm_r (nI_1 0) (pk_le 1 1 (fun _ => hp) (fun z => absurd z (by omega)) hc))⟩⟩) hc⟩
  rw [show nI q - nI q / 12 * 12 = nI (q % 12) from pk_rem (d := 12) (by omega) (by omega) (by omega), show (0 : Int32) = nI 0 from rfl, ag_ix12, Nat.mod_eq_of_lt hq]
  exact congrArg nI (by omega)
end
theorem ag_fn30 {ST : Nat → Int32} {g c : Nat} (ok : ag_ok ST) (hcc : c < 12) (h1 : 1 ≤ ag_d ST g c) (h11 : ag_d ST g c ≤ 11) :
    ∀ (m ch : Nat) (x4 x5 : Int32), ch + m = 5 → ((x4 = -1 ∧ x5 = 1728 ∧ ∀ e, e < ch → ∀ j, j < 12 → ag_nt ST c e = nI j → ¬ ag_d ST g j + 1 = ag_d ST g c) ∨ ∃ j, j < 12 ∧ x4 = nI j ∧ ag_E ST c j ∧ ag_d ST g j + 1 = ag_d ST g c) → ∃ q, q < 12 ∧ ag_E ST c q ∧ ag_d ST g q + 1 = ag_d ST g c ∧ ∀ (w pd ct be bs pf ps tn : Int32) (a1 a2 a3 a4 a5 a6 a7 a8 a9 a10 a11 a12 a13 a14 a15 a16 a17 a18 a19 a20 a21 : Nat → Int32) (post : Int32 → St1 → Prop), (∀ i, i < 48 → a4 i = ST i) → ct = nI 1 → a13 0 = nI c → (∀ i, i < 12 → a8 i = nI (ag_d ST g i)) → (∀ a14' : Nat → Int32, post (nI q) (w, pd, ct, be, bs, pf, ps, tn, a1, a2, a3, a4, a5, a6, a7, a8, a9, a10, a11, a12, a13, a14', a15, a16, a17, a18, a19, a20, a21)) → wX_firstNext_30 post (nI c) (nI (ag_d ST g c - 1)) (nI 5) (m + 1) x4 x5 (nI ch) w pd ct be bs pf ps tn a1 a2 a3 a4 a5 a6 a7 a8 a9 a10 a11 a12 a13 a14 a15 a16 a17 a18 a19 a20 a21 := by
  intro m
  induction m with
  | zero =>
    intro ch x4 x5 hch hI
    rcases hI with ⟨_, _, hn⟩ | ⟨j, hj, e, he, hd⟩
    · obtain ⟨j, hj, ⟨d, hd, ed⟩, e2⟩ := ag_d2 (show ag_d ST g c = (ag_d ST g c - 1) + 1 by omega) (by omega)
      refine absurd ?_ (hn (d + 1) (by omega) j hj ?_)
      · omega
      · unfold ag_nt
        rw [if_neg (by omega)]
        exact ed
    · exact ⟨j, hj, he, hd, fun w pd ct be bs pf ps tn a1 a2 a3 a4 a5 a6 a7 a8 a9 a10 a11 a12 a13 a14 a15 a16 a17 a18 a19 a20 a21 post h4 hc h13 h8 hp => pk_le 5 ch (fun _ => br_t (by rw [e]; exact nI_pos' (by omega)) (by rw [e]; exact hp a14)) (fun z => absurd z (by omega))⟩
  | succ m ih =>
    intro ch x4 x5 hch hI
    rcases ag_nt_ok ok hcc (show ch < 5 by omega) with e | ⟨j, hj, e⟩
    · obtain ⟨q, hq, he, hd, hv⟩ := ih (ch + 1) x4 x5 (by omega) (by
        rcases hI with ⟨k1, k2, hn⟩ | h
        · refine Or.inl ⟨k1, k2, fun e' he' j hj ej => ?_⟩
          by_cases z : e' = ch
          · rw [z, e] at ej
            exact absurd ej (ag_m1 j (by omega))
          · exact hn e' (by omega) j hj ej
        · exact Or.inr h)
      exact ⟨q, hq, he, hd, fun w pd ct be bs pf ps tn a1 a2 a3 a4 a5 a6 a7 a8 a9 a10 a11 a12 a13 a14 a15 a16 a17 a18 a19 a20 a21 post h4 hc h13 h8 hp => pk_le 5 ch (fun z => absurd z (by omega)) (fun _ => ag_cho1 ok h4 hc hcc h13 (by omega) (fun a14' => by rw [e]; exact br_t (by decide) (nm_r (nI_1 ch) (hv w pd ct be bs pf ps tn a1 a2 a3 a4 a5 a6 a7 a8 a9 a10 a11 a12 a13 a14' a15 a16 a17 a18 a19 a20 a21 post h4 hc h13 h8 hp))))⟩
    · by_cases hm : ag_d ST g j + 1 = ag_d ST g c
      · have hne : ch ≠ 0 := by
          intro z
          unfold ag_nt at e
          rw [if_pos z, nI_eq (by omega) (by omega)] at e
          rw [e] at hm
          omega
        have hE := ag_nt_E hne (by omega) e
        by_cases hl : x5 ≤ nI j
        · obtain ⟨q, hq, he, hd, hv⟩ := ih (ch + 1) x4 x5 (by omega) (by
            rcases hI with ⟨k1, k2, hn⟩ | h
            · rw [k2] at hl
              exact absurd hl (nI_ge (b := 1728) (by omega) (by omega))
            · exact Or.inr h)
          exact ⟨q, hq, he, hd, fun w pd ct be bs pf ps tn a1 a2 a3 a4 a5 a6 a7 a8 a9 a10 a11 a12 a13 a14 a15 a16 a17 a18 a19 a20 a21 post h4 hc h13 h8 hp => pk_le 5 ch (fun z => absurd z (by omega)) (fun _ => ag_cho1 ok h4 hc hcc h13 (by omega) (fun a14' => by rw [e]; exact br_f (nI_pos (by omega)) ⟨pk_in j 1728 (by omega), br_t (by rw [nI_clamp (by omega), h8 j hj]; exact congrArg nI (by omega)) (ag_key hc hj (br_t hl (nm_r (nI_1 ch) (hv w pd ct be bs pf ps tn a1 a2 a3 a4 a5 a6 a7 a8 a9 a10 a11 a12 a13 a14' a15 a16 a17 a18 a19 a20 a21 post h4 hc h13 h8 hp))))⟩))⟩
        · obtain ⟨q, hq, he, hd, hv⟩ := ih (ch + 1) (nI j) (nI j) (by omega) (Or.inr ⟨j, hj, rfl, hE, hm⟩)
          exact ⟨q, hq, he, hd, fun w pd ct be bs pf ps tn a1 a2 a3 a4 a5 a6 a7 a8 a9 a10 a11 a12 a13 a14 a15 a16 a17 a18 a19 a20 a21 post h4 hc h13 h8 hp => pk_le 5 ch (fun z => absurd z (by omega)) (fun _ => ag_cho1 ok h4 hc hcc h13 (by omega) (fun a14' => by rw [e]; exact br_f (nI_pos (by omega)) ⟨pk_in j 1728 (by omega), br_t (by rw [nI_clamp (by omega), h8 j hj]; exact congrArg nI (by omega)) (ag_key hc hj (br_f hl (nm_r (nI_1 ch) (hv w pd ct be bs pf ps tn a1 a2 a3 a4 a5 a6 a7 a8 a9 a10 a11 a12 a13 a14' a15 a16 a17 a18 a19 a20 a21 post h4 hc h13 h8 hp))))⟩))⟩
      · obtain ⟨q, hq, he, hd, hv⟩ := ih (ch + 1) x4 x5 (by omega) (by
          rcases hI with ⟨k1, k2, hn⟩ | h
          · refine Or.inl ⟨k1, k2, fun e' he' j' hj' ej => ?_⟩
            by_cases z : e' = ch
            · rw [z, e, nI_eq (by omega) (by omega)] at ej
              rw [← ej]
              exact hm
            · exact hn e' (by omega) j' hj' ej
          · exact Or.inr h)
        have hj4 := ag_dlt ST g j hj
        exact ⟨q, hq, he, hd, fun w pd ct be bs pf ps tn a1 a2 a3 a4 a5 a6 a7 a8 a9 a10 a11 a12 a13 a14 a15 a16 a17 a18 a19 a20 a21 post h4 hc h13 h8 hp => pk_le 5 ch (fun z => absurd z (by omega)) (fun _ => ag_cho1 ok h4 hc hcc h13 (by omega) (fun a14' => by rw [e]; exact br_f (nI_pos (by omega)) ⟨pk_in j 1728 (by omega), br_f (by rw [nI_clamp (by omega), h8 j hj, nI_eq (by omega) (by omega)]; omega) (nm_r (nI_1 ch) (hv w pd ct be bs pf ps tn a1 a2 a3 a4 a5 a6 a7 a8 a9 a10 a11 a12 a13 a14' a15 a16 a17 a18 a19 a20 a21 post h4 hc h13 h8 hp))⟩))⟩
theorem ag_fn {ST : Nat → Int32} {g c : Nat} (ok : ag_ok ST) (hcc : c < 12) (h1 : 1 ≤ ag_d ST g c) (h11 : ag_d ST g c ≤ 11) : ∃ q, q < 12 ∧ ag_E ST c q ∧ ag_d ST g q + 1 = ag_d ST g c ∧ ∀ (w pd ct be bs pf ps tn : Int32) (a1 a2 a3 a4 a5 a6 a7 a8 a9 a10 a11 a12 a13 a14 a15 a16 a17 a18 a19 a20 a21 : Nat → Int32) (post : Int32 → St1 → Prop), (∀ i, i < 48 → a4 i = ST i) → ct = nI 1 → (∀ i, i < 12 → a8 i = nI (ag_d ST g i)) → (∀ a13' a14' : Nat → Int32, post (nI q) (w, pd, ct, be, bs, pf, ps, tn, a1, a2, a3, a4, a5, a6, a7, a8, a9, a10, a11, a12, a13', a14', a15, a16, a17, a18, a19, a20, a21)) → wpX_firstNext post (w, pd, ct, be, bs, pf, ps, tn, a1, a2, a3, a4, a5, a6, a7, a8, a9, a10, a11, a12, a13, a14, a15, a16, a17, a18, a19, a20, a21) (nI c) := by
  obtain ⟨q, hq, he, hd, hv⟩ := ag_fn30 ok hcc h1 h11 5 0 (-1) 1728 rfl (Or.inl ⟨rfl, rfl, fun e he => absurd he (by omega)⟩)
  refine ⟨q, hq, he, hd, fun w pd ct be bs pf ps tn a1 a2 a3 a4 a5 a6 a7 a8 a9 a10 a11 a12 a13 a14 a15 a16 a17 a18 a19 a20 a21 post h4 hc h8 hp => ?_⟩
  unfold wpX_firstNext
  refine ag_lc (k := 1) (by omega) (by omega) hc (fun a13' h13 => ⟨pk_in c 1728 (by omega), nm_r (e' := nI (ag_d ST g c - 1)) ?_ (ag_ch1 hc ⟨6, hv w pd ct be bs pf ps tn a1 a2 a3 a4 a5 a6 a7 a8 a9 a10 a11 a12 a13' a14 a15 a16 a17 a18 a19 a20 a21 post h4 hc ?_ h8 (fun a14' => hp a13' a14')⟩)⟩)
  · rw [nI_clamp (by omega), h8 c hcc, show (1 : Int32) = nI 1 from rfl, pk_sub h1]
  · rw [h13 0 (by omega), Nat.pow_zero, Nat.div_one, Nat.mod_eq_of_lt hcc]
section
variable {w pd : Int32} {a1 a2 a3 : Nat → Int32}
theorem ag_ca82 {i p g n t : Nat} (hi : i < 3) (hn : n ≤ 11) (ht : t ≤ n) : ∀ (m x c : Nat), x + m = t → c < 12 → ag_F (ag_ST w a1) p x c → ag_d (ag_ST w a1) g c + x = n → ag_bt w c = false → ∃ q, q < 12 ∧ ag_F (ag_ST w a1) p t q ∧ ag_d (ag_ST w a1) g q + t = n ∧ ag_bt w q = false ∧ ∀ (ct be bs pf ps tn : Int32) (a4 a5 a6 a7 a8 a9 a10 a11 a12 a13 a14 a15 a16 a17 a18 a19 a20 a21 : Nat → Int32) (post : Int32 → St1 → Prop), (∀ i, i < 48 → a4 i = ag_ST w a1 i) → ct = nI 1 → a7 0 = nI i → (∀ i, i < 12 → a8 i = nI (ag_d (ag_ST w a1) g i)) → (∀ u', ag_is w pd a1 a2 a3 u' → post (nI q) u') → wX_cellAt_82 post (nI i) (nI t) (m + 1) (nI c) (nI x) w pd ct be bs pf ps tn a1 a2 a3 a4 a5 a6 a7 a8 a9 a10 a11 a12 a13 a14 a15 a16 a17 a18 a19 a20 a21 := by
  intro m
  induction m with
  | zero =>
    intro x c hx hc hF hd ho
    have e : x = t := by omega
    subst e
    refine ⟨c, hc, hF, hd, ho, fun ct be bs pf ps tn a4 a5 a6 a7 a8 a9 a10 a11 a12 a13 a14 a15 a16 a17 a18 a19 a20 a21 post h4 hct h7 h8 hp => pk_le x x (fun _ => ag_lc (k := 1) (by omega) (by omega) hct (fun a13' h13 => ⟨1, ?_⟩)) (fun z => absurd z (by omega))⟩
    refine pk_le 1 0 (fun z => absurd z (by omega)) (fun _ => ⟨pk_in 0 3 (by omega), br_t h7 ⟨pk_in 0 3 (by omega), ?_⟩⟩) hct
    have e13 : a13' (0 : Int32).toNatClampNeg = nI c := by
      show a13' 0 = nI c
      rw [h13 0 (by omega), Nat.pow_zero, Nat.div_one, Nat.mod_eq_of_lt hc]
    rw [e13]
    exact hp _ ⟨rfl, rfl, rfl, rfl, rfl⟩
  | succ m ih =>
    intro x c hx hc hF hd ho
    obtain ⟨j, hj, he, hdj, hv⟩ := ag_fn (ag_STok w a1) (g := g) hc (by omega) (by omega)
    obtain ⟨d, hd4, ed⟩ := id he
    have hoj : ag_bt w j = false := by
      rcases ag_STo w a1 (show 4 * c + d < 48 by omega) with z | ⟨j', hj', e', o'⟩
      · exact absurd (z.symm.trans ed) (ag_m1 j (by omega))
      · have : j' = j := (nI_eq (by omega) (by omega)).mp (e'.symm.trans ed)
        rw [← this]
        exact o'
    obtain ⟨q, hq, hFq, hdq, hoq, hw⟩ := ih (x + 1) j (by omega) hj (Or.inr ⟨c, hc, hF, he⟩) (by omega) hoj
    exact ⟨q, hq, hFq, hdq, hoq, fun ct be bs pf ps tn a4 a5 a6 a7 a8 a9 a10 a11 a12 a13 a14 a15 a16 a17 a18 a19 a20 a21 post h4 hct h7 h8 hp => pk_le t x (fun z => absurd z (by omega)) (fun _ => hv w pd ct be bs pf ps tn a1 a2 a3 a4 a5 a6 a7 a8 a9 a10 a11 a12 a13 a14 a15 a16 a17 a18 a19 a20 a21 _ h4 hct h8 (fun a13' a14' => nm_r (nI_1 x) (hw ct be bs pf ps tn a4 a5 a6 a7 a8 a9 a10 a11 a12 a13' a14' a15 a16 a17 a18 a19 a20 a21 post h4 hct h7 h8 hp)))⟩
theorem ag_qC {i t : Nat} (hi : i < 3) (ht : t < 100) (g2 : ag_g3 a2) (g3 : ag_g3 a3) : ∃ v : Int32, ag_Q w pd a1 a2 a3 (fun post u => wpX_cellAt post u (nI (2 ^ i)) (nI i) (nI t)) v ∧ (ag_rd w pd a2 a3 (2 ^ i) → t ≤ ag_n w a1 a2 a3 i → ag_n w a1 a2 a3 i ≤ 11 → ∃ c, c < 12 ∧ v = nI c ∧ ag_F (ag_ST w a1) (a2 i).toNatClampNeg t c ∧ ag_d (ag_ST w a1) (a3 i).toNatClampNeg c + t = ag_n w a1 a2 a3 i ∧ ag_bt w c = false) := by
  have t8 := ag_tm8 (ag_2t hi)
  by_cases r : ag_rd w pd a2 a3 (2 ^ i)
  · rcases ag_pv0 (ag_n4 (w := w) (a1 := a1) (a3 := a3) g2 hi) with ⟨h11, ev, h0, _⟩ | ⟨h11, ev, h0, _⟩
    · have pre : ∀ (ct be bs pf ps tn : Int32) (a4 a5 a6 a7 a8 a9 a10 a11 a12 a13 a14 a15 a16 a17 a18 a19 a20 a21 : Nat → Int32) (post : Int32 → St1 → Prop), (t ≤ ag_n w a1 a2 a3 i → ∀ (ct be bs pf ps tn : Int32) (a4 a5 a6 a7 a8 a9 a10 a11 a12 a13 a14 a15 a16 a17 a18 a19 a20 a21 : Nat → Int32), (∀ i, i < 48 → a4 i = ag_ST w a1 i) → ct = nI 1 → a7 0 = nI i → (∀ j, j < 12 → a8 j = nI (ag_d (ag_ST w a1) (a3 i).toNatClampNeg j)) → ∃ n, wX_cellAt_82 post (nI i) (nI t) n (nI (a2 i).toNatClampNeg) 0 w pd ct be bs pf ps tn a1 a2 a3 a4 a5 a6 a7 a8 a9 a10 a11 a12 a13 a14 a15 a16 a17 a18 a19 a20 a21) → (ag_n w a1 a2 a3 i < t → ∀ u', ag_is w pd a1 a2 a3 u' → post (-4) u') → wpX_cellAt post (w, pd, ct, be, bs, pf, ps, tn, a1, a2, a3, a4, a5, a6, a7, a8, a9, a10, a11, a12, a13, a14, a15, a16, a17, a18, a19, a20, a21) (nI (2 ^ i)) (nI i) (nI t) := by
        intro ct be bs pf ps tn a4 a5 a6 a7 a8 a9 a10 a11 a12 a13 a14 a15 a16 a17 a18 a19 a20 a21 post q1 q2
        unfold wpX_cellAt
        refine ag_isReady (by omega) g2 g3 (fun _ => br_f (by decide) (ag_plan1 hi g2 g3 (fun a4' a5' a6' a15' a16' h4 => br_t h0 (br_f (nI_pos (by omega)) (pk_le 3 i (fun z => absurd z (by omega)) (fun _ => br_f ?_ (br_f (nI_pos (by omega)) ?_))))))) (fun z => absurd r z)
        · rcases (show i = 0 ∨ i = 1 ∨ i = 2 by omega) with h | h | h <;> subst h <;> decide
        · rw [ev]
          refine pk_le t (ag_n w a1 a2 a3 i) (fun z => ?_) (fun z => q2 z _ ⟨rfl, rfl, rfl, rfl, rfl⟩)
          obtain ⟨k, wh, hk, ek, hw, h1, _⟩ := ag_who (ag_2t hi)
          obtain ⟨k1, w1⟩ := h1 i hi rfl
          refine ag_ga t8 (fun a7' h7 => ?_)
          rw [ek, k1]
          have e7 : a7' 0 = nI i := by
            have := h7 i hi ((ag_2b i hi i hi).mpr rfl)
            have c0 := (hw 0 (by omega)).2.2
            rw [w1] at c0
            rw [c0] at this
            exact this
          refine ag_ft (ag_STok w a1) h4 rfl hi e7 (ag_g3c g3 hi).1 (ag_g3c g3 hi).2 (fun a8' a13' a14' h8 => ?_)
          have es : ag_sv (fun _ => (a2 i).toNatClampNeg) 1 = (a2 i).toNatClampNeg := by show 0 + 12 ^ 0 * (a2 i).toNatClampNeg = _; omega
          refine ag_so (k := 1) (wh := fun _ => i) (vs := fun _ => (a2 i).toNatClampNeg) (by omega) (fun j hj => ⟨hi, ?_⟩) (fun _ j hj => (ag_g3c g2 hi).2) (fun z => absurd rfl z) rfl ?_
          · rw [show j = 0 by omega]
            exact e7
          · rw [es]
            exact q1 z _ _ _ _ _ _ _ _ _ _ _ _ _ _ _ _ _ _ _ _ _ _ _ _ h4 rfl e7 h8
      by_cases hl : t ≤ ag_n w a1 a2 a3 i
      · obtain ⟨q, hq, hF, hd, ho, hv⟩ := ag_ca82 (w := w) (pd := pd) (a1 := a1) (a2 := a2) (a3 := a3) (i := i) (p := (a2 i).toNatClampNeg) (g := (a3 i).toNatClampNeg) hi h11 hl t 0 (a2 i).toNatClampNeg (by omega) (ag_g3c g2 hi).1 rfl rfl (r.2.2.2.1 i hi ((ag_2b i hi i hi).mpr rfl)).1
        exact ⟨nI q, ag_Qi (fun ct be bs pf ps tn a4 a5 a6 a7 a8 a9 a10 a11 a12 a13 a14 a15 a16 a17 a18 a19 a20 a21 post hp => pre ct be bs pf ps tn a4 a5 a6 a7 a8 a9 a10 a11 a12 a13 a14 a15 a16 a17 a18 a19 a20 a21 post (fun _ ct be bs pf ps tn a4 a5 a6 a7 a8 a9 a10 a11 a12 a13 a14 a15 a16 a17 a18 a19 a20 a21 h4 hc h7 h8 => ⟨t + 1, hv ct be bs pf ps tn a4 a5 a6 a7 a8 a9 a10 a11 a12 a13 a14 a15 a16 a17 a18 a19 a20 a21 post h4 hc h7 h8 hp⟩) (fun z => absurd z (by omega))), fun _ _ _ => ⟨q, hq, rfl, hF, hd, ho⟩⟩
      · exact ⟨-4, ag_Qi (fun ct be bs pf ps tn a4 a5 a6 a7 a8 a9 a10 a11 a12 a13 a14 a15 a16 a17 a18 a19 a20 a21 post hp => pre ct be bs pf ps tn a4 a5 a6 a7 a8 a9 a10 a11 a12 a13 a14 a15 a16 a17 a18 a19 a20 a21 post (fun z => absurd z hl) (fun _ => hp)), fun _ z => absurd z hl⟩
    · refine ⟨-2, ag_Qi (fun ct be bs pf ps tn a4 a5 a6 a7 a8 a9 a10 a11 a12 a13 a14 a15 a16 a17 a18 a19 a20 a21 post hp => ?_), fun _ _ z => absurd z (by omega)⟩
      unfold wpX_cellAt
      exact ag_isReady (by omega) g2 g3 (fun _ => br_f (by decide) (ag_plan1 hi g2 g3 (fun a4' a5' a6' a15' a16' _ => br_f h0 (hp _ ⟨rfl, rfl, rfl, rfl, rfl⟩)))) (fun z => absurd r z)
  · refine ⟨-1, ag_Qi (fun ct be bs pf ps tn a4 a5 a6 a7 a8 a9 a10 a11 a12 a13 a14 a15 a16 a17 a18 a19 a20 a21 post hp => ?_), fun z => absurd z r⟩
    unfold wpX_cellAt
    exact ag_isReady (by omega) g2 g3 (fun z => absurd z r) (fun _ => br_t rfl (hp _ ⟨rfl, rfl, rfl, rfl, rfl⟩))
end
end
section
/-! one search of swarm: the nodes found (S: how many, by which node each was come, the line of them) -/
abbrev ag_SS : Type := Nat × (Nat → Int32) × (Nat → Nat)
def ag_push (x y : Nat) (S : ag_SS) : ag_SS := (S.1 + 1, upd S.2.1 x (nI y), fun p => if p = S.1 then x else S.2.2 p)
def ag_add (x y : Nat) (S : ag_SS) : ag_SS := if S.2.1 x < 0 then ag_push x y S else S
/-- the line holds different nodes, just those that were come to, each by one that stands earlier (or by itself) -/
def ag_I (N : Nat) (S : ag_SS) : Prop := (∀ p, p < S.1 → S.2.2 p < N ∧ ¬ S.2.1 (S.2.2 p) < 0) ∧ (∀ p q, p < q → q < S.1 → S.2.2 p ≠ S.2.2 q) ∧ (∀ y, y < N → ¬ S.2.1 y < 0 → ∃ p, p < S.1 ∧ S.2.2 p = y) ∧ (∀ p, p < S.1 → ∃ q, q ≤ p ∧ S.2.1 (S.2.2 p) = nI (S.2.2 q))
theorem ag_I_le {N : Nat} {S : ag_SS} (h : ag_I N S) : S.1 ≤ N := ag_pig N S.1 S.2.2 (fun i hi => (h.1 i hi).1) h.2.1
theorem ag_I_ne {N x : Nat} {S : ag_SS} (h : ag_I N S) (hn : S.2.1 x < 0) : ∀ p, p < S.1 → S.2.2 p ≠ x := fun p hp e => (h.1 p hp).2 (by rw [e]; exact hn)
theorem ag_I_lt {N x : Nat} {S : ag_SS} (h : ag_I N S) (hx : x < N) (hn : S.2.1 x < 0) : S.1 < N := by
  have ne := ag_I_ne h hn
  have := ag_pig N (S.1 + 1) (fun p => if p = S.1 then x else S.2.2 p) (fun i hi => by
    by_cases e : i = S.1
    · rw [if_pos e]; exact hx
    · rw [if_neg e]; exact (h.1 i (by omega)).1) (fun i j hij hj => by
    rw [if_neg (show i ≠ S.1 by omega)]
    by_cases e : j = S.1
    · rw [if_pos e]; exact ne i (by omega)
    · rw [if_neg e]; exact h.2.1 i j hij (by omega))
  omega
theorem ag_I_push {N x y : Nat} {S : ag_SS} (hN : N ≤ 648) (h : ag_I N S) (hx : x < N) (hn : S.2.1 x < 0) (hy : y = x ∨ ∃ p, p < S.1 ∧ S.2.2 p = y) : ag_I N (ag_push x y S) := by
  have ne := ag_I_ne h hn
  have hy648 : y < 648 := by
    rcases hy with e | ⟨p, hp, e⟩
    · omega
    · have := (h.1 p hp).1
      omega
  have L0 : ∀ p, p < S.1 → (ag_push x y S).2.2 p = S.2.2 p := fun p hp => if_neg (by omega)
  have L1 : (ag_push x y S).2.2 S.1 = x := if_pos rfl
  have C0 : ∀ p, p < S.1 → (ag_push x y S).2.1 (S.2.2 p) = S.2.1 (S.2.2 p) := fun p hp => pk_un (ne p hp)
  have C1 : (ag_push x y S).2.1 x = nI y := pk_us
  refine ⟨fun p hp => ?_, fun p q hpq hq => ?_, fun z hz hv => ?_, fun p hp => ?_⟩
  · by_cases e : p = S.1
    · rw [e, L1, C1]
      exact ⟨hx, nI_pos (by omega)⟩
    · have hp' : p < S.1 := by
        have : p < S.1 + 1 := hp
        omega
      rw [L0 p hp', C0 p hp']
      exact h.1 p hp'
  · have hq' : q < S.1 + 1 := hq
    rw [L0 p (by omega)]
    by_cases e : q = S.1
    · rw [e, L1]
      exact ne p (by omega)
    · rw [L0 q (by omega)]
      exact h.2.1 p q hpq (by omega)
  · by_cases e : z = x
    · exact ⟨S.1, Nat.lt_succ_self _, by rw [L1, e]⟩
    · have e2 : (ag_push x y S).2.1 z = S.2.1 z := pk_un e
      rw [e2] at hv
      obtain ⟨p, hp, ep⟩ := h.2.2.1 z hz hv
      exact ⟨p, Nat.lt_succ_of_lt hp, by rw [L0 p hp, ep]⟩
  · by_cases e : p = S.1
    · rw [e, L1, C1]
      rcases hy with ey | ⟨q, hq, ey⟩
      · exact ⟨S.1, Nat.le_refl _, by rw [L1, ey]⟩
      · exact ⟨q, by omega, by rw [L0 q hq, ey]⟩
    · have hp' : p < S.1 := by
        have : p < S.1 + 1 := hp
        omega
      obtain ⟨q, hq, eq⟩ := h.2.2.2 p hp'
      exact ⟨q, hq, by rw [L0 p hp', C0 p hp', L0 q (by omega), eq]⟩
/-- S' is S and the nodes of P, all come to by y -/
def ag_R (N y : Nat) (P : Nat → Prop) (S S' : ag_SS) : Prop := ag_I N S' ∧ S.1 ≤ S'.1 ∧ (∀ p, p < S.1 → S'.2.2 p = S.2.2 p) ∧ (∀ z, ¬ S.2.1 z < 0 → S'.2.1 z = S.2.1 z) ∧ (∀ z, z < N → (¬ S'.2.1 z < 0 ↔ (¬ S.2.1 z < 0 ∨ P z))) ∧ (∀ z, S.2.1 z < 0 → ¬ S'.2.1 z < 0 → S'.2.1 z = nI y)
theorem ag_R_0 {N y : Nat} {P : Nat → Prop} {S : ag_SS} (h : ag_I N S) (hP : ∀ z, z < N → ¬ P z) : ag_R N y P S S :=
  ⟨h, Nat.le_refl _, fun _ _ => rfl, fun _ _ => rfl, fun z hz => ⟨Or.inl, fun g => g.elim id (fun q => absurd q (hP z hz))⟩, fun z h1 h2 => absurd h1 h2⟩
theorem ag_R_t {N y : Nat} {P Q O : Nat → Prop} {S S' S'' : ag_SS} (h : ag_R N y P S S') (h' : ag_R N y Q S' S'') (hO : ∀ z, z < N → (O z ↔ (P z ∨ Q z))) : ag_R N y O S S'' := by
  obtain ⟨i1, i2, i3, i4, i5, i6⟩ := h
  obtain ⟨j1, j2, j3, j4, j5, j6⟩ := h'
  refine ⟨j1, by omega, fun p hp => by rw [j3 p (by omega), i3 p hp], fun z hz => ?_, fun z hz => ?_, fun z hz hz2 => ?_⟩
  · rw [j4 z (by rw [i4 z hz]; exact hz), i4 z hz]
  · rw [j5 z hz, i5 z hz, hO z hz, or_assoc]
  · by_cases g : S'.2.1 z < 0
    · exact j6 z g hz2
    · rw [j4 z g]
      exact i6 z hz g
theorem ag_R_add {N x y : Nat} {P : Nat → Prop} {S : ag_SS} (hN : N ≤ 648) (h : ag_I N S) (hx : x < N) (hy : ∃ p, p < S.1 ∧ S.2.2 p = y) (hP : ∀ z, z < N → (P z ↔ z = x)) : ag_R N y P S (ag_add x y S) := by
  unfold ag_add
  by_cases hn : S.2.1 x < 0
  · rw [if_pos hn]
    have hy648 : y < 648 := by
      obtain ⟨p, hp, e⟩ := hy
      have := (h.1 p hp).1
      omega
    refine ⟨ag_I_push hN h hx hn (Or.inr hy), Nat.le_succ _, fun p hp => if_neg (by omega), fun z hz => pk_un (fun e => hz (by rw [e]; exact hn)), fun z hz => ?_, fun z hz hz2 => ?_⟩
    · rw [hP z hz]
      by_cases e : z = x
      · have : (ag_push x y S).2.1 z = nI y := by rw [e]; exact pk_us
        rw [this]
        exact ⟨fun _ => Or.inr e, fun _ => nI_pos (by omega)⟩
      · have : (ag_push x y S).2.1 z = S.2.1 z := pk_un e
        rw [this]
        exact ⟨Or.inl, fun g => g.elim id (fun q => absurd q e)⟩
    · by_cases e : z = x
      · rw [e]
        exact pk_us
      · have : (ag_push x y S).2.1 z = S.2.1 z := pk_un e
        rw [this] at hz2
        exact absurd hz hz2
  · rw [if_neg hn]
    refine ⟨h, Nat.le_refl _, fun _ _ => rfl, fun _ _ => rfl, fun z hz => ⟨Or.inl, fun g => g.elim id (fun q => ?_)⟩, fun z h1 h2 => absurd h1 h2⟩
    rw [(hP z hz).mp q]
    exact hn
section
variable {w pd ct be bs pf ps tn : Int32} {a1 a2 a3 a4 a5 a6 a7 a8 a9 a10 a11 a12 a13 a14 a15 a16 a17 a18 a19 a20 a21 : Nat → Int32}
theorem ag_addW {post : Int32 → St1 → Prop} {N x y : Nat} {S : ag_SS} (hN : N ≤ 648) (hI : ag_I N S) (hx : x < N) (m20 : ∀ z, z < N → a20 z = S.2.1 z) (m21 : ∀ p, p < S.1 → a21 p = nI (S.2.2 p))
    (hp : ∀ a20' a21' : Nat → Int32, (∀ z, z < N → a20' z = (ag_add x y S).2.1 z) → (∀ p, p < (ag_add x y S).1 → a21' p = nI ((ag_add x y S).2.2 p)) → post (nI (ag_add x y S).1) (w, pd, ct, be, bs, pf, ps, tn, a1, a2, a3, a4, a5, a6, a7, a8, a9, a10, a11, a12, a13, a14, a15, a16, a17, a18, a19, a20', a21')) : wpX_add post (w, pd, ct, be, bs, pf, ps, tn, a1, a2, a3, a4, a5, a6, a7, a8, a9, a10, a11, a12, a13, a14, a15, a16, a17, a18, a19, a20, a21) (nI x) (nI y) (nI S.1) := by
  unfold wpX_add
  refine ⟨pk_in x 648 (by omega), ?_⟩
  rw [nI_clamp (show x < 2 ^ 31 by omega), m20 x hx]
  by_cases h : S.2.1 x < 0
  · have e : ag_add x y S = ag_push x y S := if_pos h
    rw [e] at hp
    have hn := ag_I_lt hI hx h
    refine br_t h ⟨pk_in x 648 (by omega), nm_e ⟨pk_in S.1 648 (by omega), nm_r (e' := upd a21 S.1 (nI x)) (by rw [nI_clamp (by omega)]) ?_⟩⟩
    rw [nI_1]
    refine hp _ _ (ag_upd m20 rfl) (fun p hp' => ?_)
    by_cases e : p = S.1
    · rw [e, pk_us]
      exact congrArg nI (if_pos rfl).symm
    · have hp2 : p < S.1 + 1 := hp'
      rw [pk_un e, m21 p (by omega)]
      exact congrArg nI (if_neg e).symm
  · have e : ag_add x y S = S := if_neg h
    rw [e] at hp
    exact br_f h (hp a20 a21 m20 m21)
end
/-- an option from a cell: another cell of the next copy -/
def ag_eo (ST FT : Nat → Int32) (c b o y : Nat) : Prop := ∃ j, j < 12 ∧ ag_nt ST (c % 12) o = nI j ∧ ¬ FT c = nI (b + j) ∧ y = 2 * (b + j)
/-- from which node one comes to which -/
def ag_ed (ST U FF FT : Nat → Int32) (t x y : Nat) : Prop := (x % 2 = 0 ∧ U (x / 2) = 0 ∧ y = x + 1) ∨ (x % 2 = 0 ∧ ¬ U (x / 2) = 0 ∧ ¬ FF (x / 2) < 0 ∧ y = 2 * (FF (x / 2)).toNatClampNeg + 1) ∨ (x % 2 = 1 ∧ ¬ U (x / 2) = 0 ∧ y = x - 1) ∨ (x % 2 = 1 ∧ x / 2 < 12 * t ∧ ∃ o, o < 5 ∧ ag_eo ST FT (x / 2) (x / 2 - x / 2 % 12 + 12) o y)
theorem ag_ed_ne {ST U FF FT : Nat → Int32} {t x : Nat} : ¬ ag_ed ST U FF FT t x x := by
  rintro (⟨_, _, h⟩ | ⟨h, _, _, h2⟩ | ⟨h, _, h2⟩ | ⟨h, _, o, _, j, _, _, _, h2⟩) <;> omega
def ag_X (t : Nat) (ST U FF FT : Nat → Int32) (tn : Int32) (a4 a17 a18 a19 : Nat → Int32) : Prop := tn = nI t ∧ (∀ i, i < 48 → a4 i = ST i) ∧ (∀ c, c < 12 * (t + 1) → a17 c = U c) ∧ (∀ c, c < 12 * (t + 1) → a18 c = FF c) ∧ (∀ c, c < 12 * (t + 1) → a19 c = FT c)
def ag_ff (t : Nat) (FF : Nat → Int32) : Prop := ∀ c, c < 12 * (t + 1) → FF c < 0 ∨ ∃ j, j < 12 * (t + 1) ∧ FF c = nI j
/-- the options of a node -/
theorem ag_sp117 {ST U FF FT : Nat → Int32} {t x c b : Nat} (ok : ag_ok ST) (ht : t ≤ 26) (hc : c < 12 * t) (hb : b = c - c % 12 + 12) :
    ∀ (m o : Nat) (S : ag_SS), o + m = 5 → ag_I (24 * (t + 1)) S → (∃ p, p < S.1 ∧ S.2.2 p = x) → ∃ S', ag_R (24 * (t + 1)) x (fun y => ∃ o', o ≤ o' ∧ o' < 5 ∧ ag_eo ST FT c b o' y) S S' ∧ ∀ (w pd ct be bs pf ps tn : Int32) (a1 a2 a3 a4 a5 a6 a7 a8 a9 a10 a11 a12 a13 a14 a15 a16 a17 a18 a19 a20 a21 : Nat → Int32) (post : Int32 → St1 → Prop), ag_X t ST U FF FT tn a4 a17 a18 a19 → (∀ z, z < 24 * (t + 1) → a20 z = S.2.1 z) → (∀ p, p < S.1 → a21 p = nI (S.2.2 p)) → (∀ a20' a21' : Nat → Int32, (∀ z, z < 24 * (t + 1) → a20' z = S'.2.1 z) → (∀ p, p < S'.1 → a21' p = nI (S'.2.2 p)) → post (nI S'.1) (w, pd, ct, be, bs, pf, ps, tn, a1, a2, a3, a4, a5, a6, a7, a8, a9, a10, a11, a12, a13, a14, a15, a16, a17, a18, a19, a20', a21')) → wX_spread_117 post (nI x) (nI c) (nI b) (m + 1) (nI S.1) (nI o) w pd ct be bs pf ps tn a1 a2 a3 a4 a5 a6 a7 a8 a9 a10 a11 a12 a13 a14 a15 a16 a17 a18 a19 a20 a21 := by
  have hb2 : ∀ j, j < 12 → 2 * (b + j) < 24 * (t + 1) := by intro j hj; omega
  intro m
  induction m with
  | zero =>
    intro o S ho hI hx
    refine ⟨S, ag_R_0 hI (fun z _ => ?_), fun w pd ct be bs pf ps tn a1 a2 a3 a4 a5 a6 a7 a8 a9 a10 a11 a12 a13 a14 a15 a16 a17 a18 a19 a20 a21 post X m20 m21 hp => pk_le 5 o (fun _ => hp a20 a21 m20 m21) (fun z => absurd z (by omega))⟩
    rintro ⟨o', h1, h2, _⟩
    omega
  | succ m ih =>
    intro o S ho hI hx
    have pre : ∀ (w pd ct be bs pf ps tn : Int32) (a1 a2 a3 a4 a5 a6 a7 a8 a9 a10 a11 a12 a13 a14 a15 a16 a17 a18 a19 a20 a21 : Nat → Int32) (post : Int32 → St1 → Prop), ag_X t ST U FF FT tn a4 a17 a18 a19 → (∀ z : Int32, z = ag_nt ST (c % 12) o → wX_spread_151 post (wX_spread_117 post (nI x) (nI c) (nI b) (m + 1)) (nI x) (nI c) (nI S.1) (nI b) (nI o) z w pd ct be bs pf ps tn a1 a2 a3 a4 a5 a6 a7 a8 a9 a10 a11 a12 a13 a14 a15 a16 a17 a18 a19 a20 a21) → wX_spread_117 post (nI x) (nI c) (nI b) (m + 1 + 1) (nI S.1) (nI o) w pd ct be bs pf ps tn a1 a2 a3 a4 a5 a6 a7 a8 a9 a10 a11 a12 a13 a14 a15 a16 a17 a18 a19 a20 a21 := by
      intro w pd ct be bs pf ps tn a1 a2 a3 a4 a5 a6 a7 a8 a9 a10 a11 a12 a13 a14 a15 a16 a17 a18 a19 a20 a21 post X h
      have rm : nI c - nI c / 12 * 12 = nI (c % 12) := pk_rem (d := 12) (by omega) (by omega) (by omega)
      refine pk_le 5 o (fun z => absurd z (by omega)) (fun _ => pk_eq o 0 (fun z => ⟨by decide, h _ ?_⟩) (fun z => ?_))
      · rw [rm]
        unfold ag_nt
        rw [if_pos z]
      · have ix : (4 : Int32) * (nI c - nI c / 12 * 12) + nI o - 1 = nI (4 * (c % 12) + o - 1) := by
          rw [rm, ag_ix4, show (1 : Int32) = nI 1 from rfl, pk_sub (by omega)]
        refine ⟨by decide, pk_in (4 * (c % 12) + o - 1) 48 (by omega) ix, h _ ?_⟩
        rw [ix, nI_clamp (by omega), X.2.1 _ (by omega)]
        unfold ag_nt
        rw [if_neg z]
    rcases ag_nt_ok ok (show c % 12 < 12 by omega) (show o < 5 by omega) with e | ⟨j, hj, e⟩
    · obtain ⟨S', hR, hw⟩ := ih (o + 1) S (by omega) hI hx
      refine ⟨S', ag_R_t (ag_R_0 (P := fun _ => False) hI (fun _ _ z => z)) hR (fun z _ => ?_), fun w pd ct be bs pf ps tn a1 a2 a3 a4 a5 a6 a7 a8 a9 a10 a11 a12 a13 a14 a15 a16 a17 a18 a19 a20 a21 post X m20 m21 hp => pre w pd ct be bs pf ps tn a1 a2 a3 a4 a5 a6 a7 a8 a9 a10 a11 a12 a13 a14 a15 a16 a17 a18 a19 a20 a21 post X (fun z ez => by rw [ez, e]; exact br_t (by decide) (nm_r (nI_1 o) (hw w pd ct be bs pf ps tn a1 a2 a3 a4 a5 a6 a7 a8 a9 a10 a11 a12 a13 a14 a15 a16 a17 a18 a19 a20 a21 post X m20 m21 hp)))⟩
      constructor
      · rintro ⟨o', h1, h2, j, hj, ej, h3⟩
        right
        by_cases g : o' = o
        · rw [g, e] at ej
          exact absurd ej (ag_m1 j (by omega))
        · exact ⟨o', by omega, h2, j, hj, ej, h3⟩
      · rintro (h | ⟨o', h1, h2, h3⟩)
        · exact absurd h (fun z => z)
        · exact ⟨o', by omega, h2, h3⟩
    · have sum : nI b + nI j = nI (b + j) := nI_add b j
      by_cases hf : FT c = nI (b + j)
      · obtain ⟨S', hR, hw⟩ := ih (o + 1) S (by omega) hI hx
        refine ⟨S', ag_R_t (ag_R_0 (P := fun _ => False) hI (fun _ _ z => z)) hR (fun z _ => ?_), fun w pd ct be bs pf ps tn a1 a2 a3 a4 a5 a6 a7 a8 a9 a10 a11 a12 a13 a14 a15 a16 a17 a18 a19 a20 a21 post X m20 m21 hp => pre w pd ct be bs pf ps tn a1 a2 a3 a4 a5 a6 a7 a8 a9 a10 a11 a12 a13 a14 a15 a16 a17 a18 a19 a20 a21 post X (fun z ez => by rw [ez, e]; exact br_f (nI_pos (by omega)) ⟨pk_in c 324 (by omega), br_t (by rw [nI_clamp (by omega), X.2.2.2.2 c (by omega), sum]; exact hf) (nm_r (nI_1 o) (hw w pd ct be bs pf ps tn a1 a2 a3 a4 a5 a6 a7 a8 a9 a10 a11 a12 a13 a14 a15 a16 a17 a18 a19 a20 a21 post X m20 m21 hp))⟩)⟩
        constructor
        · rintro ⟨o', h1, h2, j', hj', ej, h3, h4⟩
          right
          by_cases g : o' = o
          · rw [g, e, nI_eq (by omega) (by omega)] at ej
            rw [ej] at hf
            exact absurd hf h3
          · exact ⟨o', by omega, h2, j', hj', ej, h3, h4⟩
        · rintro (h | ⟨o', h1, h2, h3⟩)
          · exact absurd h (fun z => z)
          · exact ⟨o', by omega, h2, h3⟩
      · have hR1 := ag_R_add (P := fun y => ag_eo ST FT c b o y) (by omega) hI (hb2 j hj) hx (fun z _ => by
          constructor
          · rintro ⟨j', hj', ej, _, h4⟩
            rw [e, nI_eq (by omega) (by omega)] at ej
            rw [h4, ej]
          · intro g
            exact ⟨j, hj, e, hf, g⟩)
        obtain ⟨px, hpx, epx⟩ := hx
        obtain ⟨S', hR, hw⟩ := ih (o + 1) (ag_add (2 * (b + j)) x S) (by omega) hR1.1 ⟨px, Nat.lt_of_lt_of_le hpx hR1.2.1, by rw [hR1.2.2.1 px hpx]; exact epx⟩
        refine ⟨S', ag_R_t hR1 hR (fun z _ => ?_), fun w pd ct be bs pf ps tn a1 a2 a3 a4 a5 a6 a7 a8 a9 a10 a11 a12 a13 a14 a15 a16 a17 a18 a19 a20 a21 post X m20 m21 hp => pre w pd ct be bs pf ps tn a1 a2 a3 a4 a5 a6 a7 a8 a9 a10 a11 a12 a13 a14 a15 a16 a17 a18 a19 a20 a21 post X (fun z ez => ?_)⟩
        · constructor
          · rintro ⟨o', h1, h2, h3⟩
            by_cases g : o' = o
            · rw [g] at h3
              exact Or.inl h3
            · exact Or.inr ⟨o', by omega, h2, h3⟩
          · rintro (h | ⟨o', h1, h2, h3⟩)
            · exact ⟨o, Nat.le_refl _, by omega, h⟩
            · exact ⟨o', by omega, h2, h3⟩
        · rw [ez, e]
          refine br_f (nI_pos (by omega)) ⟨pk_in c 324 (by omega), br_f (by rw [nI_clamp (by omega), X.2.2.2.2 c (by omega), sum]; exact hf) ?_⟩
          rw [sum, show (2 : Int32) = nI 2 from rfl, pk_mul]
          exact ag_addW (by omega) hI (hb2 j hj) m20 m21 (fun a20' a21' h20 h21 => nm_r (nI_1 o) (hw w pd ct be bs pf ps tn a1 a2 a3 a4 a5 a6 a7 a8 a9 a10 a11 a12 a13 a14 a15 a16 a17 a18 a19 a20' a21' post X h20 h21 hp))
theorem ag_spread {ST U FF FT : Nat → Int32} {t x : Nat} (ok : ag_ok ST) (ht : t ≤ 26) (hff : ag_ff t FF) (hx : x < 24 * (t + 1)) (S : ag_SS) (hI : ag_I (24 * (t + 1)) S) (hpx : ∃ p, p < S.1 ∧ S.2.2 p = x) : ∃ S', ag_R (24 * (t + 1)) x (ag_ed ST U FF FT t x) S S' ∧ ∀ (w pd ct be bs pf ps tn : Int32) (a1 a2 a3 a4 a5 a6 a7 a8 a9 a10 a11 a12 a13 a14 a15 a16 a17 a18 a19 a20 a21 : Nat → Int32) (post : Int32 → St1 → Prop), ag_X t ST U FF FT tn a4 a17 a18 a19 → (∀ z, z < 24 * (t + 1) → a20 z = S.2.1 z) → (∀ p, p < S.1 → a21 p = nI (S.2.2 p)) → (∀ a20' a21' : Nat → Int32, (∀ z, z < 24 * (t + 1) → a20' z = S'.2.1 z) → (∀ p, p < S'.1 → a21' p = nI (S'.2.2 p)) → post (nI S'.1) (w, pd, ct, be, bs, pf, ps, tn, a1, a2, a3, a4, a5, a6, a7, a8, a9, a10, a11, a12, a13, a14, a15, a16, a17, a18, a19, a20', a21')) → wpX_spread post (w, pd, ct, be, bs, pf, ps, tn, a1, a2, a3, a4, a5, a6, a7, a8, a9, a10, a11, a12, a13, a14, a15, a16, a17, a18, a19, a20, a21) (nI x) (nI S.1) := by
  have dv : nI x / 2 = nI (x / 2) := pk_div (d := 2) (by omega) (by omega) (by omega)
  have rm : nI x - nI x / 2 * 2 = nI (x % 2) := pk_rem (d := 2) (by omega) (by omega) (by omega)
  by_cases hp2 : x % 2 = 0
  · by_cases hu : U (x / 2) = 0
    · have hR := ag_R_add (P := ag_ed ST U FF FT t x) (by omega) hI (show x + 1 < 24 * (t + 1) by omega) hpx (fun z _ => by
        constructor
        · rintro (⟨_, _, h⟩ | ⟨_, h, _⟩ | ⟨h, _⟩ | ⟨h, _⟩)
          · exact h
          · exact absurd hu h
          · omega
          · omega
        · intro h
          exact Or.inl ⟨hp2, hu, h⟩)
      refine ⟨_, hR, fun w pd ct be bs pf ps tn a1 a2 a3 a4 a5 a6 a7 a8 a9 a10 a11 a12 a13 a14 a15 a16 a17 a18 a19 a20 a21 post X m20 m21 hp => ?_⟩
      unfold wpX_spread
      refine ⟨by decide, nm_r dv ⟨by decide, br_t (by rw [rm, hp2]; rfl) ⟨pk_in (x / 2) 324 (by omega), br_t (by rw [nI_clamp (by omega), X.2.2.1 _ (by omega)]; exact hu) ?_⟩⟩⟩
      rw [nI_1]
      exact ag_addW (by omega) hI (by omega) m20 m21 (fun a20' a21' h20 h21 => hp a20' a21' h20 h21)
    · rcases hff (x / 2) (by omega) with hf | ⟨j, hj, hf⟩
      · refine ⟨S, ag_R_0 hI (fun z _ => ?_), fun w pd ct be bs pf ps tn a1 a2 a3 a4 a5 a6 a7 a8 a9 a10 a11 a12 a13 a14 a15 a16 a17 a18 a19 a20 a21 post X m20 m21 hp => ?_⟩
        · rintro (⟨_, h, _⟩ | ⟨_, _, h, _⟩ | ⟨h, _⟩ | ⟨h, _⟩)
          · exact absurd h hu
          · exact absurd hf h
          · omega
          · omega
        · unfold wpX_spread
          exact ⟨by decide, nm_r dv ⟨by decide, br_t (by rw [rm, hp2]; rfl) ⟨pk_in (x / 2) 324 (by omega), br_f (by rw [nI_clamp (by omega), X.2.2.1 _ (by omega)]; exact hu) ⟨pk_in (x / 2) 324 (by omega), br_t (by rw [nI_clamp (by omega), X.2.2.2.1 _ (by omega)]; exact hf) (hp a20 a21 m20 m21)⟩⟩⟩⟩
      · have cj : (FF (x / 2)).toNatClampNeg = j := by rw [hf, nI_clamp (by omega)]
        have hR := ag_R_add (P := ag_ed ST U FF FT t x) (by omega) hI (show 2 * j + 1 < 24 * (t + 1) by omega) hpx (fun z _ => by
          constructor
          · rintro (⟨_, h, _⟩ | ⟨_, _, _, h⟩ | ⟨h, _⟩ | ⟨h, _⟩)
            · exact absurd h hu
            · rw [cj] at h
              exact h
            · omega
            · omega
          · intro h
            exact Or.inr (Or.inl ⟨hp2, hu, by rw [hf]; exact nI_pos (by omega), by rw [cj]; exact h⟩))
        refine ⟨_, hR, fun w pd ct be bs pf ps tn a1 a2 a3 a4 a5 a6 a7 a8 a9 a10 a11 a12 a13 a14 a15 a16 a17 a18 a19 a20 a21 post X m20 m21 hp => ?_⟩
        unfold wpX_spread
        refine ⟨by decide, nm_r dv ⟨by decide, br_t (by rw [rm, hp2]; rfl) ⟨pk_in (x / 2) 324 (by omega), br_f (by rw [nI_clamp (by omega), X.2.2.1 _ (by omega)]; exact hu) ⟨pk_in (x / 2) 324 (by omega), br_f (by rw [nI_clamp (by omega), X.2.2.2.1 _ (by omega), hf]; exact nI_pos (by omega)) ⟨pk_in (x / 2) 324 (by omega), ?_⟩⟩⟩⟩⟩
        rw [nI_clamp (show x / 2 < 2 ^ 31 by omega), X.2.2.2.1 _ (by omega), hf, show (2 : Int32) = nI 2 from rfl, pk_mul, nI_1]
        exact ag_addW (by omega) hI (by omega) m20 m21 (fun a20' a21' h20 h21 => hp a20' a21' h20 h21)
  · -- an odd node: what lies behind wX_spread_89
    have g89 : ∀ S0 : ag_SS, ag_I (24 * (t + 1)) S0 → (∃ p, p < S0.1 ∧ S0.2.2 p = x) → ∃ S', ag_R (24 * (t + 1)) x (fun y => x / 2 < 12 * t ∧ ∃ o, o < 5 ∧ ag_eo ST FT (x / 2) (x / 2 - x / 2 % 12 + 12) o y) S0 S' ∧ ∀ (w pd ct be bs pf ps tn : Int32) (a1 a2 a3 a4 a5 a6 a7 a8 a9 a10 a11 a12 a13 a14 a15 a16 a17 a18 a19 a20 a21 : Nat → Int32) (post : Int32 → St1 → Prop), ag_X t ST U FF FT tn a4 a17 a18 a19 → (∀ z, z < 24 * (t + 1) → a20 z = S0.2.1 z) → (∀ p, p < S0.1 → a21 p = nI (S0.2.2 p)) → (∀ a20' a21' : Nat → Int32, (∀ z, z < 24 * (t + 1) → a20' z = S'.2.1 z) → (∀ p, p < S'.1 → a21' p = nI (S'.2.2 p)) → post (nI S'.1) (w, pd, ct, be, bs, pf, ps, tn, a1, a2, a3, a4, a5, a6, a7, a8, a9, a10, a11, a12, a13, a14, a15, a16, a17, a18, a19, a20', a21')) → wX_spread_89 post (nI x) (nI (x / 2)) (nI S0.1) w pd ct be bs pf ps tn a1 a2 a3 a4 a5 a6 a7 a8 a9 a10 a11 a12 a13 a14 a15 a16 a17 a18 a19 a20 a21 := by
      intro S0 hI0 hx0
      have tw : ∀ tn : Int32, tn = nI t → (12 : Int32) * tn = nI (12 * t) := fun tn e => by rw [e, show (12 : Int32) = nI 12 from rfl, pk_mul]
      by_cases hc : x / 2 < 12 * t
      · obtain ⟨S', hR, hw⟩ := ag_sp117 (U := U) (FF := FF) (FT := FT) ok ht hc rfl 5 0 S0 rfl hI0 hx0
        refine ⟨S', ag_R_t (ag_R_0 (P := fun _ => False) hI0 (fun _ _ z => z)) hR (fun z _ => ?_), fun w pd ct be bs pf ps tn a1 a2 a3 a4 a5 a6 a7 a8 a9 a10 a11 a12 a13 a14 a15 a16 a17 a18 a19 a20 a21 post X m20 m21 hp => ?_⟩
        · constructor
          · rintro ⟨_, o, h1, h2⟩
            exact Or.inr ⟨o, Nat.zero_le _, h1, h2⟩
          · rintro (h | ⟨o, _, h1, h2⟩)
            · exact absurd h (fun z => z)
            · exact ⟨hc, o, h1, h2⟩
        · unfold wX_spread_89
          refine pk_lt (x / 2) (12 * t) (fun _ => ⟨by decide, nm_r (e' := nI (x / 2 - x / 2 % 12 + 12)) ?_ ⟨6, hw w pd ct be bs pf ps tn a1 a2 a3 a4 a5 a6 a7 a8 a9 a10 a11 a12 a13 a14 a15 a16 a17 a18 a19 a20 a21 post X m20 m21 hp⟩⟩) (fun z => absurd z (by omega)) rfl (tw tn X.1)
          rw [show nI (x / 2) - nI (x / 2) / 12 * 12 = nI (x / 2 % 12) from pk_rem (d := 12) (by omega) (by omega) (by omega), pk_sub (Nat.mod_le _ _), show (12 : Int32) = nI 12 from rfl, nI_add]
      · refine ⟨S0, ag_R_0 hI0 (fun z _ h => hc h.1), fun w pd ct be bs pf ps tn a1 a2 a3 a4 a5 a6 a7 a8 a9 a10 a11 a12 a13 a14 a15 a16 a17 a18 a19 a20 a21 post X m20 m21 hp => ?_⟩
        unfold wX_spread_89
        exact pk_lt (x / 2) (12 * t) (fun z => absurd z hc) (fun _ => hp a20 a21 m20 m21) rfl (tw tn X.1)
    have n2 : ¬ nI x - nI x / 2 * 2 = 0 := by rw [rm]; exact nI_ne0 (by omega) (by omega)
    by_cases hu : U (x / 2) = 0
    · obtain ⟨S', hR, hw⟩ := g89 S hI hpx
      refine ⟨S', ag_R_t (ag_R_0 (P := fun _ => False) hI (fun _ _ z => z)) hR (fun z _ => ?_), fun w pd ct be bs pf ps tn a1 a2 a3 a4 a5 a6 a7 a8 a9 a10 a11 a12 a13 a14 a15 a16 a17 a18 a19 a20 a21 post X m20 m21 hp => ?_⟩
      · constructor
        · rintro (⟨h, _⟩ | ⟨h, _⟩ | ⟨_, h, _⟩ | ⟨_, h⟩)
          · omega
          · omega
          · exact absurd hu h
          · exact Or.inr h
        · rintro (h | h)
          · exact absurd h (fun z => z)
          · exact Or.inr (Or.inr (Or.inr ⟨by omega, h⟩))
      · unfold wpX_spread
        exact ⟨by decide, nm_r dv ⟨by decide, br_f n2 ⟨pk_in (x / 2) 324 (by omega), br_t (by rw [nI_clamp (by omega), X.2.2.1 _ (by omega)]; exact hu) (hw w pd ct be bs pf ps tn a1 a2 a3 a4 a5 a6 a7 a8 a9 a10 a11 a12 a13 a14 a15 a16 a17 a18 a19 a20 a21 post X m20 m21 hp)⟩⟩⟩
    · have hR1 := ag_R_add (P := fun y => y = x - 1) (by omega) hI (show x - 1 < 24 * (t + 1) by omega) hpx (fun z _ => Iff.rfl)
      obtain ⟨px, hpx1, epx⟩ := hpx
      obtain ⟨S', hR, hw⟩ := g89 (ag_add (x - 1) x S) hR1.1 ⟨px, Nat.lt_of_lt_of_le hpx1 hR1.2.1, by rw [hR1.2.2.1 px hpx1]; exact epx⟩
      refine ⟨S', ag_R_t hR1 hR (fun z _ => ?_), fun w pd ct be bs pf ps tn a1 a2 a3 a4 a5 a6 a7 a8 a9 a10 a11 a12 a13 a14 a15 a16 a17 a18 a19 a20 a21 post X m20 m21 hp => ?_⟩
      · constructor
        · rintro (⟨h, _⟩ | ⟨h, _⟩ | ⟨_, _, h⟩ | ⟨_, h⟩)
          · omega
          · omega
          · exact Or.inl h
          · exact Or.inr h
        · rintro (h | h)
          · exact Or.inr (Or.inr (Or.inl ⟨by omega, hu, h⟩))
          · exact Or.inr (Or.inr (Or.inr ⟨by omega, h⟩))
      · unfold wpX_spread
        refine ⟨by decide, nm_r dv ⟨by decide, br_f n2 ⟨pk_in (x / 2) 324 (by omega), br_f (by rw [nI_clamp (by omega), X.2.2.1 _ (by omega)]; exact hu) ?_⟩⟩⟩
        rw [show (1 : Int32) = nI 1 from rfl, pk_sub (show 1 ≤ x by omega)]
        exact ag_addW (by omega) hI (by omega) m20 m21 (fun a20' a21' h20 h21 => hw w pd ct be bs pf ps tn a1 a2 a3 a4 a5 a6 a7 a8 a9 a10 a11 a12 a13 a14 a15 a16 a17 a18 a19 a20' a21' post X h20 h21 hp)
end
section
/-! search, lead, flow, swarm -/
theorem ag_iG2 {k : Nat} {wh gs : Nat → Nat} (hk : k ≤ 3) (hwh : ∀ j, j < k → wh j < 3) (hgs : ∀ j, j < k → gs j < 12) {c : Nat} (hc : c < 12) {w pd ct be bs pf ps tn : Int32} {a1 a2 a3 a4 a5 a6 a7 a8 a9 a10 a11 a12 a13 a14 a15 a16 a17 a18 a19 a20 a21 : Nat → Int32} {post : Int32 → Prop} (hct : ct = nI k) (h7 : ∀ j, j < k → a7 j = nI (wh j)) (h3 : ∀ j, j < k → a3 (wh j) = nI (gs j)) (h1 : (∃ j, j < k ∧ gs j = c) → post 1) (h0 : (¬ ∃ j, j < k ∧ gs j = c) → post 0) :
    ∀ (m i : Nat), i + m = k → (∀ j, j < i → gs j ≠ c) → wX_isGoal_2 post (nI c) w pd ct be bs pf ps tn a1 a2 a3 a4 a5 a6 a7 a8 a9 a10 a11 a12 a13 a14 a15 a16 a17 a18 a19 a20 a21 (m + 1) (nI i) := by
  intro m
  induction m with
  | zero =>
    intro i hi hI
    refine pk_le k i (fun _ => h0 ?_) (fun z => absurd z (by omega)) hct
    rintro ⟨j, hj, e⟩
    exact hI j (by omega) e
  | succ m ih =>
    intro i hi hI
    have cl : a7 (nI i).toNatClampNeg = nI (wh i) := by rw [nI_clamp (by omega), h7 i (by omega)]
    have w3 := hwh i (by omega)
    have g12 := hgs i (by omega)
    refine pk_le k i (fun z => absurd z (by omega)) (fun _ => ⟨pk_in i 3 (by omega), pk_in (wh i) 3 w3 cl, ?_⟩) hct
    rw [cl, nI_clamp (show wh i < 2 ^ 31 by omega), h3 i (by omega)]
    refine pk_eq (gs i) c (fun z => h1 ⟨i, by omega, z⟩) (fun z => nm_r (nI_1 i) (ih (i + 1) (by omega) (fun j hj => ?_)))
    by_cases e : j = i
    · rw [e]
      exact z
    · exact hI j (by omega)
theorem ag_isGoal {k : Nat} {wh gs : Nat → Nat} (hk : k ≤ 3) (hwh : ∀ j, j < k → wh j < 3) (hgs : ∀ j, j < k → gs j < 12) {c : Nat} (hc : c < 12) {w pd ct be bs pf ps tn : Int32} {a1 a2 a3 a4 a5 a6 a7 a8 a9 a10 a11 a12 a13 a14 a15 a16 a17 a18 a19 a20 a21 : Nat → Int32} {post : Int32 → Prop} (hct : ct = nI k) (h7 : ∀ j, j < k → a7 j = nI (wh j)) (h3 : ∀ j, j < k → a3 (wh j) = nI (gs j)) (h1 : (∃ j, j < k ∧ gs j = c) → post 1) (h0 : (¬ ∃ j, j < k ∧ gs j = c) → post 0) : wpX_isGoal post (w, pd, ct, be, bs, pf, ps, tn, a1, a2, a3, a4, a5, a6, a7, a8, a9, a10, a11, a12, a13, a14, a15, a16, a17, a18, a19, a20, a21) (nI c) := by
  unfold wpX_isGoal
  exact ⟨k + 1, ag_iG2 hk hwh hgs hc hct h7 h3 h1 h0 k 0 (by omega) (fun j hj => absurd hj (by omega))⟩
/-- a last node: at a goal that isn't used -/
def ag_fin (U : Nat → Int32) (t k : Nat) (gs : Nat → Nat) (x : Nat) : Prop := x % 2 = 1 ∧ 12 * t ≤ x / 2 ∧ U (x / 2) = 0 ∧ ∃ j, j < k ∧ gs j = x / 2 - 12 * t
def ag_root (U : Nat → Int32) (k : Nat) (ps : Nat → Nat) (y : Nat) : Prop := ∃ j, j < k ∧ y = 2 * ps j ∧ U (ps j) = 0
def ag_tree (ST U FF FT : Nat → Int32) (t k : Nat) (ps : Nat → Nat) (S : ag_SS) : Prop := (∀ y, y < 24 * (t + 1) → ¬ S.2.1 y < 0 → (ag_root U k ps y ∧ S.2.1 y = nI y) ∨ ∃ x, x < 24 * (t + 1) ∧ ¬ S.2.1 x < 0 ∧ S.2.1 y = nI x ∧ ag_ed ST U FF FT t x y) ∧ (∀ y, ag_root U k ps y → ¬ S.2.1 y < 0)
def ag_res (ST U FF FT : Nat → Int32) (t k : Nat) (ps gs : Nat → Nat) (r : Int32) (S : ag_SS) : Prop := ag_I (24 * (t + 1)) S ∧ ag_tree ST U FF FT t k ps S ∧ ((r = -1 ∧ ∀ p, p < S.1 → ¬ ag_fin U t k gs (S.2.2 p) ∧ ∀ y, y < 24 * (t + 1) → ag_ed ST U FF FT t (S.2.2 p) y → ¬ S.2.1 y < 0) ∨ ∃ p, p < S.1 ∧ r = nI (S.2.2 p) ∧ ag_fin U t k gs (S.2.2 p))
def ag_Y (k : Nat) (wh ps gs : Nat → Nat) (ct : Int32) (a2 a3 a7 : Nat → Int32) : Prop := ct = nI k ∧ (∀ j, j < k → a7 j = nI (wh j)) ∧ (∀ j, j < k → a2 (wh j) = nI (ps j)) ∧ (∀ j, j < k → a3 (wh j) = nI (gs j))
def ag_Yo (k : Nat) (wh ps gs : Nat → Nat) : Prop := k ≤ 3 ∧ (∀ j, j < k → wh j < 3) ∧ (∀ j, j < k → ps j < 12) ∧ (∀ j, j < k → gs j < 12) ∧ (∀ i j, i < j → j < k → ps i ≠ ps j)
theorem ag_se98 {ST U FF FT : Nat → Int32} {t k : Nat} {wh pS gs : Nat → Nat} (ok : ag_ok ST) (ht : t ≤ 26) (hff : ag_ff t FF) (hY : ag_Yo k wh pS gs) :
    ∀ (m x : Nat) (S : ag_SS), x + m = 648 → ag_I (24 * (t + 1)) S → ag_tree ST U FF FT t k pS S → (∀ p, p < x → p < S.1 → ¬ ag_fin U t k gs (S.2.2 p) ∧ ∀ y, y < 24 * (t + 1) → ag_ed ST U FF FT t (S.2.2 p) y → ¬ S.2.1 y < 0) → ∃ r S', ag_res ST U FF FT t k pS gs r S' ∧ ∀ (w pd ct be bs pf ps tn : Int32) (a1 a2 a3 a4 a5 a6 a7 a8 a9 a10 a11 a12 a13 a14 a15 a16 a17 a18 a19 a20 a21 : Nat → Int32) (post : Int32 → St1 → Prop), ag_X t ST U FF FT tn a4 a17 a18 a19 → ag_Y k wh pS gs ct a2 a3 a7 → (∀ z, z < 24 * (t + 1) → a20 z = S.2.1 z) → (∀ p, p < S.1 → a21 p = nI (S.2.2 p)) → (∀ a20' a21' : Nat → Int32, (∀ z, z < 24 * (t + 1) → a20' z = S'.2.1 z) → post r (w, pd, ct, be, bs, pf, ps, tn, a1, a2, a3, a4, a5, a6, a7, a8, a9, a10, a11, a12, a13, a14, a15, a16, a17, a18, a19, a20', a21')) → wX_search_98 post (m + 1) (nI S.1) (nI x) w pd ct be bs pf ps tn a1 a2 a3 a4 a5 a6 a7 a8 a9 a10 a11 a12 a13 a14 a15 a16 a17 a18 a19 a20 a21 := by
  intro m
  induction m with
  | zero =>
    intro x S hx hI hT hD
    have hle := ag_I_le hI
    exact ⟨-1, S, ⟨hI, hT, Or.inl ⟨rfl, fun p hp => hD p (by omega) hp⟩⟩, fun w pd ct be bs pf ps tn a1 a2 a3 a4 a5 a6 a7 a8 a9 a10 a11 a12 a13 a14 a15 a16 a17 a18 a19 a20 a21 post _ _ m20 m21 hp => pk_le S.1 x (fun _ => hp a20 a21 m20) (fun z => absurd z (by omega))⟩
  | succ m ih =>
    intro x S hx hI hT hD
    have hle := ag_I_le hI
    by_cases hn : S.1 ≤ x
    · exact ⟨-1, S, ⟨hI, hT, Or.inl ⟨rfl, fun p hp => hD p (by omega) hp⟩⟩, fun w pd ct be bs pf ps tn a1 a2 a3 a4 a5 a6 a7 a8 a9 a10 a11 a12 a13 a14 a15 a16 a17 a18 a19 a20 a21 post _ _ m20 m21 hp => pk_le S.1 x (fun _ => hp a20 a21 m20) (fun z => absurd z (by omega))⟩
    · have hxn : x < S.1 := by omega
      have hv := (hI.1 x hxn).1
      generalize hv0 : S.2.2 x = v at hv
      have dv : nI v / 2 = nI (v / 2) := pk_div (d := 2) (by omega) (by omega) (by omega)
      have rm : nI v - nI v / 2 * 2 = nI (v % 2) := pk_rem (d := 2) (by omega) (by omega) (by omega)
      have pre : ∀ (w pd ct be bs pf ps tn : Int32) (a1 a2 a3 a4 a5 a6 a7 a8 a9 a10 a11 a12 a13 a14 a15 a16 a17 a18 a19 a20 a21 : Nat → Int32) (post : Int32 → St1 → Prop), ag_X t ST U FF FT tn a4 a17 a18 a19 → ag_Y k wh pS gs ct a2 a3 a7 → (∀ p, p < S.1 → a21 p = nI (S.2.2 p)) → (ag_fin U t k gs v → post (nI v) (w, pd, ct, be, bs, pf, ps, tn, a1, a2, a3, a4, a5, a6, a7, a8, a9, a10, a11, a12, a13, a14, a15, a16, a17, a18, a19, a20, a21)) → (¬ ag_fin U t k gs v → wX_search_182 post (wX_search_98 post (m + 1)) (nI S.1) (nI x) (nI v) w pd ct be bs pf ps tn a1 a2 a3 a4 a5 a6 a7 a8 a9 a10 a11 a12 a13 a14 a15 a16 a17 a18 a19 a20 a21) → wX_search_98 post (m + 1 + 1) (nI S.1) (nI x) w pd ct be bs pf ps tn a1 a2 a3 a4 a5 a6 a7 a8 a9 a10 a11 a12 a13 a14 a15 a16 a17 a18 a19 a20 a21 := by
        intro w pd ct be bs pf ps tn a1 a2 a3 a4 a5 a6 a7 a8 a9 a10 a11 a12 a13 a14 a15 a16 a17 a18 a19 a20 a21 post X Y m21 q1 q2
        have tw : (12 : Int32) * tn = nI (12 * t) := by rw [X.1, show (12 : Int32) = nI 12 from rfl, pk_mul]
        refine pk_le S.1 x (fun z => absurd z (by omega)) (fun _ => pk_le 648 x (fun z => absurd z (by omega)) (fun _ => ⟨pk_in x 648 (by omega), nm_r (e' := nI v) (by rw [nI_clamp (by omega), m21 x hxn, hv0]) ⟨by decide, nm_r dv ⟨by decide, ?_⟩⟩⟩))
        refine pk_eq (v % 2) 1 (fun h1 => pk_lt (v / 2) (12 * t) (fun h2 => br_t rfl (q2 (fun z => absurd z.2.1 (by omega)))) (fun h2 => ⟨pk_in (v / 2) 324 (by omega), ?_⟩) rfl tw) (fun h1 => br_t rfl (q2 (fun z => h1 z.1))) rm
        rw [nI_clamp (show v / 2 < 2 ^ 31 by omega), X.2.2.1 _ (by omega)]
        refine br_c (fun h3 => br_f (by decide) ?_) (fun h3 => br_t rfl (q2 (fun z => h3 z.2.2.1)))
        rw [tw, pk_sub h2]
        exact ag_isGoal hY.1 hY.2.1 hY.2.2.2.1 (by omega) Y.1 Y.2.1 Y.2.2.2 (fun h4 => br_f (by decide) (q1 ⟨h1, h2, h3, h4⟩)) (fun h4 => br_t rfl (q2 (fun z => h4 z.2.2.2)))
      by_cases hf : ag_fin U t k gs v
      · exact ⟨nI v, S, ⟨hI, hT, Or.inr ⟨x, hxn, by rw [hv0], by rw [hv0]; exact hf⟩⟩, fun w pd ct be bs pf ps tn a1 a2 a3 a4 a5 a6 a7 a8 a9 a10 a11 a12 a13 a14 a15 a16 a17 a18 a19 a20 a21 post X Y m20 m21 hp => pre w pd ct be bs pf ps tn a1 a2 a3 a4 a5 a6 a7 a8 a9 a10 a11 a12 a13 a14 a15 a16 a17 a18 a19 a20 a21 post X Y m21 (fun _ => hp a20 a21 m20) (fun z => absurd hf z)⟩
      · obtain ⟨S1, hR, hw⟩ := ag_spread (U := U) (FT := FT) ok ht hff hv S hI ⟨x, hxn, hv0⟩
        obtain ⟨i1, i2, i3, i4, i5, i6⟩ := hR
        have vx : ¬ S.2.1 v < 0 := by rw [← hv0]; exact (hI.1 x hxn).2
        have hT1 : ag_tree ST U FF FT t k pS S1 := by
          constructor
          · intro y hy hvy
            by_cases g : S.2.1 y < 0
            · right
              refine ⟨v, hv, by rw [i4 v vx]; exact vx, i6 y g hvy, ?_⟩
              rcases (i5 y hy).mp hvy with z | z
              · exact absurd g z
              · exact z
            · rw [i4 y g]
              rcases hT.1 y hy g with z | ⟨x', hx', vx', ex', dx'⟩
              · exact Or.inl z
              · exact Or.inr ⟨x', hx', by rw [i4 x' vx']; exact vx', ex', dx'⟩
          · intro y hy
            have := hT.2 y hy
            rw [i4 y this]
            exact this
        obtain ⟨r, S', hr, hw'⟩ := ih (x + 1) S1 (by omega) i1 hT1 (fun p hp hp1 => by
          rw [i3 p (by omega)]
          by_cases g : p = x
          · rw [g, hv0]
            exact ⟨hf, fun y hy hd => (i5 y hy).mpr (Or.inr hd)⟩
          · obtain ⟨k1, k2⟩ := hD p (by omega) (by omega)
            exact ⟨k1, fun y hy hd => (i5 y hy).mpr (Or.inl (k2 y hy hd))⟩)
        exact ⟨r, S', hr, fun w pd ct be bs pf ps tn a1 a2 a3 a4 a5 a6 a7 a8 a9 a10 a11 a12 a13 a14 a15 a16 a17 a18 a19 a20 a21 post X Y m20 m21 hp => pre w pd ct be bs pf ps tn a1 a2 a3 a4 a5 a6 a7 a8 a9 a10 a11 a12 a13 a14 a15 a16 a17 a18 a19 a20 a21 post X Y m21 (fun z => absurd z hf) (fun _ => hw w pd ct be bs pf ps tn a1 a2 a3 a4 a5 a6 a7 a8 a9 a10 a11 a12 a13 a14 a15 a16 a17 a18 a19 a20 a21 _ X m20 m21 (fun a20' a21' h20 h21 => nm_r (nI_1 x) (hw' w pd ct be bs pf ps tn a1 a2 a3 a4 a5 a6 a7 a8 a9 a10 a11 a12 a13 a14 a15 a16 a17 a18 a19 a20' a21' post X Y h20 h21 hp)))⟩
theorem ag_se32 {ST U FF FT : Nat → Int32} {t k : Nat} {wh pS gs : Nat → Nat} (ok : ag_ok ST) (ht : t ≤ 26) (hff : ag_ff t FF) (hY : ag_Yo k wh pS gs) :
    ∀ (m i : Nat) (S : ag_SS), i + m = k → S.1 ≤ i → ag_I (24 * (t + 1)) S → (∀ y, y < 24 * (t + 1) → (¬ S.2.1 y < 0 ↔ ∃ j, j < i ∧ y = 2 * pS j ∧ U (pS j) = 0)) → (∀ y, y < 24 * (t + 1) → ¬ S.2.1 y < 0 → S.2.1 y = nI y) → ∃ r S', ag_res ST U FF FT t k pS gs r S' ∧ ∀ (w pd ct be bs pf ps tn : Int32) (a1 a2 a3 a4 a5 a6 a7 a8 a9 a10 a11 a12 a13 a14 a15 a16 a17 a18 a19 a20 a21 : Nat → Int32) (post : Int32 → St1 → Prop), ag_X t ST U FF FT tn a4 a17 a18 a19 → ag_Y k wh pS gs ct a2 a3 a7 → (∀ z, z < 24 * (t + 1) → a20 z = S.2.1 z) → (∀ p, p < S.1 → a21 p = nI (S.2.2 p)) → (∀ a20' a21' : Nat → Int32, (∀ z, z < 24 * (t + 1) → a20' z = S'.2.1 z) → post r (w, pd, ct, be, bs, pf, ps, tn, a1, a2, a3, a4, a5, a6, a7, a8, a9, a10, a11, a12, a13, a14, a15, a16, a17, a18, a19, a20', a21')) → wX_search_32 post w pd ct be bs pf ps tn (m + 1) (nI S.1) (nI i) a1 a2 a3 a4 a5 a6 a7 a8 a9 a10 a11 a12 a13 a14 a15 a16 a17 a18 a19 a20 a21 := by
  obtain ⟨k3, hwh, hps, hgs, hne⟩ := id hY
  intro m
  induction m with
  | zero =>
    intro i S hi _ hI hv hs
    have e : i = k := by omega
    subst e
    have hT : ag_tree ST U FF FT t i pS S := by
      constructor
      · intro y hy hvy
        exact Or.inl ⟨(hv y hy).mp hvy, hs y hy hvy⟩
      · intro y hy
        refine (hv y ?_).mpr hy
        obtain ⟨j, hj, ey, _⟩ := hy
        have := hps j hj
        omega
    obtain ⟨r, S', hr, hw⟩ := ag_se98 ok ht hff hY 648 0 S rfl hI hT (fun p hp => absurd hp (by omega))
    exact ⟨r, S', hr, fun w pd ct be bs pf ps tn a1 a2 a3 a4 a5 a6 a7 a8 a9 a10 a11 a12 a13 a14 a15 a16 a17 a18 a19 a20 a21 post X Y m20 m21 hp => pk_le i i (fun _ => ⟨648 + 1, hw w pd ct be bs pf ps tn a1 a2 a3 a4 a5 a6 a7 a8 a9 a10 a11 a12 a13 a14 a15 a16 a17 a18 a19 a20 a21 post X Y m20 m21 hp⟩) (fun z => absurd z (by omega)) Y.1⟩
  | succ m ih =>
    intro i S hi hS hI hv hs
    have p12 := hps i (by omega)
    have w3 := hwh i (by omega)
    have pre : ∀ (w pd ct be bs pf ps tn : Int32) (a1 a2 a3 a4 a5 a6 a7 a8 a9 a10 a11 a12 a13 a14 a15 a16 a17 a18 a19 a20 a21 : Nat → Int32) (post : Int32 → St1 → Prop), ag_X t ST U FF FT tn a4 a17 a18 a19 → ag_Y k wh pS gs ct a2 a3 a7 → (U (pS i) = 0 → vp_in (nI (2 * pS i)) 648 ∧ ∀ am, am = upd a20 (nI (2 * pS i)).toNatClampNeg (nI (2 * pS i)) → (vp_in (nI S.1) 648 ∧ ∀ an, an = upd a21 (nI S.1).toNatClampNeg (nI (2 * pS i)) → ∀ x1, x1 = nI S.1 + 1 → ∀ x2, x2 = nI i + 1 → wX_search_32 post w pd ct be bs pf ps tn (m + 1) x1 x2 a1 a2 a3 a4 a5 a6 a7 a8 a9 a10 a11 a12 a13 a14 a15 a16 a17 a18 a19 am an)) → (¬ U (pS i) = 0 → ∀ x2, x2 = nI i + 1 → wX_search_32 post w pd ct be bs pf ps tn (m + 1) (nI S.1) x2 a1 a2 a3 a4 a5 a6 a7 a8 a9 a10 a11 a12 a13 a14 a15 a16 a17 a18 a19 a20 a21) → wX_search_32 post w pd ct be bs pf ps tn (m + 1 + 1) (nI S.1) (nI i) a1 a2 a3 a4 a5 a6 a7 a8 a9 a10 a11 a12 a13 a14 a15 a16 a17 a18 a19 a20 a21 := by
      intro w pd ct be bs pf ps tn a1 a2 a3 a4 a5 a6 a7 a8 a9 a10 a11 a12 a13 a14 a15 a16 a17 a18 a19 a20 a21 post X Y q1 q2
      have cl : a7 (nI i).toNatClampNeg = nI (wh i) := by rw [nI_clamp (by omega), Y.2.1 i (by omega)]
      have c2 : a2 (a7 (nI i).toNatClampNeg).toNatClampNeg = nI (pS i) := by rw [cl, nI_clamp (by omega), Y.2.2.1 i (by omega)]
      refine pk_le k i (fun z => absurd z (by omega)) (fun _ => ⟨pk_in i 3 (by omega), pk_in (wh i) 3 w3 cl, nm_r (e' := nI (2 * pS i)) (by rw [c2, show (2 : Int32) = nI 2 from rfl, pk_mul]) ⟨pk_in i 3 (by omega), pk_in (wh i) 3 w3 cl, pk_in (pS i) 324 (by omega) c2, ?_⟩⟩) Y.1
      rw [c2, nI_clamp (show pS i < 2 ^ 31 by omega), X.2.2.1 _ (by omega)]
      exact br_c q1 q2
    by_cases hu : U (pS i) = 0
    · have hx : 2 * pS i < 24 * (t + 1) := by omega
      have hnv : S.2.1 (2 * pS i) < 0 := by
        by_cases g : S.2.1 (2 * pS i) < 0
        · exact g
        · obtain ⟨j, hj, ej, _⟩ := (hv _ hx).mp g
          exact absurd (show pS j = pS i by omega) (hne j i hj (by omega))
      have hI1 := ag_I_push (by omega) hI hx hnv (Or.inl rfl)
      obtain ⟨r, S', hr, hw⟩ := ih (i + 1) (ag_push (2 * pS i) (2 * pS i) S) (by omega) (by show S.1 + 1 ≤ i + 1; omega) hI1 (fun y hy => by
          by_cases e : y = 2 * pS i
          · have : (ag_push (2 * pS i) (2 * pS i) S).2.1 y = nI (2 * pS i) := by rw [e]; exact pk_us
            rw [this]
            exact ⟨fun _ => ⟨i, by omega, e, hu⟩, fun _ => nI_pos (by omega)⟩
          · have : (ag_push (2 * pS i) (2 * pS i) S).2.1 y = S.2.1 y := pk_un e
            rw [this, hv y hy]
            constructor
            · rintro ⟨j, hj, h1, h2⟩
              exact ⟨j, by omega, h1, h2⟩
            · rintro ⟨j, hj, h1, h2⟩
              by_cases g : j = i
              · rw [g] at h1
                exact absurd h1 e
              · exact ⟨j, by omega, h1, h2⟩) (fun y hy hvy => by
          by_cases e : y = 2 * pS i
          · rw [e]
            exact pk_us
          · have : (ag_push (2 * pS i) (2 * pS i) S).2.1 y = S.2.1 y := pk_un e
            rw [this] at hvy ⊢
            exact hs y hy hvy)
      refine ⟨r, S', hr, fun w pd ct be bs pf ps tn a1 a2 a3 a4 a5 a6 a7 a8 a9 a10 a11 a12 a13 a14 a15 a16 a17 a18 a19 a20 a21 post X Y m20 m21 hp => pre w pd ct be bs pf ps tn a1 a2 a3 a4 a5 a6 a7 a8 a9 a10 a11 a12 a13 a14 a15 a16 a17 a18 a19 a20 a21 post X Y (fun _ => ⟨pk_in (2 * pS i) 648 (by omega), nm_r (e' := upd a20 (2 * pS i) (nI (2 * pS i))) (by rw [nI_clamp (by omega)]) ⟨pk_in S.1 648 (by omega), nm_r (e' := upd a21 S.1 (nI (2 * pS i))) (by rw [nI_clamp (by omega)]) (nm_r (nI_1 S.1) (nm_r (nI_1 i) (hw w pd ct be bs pf ps tn a1 a2 a3 a4 a5 a6 a7 a8 a9 a10 a11 a12 a13 a14 a15 a16 a17 a18 a19 _ _ post X Y (ag_upd m20 rfl) (fun p hp' => ?_) hp)))⟩⟩) (fun z => absurd hu z)⟩
      by_cases e : p = S.1
      · rw [e, pk_us]
        exact congrArg nI (if_pos rfl).symm
      · have hp2 : p < S.1 + 1 := hp'
        rw [pk_un e, m21 p (by omega)]
        exact congrArg nI (if_neg e).symm
    · obtain ⟨r, S', hr, hw⟩ := ih (i + 1) S (by omega) (by omega) hI (fun y hy => by
          rw [hv y hy]
          constructor
          · rintro ⟨j, hj, h1, h2⟩
            exact ⟨j, by omega, h1, h2⟩
          · rintro ⟨j, hj, h1, h2⟩
            by_cases g : j = i
            · rw [g] at h2
              exact absurd h2 hu
            · exact ⟨j, by omega, h1, h2⟩) hs
      exact ⟨r, S', hr, fun w pd ct be bs pf ps tn a1 a2 a3 a4 a5 a6 a7 a8 a9 a10 a11 a12 a13 a14 a15 a16 a17 a18 a19 a20 a21 post X Y m20 m21 hp => pre w pd ct be bs pf ps tn a1 a2 a3 a4 a5 a6 a7 a8 a9 a10 a11 a12 a13 a14 a15 a16 a17 a18 a19 a20 a21 post X Y (fun z => absurd z hu) (fun _ => nm_r (nI_1 i) (hw w pd ct be bs pf ps tn a1 a2 a3 a4 a5 a6 a7 a8 a9 a10 a11 a12 a13 a14 a15 a16 a17 a18 a19 a20 a21 post X Y m20 m21 hp))⟩
theorem ag_se2 {t : Nat} (ht : t ≤ 26) {w pd ct be bs pf ps tn : Int32} {a1 a2 a3 a4 a5 a6 a7 a8 a9 a10 a11 a12 a13 a14 a15 a16 a17 a18 a19 a20 a21 : Nat → Int32} {post : Int32 → St1 → Prop} (htn : tn = nI t) (h : ∀ a20' : Nat → Int32, (∀ z, z < 24 * (t + 1) → a20' z = -1) → ∃ n, wX_search_32 post w pd ct be bs pf ps tn n 0 0 a1 a2 a3 a4 a5 a6 a7 a8 a9 a10 a11 a12 a13 a14 a15 a16 a17 a18 a19 a20' a21) :
    ∀ (m i : Nat) (a20 : Nat → Int32), i + m = 24 * (t + 1) → (∀ z, z < i → a20 z = -1) → wX_search_2 post w pd ct be bs pf ps tn (m + 1) (nI i) a1 a2 a3 a4 a5 a6 a7 a8 a9 a10 a11 a12 a13 a14 a15 a16 a17 a18 a19 a20 a21 := by
  have tw : (24 : Int32) * (tn + 1) = nI (24 * (t + 1)) := by rw [htn, nI_1, show (24 : Int32) = nI 24 from rfl, pk_mul]
  intro m
  induction m with
  | zero =>
    intro i a20 hi hI
    exact pk_le (24 * (t + 1)) i (fun _ => h a20 (fun z hz => hI z (by omega))) (fun z => absurd z (by omega)) tw
  | succ m ih =>
    intro i a20 hi hI
    exact pk_le (24 * (t + 1)) i (fun z => absurd z (by omega)) (fun _ => ⟨pk_in i 648 (by omega), nm_r (e' := upd a20 i (-1)) (by rw [nI_clamp (by omega)]) (nm_r (nI_1 i) (ih (i + 1) _ (by omega) (ag_fill (f := fun _ => -1) hI rfl)))⟩) tw
theorem ag_search {ST U FF FT : Nat → Int32} {t k : Nat} {wh pS gs : Nat → Nat} (ok : ag_ok ST) (ht : t ≤ 26) (hff : ag_ff t FF) (hY : ag_Yo k wh pS gs) : ∃ r S', ag_res ST U FF FT t k pS gs r S' ∧ ∀ (w pd ct be bs pf ps tn : Int32) (a1 a2 a3 a4 a5 a6 a7 a8 a9 a10 a11 a12 a13 a14 a15 a16 a17 a18 a19 a20 a21 : Nat → Int32) (post : Int32 → St1 → Prop), ag_X t ST U FF FT tn a4 a17 a18 a19 → ag_Y k wh pS gs ct a2 a3 a7 → (∀ a20' a21' : Nat → Int32, (∀ z, z < 24 * (t + 1) → a20' z = S'.2.1 z) → post r (w, pd, ct, be, bs, pf, ps, tn, a1, a2, a3, a4, a5, a6, a7, a8, a9, a10, a11, a12, a13, a14, a15, a16, a17, a18, a19, a20', a21')) → wpX_search post (w, pd, ct, be, bs, pf, ps, tn, a1, a2, a3, a4, a5, a6, a7, a8, a9, a10, a11, a12, a13, a14, a15, a16, a17, a18, a19, a20, a21) := by
  have m1 : ¬ ¬ (-1 : Int32) < 0 := by decide
  obtain ⟨r, S', hr, hw⟩ := ag_se32 (U := U) (FT := FT) ok ht hff hY k 0 (0, fun _ => -1, fun _ => 0) (by omega) (Nat.le_refl 0) ⟨fun p hp => absurd hp (Nat.not_lt_zero p), fun p q _ hq => absurd hq (Nat.not_lt_zero q), fun y _ hy => absurd hy m1, fun p hp => absurd hp (Nat.not_lt_zero p)⟩ (fun y _ => ⟨fun z => absurd z m1, fun ⟨j, hj, _⟩ => absurd hj (by omega)⟩) (fun y _ z => absurd z m1)
  refine ⟨r, S', hr, fun w pd ct be bs pf ps tn a1 a2 a3 a4 a5 a6 a7 a8 a9 a10 a11 a12 a13 a14 a15 a16 a17 a18 a19 a20 a21 post X Y hp => ?_⟩
  unfold wpX_search
  exact ⟨24 * (t + 1) + 1, ag_se2 (a20 := a20) ht X.1 (fun a20' h20 => ⟨k + 1, hw w pd ct be bs pf ps tn a1 a2 a3 a4 a5 a6 a7 a8 a9 a10 a11 a12 a13 a14 a15 a16 a17 a18 a19 a20' a21 post X Y h20 (fun p hp => absurd hp (Nat.not_lt_zero p)) hp⟩) (24 * (t + 1)) 0 a20 (by omega) (fun z hz => absurd hz (by omega))⟩
/-- lead: along the nodes found; with one root rt, its cell is used in the end -/
theorem ag_le4 {ST : Nat → Int32} {t rt : Nat} {sg : Prop} {S : ag_SS} (ht : t ≤ 26) (hI : ag_I (24 * (t + 1)) S) (s0 : sg → rt % 2 = 0 ∧ rt < 24 * (t + 1)) (s1 : sg → ∀ y, y < 24 * (t + 1) → S.2.1 y = nI y → y = rt) (s2 : sg → ∀ y, y < 24 * (t + 1) → S.2.1 y = nI rt → y = rt ∨ y = rt + 1) (s3 : sg → S.2.1 rt = nI rt) :
    ∀ (m i p : Nat) (U FF FT : Nat → Int32), i + m = 648 → p < S.1 → ag_ff t FF → ∃ U' FF' FT' : Nat → Int32, ag_ff t FF' ∧ (sg → p < m → (S.2.2 p = rt → ¬ U (rt / 2) = 0) → ¬ U' (rt / 2) = 0) ∧ ∀ (w pd ct be bs pf ps tn : Int32) (a1 a2 a3 a4 a5 a6 a7 a8 a9 a10 a11 a12 a13 a14 a15 a16 a17 a18 a19 a20 a21 : Nat → Int32) (post : St1 → Prop), ag_X t ST U FF FT tn a4 a17 a18 a19 → (∀ z, z < 24 * (t + 1) → a20 z = S.2.1 z) → (∀ a17' a18' a19' : Nat → Int32, ag_X t ST U' FF' FT' tn a4 a17' a18' a19' → post (w, pd, ct, be, bs, pf, ps, tn, a1, a2, a3, a4, a5, a6, a7, a8, a9, a10, a11, a12, a13, a14, a15, a16, a17', a18', a19', a20, a21)) → wX_lead_4 post (m + 1) (nI (S.2.2 p)) (nI i) w pd ct be bs pf ps tn a1 a2 a3 a4 a5 a6 a7 a8 a9 a10 a11 a12 a13 a14 a15 a16 a17 a18 a19 a20 a21 := by
  intro m
  induction m with
  | zero =>
    intro i p U FF FT hi hp hff
    exact ⟨U, FF, FT, hff, fun _ z => absurd z (by omega), fun w pd ct be bs pf ps tn a1 a2 a3 a4 a5 a6 a7 a8 a9 a10 a11 a12 a13 a14 a15 a16 a17 a18 a19 a20 a21 post X m20 hp => pk_le 648 i (fun _ => hp a17 a18 a19 X) (fun z => absurd z (by omega))⟩
  | succ m ih =>
    intro i p U FF FT hi hp hff
    have hx := (hI.1 p hp).1
    obtain ⟨q, hq, eq⟩ := hI.2.2.2 p hp
    have hy := (hI.1 q (by omega)).1
    by_cases hself : S.2.1 (S.2.2 p) = nI (S.2.2 p)
    · exact ⟨U, FF, FT, hff, fun s _ h => h (s1 s _ hx hself), fun w pd ct be bs pf ps tn a1 a2 a3 a4 a5 a6 a7 a8 a9 a10 a11 a12 a13 a14 a15 a16 a17 a18 a19 a20 a21 post X m20 hp => pk_le 648 i (fun z => absurd z (by omega)) (fun _ => ⟨pk_in (S.2.2 p) 648 (by omega), br_t (by rw [nI_clamp (by omega), m20 _ hx]; exact hself) (hp a17 a18 a19 X)⟩)⟩
    · have hqp : q < p := by
        rcases Nat.lt_or_ge q p with z | z
        · exact z
        · have : q = p := by omega
          rw [this] at eq
          exact absurd eq hself
      have xrt : sg → S.2.2 p ≠ rt := fun s e => hself (by rw [e]; exact s3 s)
      generalize ex : S.2.2 p = x at *
      generalize ey : S.2.2 q = y at *
      have dx : nI x / 2 = nI (x / 2) := pk_div (d := 2) (by omega) (by omega) (by omega)
      have dy : nI y / 2 = nI (y / 2) := pk_div (d := 2) (by omega) (by omega) (by omega)
      have rm : nI x - nI x / 2 * 2 = nI (x % 2) := pk_rem (d := 2) (by omega) (by omega) (by omega)
      have pre : ∀ (w pd ct be bs pf ps tn : Int32) (a1 a2 a3 a4 a5 a6 a7 a8 a9 a10 a11 a12 a13 a14 a15 a16 a17 a18 a19 a20 a21 : Nat → Int32) (post : St1 → Prop), (∀ z, z < 24 * (t + 1) → a20 z = S.2.1 z) → (x / 2 = y / 2 → x % 2 = 1 → wX_lead_65 post (wX_lead_4 post (m + 1)) (nI i) (nI y) (nI (x / 2)) 1 (nI (x / 2)) w pd ct be bs pf ps tn a1 a2 a3 a4 a5 a6 a7 a8 a9 a10 a11 a12 a13 a14 a15 a16 a17 a18 a19 a20 a21) → (x / 2 = y / 2 → ¬ x % 2 = 1 → wX_lead_65 post (wX_lead_4 post (m + 1)) (nI i) (nI y) (nI (x / 2)) 0 (nI (x / 2)) w pd ct be bs pf ps tn a1 a2 a3 a4 a5 a6 a7 a8 a9 a10 a11 a12 a13 a14 a15 a16 a17 a18 a19 a20 a21) → (¬ x / 2 = y / 2 → x % 2 = 0 → vp_in (nI (y / 2)) 324 ∧ ∀ am, am = upd a19 (nI (y / 2)).toNatClampNeg (nI (x / 2)) → (vp_in (nI (x / 2)) 324 ∧ ∀ an, an = upd a18 (nI (x / 2)).toNatClampNeg (nI (y / 2)) → ∀ x3, x3 = nI i + 1 → wX_lead_4 post (m + 1) (nI y) x3 w pd ct be bs pf ps tn a1 a2 a3 a4 a5 a6 a7 a8 a9 a10 a11 a12 a13 a14 a15 a16 a17 an am a20 a21)) → (¬ x / 2 = y / 2 → ¬ x % 2 = 0 → ∀ x3, x3 = nI i + 1 → wX_lead_4 post (m + 1) (nI y) x3 w pd ct be bs pf ps tn a1 a2 a3 a4 a5 a6 a7 a8 a9 a10 a11 a12 a13 a14 a15 a16 a17 a18 a19 a20 a21) → wX_lead_4 post (m + 1 + 1) (nI x) (nI i) w pd ct be bs pf ps tn a1 a2 a3 a4 a5 a6 a7 a8 a9 a10 a11 a12 a13 a14 a15 a16 a17 a18 a19 a20 a21 := by
        intro w pd ct be bs pf ps tn a1 a2 a3 a4 a5 a6 a7 a8 a9 a10 a11 a12 a13 a14 a15 a16 a17 a18 a19 a20 a21 post m20 q1 q2 q3 q4
        refine pk_le 648 i (fun z => absurd z (by omega)) (fun _ => ⟨pk_in x 648 (by omega), br_f (by rw [nI_clamp (by omega), m20 _ hx]; exact hself) ⟨pk_in x 648 (by omega), nm_r (e' := nI y) (by rw [nI_clamp (by omega), m20 _ hx, eq]) ⟨by decide, nm_r dx ⟨by decide, nm_r dy ?_⟩⟩⟩⟩)
        exact pk_eq (x / 2) (y / 2) (fun e1 => ⟨by decide, pk_eq (x % 2) 1 (fun e2 => q1 e1 e2) (fun e2 => q2 e1 e2) rm⟩) (fun e1 => ⟨by decide, pk_eq (x % 2) 0 (fun e2 => q3 e1 e2) (fun e2 => q4 e1 e2) rm⟩)
      by_cases e1 : x / 2 = y / 2
      · by_cases e2 : x % 2 = 1
        · obtain ⟨U', FF', FT', hff', hs, hw⟩ := ih (i + 1) q (upd U (x / 2) 1) FF FT (by omega) (by omega) hff
          refine ⟨U', FF', FT', hff', fun s hm _ => hs s (by omega) (fun e => ?_), fun w pd ct be bs pf ps tn a1 a2 a3 a4 a5 a6 a7 a8 a9 a10 a11 a12 a13 a14 a15 a16 a17 a18 a19 a20 a21 post X m20 hp => pre w pd ct be bs pf ps tn a1 a2 a3 a4 a5 a6 a7 a8 a9 a10 a11 a12 a13 a14 a15 a16 a17 a18 a19 a20 a21 post m20 (fun _ _ => ?_) (fun _ z => absurd e2 z) (fun z => absurd e1 z) (fun z => absurd e1 z)⟩
          · have ey' : y = rt := ey ▸ e
            rcases s2 s x hx (by rw [eq, ey']) with z | z
            · exact absurd z (xrt s)
            · have h0 := (s0 s).1
              rw [show rt / 2 = x / 2 by omega, pk_us]
              decide
          · refine ⟨pk_in (x / 2) 324 (by omega), nm_r (e' := upd a17 (x / 2) 1) (by rw [nI_clamp (by omega)]; rfl) ?_⟩
            unfold wpX_clearCell
            refine ⟨pk_in (x / 2) 324 (by omega), br_f (by rw [nI_clamp (by omega), pk_us]; decide) (nm_r (nI_1 i) ?_)⟩
            rw [ey] at hw
            exact hw w pd ct be bs pf ps tn a1 a2 a3 a4 a5 a6 a7 a8 a9 a10 a11 a12 a13 a14 a15 a16 (upd a17 (x / 2) 1) a18 a19 a20 a21 post ⟨X.1, X.2.1, ag_upd X.2.2.1 rfl, X.2.2.2.1, X.2.2.2.2⟩ m20 hp
        · obtain ⟨U', FF', FT', hff', hs, hw⟩ := ih (i + 1) q (upd U (x / 2) 0) (upd FF (x / 2) (-1)) (upd FT (x / 2) (-1)) (by omega) (by omega) (fun c hc => by
            by_cases g : c = x / 2
            · rw [g, pk_us]
              exact Or.inl (by decide)
            · rw [pk_un g]
              exact hff c hc)
          refine ⟨U', FF', FT', hff', fun s hm _ => hs s (by omega) (fun e => ?_), fun w pd ct be bs pf ps tn a1 a2 a3 a4 a5 a6 a7 a8 a9 a10 a11 a12 a13 a14 a15 a16 a17 a18 a19 a20 a21 post X m20 hp => pre w pd ct be bs pf ps tn a1 a2 a3 a4 a5 a6 a7 a8 a9 a10 a11 a12 a13 a14 a15 a16 a17 a18 a19 a20 a21 post m20 (fun _ z => absurd z e2) (fun _ _ => ?_) (fun z => absurd e1 z) (fun z => absurd e1 z)⟩
          · have ey' : y = rt := ey ▸ e
            rcases s2 s x hx (by rw [eq, ey']) with z | z
            · exact absurd z (xrt s)
            · have h0 := (s0 s).1
              omega
          · refine ⟨pk_in (x / 2) 324 (by omega), nm_r (e' := upd a17 (x / 2) 0) (by rw [nI_clamp (by omega)]; rfl) ?_⟩
            unfold wpX_clearCell
            refine ⟨pk_in (x / 2) 324 (by omega), br_t (by rw [nI_clamp (by omega), pk_us]) ⟨pk_in (x / 2) 324 (by omega), nm_r (e' := upd a18 (x / 2) (-1)) (by rw [nI_clamp (by omega)]) ⟨pk_in (x / 2) 324 (by omega), nm_r (e' := upd a19 (x / 2) (-1)) (by rw [nI_clamp (by omega)]) (nm_r (nI_1 i) ?_)⟩⟩⟩
            rw [ey] at hw
            exact hw w pd ct be bs pf ps tn a1 a2 a3 a4 a5 a6 a7 a8 a9 a10 a11 a12 a13 a14 a15 a16 (upd a17 (x / 2) 0) (upd a18 (x / 2) (-1)) (upd a19 (x / 2) (-1)) a20 a21 post ⟨X.1, X.2.1, ag_upd X.2.2.1 rfl, ag_upd X.2.2.2.1 rfl, ag_upd X.2.2.2.2 rfl⟩ m20 hp
      · by_cases e2 : x % 2 = 0
        · obtain ⟨U', FF', FT', hff', hs, hw⟩ := ih (i + 1) q U (upd FF (x / 2) (nI (y / 2))) (upd FT (y / 2) (nI (x / 2))) (by omega) (by omega) (fun c hc => by
            by_cases g : c = x / 2
            · rw [g, pk_us]
              exact Or.inr ⟨y / 2, by omega, rfl⟩
            · rw [pk_un g]
              exact hff c hc)
          refine ⟨U', FF', FT', hff', fun s hm _ => hs s (by omega) (fun e => ?_), fun w pd ct be bs pf ps tn a1 a2 a3 a4 a5 a6 a7 a8 a9 a10 a11 a12 a13 a14 a15 a16 a17 a18 a19 a20 a21 post X m20 hp => pre w pd ct be bs pf ps tn a1 a2 a3 a4 a5 a6 a7 a8 a9 a10 a11 a12 a13 a14 a15 a16 a17 a18 a19 a20 a21 post m20 (fun z => absurd z e1) (fun z => absurd z e1) (fun _ _ => ?_) (fun _ z => absurd e2 z)⟩
          · have ey' : y = rt := ey ▸ e
            rcases s2 s x hx (by rw [eq, ey']) with z | z
            · exact absurd z (xrt s)
            · have h0 := (s0 s).1
              omega
          · refine ⟨pk_in (y / 2) 324 (by omega), nm_r (e' := upd a19 (y / 2) (nI (x / 2))) (by rw [nI_clamp (by omega)]) ⟨pk_in (x / 2) 324 (by omega), nm_r (e' := upd a18 (x / 2) (nI (y / 2))) (by rw [nI_clamp (by omega)]) (nm_r (nI_1 i) ?_)⟩⟩
            rw [ey] at hw
            exact hw w pd ct be bs pf ps tn a1 a2 a3 a4 a5 a6 a7 a8 a9 a10 a11 a12 a13 a14 a15 a16 a17 (upd a18 (x / 2) (nI (y / 2))) (upd a19 (y / 2) (nI (x / 2))) a20 a21 post ⟨X.1, X.2.1, X.2.2.1, ag_upd X.2.2.2.1 rfl, ag_upd X.2.2.2.2 rfl⟩ m20 hp
        · obtain ⟨U', FF', FT', hff', hs, hw⟩ := ih (i + 1) q U FF FT (by omega) (by omega) hff
          refine ⟨U', FF', FT', hff', fun s hm _ => hs s (by omega) (fun e => ?_), fun w pd ct be bs pf ps tn a1 a2 a3 a4 a5 a6 a7 a8 a9 a10 a11 a12 a13 a14 a15 a16 a17 a18 a19 a20 a21 post X m20 hp => pre w pd ct be bs pf ps tn a1 a2 a3 a4 a5 a6 a7 a8 a9 a10 a11 a12 a13 a14 a15 a16 a17 a18 a19 a20 a21 post m20 (fun z => absurd z e1) (fun z => absurd z e1) (fun _ z => absurd z e2) (fun _ _ => nm_r (nI_1 i) ?_)⟩
          · have ey' : y = rt := ey ▸ e
            rcases s2 s x hx (by rw [eq, ey']) with z | z
            · exact absurd z (xrt s)
            · have h0 := (s0 s).1
              omega
          · rw [ey] at hw
            exact hw w pd ct be bs pf ps tn a1 a2 a3 a4 a5 a6 a7 a8 a9 a10 a11 a12 a13 a14 a15 a16 a17 a18 a19 a20 a21 post X m20 hp
end
section
/-! flow and swarm; for one walker: the shortest length -/
theorem ag_noroot {ST U FF FT : Nat → Int32} {t k : Nat} {pS : Nat → Nat} {S : ag_SS} (ht : t ≤ 26) (hI : ag_I (24 * (t + 1)) S) (hT : ag_tree ST U FF FT t k pS S) (hu : ∀ j, j < k → ¬ U (pS j) = 0) : S.1 = 0 := by
  rcases Nat.eq_zero_or_pos S.1 with z | z
  · exact z
  · obtain ⟨hx, hv⟩ := hI.1 0 z
    obtain ⟨q, hq, eq⟩ := hI.2.2.2 0 z
    have q0 : q = 0 := by omega
    rw [q0] at eq
    rcases hT.1 _ hx hv with ⟨⟨j, hj, _, hj0⟩, _⟩ | ⟨x, hx', _, ex, hd⟩
    · exact absurd hj0 (hu j hj)
    · have : x = S.2.2 0 := (nI_eq (by omega) (by omega)).mp (ex.symm.trans eq)
      rw [this] at hd
      exact absurd hd ag_ed_ne
theorem ag_sound {ST U FF FT : Nat → Int32} {t k : Nat} {pS : Nat → Nat} {S : ag_SS} (ht : t ≤ 26) (k1 : k = 1) (hps : pS 0 < 12) (hU : ∀ c, c < 12 * (t + 1) → U c = 0) (hI : ag_I (24 * (t + 1)) S) (hT : ag_tree ST U FF FT t k pS S) : ∀ n p, p < n → p < S.1 → ag_F ST (pS 0) (S.2.2 p / 2 / 12) (S.2.2 p / 2 % 12) := by
  intro n
  induction n with
  | zero => intro p hp; exact absurd hp (Nat.not_lt_zero p)
  | succ n ih =>
    intro p hpn hp
    obtain ⟨hy, hv⟩ := hI.1 p hp
    obtain ⟨q, hq, eq⟩ := hI.2.2.2 p hp
    rcases hT.1 _ hy hv with ⟨⟨j, hj, ej, _⟩, _⟩ | ⟨x, hx, _, ex, hd⟩
    · have j0 : j = 0 := by omega
      rw [j0] at ej
      rw [ej, show 2 * pS 0 / 2 / 12 = 0 by omega, show 2 * pS 0 / 2 % 12 = pS 0 by omega]
      exact rfl
    · have hqy := (hI.1 q (by omega)).1
      have exq : x = S.2.2 q := (nI_eq (by omega) (by omega)).mp (ex.symm.trans eq)
      have hne : q ≠ p := by
        intro e
        rw [exq, e] at hd
        exact ag_ed_ne hd
      have hF := ih q (by omega) (by omega)
      rw [← exq] at hF
      generalize S.2.2 p = y at *
      rcases hd with ⟨h2, _, e⟩ | ⟨_, h, _⟩ | ⟨_, h, _⟩ | ⟨h2, hc, o, ho, j, hj, en, _, e⟩
      · rw [show y / 2 = x / 2 by omega]
        exact hF
      · exact absurd (hU _ (by omega)) h
      · exact absurd (hU _ (by omega)) h
      · rw [show y / 2 / 12 = x / 2 / 12 + 1 by omega, show y / 2 % 12 = j by omega]
        by_cases g : o = 0
        · left
          unfold ag_nt at en
          rw [if_pos g, nI_eq (by omega) (by omega)] at en
          rw [← en]
          exact hF
        · right
          exact ⟨x / 2 % 12, by omega, hF, ag_nt_E g ho en⟩
theorem ag_compl {ST U FF FT : Nat → Int32} {t k : Nat} {pS : Nat → Nat} {S : ag_SS} (ht : t ≤ 26) (k1 : k = 1) (hps : pS 0 < 12) (hU : ∀ c, c < 12 * (t + 1) → U c = 0) (hFT : ∀ c, c < 12 * (t + 1) → FT c = -1) (hI : ag_I (24 * (t + 1)) S) (hT : ag_tree ST U FF FT t k pS S)
    (hcl : ∀ p, p < S.1 → ∀ y, y < 24 * (t + 1) → ag_ed ST U FF FT t (S.2.2 p) y → ¬ S.2.1 y < 0) : ∀ τ, τ ≤ t → ∀ c, c < 12 → ag_F ST (pS 0) τ c → ¬ S.2.1 (2 * (12 * τ + c) + 1) < 0 := by
  have cl : ∀ x y, x < 24 * (t + 1) → y < 24 * (t + 1) → ¬ S.2.1 x < 0 → ag_ed ST U FF FT t x y → ¬ S.2.1 y < 0 := by
    intro x y hx hy hv hd
    obtain ⟨p, hp, ep⟩ := hI.2.2.1 x hx hv
    rw [← ep] at hd
    exact hcl p hp y hy hd
  have up : ∀ c, c < 12 * (t + 1) → ¬ S.2.1 (2 * c) < 0 → ¬ S.2.1 (2 * c + 1) < 0 := by
    intro c hc hv
    exact cl (2 * c) (2 * c + 1) (by omega) (by omega) hv (Or.inl ⟨by omega, hU _ (by omega), rfl⟩)
  intro τ
  induction τ with
  | zero =>
    intro _ c hc hF
    have e : c = pS 0 := hF
    rw [e, show 12 * 0 + pS 0 = pS 0 by omega]
    exact up _ (by omega) (hT.2 _ ⟨0, by omega, rfl, hU _ (by omega)⟩)
  | succ τ ih =>
    intro hτ c hc hF
    refine up _ (by omega) ?_
    have step : ∀ j, j < 12 → ag_F ST (pS 0) τ j → (∃ o, o < 5 ∧ ag_nt ST j o = nI c) → ¬ S.2.1 (2 * (12 * (τ + 1) + c)) < 0 := by
      intro j hj hFj ⟨o, ho, eo⟩
      refine cl (2 * (12 * τ + j) + 1) (2 * (12 * (τ + 1) + c)) (by omega) (by omega) (ih (by omega) j hj hFj) (Or.inr (Or.inr (Or.inr ⟨by omega, by omega, o, ho, c, hc, ?_, ?_, ?_⟩)))
      · rw [show (2 * (12 * τ + j) + 1) / 2 % 12 = j by omega]
        exact eo
      · rw [hFT _ (by omega)]
        exact ag_m1 _ (by omega)
      · omega
    rcases hF with h | ⟨j, hj, hFj, d, hd, ed⟩
    · refine step c hc h ⟨0, by omega, ?_⟩
      unfold ag_nt
      rw [if_pos rfl]
    · refine step j hj hFj ⟨d + 1, by omega, ?_⟩
      unfold ag_nt
      rw [if_neg (by omega)]
      exact ed
theorem ag_fl48 {ST : Nat → Int32} {t k : Nat} {wh pS gs : Nat → Nat} (ok : ag_ok ST) (ht : t ≤ 26) (hY : ag_Yo k wh pS gs) :
    ∀ (m i n : Nat) (U FF FT : Nat → Int32), i + m = 3 → ag_ff t FF → ∃ v : Int32, ((∀ j, j < k → ¬ U (pS j) = 0) → v = nI n) ∧ (1 ≤ m → k = 1 → (∀ c, c < 12 * (t + 1) → U c = 0) → (∀ c, c < 12 * (t + 1) → FT c = -1) → (ag_F ST (pS 0) t (gs 0) → v = nI (n + 1)) ∧ (¬ ag_F ST (pS 0) t (gs 0) → v = nI n)) ∧ ∀ (w pd ct be bs pf ps tn : Int32) (a1 a2 a3 a4 a5 a6 a7 a8 a9 a10 a11 a12 a13 a14 a15 a16 a17 a18 a19 a20 a21 : Nat → Int32) (post : Int32 → St1 → Prop), ag_X t ST U FF FT tn a4 a17 a18 a19 → ag_Y k wh pS gs ct a2 a3 a7 → (∀ a17' a18' a19' a20' a21' : Nat → Int32, post v (w, pd, ct, be, bs, pf, ps, tn, a1, a2, a3, a4, a5, a6, a7, a8, a9, a10, a11, a12, a13, a14, a15, a16, a17', a18', a19', a20', a21')) → wX_flow_48 post (m + 1) (nI n) 1 (nI i) w pd ct be bs pf ps tn a1 a2 a3 a4 a5 a6 a7 a8 a9 a10 a11 a12 a13 a14 a15 a16 a17 a18 a19 a20 a21 := by
  intro m
  induction m with
  | zero =>
    intro i n U FF FT hi hff
    exact ⟨nI n, fun _ => rfl, fun z => absurd z (by omega), fun w pd ct be bs pf ps tn a1 a2 a3 a4 a5 a6 a7 a8 a9 a10 a11 a12 a13 a14 a15 a16 a17 a18 a19 a20 a21 post X Y hp => pk_le 3 i (fun _ => hp a17 a18 a19 a20 a21) (fun z => absurd z (by omega))⟩
  | succ m ih =>
    intro i n U FF FT hi hff
    obtain ⟨r, S, ⟨hI, hT, hres⟩, hw⟩ := ag_search (U := U) (FT := FT) ok ht hff hY
    have h648 := ag_I_le hI
    rcases hres with ⟨e, hcl⟩ | ⟨p, hp, e, hf⟩
    · subst e
      refine ⟨nI n, fun _ => rfl, fun _ k1 hU hFT => ⟨fun hF => ?_, fun _ => rfl⟩, fun w pd ct be bs pf ps tn a1 a2 a3 a4 a5 a6 a7 a8 a9 a10 a11 a12 a13 a14 a15 a16 a17 a18 a19 a20 a21 post X Y hp => pk_le 3 i (fun z => absurd z (by omega)) (fun _ => br_f (by decide) (hw w pd ct be bs pf ps tn a1 a2 a3 a4 a5 a6 a7 a8 a9 a10 a11 a12 a13 a14 a15 a16 a17 a18 a19 a20 a21 _ X Y (fun a20' a21' h20 => br_t (by decide) (br_t rfl (nm_r (nI_1 i) (pk_le 3 (i + 1) (fun _ => hp a17 a18 a19 a20' a21') (fun _ => br_t rfl (hp a17 a18 a19 a20' a21'))))))))⟩
      have g12 := hY.2.2.2.1 0 (by omega)
      have hv := ag_compl ht k1 (hY.2.2.1 0 (by omega)) hU hFT hI hT (fun p hp => (hcl p hp).2) t (Nat.le_refl t) (gs 0) g12 hF
      obtain ⟨p, hp, ep⟩ := hI.2.2.1 _ (by omega) hv
      refine absurd ?_ (hcl p hp).1
      rw [ep]
      exact ⟨by omega, by omega, hU _ (by omega), 0, by omega, by omega⟩
    · subst e
      have hx := (hI.1 p hp).1
      obtain ⟨U', FF', FT', hff', hs, hl⟩ := ag_le4 (ST := ST) (t := t) (rt := 2 * pS 0) (sg := k = 1 ∧ ∀ c, c < 12 * (t + 1) → U c = 0) (S := S) ht hI
        (fun s => ⟨by omega, by have := hY.2.2.1 0 (by omega); omega⟩)
        (fun s y hy ey => by
          have hv : ¬ S.2.1 y < 0 := by rw [ey]; exact nI_pos (by omega)
          rcases hT.1 y hy hv with ⟨⟨j, hj, ej, _⟩, _⟩ | ⟨x, hx', _, ex, hd⟩
          · rw [ej, show j = 0 by omega]
          · have : x = y := (nI_eq (by omega) (by omega)).mp (ex.symm.trans ey)
            rw [this] at hd
            exact absurd hd ag_ed_ne)
        (fun s y hy ey => by
          have p12 := hY.2.2.1 0 (by omega)
          have hv : ¬ S.2.1 y < 0 := by rw [ey]; exact nI_pos (by omega)
          rcases hT.1 y hy hv with ⟨⟨j, hj, ej, _⟩, _⟩ | ⟨x, hx', _, ex, hd⟩
          · left
            rw [ej, show j = 0 by omega]
          · have : x = 2 * pS 0 := (nI_eq (by omega) (by omega)).mp (ex.symm.trans ey)
            rw [this] at hd
            rcases hd with ⟨_, _, h⟩ | ⟨_, h, _⟩ | ⟨h, _⟩ | ⟨h, _⟩
            · exact Or.inr h
            · exact absurd (s.2 _ (by omega)) h
            · omega
            · omega)
        (fun s => by
          have p12 := hY.2.2.1 0 (by omega)
          have hv : ¬ S.2.1 (2 * pS 0) < 0 := hT.2 _ ⟨0, by omega, rfl, s.2 _ (by omega)⟩
          rcases hT.1 _ (by omega) hv with ⟨_, h⟩ | ⟨x, hx', _, ex, hd⟩
          · exact h
          · exfalso
            rcases hd with ⟨_, _, h⟩ | ⟨_, _, _, h⟩ | ⟨_, h, _⟩ | ⟨_, _, o, _, j, _, _, _, h⟩
            · omega
            · omega
            · exact absurd (s.2 _ (by omega)) h
            · omega)
        648 0 p U FF FT rfl hp hff
      obtain ⟨v, h1, h2, hv⟩ := ih (i + 1) (n + 1) U' FF' FT' (by omega) hff'
      refine ⟨v, fun hu => ?_, fun _ k1 hU hFT => ⟨fun _ => h1 (fun j hj => ?_), fun hF => ?_⟩, fun w pd ct be bs pf ps tn a1 a2 a3 a4 a5 a6 a7 a8 a9 a10 a11 a12 a13 a14 a15 a16 a17 a18 a19 a20 a21 post X Y hp => pk_le 3 i (fun z => absurd z (by omega)) (fun _ => br_f (by decide) (hw w pd ct be bs pf ps tn a1 a2 a3 a4 a5 a6 a7 a8 a9 a10 a11 a12 a13 a14 a15 a16 a17 a18 a19 a20 a21 _ X Y (fun a20' a21' h20 => br_f (nI_pos (by omega)) (br_f (by decide) ?_))))⟩
      · have := ag_noroot ht hI hT hu
        omega
      · rw [show j = 0 by omega]
        have := hs ⟨k1, hU⟩ (by omega) (fun z => absurd hf.1 (by omega))
        rw [show 2 * pS 0 / 2 = pS 0 by omega] at this
        exact this
      · have hF2 := ag_sound ht k1 (hY.2.2.1 0 (by omega)) hU hI hT (p + 1) p (by omega) hp
        obtain ⟨f1, f2, f3, j, hj, ej⟩ := hf
        rw [show j = 0 by omega] at ej
        rw [show S.2.2 p / 2 / 12 = t by omega, show S.2.2 p / 2 % 12 = gs 0 by omega] at hF2
        exact absurd hF2 hF
      · unfold wpX_lead
        exact ⟨648 + 1, hl w pd ct be bs pf ps tn a1 a2 a3 a4 a5 a6 a7 a8 a9 a10 a11 a12 a13 a14 a15 a16 a17 a18 a19 a20' a21' _ X h20 (fun a17' a18' a19' X' => nm_r (nI_1 n) (nm_r (nI_1 i) (hv w pd ct be bs pf ps tn a1 a2 a3 a4 a5 a6 a7 a8 a9 a10 a11 a12 a13 a14 a15 a16 a17' a18' a19' a20' a21' post X' Y hp)))⟩
theorem ag_fl2 {t : Nat} (ht : t ≤ 26) {w pd ct be bs pf ps tn : Int32} {a1 a2 a3 a4 a5 a6 a7 a8 a9 a10 a11 a12 a13 a14 a15 a16 a17 a18 a19 a20 a21 : Nat → Int32} {post : Int32 → St1 → Prop} (htn : tn = nI t) (h : ∀ a17' a18' a19' : Nat → Int32, (∀ c, c < 12 * (t + 1) → a17' c = 0) → (∀ c, c < 12 * (t + 1) → a18' c = -1) → (∀ c, c < 12 * (t + 1) → a19' c = -1) → ∃ n, wX_flow_48 post n 0 1 0 w pd ct be bs pf ps tn a1 a2 a3 a4 a5 a6 a7 a8 a9 a10 a11 a12 a13 a14 a15 a16 a17' a18' a19' a20 a21) :
    ∀ (m i : Nat) (a17 a18 a19 : Nat → Int32), i + m = 12 * (t + 1) → (∀ c, c < i → a17 c = 0) → (∀ c, c < i → a18 c = -1) → (∀ c, c < i → a19 c = -1) → wX_flow_2 post w pd ct be bs pf ps tn (m + 1) (nI i) a1 a2 a3 a4 a5 a6 a7 a8 a9 a10 a11 a12 a13 a14 a15 a16 a17 a18 a19 a20 a21 := by
  have tw : (12 : Int32) * (tn + 1) = nI (12 * (t + 1)) := by rw [htn, nI_1, show (12 : Int32) = nI 12 from rfl, pk_mul]
  intro m
  induction m with
  | zero =>
    intro i a17 a18 a19 hi h7 h8 h9
    exact pk_le (12 * (t + 1)) i (fun _ => h a17 a18 a19 (fun c hc => h7 c (by omega)) (fun c hc => h8 c (by omega)) (fun c hc => h9 c (by omega))) (fun z => absurd z (by omega)) tw
  | succ m ih =>
    intro i a17 a18 a19 hi h7 h8 h9
    exact pk_le (12 * (t + 1)) i (fun z => absurd z (by omega)) (fun _ => ⟨pk_in i 324 (by omega), nm_r (e' := upd a17 i 0) (by rw [nI_clamp (by omega)]) ⟨pk_in i 324 (by omega), nm_r (e' := upd a18 i (-1)) (by rw [nI_clamp (by omega)]) ⟨pk_in i 324 (by omega), nm_r (e' := upd a19 i (-1)) (by rw [nI_clamp (by omega)]) (nm_r (nI_1 i) (ih (i + 1) _ _ _ (by omega) (ag_fill (f := fun _ => 0) h7 rfl) (ag_fill (f := fun _ => -1) h8 rfl) (ag_fill (f := fun _ => -1) h9 rfl)))⟩⟩⟩) tw
theorem ag_flow {ST : Nat → Int32} {t k : Nat} {wh pS gs : Nat → Nat} (ok : ag_ok ST) (ht : t ≤ 26) (hY : ag_Yo k wh pS gs) : ∃ v : Int32, (k = 1 → (ag_F ST (pS 0) t (gs 0) → v = nI 1) ∧ (¬ ag_F ST (pS 0) t (gs 0) → v = nI 0)) ∧ ∀ (w pd ct be bs pf ps tn : Int32) (a1 a2 a3 a4 a5 a6 a7 a8 a9 a10 a11 a12 a13 a14 a15 a16 a17 a18 a19 a20 a21 : Nat → Int32) (post : Int32 → St1 → Prop), tn = nI t → (∀ i, i < 48 → a4 i = ST i) → ag_Y k wh pS gs ct a2 a3 a7 → (∀ a17' a18' a19' a20' a21' : Nat → Int32, post v (w, pd, ct, be, bs, pf, ps, tn, a1, a2, a3, a4, a5, a6, a7, a8, a9, a10, a11, a12, a13, a14, a15, a16, a17', a18', a19', a20', a21')) → wpX_flow post (w, pd, ct, be, bs, pf, ps, tn, a1, a2, a3, a4, a5, a6, a7, a8, a9, a10, a11, a12, a13, a14, a15, a16, a17, a18, a19, a20, a21) := by
  obtain ⟨v, _, h2, hv⟩ := ag_fl48 ok ht hY 3 0 0 (fun _ => 0) (fun _ => -1) (fun _ => -1) rfl (fun c _ => Or.inl (by show (-1 : Int32) < 0; decide))
  refine ⟨v, fun k1 => h2 (by omega) k1 (fun _ _ => rfl) (fun _ _ => rfl), fun w pd ct be bs pf ps tn a1 a2 a3 a4 a5 a6 a7 a8 a9 a10 a11 a12 a13 a14 a15 a16 a17 a18 a19 a20 a21 post htn h4 Y hp => ?_⟩
  unfold wpX_flow
  exact ⟨12 * (t + 1) + 1, ag_fl2 (a17 := a17) (a18 := a18) (a19 := a19) ht htn (fun a17' a18' a19' h7 h8 h9 => ⟨4, hv w pd ct be bs pf ps tn a1 a2 a3 a4 a5 a6 a7 a8 a9 a10 a11 a12 a13 a14 a15 a16 a17' a18' a19' a20 a21 post ⟨htn, h4, h7, h8, h9⟩ Y hp⟩) (12 * (t + 1)) 0 a17 a18 a19 (by omega) (fun c hc => absurd hc (by omega)) (fun c hc => absurd hc (by omega)) (fun c hc => absurd hc (by omega))⟩
section
variable {w pd : Int32} {a1 a2 a3 : Nat → Int32}
theorem ag_sw21 {ST : Nat → Int32} {k : Nat} {wh pS gs : Nat → Nat} (ok : ag_ok ST) (hY : ag_Yo k wh pS gs) (hk : 1 ≤ k) :
    ∀ (m x : Nat), x + m = 27 → ∃ v : Int32, (k = 1 → (∀ t, t < x → ¬ ag_d ST (gs 0) (pS 0) ≤ t) → v = ag_pv (ag_d ST (gs 0) (pS 0))) ∧ ∀ (ct be bs pf ps tn : Int32) (a4 a5 a6 a7 a8 a9 a10 a11 a12 a13 a14 a15 a16 a17 a18 a19 a20 a21 : Nat → Int32) (post : Int32 → St1 → Prop), (∀ i, i < 48 → a4 i = ST i) → ag_Y k wh pS gs ct a2 a3 a7 → (∀ u', ag_is w pd a1 a2 a3 u' → post v u') → wX_swarm_21 post (m + 1) (nI x) w pd ct be bs pf ps tn a1 a2 a3 a4 a5 a6 a7 a8 a9 a10 a11 a12 a13 a14 a15 a16 a17 a18 a19 a20 a21 := by
  intro m
  induction m with
  | zero =>
    intro x hx
    refine ⟨-2, fun k1 h => ?_, fun ct be bs pf ps tn a4 a5 a6 a7 a8 a9 a10 a11 a12 a13 a14 a15 a16 a17 a18 a19 a20 a21 post _ _ hp => pk_lt 26 x (fun _ => hp _ ⟨rfl, rfl, rfl, rfl, rfl⟩) (fun z => absurd z (by omega))⟩
    rcases ag_d4 ST (gs 0) (pS 0) (hY.2.2.1 0 (by omega)) with z | z
    · exact absurd z (h 11 (by omega))
    · unfold ag_pv
      rw [if_pos z]
  | succ m ih =>
    intro x hx
    obtain ⟨r, h1, hw⟩ := ag_flow ok (show x ≤ 26 by omega) hY
    have hFd : k = 1 → (ag_F ST (pS 0) x (gs 0) ↔ ag_d ST (gs 0) (pS 0) ≤ x) := fun k1 => ag_Fd (hY.2.2.1 0 (by omega)) (hY.2.2.2.1 0 (by omega)) (by omega)
    have k3 := hY.1
    by_cases hr : r = nI k
    · refine ⟨nI x, fun k1 h => ?_, fun ct be bs pf ps tn a4 a5 a6 a7 a8 a9 a10 a11 a12 a13 a14 a15 a16 a17 a18 a19 a20 a21 post h4 Y hp => pk_lt 26 x (fun z => absurd z (by omega)) (fun _ => hw w pd ct be bs pf ps (nI x) a1 a2 a3 a4 a5 a6 a7 a8 a9 a10 a11 a12 a13 a14 a15 a16 a17 a18 a19 a20 a21 _ rfl h4 Y (fun a17' a18' a19' a20' a21' => br_t (hr.trans Y.1.symm) (hp _ ⟨rfl, rfl, rfl, rfl, rfl⟩)))⟩
      have hF : ag_F ST (pS 0) x (gs 0) := by
        by_cases g : ag_F ST (pS 0) x (gs 0)
        · exact g
        · have := (h1 k1).2 g
          rw [hr, k1] at this
          exact absurd this (by decide)
      have hle := (hFd k1).mp hF
      have : ag_d ST (gs 0) (pS 0) = x := by
        rcases Nat.lt_or_ge (ag_d ST (gs 0) (pS 0)) x with z | z
        · exact absurd (Nat.le_refl _) (h _ z)
        · omega
      unfold ag_pv
      rw [this, if_neg (by omega)]
    · obtain ⟨v, hv1, hv⟩ := ih (x + 1) (by omega)
      refine ⟨v, fun k1 h => hv1 k1 (fun t ht => ?_), fun ct be bs pf ps tn a4 a5 a6 a7 a8 a9 a10 a11 a12 a13 a14 a15 a16 a17 a18 a19 a20 a21 post h4 Y hp => pk_lt 26 x (fun z => absurd z (by omega)) (fun _ => hw w pd ct be bs pf ps (nI x) a1 a2 a3 a4 a5 a6 a7 a8 a9 a10 a11 a12 a13 a14 a15 a16 a17 a18 a19 a20 a21 _ rfl h4 Y (fun a17' a18' a19' a20' a21' => br_f (fun z => hr (z.trans Y.1)) (nm_r (nI_1 x) (hv ct be bs pf ps (nI x) a4 a5 a6 a7 a8 a9 a10 a11 a12 a13 a14 a15 a16 a17' a18' a19' a20' a21' post h4 Y hp))))⟩
      by_cases e : t = x
      · rw [e]
        intro z
        exact hr (((h1 k1).1 ((hFd k1).mpr z)).trans (by rw [k1]))
      · exact h t (by omega)
theorem ag_qS {t : Nat} (ht : ag_tm t) (g2 : ag_g3 a2) (g3 : ag_g3 a3) : ∃ v : Int32, ag_Q w pd a1 a2 a3 (fun post u => wpX_swarm post u (nI t)) v ∧ (¬ ag_rd w pd a2 a3 t → v = -1) ∧ (ag_rd w pd a2 a3 t → ∀ i, i < 3 → t = 2 ^ i → v = ag_pv (ag_n w a1 a2 a3 i)) := by
  have t8 := ag_tm8 ht
  by_cases r : ag_rd w pd a2 a3 t
  · obtain ⟨k, wh, hk, ek, hw, h1, hm⟩ := ag_who ht
    have hY : ag_Yo k wh (fun j => (a2 (wh j)).toNatClampNeg) (fun j => (a3 (wh j)).toNatClampNeg) := by
      refine ⟨by omega, fun j hj => (hw j hj).1, fun j hj => (ag_g3c g2 (hw j hj).1).1, fun j hj => (ag_g3c g3 (hw j hj).1).1, fun i j hij hj e => ?_⟩
      have ne := (r.2.2.2.2 (wh i) (wh j) (hm i j hij hj) (hw j hj).1 (hw i (by omega)).2.1 (hw j hj).2.1).1
      apply ne
      rw [(ag_g3c g2 (hw i (by omega)).1).2, (ag_g3c g2 (hw j hj).1).2]
      exact congrArg nI e
    obtain ⟨v, hv1, hv⟩ := ag_sw21 (w := w) (pd := pd) (a1 := a1) (a2 := a2) (a3 := a3) (ag_STok w a1) hY (by omega) 27 0 rfl
    refine ⟨v, ag_Qi (fun ct be bs pf ps tn a4 a5 a6 a7 a8 a9 a10 a11 a12 a13 a14 a15 a16 a17 a18 a19 a20 a21 post hp => ?_), fun z => absurd r z, fun _ i hi e => ?_⟩
    · unfold wpX_swarm
      refine ag_isReady (by omega) g2 g3 (fun _ => br_f (by decide) (ag_lay (fun a4' h4 => ag_ga t8 (fun a7' h7 => ⟨28, hv (nI (ag_ct t 3)) be bs pf ps tn a4' a5 a6 a7' a8 a9 a10 a11 a12 a13 a14 a15 a16 a17 a18 a19 a20 a21 post h4 ⟨by rw [ek], fun j hj => ?_, fun j hj => (ag_g3c g2 (hw j hj).1).2, fun j hj => (ag_g3c g3 (hw j hj).1).2⟩ hp⟩)))) (fun z => absurd r z)
      have := h7 (wh j) (hw j hj).1 (hw j hj).2.1
      rw [(hw j hj).2.2] at this
      exact this
    · obtain ⟨k1, w1⟩ := h1 i hi e
      have := hv1 k1 (fun t ht => absurd ht (by omega))
      rw [this]
      show ag_pv (ag_d (ag_ST w a1) (a3 (wh 0)).toNatClampNeg (a2 (wh 0)).toNatClampNeg) = _
      rw [w1]
      rfl
  · refine ⟨-1, ag_Qi (fun ct be bs pf ps tn a4 a5 a6 a7 a8 a9 a10 a11 a12 a13 a14 a15 a16 a17 a18 a19 a20 a21 post hp => ?_), fun _ => rfl, fun z => absurd z r⟩
    unfold wpX_swarm
    exact ag_isReady (by omega) g2 g3 (fun z => absurd z r) (fun _ => br_t rfl (hp _ ⟨rfl, rfl, rfl, rfl, rfl⟩))
end
end
section
/-! look, and the calls that change the grid -/
theorem ag_un {w pd : Int32} {a1 a2 a3 : Nat → Int32} {P : St1 → Prop} (h : ∀ (ct be bs pf ps tn : Int32) (a4 a5 a6 a7 a8 a9 a10 a11 a12 a13 a14 a15 a16 a17 a18 a19 a20 a21 : Nat → Int32), P (w, pd, ct, be, bs, pf, ps, tn, a1, a2, a3, a4, a5, a6, a7, a8, a9, a10, a11, a12, a13, a14, a15, a16, a17, a18, a19, a20, a21)) : ∀ u, ag_is w pd a1 a2 a3 u → P u := by
  intro u hu
  obtain ⟨w_, pd_, ct_, be_, bs_, pf_, ps_, tn_, a1_, a2_, a3_, a4_, a5_, a6_, a7_, a8_, a9_, a10_, a11_, a12_, a13_, a14_, a15_, a16_, a17_, a18_, a19_, a20_, a21_⟩ := u
  obtain ⟨e1, e2, e3, e4, e5⟩ : w_ = w ∧ pd_ = pd ∧ a1_ = a1 ∧ a2_ = a2 ∧ a3_ = a3 := hu
  subst e1 e2 e3 e4 e5
  exact h ct_ be_ bs_ pf_ ps_ tn_ a4_ a5_ a6_ a7_ a8_ a9_ a10_ a11_ a12_ a13_ a14_ a15_ a16_ a17_ a18_ a19_ a20_ a21_
def ag_G (a1 a2 a3 : Nat → Int32) : Prop := (∀ i, i < 12 → ∃ j, j < 16 ∧ a1 i = nI j) ∧ ag_g3 a2 ∧ ag_g3 a3
section
variable {w pd : Int32} {a1 a2 a3 : Nat → Int32}
theorem ag_look110 (g2 : ag_g3 a2) (g3 : ag_g3 a3) : ∀ (m c : Nat) (h : Int64), c + m = 12 → ∃ h' : Int64, ∀ (ct be bs pf ps tn : Int32) (a4 a5 a6 a7 a8 a9 a10 a11 a12 a13 a14 a15 a16 a17 a18 a19 a20 a21 : Nat → Int32) (post : Int64 → St1 → Prop), (∀ u', ag_is w pd a1 a2 a3 u' → post h' u') → wL_look_110 post (m + 1) h (nI c) w pd ct be bs pf ps tn a1 a2 a3 a4 a5 a6 a7 a8 a9 a10 a11 a12 a13 a14 a15 a16 a17 a18 a19 a20 a21 := by
  intro m
  induction m with
  | zero =>
    intro c h hc
    obtain ⟨vS, hS, _⟩ := ag_qS (w := w) (pd := pd) (a1 := a1) (Or.inr (Or.inr (Or.inr rfl)) : ag_tm 6) g2 g3
    obtain ⟨vN, hN, _⟩ := ag_qN (w := w) (pd := pd) (a1 := a1) (show 1 < 3 by omega) g2 g3
    exact ⟨_, fun ct be bs pf ps tn a4 a5 a6 a7 a8 a9 a10 a11 a12 a13 a14 a15 a16 a17 a18 a19 a20 a21 post hp => pk_le 12 c (fun _ => hS _ ⟨rfl, rfl, rfl, rfl, rfl⟩ _ (ag_un (fun ctx bex bsx pfx psx tnx a4x a5x a6x a7x a8x a9x a10x a11x a12x a13x a14x a15x a16x a17x a18x a19x a20x a21x => hN _ ⟨rfl, rfl, rfl, rfl, rfl⟩ _ (ag_un (fun cty bey bsy pfy psy tny a4y a5y a6y a7y a8y a9y a10y a11y a12y a13y a14y a15y a16y a17y a18y a19y a20y a21y => hp _ ⟨rfl, rfl, rfl, rfl, rfl⟩))))) (fun z => absurd z (by omega))⟩
  | succ m ih =>
    intro c h hc
    have e1 : nI c * 5 + 3 - (nI c * 5 + 3) / 12 * 12 = nI ((c * 5 + 3) % 12) := by
      rw [show (5 : Int32) = nI 5 from rfl, show (3 : Int32) = nI 3 from rfl, show (12 : Int32) = nI 12 from rfl, pk_mul, nI_add, pk_rem (by omega) (by omega) (by omega)]
    have e2 : 11 - nI c = nI (11 - c) := by rw [show (11 : Int32) = nI 11 from rfl, pk_sub (by omega)]
    have h1 := ag_qD (w := w) (pd := pd) (a1 := a1) (a2 := a2) (a3 := a3) (show c < 12 by omega) (show (c * 5 + 3) % 12 < 12 by omega)
    have h2 := ag_qD (w := w) (pd := pd) (a1 := a1) (a2 := a2) (a3 := a3) (show c < 12 by omega) (show 11 - c < 12 by omega)
    obtain ⟨h', hh⟩ := ih (c + 1) (31 * ((31 * h) + (ag_dst w a1 c ((c * 5 + 3) % 12)).toInt64) + (ag_dst w a1 c (11 - c)).toInt64) (by omega)
    refine ⟨h', fun ct be bs pf ps tn a4 a5 a6 a7 a8 a9 a10 a11 a12 a13 a14 a15 a16 a17 a18 a19 a20 a21 post hp => pk_le 12 c (fun z => absurd z (by omega)) (fun _ => ⟨by decide, ?_⟩)⟩
    rw [e1, e2]
    exact h1 _ ⟨rfl, rfl, rfl, rfl, rfl⟩ _ (ag_un (fun ctx bex bsx pfx psx tnx a4x a5x a6x a7x a8x a9x a10x a11x a12x a13x a14x a15x a16x a17x a18x a19x a20x a21x => h2 _ ⟨rfl, rfl, rfl, rfl, rfl⟩ _ (ag_un (fun cty bey bsy pfy psy tny a4y a5y a6y a7y a8y a9y a10y a11y a12y a13y a14y a15y a16y a17y a18y a19y a20y a21y => nm_e (nm_r (nI_1 c) (hh cty bey bsy pfy psy tny a4y a5y a6y a7y a8y a9y a10y a11y a12y a13y a14y a15y a16y a17y a18y a19y a20y a21y post hp))))))
theorem ag_look65 (g2 : ag_g3 a2) (g3 : ag_g3 a3) : ∀ (m i : Nat) (h : Int64), i + m = 3 → ∃ h' : Int64, ∀ (ct be bs pf ps tn : Int32) (a4 a5 a6 a7 a8 a9 a10 a11 a12 a13 a14 a15 a16 a17 a18 a19 a20 a21 : Nat → Int32) (post : Int64 → St1 → Prop), (∀ u', ag_is w pd a1 a2 a3 u' → post h' u') → wL_look_65 post (m + 1) h (nI i) w pd ct be bs pf ps tn a1 a2 a3 a4 a5 a6 a7 a8 a9 a10 a11 a12 a13 a14 a15 a16 a17 a18 a19 a20 a21 := by
  intro m
  induction m with
  | zero =>
    intro i h hi
    obtain ⟨h', hh⟩ := ag_look110 (w := w) (pd := pd) (a1 := a1) g2 g3 12 0 h rfl
    exact ⟨h', fun ct be bs pf ps tn a4 a5 a6 a7 a8 a9 a10 a11 a12 a13 a14 a15 a16 a17 a18 a19 a20 a21 post hp => pk_le 3 i (fun _ => ⟨13, hh ct be bs pf ps tn a4 a5 a6 a7 a8 a9 a10 a11 a12 a13 a14 a15 a16 a17 a18 a19 a20 a21 post hp⟩) (fun z => absurd z (by omega))⟩
  | succ m ih =>
    intro i h hi
    obtain ⟨v0, h0, _⟩ := ag_qC (w := w) (pd := pd) (a1 := a1) (t := 0) (show i < 3 by omega) (by omega) g2 g3
    obtain ⟨v1, h1, _⟩ := ag_qC (w := w) (pd := pd) (a1 := a1) (t := 1) (show i < 3 by omega) (by omega) g2 g3
    obtain ⟨h', hh⟩ := ih (i + 1) (31 * ((31 * h) + v0.toInt64) + v1.toInt64) (by omega)
    refine ⟨h', fun ct be bs pf ps tn a4 a5 a6 a7 a8 a9 a10 a11 a12 a13 a14 a15 a16 a17 a18 a19 a20 a21 post hp => pk_le 3 i (fun z => absurd z (by omega)) (fun _ => ?_)⟩
    rw [ag_p2 i (by omega)]
    exact h0 _ ⟨rfl, rfl, rfl, rfl, rfl⟩ _ (ag_un (fun ctx bex bsx pfx psx tnx a4x a5x a6x a7x a8x a9x a10x a11x a12x a13x a14x a15x a16x a17x a18x a19x a20x a21x => h1 _ ⟨rfl, rfl, rfl, rfl, rfl⟩ _ (ag_un (fun cty bey bsy pfy psy tny a4y a5y a6y a7y a8y a9y a10y a11y a12y a13y a14y a15y a16y a17y a18y a19y a20y a21y => nm_e (nm_r (nI_1 i) (hh cty bey bsy pfy psy tny a4y a5y a6y a7y a8y a9y a10y a11y a12y a13y a14y a15y a16y a17y a18y a19y a20y a21y post hp))))))
theorem ag_look6 (g2 : ag_g3 a2) (g3 : ag_g3 a3) : ∀ (m x : Nat) (h : Int64), x + m = 7 → 1 ≤ x → ∃ h' : Int64, ∀ (ct be bs pf ps tn : Int32) (a4 a5 a6 a7 a8 a9 a10 a11 a12 a13 a14 a15 a16 a17 a18 a19 a20 a21 : Nat → Int32) (post : Int64 → St1 → Prop), (∀ u', ag_is w pd a1 a2 a3 u' → post h' u') → wL_look_6 post (m + 1) h (nI x) w pd ct be bs pf ps tn a1 a2 a3 a4 a5 a6 a7 a8 a9 a10 a11 a12 a13 a14 a15 a16 a17 a18 a19 a20 a21 := by
  intro m
  induction m with
  | zero =>
    intro x h hx _
    obtain ⟨h', hh⟩ := ag_look65 (w := w) (pd := pd) (a1 := a1) g2 g3 3 0 h rfl
    exact ⟨h', fun ct be bs pf ps tn a4 a5 a6 a7 a8 a9 a10 a11 a12 a13 a14 a15 a16 a17 a18 a19 a20 a21 post hp => pk_le 7 x (fun _ => ⟨4, hh ct be bs pf ps tn a4 a5 a6 a7 a8 a9 a10 a11 a12 a13 a14 a15 a16 a17 a18 a19 a20 a21 post hp⟩) (fun z => absurd z (by omega))⟩
  | succ m ih =>
    intro x h hx h1
    by_cases e3 : x = 3
    · obtain ⟨h', hh⟩ := ih (x + 1) h (by omega) (by omega)
      exact ⟨h', fun ct be bs pf ps tn a4 a5 a6 a7 a8 a9 a10 a11 a12 a13 a14 a15 a16 a17 a18 a19 a20 a21 post hp => pk_le 7 x (fun z => absurd z (by omega)) (fun _ => pk_eq x 3 (fun _ => nm_r (nI_1 x) (hh ct be bs pf ps tn a4 a5 a6 a7 a8 a9 a10 a11 a12 a13 a14 a15 a16 a17 a18 a19 a20 a21 post hp)) (fun z => absurd e3 z))⟩
    · by_cases e5 : x = 5
      · obtain ⟨h', hh⟩ := ih (x + 1) h (by omega) (by omega)
        exact ⟨h', fun ct be bs pf ps tn a4 a5 a6 a7 a8 a9 a10 a11 a12 a13 a14 a15 a16 a17 a18 a19 a20 a21 post hp => pk_le 7 x (fun z => absurd z (by omega)) (fun _ => pk_eq x 3 (fun z => absurd z e3) (fun _ => pk_eq x 5 (fun _ => nm_r (nI_1 x) (hh ct be bs pf ps tn a4 a5 a6 a7 a8 a9 a10 a11 a12 a13 a14 a15 a16 a17 a18 a19 a20 a21 post hp)) (fun z => absurd e5 z)))⟩
      · have ht : ag_tm x := by unfold ag_tm; omega
        obtain ⟨vF, hF, _⟩ := ag_qF (w := w) (pd := pd) (a1 := a1) ht g2 g3
        obtain ⟨vE, hE, _⟩ := ag_qE (w := w) (pd := pd) (a1 := a1) ht g2 g3
        obtain ⟨vA, hA⟩ := ag_qA (w := w) (pd := pd) (a1 := a1) ht g2 g3
        obtain ⟨h', hh⟩ := ih (x + 1) (31 * ((31 * ((31 * h) + vF.toInt64)) + vE.toInt64) + vA.toInt64) (by omega) (by omega)
        exact ⟨h', fun ct be bs pf ps tn a4 a5 a6 a7 a8 a9 a10 a11 a12 a13 a14 a15 a16 a17 a18 a19 a20 a21 post hp => pk_le 7 x (fun z => absurd z (by omega)) (fun _ => pk_eq x 3 (fun z => absurd z e3) (fun _ => pk_eq x 5 (fun z => absurd z e5) (fun _ => hF _ ⟨rfl, rfl, rfl, rfl, rfl⟩ _ (ag_un (fun ctx bex bsx pfx psx tnx a4x a5x a6x a7x a8x a9x a10x a11x a12x a13x a14x a15x a16x a17x a18x a19x a20x a21x => hE _ ⟨rfl, rfl, rfl, rfl, rfl⟩ _ (ag_un (fun cty bey bsy pfy psy tny a4y a5y a6y a7y a8y a9y a10y a11y a12y a13y a14y a15y a16y a17y a18y a19y a20y a21y => hA _ ⟨rfl, rfl, rfl, rfl, rfl⟩ _ (ag_un (fun ctk bek bsk pfk psk tnk a4k a5k a6k a7k a8k a9k a10k a11k a12k a13k a14k a15k a16k a17k a18k a19k a20k a21k => nm_e (nm_r (nI_1 x) (hh ctk bek bsk pfk psk tnk a4k a5k a6k a7k a8k a9k a10k a11k a12k a13k a14k a15k a16k a17k a18k a19k a20k a21k post hp)))))))))))⟩
theorem ag_look (g2 : ag_g3 a2) (g3 : ag_g3 a3) : ∃ h : Int64, ∀ (ct be bs pf ps tn : Int32) (a4 a5 a6 a7 a8 a9 a10 a11 a12 a13 a14 a15 a16 a17 a18 a19 a20 a21 : Nat → Int32) (post : Int64 → St1 → Prop), (∀ u', ag_is w pd a1 a2 a3 u' → post h u') → wpL_look post (w, pd, ct, be, bs, pf, ps, tn, a1, a2, a3, a4, a5, a6, a7, a8, a9, a10, a11, a12, a13, a14, a15, a16, a17, a18, a19, a20, a21) := by
  obtain ⟨h', hh⟩ := ag_look6 (w := w) (pd := pd) (a1 := a1) g2 g3 6 1 7 rfl (by omega)
  refine ⟨h', fun ct be bs pf ps tn a4 a5 a6 a7 a8 a9 a10 a11 a12 a13 a14 a15 a16 a17 a18 a19 a20 a21 post hp => ?_⟩
  unfold wpL_look
  exact ⟨7, hh ct be bs pf ps tn a4 a5 a6 a7 a8 a9 a10 a11 a12 a13 a14 a15 a16 a17 a18 a19 a20 a21 post hp⟩
end
section
variable {w pd ct be bs pf ps tn : Int32} {a1 a2 a3 a4 a5 a6 a7 a8 a9 a10 a11 a12 a13 a14 a15 a16 a17 a18 a19 a20 a21 : Nat → Int32}
theorem ag_isCell0 {post : Int32 → Prop} {x : Int32} (h : x < 0 ∨ 12 ≤ x) (hp : post 0) : wpX_isCell post () x := by
  unfold wpX_isCell
  rcases h with h | h
  · exact br_t h hp
  · exact br_c (fun _ => hp) (fun _ => br_t h hp)
theorem ag_wall0 {post : Int32 → St1 → Prop} {x : Int32} (h : x < 0 ∨ 12 ≤ x) (hp : post (-1) (w, pd, ct, be, bs, pf, ps, tn, a1, a2, a3, a4, a5, a6, a7, a8, a9, a10, a11, a12, a13, a14, a15, a16, a17, a18, a19, a20, a21)) : wpX_wall post (w, pd, ct, be, bs, pf, ps, tn, a1, a2, a3, a4, a5, a6, a7, a8, a9, a10, a11, a12, a13, a14, a15, a16, a17, a18, a19, a20, a21) x := by
  unfold wpX_wall
  exact ag_isCell0 h (br_t rfl hp)
theorem ag_wall {post : Int32 → St1 → Prop} {c : Nat} (hc : c < 12) (hp : post (nI (!ag_bt w c).toNat) (w ^^^ ((1 : Int32) <<< (nI c &&& 31)), pd, ct, be, bs, pf, ps, tn, a1, a2, a3, a4, a5, a6, a7, a8, a9, a10, a11, a12, a13, a14, a15, a16, a17, a18, a19, a20, a21)) : wpX_wall post (w, pd, ct, be, bs, pf, ps, tn, a1, a2, a3, a4, a5, a6, a7, a8, a9, a10, a11, a12, a13, a14, a15, a16, a17, a18, a19, a20, a21) (nI c) := by
  unfold wpX_wall
  refine ag_isCell hc (br_f (by decide) (nm_e ?_))
  rw [ag_bit _ c (by omega), ag_bflip w c (by omega)]
  exact hp
theorem ag_ways0 {post : Int32 → St1 → Prop} {x y : Int32} (h : x < 0 ∨ 12 ≤ x) (hp : post (-1) (w, pd, ct, be, bs, pf, ps, tn, a1, a2, a3, a4, a5, a6, a7, a8, a9, a10, a11, a12, a13, a14, a15, a16, a17, a18, a19, a20, a21)) : wpX_ways post (w, pd, ct, be, bs, pf, ps, tn, a1, a2, a3, a4, a5, a6, a7, a8, a9, a10, a11, a12, a13, a14, a15, a16, a17, a18, a19, a20, a21) x y := by
  unfold wpX_ways
  exact ag_isCell0 h (br_t rfl hp)
theorem ag_ways2 {post : Int32 → St1 → Prop} {c : Nat} {y : Int32} (hc : c < 12) (h : y < 0 ∨ ¬ y ≤ 15) (hp : post (-2) (w, pd, ct, be, bs, pf, ps, tn, a1, a2, a3, a4, a5, a6, a7, a8, a9, a10, a11, a12, a13, a14, a15, a16, a17, a18, a19, a20, a21)) : wpX_ways post (w, pd, ct, be, bs, pf, ps, tn, a1, a2, a3, a4, a5, a6, a7, a8, a9, a10, a11, a12, a13, a14, a15, a16, a17, a18, a19, a20, a21) (nI c) y := by
  unfold wpX_ways
  refine ag_isCell hc (br_f (by decide) ?_)
  rcases h with h | h
  · exact br_t h hp
  · exact br_c (fun _ => hp) (fun _ => br_f h hp)
theorem ag_ways {post : Int32 → St1 → Prop} {c y : Nat} (hc : c < 12) (hy : y < 16) (hp : post (a1 c) (w, pd, ct, be, bs, pf, ps, tn, upd a1 c (nI y), a2, a3, a4, a5, a6, a7, a8, a9, a10, a11, a12, a13, a14, a15, a16, a17, a18, a19, a20, a21)) : wpX_ways post (w, pd, ct, be, bs, pf, ps, tn, a1, a2, a3, a4, a5, a6, a7, a8, a9, a10, a11, a12, a13, a14, a15, a16, a17, a18, a19, a20, a21) (nI c) (nI y) := by
  unfold wpX_ways
  refine ag_isCell hc (br_f (by decide) (br_f (nI_pos (by omega)) (pk_le y 15 (fun _ => ⟨pk_in c 12 hc, nm_r (e' := a1 c) (by rw [nI_clamp (by omega)]) ⟨pk_in c 12 hc, nm_r (e' := upd a1 c (nI y)) (by rw [nI_clamp (by omega)]) hp⟩⟩) (fun z => absurd z (by omega)))))
theorem ag_set1 {post : Int32 → St1 → Prop} {x y z : Int32} (h : ¬ x < 3) (h0 : ¬ x < 0) (hp : post (-1) (w, pd, ct, be, bs, pf, ps, tn, a1, a2, a3, a4, a5, a6, a7, a8, a9, a10, a11, a12, a13, a14, a15, a16, a17, a18, a19, a20, a21)) : wpX_set post (w, pd, ct, be, bs, pf, ps, tn, a1, a2, a3, a4, a5, a6, a7, a8, a9, a10, a11, a12, a13, a14, a15, a16, a17, a18, a19, a20, a21) x y z := by
  unfold wpX_set
  exact br_f h0 (br_f h hp)
theorem ag_set2 {post : Int32 → St1 → Prop} {x y z : Int32} (h0 : ¬ x < 0) (h3 : x < 3) (h : (y < 0 ∨ 12 ≤ y) ∨ ∃ c, c < 12 ∧ y = nI c ∧ (z < 0 ∨ 12 ≤ z)) (hp : post (-2) (w, pd, ct, be, bs, pf, ps, tn, a1, a2, a3, a4, a5, a6, a7, a8, a9, a10, a11, a12, a13, a14, a15, a16, a17, a18, a19, a20, a21)) : wpX_set post (w, pd, ct, be, bs, pf, ps, tn, a1, a2, a3, a4, a5, a6, a7, a8, a9, a10, a11, a12, a13, a14, a15, a16, a17, a18, a19, a20, a21) x y z := by
  unfold wpX_set
  refine br_f h0 (br_t h3 ?_)
  rcases h with h | ⟨c, hc, e, h⟩
  · exact ag_isCell0 h (br_t rfl hp)
  · rw [e]
    exact ag_isCell hc (br_f (by decide) (ag_isCell0 h (br_t rfl hp)))
theorem ag_set {post : Int32 → St1 → Prop} {i p q : Nat} (hi : i < 3) (hp : p < 12) (hq : q < 12) (h : post 1 (w, pd ||| ((1 : Int32) <<< (nI i &&& 31)), ct, be, bs, pf, ps, tn, a1, upd a2 i (nI p), upd a3 i (nI q), a4, a5, a6, a7, a8, a9, a10, a11, a12, a13, a14, a15, a16, a17, a18, a19, a20, a21)) : wpX_set post (w, pd, ct, be, bs, pf, ps, tn, a1, a2, a3, a4, a5, a6, a7, a8, a9, a10, a11, a12, a13, a14, a15, a16, a17, a18, a19, a20, a21) (nI i) (nI p) (nI q) := by
  unfold wpX_set
  exact br_f (nI_pos (by omega)) (pk_lt i 3 (fun _ => ag_isCell hp (br_f (by decide) (ag_isCell hq (br_f (by decide) (nm_e ⟨pk_in i 3 hi, nm_r (e' := upd a2 i (nI p)) (by rw [nI_clamp (by omega)]) ⟨pk_in i 3 hi, nm_r (e' := upd a3 i (nI q)) (by rw [nI_clamp (by omega)]) h⟩⟩))))) (fun z => absurd z (by omega)))
end
/-- places and goals of a team exchanged, up to walker k -/
def ag_sw (t k : Nat) (a b : Nat → Int32) : Nat → Int32 := fun i => if i < k ∧ t / 2 ^ i % 2 = 1 then b i else a i
theorem ag_sw_y {t k i : Nat} {a b : Nat → Int32} (h : i < k) (hb : t / 2 ^ i % 2 = 1) : ag_sw t k a b i = b i := if_pos ⟨h, hb⟩
theorem ag_sw_n {t k i : Nat} {a b : Nat → Int32} (h : ¬ (i < k ∧ t / 2 ^ i % 2 = 1)) : ag_sw t k a b i = a i := if_neg h
theorem ag_sw0 {t : Nat} {a b : Nat → Int32} : ag_sw t 0 a b = a := by
  funext i
  exact ag_sw_n (fun h => absurd h.1 (Nat.not_lt_zero i))
theorem ag_sw_s {t k : Nat} {a b : Nat → Int32} (hb : t / 2 ^ k % 2 = 1) : upd (ag_sw t k a b) k (ag_sw t k b a k) = ag_sw t (k + 1) a b := by
  funext i
  by_cases e : i = k
  · rw [e, pk_us, ag_sw_y (Nat.lt_succ_self k) hb, ag_sw_n (fun h => absurd h.1 (Nat.lt_irrefl k))]
  · rw [pk_un e]
    by_cases g : i < k ∧ t / 2 ^ i % 2 = 1
    · rw [ag_sw_y g.1 g.2, ag_sw_y (by omega) g.2]
    · rw [ag_sw_n g, ag_sw_n (fun h => g ⟨by omega, h.2⟩)]
theorem ag_sw_k {t k : Nat} {a b : Nat → Int32} (hb : ¬ t / 2 ^ k % 2 = 1) : ag_sw t k a b = ag_sw t (k + 1) a b := by
  funext i
  by_cases g : i < k ∧ t / 2 ^ i % 2 = 1
  · rw [ag_sw_y g.1 g.2, ag_sw_y (by omega) g.2]
  · rw [ag_sw_n g, ag_sw_n (fun h => g ⟨by
      by_cases e : i = k
      · rw [e] at h
        exact absurd h.2 hb
      · omega, h.2⟩)]
theorem ag_sw_2 {t k : Nat} {a b : Nat → Int32} : ag_sw t k (ag_sw t k a b) (ag_sw t k b a) = a := by
  funext i
  by_cases g : i < k ∧ t / 2 ^ i % 2 = 1
  · rw [ag_sw_y g.1 g.2, ag_sw_y g.1 g.2]
  · rw [ag_sw_n g, ag_sw_n g]
theorem ag_sw_g {t k : Nat} {a b : Nat → Int32} (g : ag_g3 a) (g' : ag_g3 b) : ag_g3 (ag_sw t k a b) := by
  intro i hi
  by_cases h : i < k ∧ t / 2 ^ i % 2 = 1
  · rw [ag_sw_y h.1 h.2]
    exact g' i hi
  · rw [ag_sw_n h]
    exact g i hi
theorem ag_sw_rd {w pd : Int32} {t : Nat} {a2 a3 : Nat → Int32} (r : ag_rd w pd a2 a3 t) : ag_rd w pd (ag_sw t 3 a2 a3) (ag_sw t 3 a3 a2) t := by
  obtain ⟨r1, r2, r3, r4, r5⟩ := r
  refine ⟨r1, r2, r3, fun i hi hb => ?_, fun i j hij hj hbi hbj => ?_⟩
  · rw [ag_sw_y hi hb, ag_sw_y hi hb]
    exact ⟨(r4 i hi hb).2, (r4 i hi hb).1⟩
  · rw [ag_sw_y (by omega) hbi, ag_sw_y (by omega) hbi, ag_sw_y hj hbj, ag_sw_y hj hbj]
    exact ⟨(r5 i j hij hj hbi hbj).2, (r5 i j hij hj hbi hbj).1⟩
section
variable {w pd ct be bs pf ps tn : Int32} {a1 a2 a3 a4 a5 a6 a7 a8 a9 a10 a11 a12 a13 a14 a15 a16 a17 a18 a19 a20 a21 : Nat → Int32}
theorem ag_tr14 {post : Int32 → St1 → Prop} {t : Nat} (ht : t < 8) (hp : post (nI (ag_ct t 3)) (w, pd, ct, be, bs, pf, ps, tn, a1, ag_sw t 3 a2 a3, ag_sw t 3 a3 a2, a4, a5, a6, a7, a8, a9, a10, a11, a12, a13, a14, a15, a16, a17, a18, a19, a20, a21)) : ∀ (m k : Nat), k + m = 3 → wX_turnRound_14 post (nI t) w pd ct be bs pf ps tn (m + 1) (nI (ag_ct t k)) (nI k) a1 (ag_sw t k a2 a3) (ag_sw t k a3 a2) a4 a5 a6 a7 a8 a9 a10 a11 a12 a13 a14 a15 a16 a17 a18 a19 a20 a21 := by
  intro m
  induction m with
  | zero =>
    intro k hk
    have e : k = 3 := by omega
    subst e
    exact pk_le 3 3 (fun _ => hp) (fun z => absurd z (by omega))
  | succ m ih =>
    intro k hk
    have nx := ih (k + 1) (by omega)
    refine pk_le 3 k (fun z => absurd z (by omega)) (fun _ => ek_if (ag_tb t ht k (by omega)) (fun hb => ?_) (fun hb => nm_r (nI_1 k) ?_))
    · have es : ag_ct t (k + 1) = ag_ct t k + 1 := by show ag_ct t k + t / 2 ^ k % 2 = _; rw [hb]
      rw [es] at nx
      exact ⟨pk_in k 3 (by omega), nm_r (e' := ag_sw t k a2 a3 k) (by rw [nI_clamp (by omega)]) ⟨pk_in k 3 (by omega), pk_in k 3 (by omega), nm_r (e' := ag_sw t (k + 1) a2 a3) (by rw [nI_clamp (by omega), ag_sw_s hb]) ⟨pk_in k 3 (by omega), nm_r (e' := ag_sw t (k + 1) a3 a2) (by rw [nI_clamp (by omega), ag_sw_s hb]) (nm_r (nI_1 _) (nm_r (nI_1 k) nx))⟩⟩⟩
    · have es : ag_ct t (k + 1) = ag_ct t k := by
        show ag_ct t k + t / 2 ^ k % 2 = _
        have : t / 2 ^ k % 2 < 2 := Nat.mod_lt _ (by omega)
        omega
      rw [es, ← ag_sw_k hb, ← ag_sw_k hb] at nx
      exact nx
theorem ag_turn {post : Int32 → St1 → Prop} {t : Nat} (ht : t ≤ 8) (g2 : ag_g3 a2) (g3 : ag_g3 a3) (h1 : ag_rd w pd a2 a3 t → post (nI (ag_ct t 3)) (w, pd, ct, be, bs, pf, ps, tn, a1, ag_sw t 3 a2 a3, ag_sw t 3 a3 a2, a4, a5, a6, a7, a8, a9, a10, a11, a12, a13, a14, a15, a16, a17, a18, a19, a20, a21)) (h0 : ¬ ag_rd w pd a2 a3 t → post (-1) (w, pd, ct, be, bs, pf, ps, tn, a1, a2, a3, a4, a5, a6, a7, a8, a9, a10, a11, a12, a13, a14, a15, a16, a17, a18, a19, a20, a21)) : wpX_turnRound post (w, pd, ct, be, bs, pf, ps, tn, a1, a2, a3, a4, a5, a6, a7, a8, a9, a10, a11, a12, a13, a14, a15, a16, a17, a18, a19, a20, a21) (nI t) := by
  unfold wpX_turnRound
  refine ag_isReady ht g2 g3 (fun r => br_f (by decide) ⟨4, ?_⟩) (fun r => br_t rfl (h0 r))
  have t7 := r.2.1
  have := ag_tr14 (show t < 8 by omega) (h1 r) 3 0 rfl
  rw [ag_sw0, ag_sw0] at this
  exact this
end
theorem ag_ct1 {t : Nat} (h : 1 ≤ t) (h7 : t ≤ 7) : 1 ≤ ag_ct t 3 := by
  rcases (show t = 1 ∨ t = 2 ∨ t = 3 ∨ t = 4 ∨ t = 5 ∨ t = 6 ∨ t = 7 by omega) with e | e | e | e | e | e | e <;> subst e <;> decide
end
section
/-! the law's two checks: same, alone -/
section
variable {w pd ct be bs pf ps tn : Int32} {a1 a2 a3 a4 a5 a6 a7 a8 a9 a10 a11 a12 a13 a14 a15 a16 a17 a18 a19 a20 a21 : Nat → Int32}
theorem ag_s266 {post : Int32 → St1 → Prop} {h : Int64} (hl : ∀ (ct be bs pf ps tn : Int32) (a4 a5 a6 a7 a8 a9 a10 a11 a12 a13 a14 a15 a16 a17 a18 a19 a20 a21 : Nat → Int32) (post : Int64 → St1 → Prop), (∀ u', ag_is w pd a1 a2 a3 u' → post h u') → wpL_look post (w, pd, ct, be, bs, pf, ps, tn, a1, a2, a3, a4, a5, a6, a7, a8, a9, a10, a11, a12, a13, a14, a15, a16, a17, a18, a19, a20, a21)) (hp : ∀ u', ag_is w pd a1 a2 a3 u' → post 1 u') : wL_same_266 post h w pd ct be bs pf ps tn a1 a2 a3 a4 a5 a6 a7 a8 a9 a10 a11 a12 a13 a14 a15 a16 a17 a18 a19 a20 a21 := by
  unfold wL_same_266
  exact hl ct be bs pf ps tn a4 a5 a6 a7 a8 a9 a10 a11 a12 a13 a14 a15 a16 a17 a18 a19 a20 a21 _ (ag_un (fun ctx bex bsx pfx psx tnx a4x a5x a6x a7x a8x a9x a10x a11x a12x a13x a14x a15x a16x a17x a18x a19x a20x a21x => br_t rfl (hp _ ⟨rfl, rfl, rfl, rfl, rfl⟩)))
theorem ag_s162 {post : Int32 → St1 → Prop} {h : Int64} {c : Nat} {p1 p2 x6 z0 z1 : Int32} (G : ag_G a1 a2 a3) (hc : c < 12) (hl : ∀ (ct be bs pf ps tn : Int32) (a4 a5 a6 a7 a8 a9 a10 a11 a12 a13 a14 a15 a16 a17 a18 a19 a20 a21 : Nat → Int32) (post : Int64 → St1 → Prop), (∀ u', ag_is w pd a1 a2 a3 u' → post h u') → wpL_look post (w, pd, ct, be, bs, pf, ps, tn, a1, a2, a3, a4, a5, a6, a7, a8, a9, a10, a11, a12, a13, a14, a15, a16, a17, a18, a19, a20, a21)) (hp : ∀ u', ag_is w pd a1 a2 a3 u' → post 1 u') (hz : z1 = z0) (h6 : x6 = nI (!ag_bt w c).toNat) : wL_same_162 post p1 p2 h (nI c) x6 z0 z1 (w ^^^ ((1 : Int32) <<< (nI c &&& 31))) pd ct be bs pf ps tn a1 a2 a3 a4 a5 a6 a7 a8 a9 a10 a11 a12 a13 a14 a15 a16 a17 a18 a19 a20 a21 := by
  obtain ⟨G1, g2, g3⟩ := G
  obtain ⟨b, hb, eb⟩ := pk_andE p2 (m := 15) 4 (by decide)
  obtain ⟨y, hy, ey⟩ := pk_andE (p1 >>> ((4 : Int32) &&& 31)) (m := 15) 4 (by decide)
  obtain ⟨o, ho, eo⟩ := G1 c hc
  have back : upd (upd a1 c (nI b)) c (nI o) = a1 := by rw [← eo]; exact ag_updI
  have rest : ∀ (ct be bs pf ps tn : Int32) (a4 a5 a6 a7 a8 a9 a10 a11 a12 a13 a14 a15 a16 a17 a18 a19 a20 a21 : Nat → Int32), wL_same_266 post h w pd ct be bs pf ps tn a1 a2 a3 a4 a5 a6 a7 a8 a9 a10 a11 a12 a13 a14 a15 a16 a17 a18 a19 a20 a21 := fun ct be bs pf ps tn a4 a5 a6 a7 a8 a9 a10 a11 a12 a13 a14 a15 a16 a17 a18 a19 a20 a21 => ag_s266 hl hp
  unfold wL_same_162
  refine br_t hz ?_
  rw [eb, ey]
  refine ag_ways hc (by omega) ?_
  rw [eo]
  refine ag_ways hc ho ?_
  rw [pk_us, back]
  refine br_t rfl (ag_wall hc ?_)
  rw [ag_xx, ag_bflip w c (by omega)]
  refine br_t ?_ (hl ct be bs pf ps tn a4 a5 a6 a7 a8 a9 a10 a11 a12 a13 a14 a15 a16 a17 a18 a19 a20 a21 _ (ag_un (fun ctx bex bsx pfx psx tnx a4x a5x a6x a7x a8x a9x a10x a11x a12x a13x a14x a15x a16x a17x a18x a19x a20x a21x => br_t rfl ⟨by decide, nm_r (e' := nI (1 + y % 7)) ?_ ?_⟩)))
  · rw [h6]
    cases ag_bt w c <;> decide
  · rw [show nI y - nI y / 7 * 7 = nI (y % 7) from pk_rem (d := 7) (by omega) (by omega) (by omega), show (1 : Int32) = nI 1 from rfl, nI_add]
  · refine ag_turn (by omega) g2 g3 (fun r => ?_) (fun r => br_t (by decide) (br_t rfl (rest ctx bex bsx pfx psx tnx a4x a5x a6x a7x a8x a9x a10x a11x a12x a13x a14x a15x a16x a17x a18x a19x a20x a21x)))
    have c1 := ag_ct1 r.1 r.2.1
    have c3 := ag_ct_le (1 + y % 7) 3
    refine br_f (nI_nle (by omega) (by omega)) (ag_turn (by omega) (ag_sw_g g2 g3) (ag_sw_g g3 g2) (fun r2 => ?_) (fun r2 => absurd (ag_sw_rd r) r2))
    rw [ag_sw_2, ag_sw_2]
    exact br_t rfl (rest ctx bex bsx pfx psx tnx a4x a5x a6x a7x a8x a9x a10x a11x a12x a13x a14x a15x a16x a17x a18x a19x a20x a21x)
theorem ag_same {post : Int32 → St1 → Prop} (G : ag_G a1 a2 a3) (p1 p2 : Int32) (hp : ∀ u', ag_is w pd a1 a2 a3 u' → post 1 u') : wpL_same post (w, pd, ct, be, bs, pf, ps, tn, a1, a2, a3, a4, a5, a6, a7, a8, a9, a10, a11, a12, a13, a14, a15, a16, a17, a18, a19, a20, a21) p1 p2 := by
  obtain ⟨h, hl⟩ := ag_look (w := w) (pd := pd) (a1 := a1) G.2.1 G.2.2
  obtain ⟨j, hj, ej⟩ := pk_andE p1 (m := 15) 4 (by decide)
  have hc : j % 12 < 12 := Nat.mod_lt _ (by omega)
  have g2 := G.2.1
  have g3 := G.2.2
  unfold wpL_same
  refine hl ct be bs pf ps tn a4 a5 a6 a7 a8 a9 a10 a11 a12 a13 a14 a15 a16 a17 a18 a19 a20 a21 _ (ag_un (fun ctx bex bsx pfx psx tnx a4x a5x a6x a7x a8x a9x a10x a11x a12x a13x a14x a15x a16x a17x a18x a19x a20x a21x => ⟨by decide, nm_r (e' := nI (j % 12)) (by rw [ej]; exact pk_rem (d := 12) (by omega) (by omega) (by omega)) ?_⟩))
  generalize j % 12 = c at hc
  refine ag_wall0 (Or.inr (by decide)) (br_t rfl (ag_wall0 (Or.inl (by decide)) (br_t rfl (ag_ways0 (Or.inr (by decide)) (br_t rfl (ag_ways2 hc (Or.inr (by decide)) (br_t rfl (ag_ways2 hc (Or.inl (by decide)) (br_t rfl ?_)))))))))
  refine ag_set1 (by decide) (by decide) (br_t rfl (ag_set2 (by decide) (by decide) (Or.inl (Or.inr (by decide))) (br_t rfl (ag_set2 (by decide) (by decide) (Or.inr ⟨0, by omega, rfl, Or.inl (by decide)⟩) (br_t rfl ?_)))))
  refine ag_turn (t := 0) (by omega) g2 g3 (fun r => absurd r.1 (by omega)) (fun _ => br_t rfl (ag_turn (t := 8) (by omega) g2 g3 (fun r => absurd r.2.1 (by omega)) (fun _ => br_t rfl ?_)))
  refine hl ctx bex bsx pfx psx tnx a4x a5x a6x a7x a8x a9x a10x a11x a12x a13x a14x a15x a16x a17x a18x a19x a20x a21x _ (ag_un (fun cty bey bsy pfy psy tny a4y a5y a6y a7y a8y a9y a10y a11y a12y a13y a14y a15y a16y a17y a18y a19y a20y a21y => br_t rfl (ag_wall hc ?_)))
  have dd := ag_qD (w := w ^^^ ((1 : Int32) <<< (nI c &&& 31))) (pd := pd) (a1 := a1) (a2 := a2) (a3 := a3) hc hc
  have fl := ag_bflip w c (show c < 32 by omega)
  refine dd _ ⟨rfl, rfl, rfl, rfl, rfl⟩ _ (ag_un (fun ctk bek bsk pfk psk tnk a4k a5k a6k a7k a8k a9k a10k a11k a12k a13k a14k a15k a16k a17k a18k a19k a20k a21k => ?_))
  cases hb : ag_bt w c
  · refine br_t rfl (ag_s162 G hc hl hp ?_ (by rw [hb]))
    unfold ag_dst
    rw [fl, hb]
    exact if_pos rfl
  · refine br_f (by decide) (ag_s162 G hc hl hp ?_ (by rw [hb]))
    unfold ag_dst
    rw [fl, hb, if_neg (by decide), if_neg (by decide), (ag_d3 _ c c).mpr rfl]
    rfl
theorem ag_set_rd {i p q : Nat} (hi : i < 3) (hp : p < 12) (hq : q < 12) : ag_rd w (pd ||| ((1 : Int32) <<< (nI i &&& 31))) (upd a2 i (nI p)) (upd a3 i (nI q)) (2 ^ i) ↔ (ag_bt w p = false ∧ ag_bt w q = false) := by
  have cp : (upd a2 i (nI p) i).toNatClampNeg = p := by rw [pk_us, nI_clamp (by omega)]
  have cq : (upd a3 i (nI q) i).toNatClampNeg = q := by rw [pk_us, nI_clamp (by omega)]
  constructor
  · intro r
    have := r.2.2.2.1 i hi ((ag_2b i hi i hi).mpr rfl)
    rw [cp, cq] at this
    exact this
  · intro ho
    refine ⟨Nat.one_le_two_pow, ?_, ?_, fun k hk hb => ?_, fun k j hkj hj hbk hbj => ?_⟩
    · rcases (show i = 0 ∨ i = 1 ∨ i = 2 by omega) with h | h | h <;> subst h <;> decide
    · rw [← ag_p2 i hi]
      apply ag_bext
      intro k hk
      rw [ag_band, ag_b1s i k (by omega) hk, ag_bxor, ag_bor, ag_b1s i k (by omega) hk, ag_bm1 k hk, ag_b0]
      by_cases e : k = i
      · rw [decide_eq_true e, Bool.or_true]
        rfl
      · rw [decide_eq_false e, Bool.false_and]
    · have e := (ag_2b i hi k hk).mp hb
      rw [e, cp, cq]
      exact ho
    · have e1 := (ag_2b i hi k (by omega)).mp hbk
      have e2 := (ag_2b i hi j hj).mp hbj
      omega
theorem ag_set_g {a : Nat → Int32} {i p : Nat} (g : ag_g3 a) (hp : p < 12) : ag_g3 (upd a i (nI p)) := by
  intro k hk
  by_cases e : k = i
  · rw [e, pk_us]
    exact ⟨p, hp, rfl⟩
  · rw [pk_un e]
    exact g k hk
theorem ag_alone {post : Int32 → St1 → Prop} {i p q : Nat} (hi : i < 3) (hp : p < 12) (hq : q < 12) (g2' : ag_g3 a2) (g3' : ag_g3 a3) (h : ∀ u', ag_is w (pd ||| ((1 : Int32) <<< (nI i &&& 31))) a1 (upd a2 i (nI p)) (upd a3 i (nI q)) u' → post 1 u') : wpL_alone post (w, pd, ct, be, bs, pf, ps, tn, a1, a2, a3, a4, a5, a6, a7, a8, a9, a10, a11, a12, a13, a14, a15, a16, a17, a18, a19, a20, a21) (nI i) (nI p) (nI q) := by
  have g2 : ag_g3 (upd a2 i (nI p)) := ag_set_g g2' hp
  have g3 : ag_g3 (upd a3 i (nI q)) := ag_set_g g3' hq
  have cp : (upd a2 i (nI p) i).toNatClampNeg = p := by rw [pk_us, nI_clamp (by omega)]
  have cq : (upd a3 i (nI q) i).toNatClampNeg = q := by rw [pk_us, nI_clamp (by omega)]
  have hr := ag_set_rd (w := w) (pd := pd) (a2 := a2) (a3 := a3) hi hp hq
  have hn : ag_n w a1 (upd a2 i (nI p)) (upd a3 i (nI q)) i = ag_d (ag_ST w a1) q p := by unfold ag_n; rw [cp, cq]
  unfold wpL_alone
  refine ag_set hi hp hq (br_t rfl ?_)
  generalize upd a2 i (nI p) = b2 at *
  generalize upd a3 i (nI q) = b3 at *
  generalize pd ||| ((1 : Int32) <<< (nI i &&& 31)) = qd at *
  rw [ag_p2 i hi]
  have hD := ag_qD (w := w) (pd := qd) (a1 := a1) (a2 := b2) (a3 := b3) hp hq
  obtain ⟨vF, hF, F0, F1⟩ := ag_qF (w := w) (pd := qd) (a1 := a1) (ag_2t hi) g2 g3
  obtain ⟨vE, hE, E0, E1⟩ := ag_qE (w := w) (pd := qd) (a1 := a1) (ag_2t hi) g2 g3
  obtain ⟨vS, hS, S0, S1⟩ := ag_qS (w := w) (pd := qd) (a1 := a1) (ag_2t hi) g2 g3
  obtain ⟨vN, hN, N1⟩ := ag_qN (w := w) (pd := qd) (a1 := a1) hi g2 g3
  have key : ∀ v : Int32, (¬ ag_rd w qd b2 b3 (2 ^ i) → v = -1) → (ag_rd w qd b2 b3 (2 ^ i) → ∀ k, k < 3 → 2 ^ i = 2 ^ k → v = ag_pv (ag_n w a1 b2 b3 k)) → v = ag_dst w a1 p q := by
    intro v v0 v1
    unfold ag_dst
    by_cases o1 : ag_bt w p = true
    · rw [if_pos o1]
      exact v0 (fun r => by have := (hr.mp r).1; rw [o1] at this; exact absurd this (by decide))
    · rw [if_neg o1]
      by_cases o2 : ag_bt w q = true
      · rw [if_pos o2]
        exact v0 (fun r => by have := (hr.mp r).2; rw [o2] at this; exact absurd this (by decide))
      · rw [if_neg o2, v1 (hr.mpr ⟨by cases hh : ag_bt w p; rfl; exact absurd hh o1, by cases hh : ag_bt w q; rfl; exact absurd hh o2⟩) i hi rfl, hn]
  refine hD _ ⟨rfl, rfl, rfl, rfl, rfl⟩ _ (ag_un (fun ctx bex bsx pfx psx tnx a4x a5x a6x a7x a8x a9x a10x a11x a12x a13x a14x a15x a16x a17x a18x a19x a20x a21x => hF _ ⟨rfl, rfl, rfl, rfl, rfl⟩ _ (ag_un (fun cty bey bsy pfy psy tny a4y a5y a6y a7y a8y a9y a10y a11y a12y a13y a14y a15y a16y a17y a18y a19y a20y a21y => br_t (key vF F0 F1) (hE _ ⟨rfl, rfl, rfl, rfl, rfl⟩ _ (ag_un (fun ctk bek bsk pfk psk tnk a4k a5k a6k a7k a8k a9k a10k a11k a12k a13k a14k a15k a16k a17k a18k a19k a20k a21k => br_t (key vE E0 E1) (hS _ ⟨rfl, rfl, rfl, rfl, rfl⟩ _ (ag_un (fun ctl bel bsl pfl psl tnl a4l a5l a6l a7l a8l a9l a10l a11l a12l a13l a14l a15l a16l a17l a18l a19l a20l a21l => br_t (key vS S0 S1) ?_))))))))))
  by_cases r : ag_rd w qd b2 b3 (2 ^ i)
  · have op := hr.mp r
    have efar : ag_dst w a1 p q = ag_pv (ag_d (ag_ST w a1) q p) := by
      unfold ag_dst
      rw [if_neg (by rw [op.1]; decide), if_neg (by rw [op.2]; decide)]
    rcases ag_pv0 (ag_d4 (ag_ST w a1) q p hp) with ⟨h11, ev, h0, _⟩ | ⟨_, ev, h0, _⟩
    · rw [efar, ev]
      rw [ev] at h0
      generalize hnn : ag_d (ag_ST w a1) q p = n at *
      have dv : nI n / 2 = nI (n / 2) := pk_div (d := 2) (by omega) (by omega) (by omega)
      obtain ⟨vM, hM, M1⟩ := ag_qC (w := w) (pd := qd) (a1 := a1) (t := n / 2) hi (by omega) g2 g3
      obtain ⟨vA, hA, A1⟩ := ag_qC (w := w) (pd := qd) (a1 := a1) (t := 0) hi (by omega) g2 g3
      obtain ⟨vB, hB, B1⟩ := ag_qC (w := w) (pd := qd) (a1 := a1) (t := n) hi (by omega) g2 g3
      obtain ⟨m, hm, em, Fm, dm, om⟩ := M1 r (by omega) (by omega)
      obtain ⟨a, ha, ea, Fa, da, oa⟩ := A1 r (by omega) (by omega)
      obtain ⟨z, hz, ez, Fz, dz, oz⟩ := B1 r (by omega) (by omega)
      rw [cp] at Fm Fa Fz
      rw [cq] at dm da dz
      subst em ea ez
      have eap : a = p := Fa
      have ezq : z = q := (ag_d3 (ag_ST w a1) q z).mp (by omega)
      subst eap ezq
      have D1 : ag_dst w a1 a m = nI (n / 2) := by
        unfold ag_dst
        rw [if_neg (by rw [op.1]; decide), if_neg (by rw [om]; decide), ag_tri (g := z) hp hm (show n / 2 < 1000 by omega) Fm (by omega) (by omega)]
        unfold ag_pv
        rw [if_neg (by omega)]
      have D2 : ag_dst w a1 m z = nI (n - n / 2) := by
        unfold ag_dst
        rw [if_neg (by rw [om]; decide), if_neg (by rw [op.2]; decide), show ag_d (ag_ST w a1) z m = n - n / 2 by omega]
        unfold ag_pv
        rw [if_neg (by omega)]
      have q1 := ag_qD (w := w) (pd := qd) (a1 := a1) (a2 := b2) (a3 := b3) hp hm
      have q2 := ag_qD (w := w) (pd := qd) (a1 := a1) (a2 := b2) (a3 := b3) hm hq
      rw [D1] at q1
      rw [D2] at q2
      rw [dv]
      refine br_t h0 ⟨by decide, hM _ ⟨rfl, rfl, rfl, rfl, rfl⟩ _ (ag_un (fun ctr ber bsr pfr psr tnr a4r a5r a6r a7r a8r a9r a10r a11r a12r a13r a14r a15r a16r a17r a18r a19r a20r a21r => ?_))⟩
      refine q1 _ ⟨rfl, rfl, rfl, rfl, rfl⟩ _ (ag_un (fun cts bes bss pfs pss tns a4s a5s a6s a7s a8s a9s a10s a11s a12s a13s a14s a15s a16s a17s a18s a19s a20s a21s => ⟨by decide, br_t rfl ?_⟩))
      refine q2 _ ⟨rfl, rfl, rfl, rfl, rfl⟩ _ (ag_un (fun ctt bet bst pft pst tnt a4t a5t a6t a7t a8t a9t a10t a11t a12t a13t a14t a15t a16t a17t a18t a19t a20t a21t => ⟨by decide, br_t (by rw [pk_sub (by omega)]) ?_⟩))
      refine hA _ ⟨rfl, rfl, rfl, rfl, rfl⟩ _ (ag_un (fun ctu beu bsu pfu psu tnu a4u a5u a6u a7u a8u a9u a10u a11u a12u a13u a14u a15u a16u a17u a18u a19u a20u a21u => br_t rfl ?_))
      refine hB _ ⟨rfl, rfl, rfl, rfl, rfl⟩ _ (ag_un (fun ctv bev bsv pfv psv tnv a4v a5v a6v a7v a8v a9v a10v a11v a12v a13v a14v a15v a16v a17v a18v a19v a20v a21v => br_t rfl ?_))
      exact hN _ ⟨rfl, rfl, rfl, rfl, rfl⟩ _ (ag_un (fun cto beo bso pfo pso tno a4o a5o a6o a7o a8o a9o a10o a11o a12o a13o a14o a15o a16o a17o a18o a19o a20o a21o => br_f (N1 r (by omega)) (h _ ⟨rfl, rfl, rfl, rfl, rfl⟩)))
    · rw [efar]
      exact br_f h0 (h _ ⟨rfl, rfl, rfl, rfl, rfl⟩)
  · have efar : ag_dst w a1 p q = -1 := (key (-1) (fun _ => rfl) (fun z => absurd z r)).symm
    rw [efar]
    exact br_f (by decide) (h _ ⟨rfl, rfl, rfl, rfl, rfl⟩)
end
end
section
/-! the law's loop, and what is owed -/
section
variable {w pd ct be bs pf ps tn : Int32} {a1 a2 a3 a4 a5 a6 a7 a8 a9 a10 a11 a12 a13 a14 a15 a16 a17 a18 a19 a20 a21 : Nat → Int32}
theorem ag_188 {L : Nat} {xs : Nat → Int32} {kc ks : Nat} (G : ag_G a1 a2 a3) : wL_law_188 (fun r => r = 1) L xs kc ks w pd ct be bs pf ps tn a1 a2 a3 a4 a5 a6 a7 a8 a9 a10 a11 a12 a13 a14 a15 a16 a17 a18 a19 a20 a21 := by
  unfold wL_law_188
  refine ag_same G 21 9 (ag_un (fun ctx bex bsx pfx psx tnx a4x a5x a6x a7x a8x a9x a10x a11x a12x a13x a14x a15x a16x a17x a18x a19x a20x a21x => br_f (by decide) ?_))
  exact ag_alone (i := 1) (p := 0) (q := 11) (by omega) (by omega) (by omega) G.2.1 G.2.2 (ag_un (fun cty bey bsy pfy psy tny a4y a5y a6y a7y a8y a9y a10y a11y a12y a13y a14y a15y a16y a17y a18y a19y a20y a21y => br_f (by decide) rfl))
theorem ag_155 {L : Nat} {xs : Nat → Int32} {kc ks x : Nat} {x4 : Int32} {J : (Int32 → Int32 → Int32 → Int32 → Int32 → Int32 → Int32 → Int32 → Int32 → (Nat → Int32) → (Nat → Int32) → (Nat → Int32) → (Nat → Int32) → (Nat → Int32) → (Nat → Int32) → (Nat → Int32) → (Nat → Int32) → (Nat → Int32) → (Nat → Int32) → (Nat → Int32) → (Nat → Int32) → (Nat → Int32) → (Nat → Int32) → (Nat → Int32) → (Nat → Int32) → (Nat → Int32) → (Nat → Int32) → (Nat → Int32) → (Nat → Int32) → (Nat → Int32) → Prop)} (hL : L ≤ 260) (hx : x < L) (G : ag_G a1 a2 a3) (hJ : ∀ (ct be bs pf ps tn : Int32) (a4 a5 a6 a7 a8 a9 a10 a11 a12 a13 a14 a15 a16 a17 a18 a19 a20 a21 : Nat → Int32), J (nI (x + 2)) w pd ct be bs pf ps tn a1 a2 a3 a4 a5 a6 a7 a8 a9 a10 a11 a12 a13 a14 a15 a16 a17 a18 a19 a20 a21) : wL_law_155 (fun r => r = 1) L xs J (nI x) x4 kc ks w pd ct be bs pf ps tn a1 a2 a3 a4 a5 a6 a7 a8 a9 a10 a11 a12 a13 a14 a15 a16 a17 a18 a19 a20 a21 := by
  unfold wL_law_155
  exact ⟨pk_in x L hx, br_c (fun _ => ag_same G _ _ (ag_un (fun ctx bex bsx pfx psx tnx a4x a5x a6x a7x a8x a9x a10x a11x a12x a13x a14x a15x a16x a17x a18x a19x a20x a21x => br_f (by decide) (nm_r (nI_add x 2) (hJ ctx bex bsx pfx psx tnx a4x a5x a6x a7x a8x a9x a10x a11x a12x a13x a14x a15x a16x a17x a18x a19x a20x a21x))))) (fun _ => nm_r (nI_add x 2) (hJ ct be bs pf ps tn a4 a5 a6 a7 a8 a9 a10 a11 a12 a13 a14 a15 a16 a17 a18 a19 a20 a21))⟩
end
theorem ag_law10 {L : Nat} {xs : Nat → Int32} {kc ks : Nat} (hL : L ≤ 260) : ∀ (m x : Nat), 40 ≤ x + 2 * m → x ≤ 42 → ∀ (w pd ct be bs pf ps tn : Int32) (a1 a2 a3 a4 a5 a6 a7 a8 a9 a10 a11 a12 a13 a14 a15 a16 a17 a18 a19 a20 a21 : Nat → Int32), ag_G a1 a2 a3 → wL_law_10 (fun r => r = 1) L xs kc ks (m + 1) (nI x) w pd ct be bs pf ps tn a1 a2 a3 a4 a5 a6 a7 a8 a9 a10 a11 a12 a13 a14 a15 a16 a17 a18 a19 a20 a21 := by
  intro m
  induction m with
  | zero =>
    intro x hm hx w pd ct be bs pf ps tn a1 a2 a3 a4 a5 a6 a7 a8 a9 a10 a11 a12 a13 a14 a15 a16 a17 a18 a19 a20 a21 G
    exact pk_lt L (x + 2) (fun _ => ag_188 G) (fun _ => pk_le 40 x (fun _ => ag_188 G) (fun z => absurd z (by omega))) rfl (nI_add x 2)
  | succ m ih =>
    intro x hm hx w pd ct be bs pf ps tn a1 a2 a3 a4 a5 a6 a7 a8 a9 a10 a11 a12 a13 a14 a15 a16 a17 a18 a19 a20 a21 G
    obtain ⟨k, hk, ek⟩ := pk_andE (xs (nI x).toNatClampNeg) (m := 7) 3 (by decide)
    refine pk_lt L (x + 2) (fun _ => ag_188 G) (fun hl => pk_le 40 x (fun _ => ag_188 G) (fun h40 => ⟨pk_in x L (by omega), nm_r ek ⟨pk_in (x + 1) L (by omega) (nI_1 x), fun v _ => ?_⟩⟩)) rfl (nI_add x 2)
    obtain ⟨c, hc, ec⟩ := pk_andE v (m := 15) 4 (by decide)
    obtain ⟨e, he, ee⟩ := pk_andE (v >>> ((4 : Int32) &&& 31)) (m := 15) 4 (by decide)
    obtain ⟨y, hy, ey⟩ := pk_andE (v >>> ((8 : Int32) &&& 31)) (m := 15) 4 (by decide)
    rw [ec, ee, ey]
    refine ⟨by decide, nm_r (e' := nI (c % 12)) (pk_rem (d := 12) (by omega) (by omega) (by omega)) ⟨by decide, nm_r (e' := nI (e % 12)) (pk_rem (d := 12) (by omega) (by omega) (by omega)) ?_⟩⟩
    rw [show nI y - nI y / 3 * 3 = nI (y % 3) from pk_rem (d := 3) (by omega) (by omega) (by omega)]
    have c12 : c % 12 < 12 := Nat.mod_lt _ (by omega)
    have e12 : e % 12 < 12 := Nat.mod_lt _ (by omega)
    have y3 : y % 3 < 3 := Nat.mod_lt _ (by omega)
    have hxL : x < L := by omega
    have G' : ag_G a1 (upd a2 (y % 3) (nI (c % 12))) (upd a3 (y % 3) (nI (e % 12))) := ⟨G.1, ag_set_g G.2.1 c12, ag_set_g G.2.2 e12⟩
    refine pk_le 3 k (fun _ => pk_le 5 k (fun _ => pk_le 6 k (fun _ => pk_le 7 k (fun _ => ?_) (fun _ => ⟨by decide, ?_⟩)) (fun _ => ?_)) (fun _ => ?_)) (fun _ => ⟨by decide, ?_⟩)
    · exact ag_155 hL hxL G (fun ct be bs pf ps tn a4 a5 a6 a7 a8 a9 a10 a11 a12 a13 a14 a15 a16 a17 a18 a19 a20 a21 => ih (x + 2) (by omega) (by omega) w pd ct be bs pf ps tn a1 a2 a3 a4 a5 a6 a7 a8 a9 a10 a11 a12 a13 a14 a15 a16 a17 a18 a19 a20 a21 G)
    · exact ag_alone y3 c12 e12 G.2.1 G.2.2 (ag_un (fun ct be bs pf ps tn a4 a5 a6 a7 a8 a9 a10 a11 a12 a13 a14 a15 a16 a17 a18 a19 a20 a21 => br_f (by decide) (ag_155 hL hxL G' (fun ct be bs pf ps tn a4 a5 a6 a7 a8 a9 a10 a11 a12 a13 a14 a15 a16 a17 a18 a19 a20 a21 => ih (x + 2) (by omega) (by omega) w _ ct be bs pf ps tn a1 _ _ a4 a5 a6 a7 a8 a9 a10 a11 a12 a13 a14 a15 a16 a17 a18 a19 a20 a21 G'))))
    · refine ag_ways c12 (by omega) ?_
      have G'' : ag_G (upd a1 (c % 12) (nI y)) a2 a3 := by
        refine ⟨fun i hi => ?_, G.2⟩
        by_cases z : i = c % 12
        · rw [z, pk_us]
          exact ⟨y, by omega, rfl⟩
        · rw [pk_un z]
          exact G.1 i hi
      exact ag_155 hL hxL G'' (fun ct be bs pf ps tn a4 a5 a6 a7 a8 a9 a10 a11 a12 a13 a14 a15 a16 a17 a18 a19 a20 a21 => ih (x + 2) (by omega) (by omega) w pd ct be bs pf ps tn _ a2 a3 a4 a5 a6 a7 a8 a9 a10 a11 a12 a13 a14 a15 a16 a17 a18 a19 a20 a21 G'')
    · refine ag_wall c12 ?_
      exact ag_155 hL hxL G (fun ct be bs pf ps tn a4 a5 a6 a7 a8 a9 a10 a11 a12 a13 a14 a15 a16 a17 a18 a19 a20 a21 => ih (x + 2) (by omega) (by omega) _ pd ct be bs pf ps tn a1 a2 a3 a4 a5 a6 a7 a8 a9 a10 a11 a12 a13 a14 a15 a16 a17 a18 a19 a20 a21 G)
    · refine ag_set y3 c12 e12 ?_
      exact ag_155 hL hxL G' (fun ct be bs pf ps tn a4 a5 a6 a7 a8 a9 a10 a11 a12 a13 a14 a15 a16 a17 a18 a19 a20 a21 => ih (x + 2) (by omega) (by omega) w _ ct be bs pf ps tn a1 _ _ a4 a5 a6 a7 a8 a9 a10 a11 a12 a13 a14 a15 a16 a17 a18 a19 a20 a21 G')
theorem ag_init177 {post : St1 → Prop} {mc ms kc ks : Nat} {w pd ct be bs pf ps tn : Int32} {a1 a2 a3 a4 a5 a6 a7 a8 a9 a10 a11 a12 a13 a14 a15 a16 a17 a18 a19 a20 a21 : Nat → Int32} (hp : ∀ a1' : Nat → Int32, (∀ i, i < 12 → a1' i = 15) → post (w, pd, ct, be, bs, pf, ps, tn, a1', a2, a3, a4, a5, a6, a7, a8, a9, a10, a11, a12, a13, a14, a15, a16, a17, a18, a19, a20, a21)) : ∀ (m c : Nat) (a1 : Nat → Int32), c + m = 12 → (∀ i, i < c → a1 i = 15) → wX_init_177 post mc ms kc ks w pd ct be bs pf ps tn (m + 1) (nI c) a1 a2 a3 a4 a5 a6 a7 a8 a9 a10 a11 a12 a13 a14 a15 a16 a17 a18 a19 a20 a21 := by
  intro m
  induction m with
  | zero =>
    intro c a1 hc hI
    exact pk_le 12 c (fun _ => hp a1 (fun i hi => hI i (by omega))) (fun z => absurd z (by omega))
  | succ m ih =>
    intro c a1 hc hI
    exact pk_le 12 c (fun z => absurd z (by omega)) (fun _ => ⟨pk_in c 12 (by omega), nm_r (e' := upd a1 c 15) (by rw [nI_clamp (by omega)]) (nm_r (nI_1 c) (ih (c + 1) _ (by omega) (ag_fill (f := fun _ => 15) hI rfl)))⟩)
theorem i_vc (xs : Nat → Int32) (L : Nat) (hL : L ≤ 260) : wpL_law (fun r => r = 1) L xs := by
  unfold wpL_law
  refine ⟨21, 11037, by omega, by omega, ?_⟩
  unfold wpX_init
  refine ⟨by omega, by omega, by omega, by omega, by omega, by omega, by omega, by omega, by omega, by omega, by omega, by omega, by omega, by omega, by omega, by omega, by omega, by omega, by omega, by omega, by omega, by omega, by omega, by omega, by omega, by omega, by omega, by omega, by omega, by omega, by omega, by omega, by omega, by omega, by omega, by omega, by omega, by omega, by omega, by omega, by omega, by omega, 13, ag_init177 (a1 := fun _ => 0) (fun a1' h1 => ⟨21, ag_law10 hL 20 0 (by omega) (by omega) _ _ _ _ _ _ _ _ _ _ _ _ _ _ _ _ _ _ _ _ _ _ _ _ _ _ _ _ _ ⟨fun i hi => ⟨15, by omega, h1 i hi⟩, fun i _ => ⟨0, by omega, rfl⟩, fun i _ => ⟨0, by omega, rfl⟩⟩⟩) 12 0 (fun _ => 0) rfl (fun i hi => absurd hi (by omega))⟩
end
