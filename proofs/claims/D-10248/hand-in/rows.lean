section
/-! ===== bits of an Int32, bits of an array of words ===== -/
def gl_bt (x : Int32) (i : Nat) : Bool := x.toBitVec.getLsbD i
theorem gl_b_ext {x y : Int32} (h : ∀ i, i < 32 → gl_bt x i = gl_bt y i) : x = y := Int32.toBitVec_inj.mp (BitVec.eq_of_getLsbD_eq (fun i hi => h i hi))
theorem gl_b_or (x y : Int32) (i : Nat) : gl_bt (x ||| y) i = (gl_bt x i || gl_bt y i) := by unfold gl_bt; rw [Int32.toBitVec_or, BitVec.getLsbD_or]
theorem gl_b_and (x y : Int32) (i : Nat) : gl_bt (x &&& y) i = (gl_bt x i && gl_bt y i) := by unfold gl_bt; rw [Int32.toBitVec_and, BitVec.getLsbD_and]
theorem gl_b_xor (x y : Int32) (i : Nat) : gl_bt (x ^^^ y) i = (gl_bt x i ^^ gl_bt y i) := by unfold gl_bt; rw [Int32.toBitVec_xor, BitVec.getLsbD_xor]
theorem gl_b_big {x : Int32} {i : Nat} (h : 32 ≤ i) : gl_bt x i = false := BitVec.getLsbD_of_ge _ _ h
theorem gl_b_m1 : ∀ i, i < 32 → gl_bt (-1) i = true := by decide +kernel
theorem gl_b_0 (i : Nat) : gl_bt 0 i = false := BitVec.getLsbD_zero
theorem gl_b_1 : ∀ i, i < 32 → gl_bt 1 i = decide (i = 0) := by decide +kernel
theorem gl_s_l : ∀ n, n < 32 → ((nI n &&& 31).toBitVec.smod 32).toNat = n := by decide +kernel
theorem gl_s_u : ∀ n, n < 32 → (((nI n).toUInt32 &&& Int32.toUInt32 31).toBitVec % 32).toNat = n := by decide +kernel
theorem gl_b_shl (n : Nat) (hn : n < 32) (x : Int32) {i : Nat} (hi : i < 32) : gl_bt (x <<< (nI n &&& 31)) i = (decide (n ≤ i) && gl_bt x (i - n)) := by
  unfold gl_bt
  rw [Int32.toBitVec_shiftLeft]
  show (x.toBitVec <<< ((nI n &&& 31).toBitVec.smod 32).toNat).getLsbD i = _
  rw [gl_s_l n hn, BitVec.getLsbD_shiftLeft]
  rcases Nat.lt_or_ge i n with h | h
  · simp [h, Nat.not_le.mpr h]
  · simp [hi, h, Nat.not_lt.mpr h]
theorem gl_b_ushr (n : Nat) (hn : n < 32) (x : Int32) (i : Nat) : gl_bt ((x.toUInt32 >>> ((nI n).toUInt32 &&& Int32.toUInt32 31)).toInt32) i = gl_bt x (n + i) := by
  show (x.toUInt32 >>> ((nI n).toUInt32 &&& Int32.toUInt32 31)).toBitVec.getLsbD i = x.toUInt32.toBitVec.getLsbD (n + i)
  rw [UInt32.toBitVec_shiftRight]
  show (x.toUInt32.toBitVec >>> (((nI n).toUInt32 &&& Int32.toUInt32 31).toBitVec % 32).toNat).getLsbD i = _
  rw [gl_s_u n hn, BitVec.getLsbD_ushiftRight]
theorem gl_b_sshr (n : Nat) (hn : n < 32) (x : Int32) {i : Nat} (hi : i < 32) : gl_bt (x >>> (nI n &&& 31)) i = if n + i < 32 then gl_bt x (n + i) else gl_bt x 31 := by
  unfold gl_bt
  rw [Int32.toBitVec_shiftRight]
  show (x.toBitVec.sshiftRight ((nI n &&& 31).toBitVec.smod 32).toNat).getLsbD i = _
  rw [gl_s_l n hn, BitVec.getLsbD_sshiftRight, BitVec.msb_eq_getLsbD_last]
  simp [hi]
/-- the word with the one bit n -/
def gl_one (n : Nat) : Int32 := (1 : Int32) <<< (nI n &&& 31)
theorem gl_b_one {n i : Nat} (hn : n < 32) (hi : i < 32) : gl_bt (gl_one n) i = decide (i = n) := by
  unfold gl_one
  rw [gl_b_shl n hn 1 hi]
  rcases Nat.lt_or_ge i n with h | h
  · rw [decide_eq_false (by omega), decide_eq_false (by omega)]; rfl
  · rw [decide_eq_true (by omega), gl_b_1 (i - n) (by omega), Bool.true_and]
    by_cases e : i = n
    · rw [decide_eq_true (by omega), decide_eq_true (by omega)]
    · rw [decide_eq_false (by omega), decide_eq_false (by omega)]
theorem gl_and1 (x : Int32) : x &&& 1 = if gl_bt x 0 = true then 1 else 0 := by
  apply gl_b_ext
  intro i hi
  rw [gl_b_and, gl_b_1 i hi]
  by_cases e : i = 0
  · subst e
    cases h : gl_bt x 0 <;> rfl
  · rw [decide_eq_false e, Bool.and_false]
    split
    · rw [gl_b_1 i hi, decide_eq_false e]
    · rw [gl_b_0]
theorem gl_t_or {x : Int32} {n : Nat} (hn : n < 32) : x &&& gl_one n = 0 ↔ gl_bt x n = false := by
  constructor
  · intro h
    have h2 : gl_bt (x &&& gl_one n) n = false := by rw [h, gl_b_0]
    rw [gl_b_and, gl_b_one hn hn, decide_eq_true rfl, Bool.and_true] at h2
    exact h2
  · intro h
    apply gl_b_ext
    intro i hi
    rw [gl_b_and, gl_b_one hn hi, gl_b_0]
    by_cases e : i = n
    · rw [e, h]; rfl
    · rw [decide_eq_false e, Bool.and_false]
theorem gl_t_s {x : Int32} {n : Nat} (hn : n < 32) : (x >>> (nI n &&& 31)) &&& 1 = if gl_bt x n = true then 1 else 0 := by
  rw [gl_and1, gl_b_sshr n hn x (by omega), if_pos (show n + 0 < 32 by omega), Nat.add_zero]
theorem gl_t_u {x : Int32} {n : Nat} (hn : n < 32) : ((x.toUInt32 >>> ((nI n).toUInt32 &&& Int32.toUInt32 31)).toInt32) &&& 1 = if gl_bt x n = true then 1 else 0 := by
  rw [gl_and1, gl_b_ushr n hn x 0, Nat.add_zero]
theorem gl_i1 {c : Bool} : (if c = true then (1 : Int32) else 0) = 1 ↔ c = true := by
  cases c <;> decide
theorem gl_t_s1 {x : Int32} {n : Nat} (hn : n < 32) : (x >>> (nI n &&& 31)) &&& 1 = 1 ↔ gl_bt x n = true := by
  rw [gl_t_s hn]; exact gl_i1
theorem gl_t_u1 {x : Int32} {n : Nat} (hn : n < 32) : ((x.toUInt32 >>> ((nI n).toUInt32 &&& Int32.toUInt32 31)).toInt32) &&& 1 = 1 ↔ gl_bt x n = true := by
  rw [gl_t_u hn]; exact gl_i1
theorem gl_b_set {x : Int32} {n i : Nat} (hn : n < 32) (hi : i < 32) : gl_bt (x ||| gl_one n) i = (gl_bt x i || decide (i = n)) := by
  rw [gl_b_or, gl_b_one hn hi]
theorem gl_b_clr {x : Int32} {n i : Nat} (hn : n < 32) (hi : i < 32) : gl_bt (x &&& (gl_one n ^^^ (-1))) i = (gl_bt x i && !decide (i = n)) := by
  rw [gl_b_and, gl_b_xor, gl_b_one hn hi, gl_b_m1 i hi, Bool.xor_true]
/-- the bit d of an array of words -/
def gl_ba (a : Nat → Int32) (d : Nat) : Bool := gl_bt (a (d / 32)) (d % 32)
def gl_sb (a : Nat → Int32) (d : Nat) : Nat → Int32 := upd a (d / 32) (a (d / 32) ||| gl_one (d % 32))
def gl_cb (a : Nat → Int32) (d : Nat) : Nat → Int32 := upd a (d / 32) (a (d / 32) &&& (gl_one (d % 32) ^^^ (-1)))
theorem gl_ba_sb (a : Nat → Int32) (d e : Nat) : gl_ba (gl_sb a d) e = (gl_ba a e || decide (e = d)) := by
  unfold gl_ba gl_sb
  by_cases h : e / 32 = d / 32
  · rw [h, pk_us, gl_b_set (by omega) (by omega)]
    by_cases g : e % 32 = d % 32
    · rw [decide_eq_true g, decide_eq_true (by omega)]
    · rw [decide_eq_false g, decide_eq_false (by omega)]
  · rw [pk_un h, decide_eq_false (by omega), Bool.or_false]
theorem gl_ba_cb (a : Nat → Int32) (d e : Nat) : gl_ba (gl_cb a d) e = (gl_ba a e && !decide (e = d)) := by
  unfold gl_ba gl_cb
  by_cases h : e / 32 = d / 32
  · rw [h, pk_us, gl_b_clr (by omega) (by omega)]
    by_cases g : e % 32 = d % 32
    · rw [decide_eq_true g, decide_eq_true (show e = d by omega)]
    · rw [decide_eq_false g, decide_eq_false (show ¬ e = d by omega)]
  · rw [pk_un h, decide_eq_false (show ¬ e = d by omega), Bool.not_false, Bool.and_true]
theorem gl_ba_0 {a : Nat → Int32} {d : Nat} (h : a (d / 32) = 0) : gl_ba a d = false := by
  unfold gl_ba; rw [h, gl_b_0]
/-- how many of the first n places hold -/
def gl_cnt (p : Nat → Bool) : Nat → Nat
  | 0 => 0
  | n + 1 => gl_cnt p n + (if p n = true then 1 else 0)
theorem gl_cnt_le (p : Nat → Bool) : ∀ n, gl_cnt p n ≤ n
  | 0 => Nat.le_refl 0
  | n + 1 => by
    have h := gl_cnt_le p n
    show gl_cnt p n + (if p n = true then 1 else 0) ≤ n + 1
    split <;> omega
theorem gl_cnt_congr {p q : Nat → Bool} : ∀ {n : Nat}, (∀ i, i < n → p i = q i) → gl_cnt p n = gl_cnt q n
  | 0, _ => rfl
  | n + 1, h => by
    show gl_cnt p n + (if p n = true then 1 else 0) = gl_cnt q n + (if q n = true then 1 else 0)
    rw [gl_cnt_congr (fun i hi => h i (by omega)), h n (by omega)]
theorem gl_cnt_mono {p q : Nat → Bool} : ∀ {n : Nat}, (∀ i, i < n → p i = true → q i = true) → gl_cnt p n ≤ gl_cnt q n
  | 0, _ => Nat.le_refl 0
  | n + 1, h => by
    have ih := gl_cnt_mono (p := p) (q := q) (n := n) (fun i hi => h i (by omega))
    have hn := h n (by omega)
    show gl_cnt p n + (if p n = true then 1 else 0) ≤ gl_cnt q n + (if q n = true then 1 else 0)
    split
    · rename_i e; rw [if_pos (hn e)]; omega
    · omega
theorem gl_cnt_0 {p : Nat → Bool} : ∀ {n : Nat}, gl_cnt p n = 0 → ∀ i, i < n → p i = false
  | 0, _, i, hi => absurd hi (by omega)
  | n + 1, h, i, hi => by
    have h' : gl_cnt p n + (if p n = true then 1 else 0) = 0 := h
    by_cases e : i = n
    · subst e
      cases hp : p i
      · rfl
      · rw [hp, if_pos rfl] at h'; omega
    · exact gl_cnt_0 (n := n) (by omega) i (by omega)
theorem gl_cnt_z {p : Nat → Bool} : ∀ {n : Nat}, (∀ i, i < n → p i = false) → gl_cnt p n = 0
  | 0, _ => rfl
  | n + 1, h => by
    show gl_cnt p n + (if p n = true then 1 else 0) = 0
    rw [gl_cnt_z (fun i hi => h i (by omega)), h n (by omega)]; rfl
/-- one place more -/
theorem gl_cnt_add {p q : Nat → Bool} {d : Nat} : ∀ {n : Nat}, d < n → p d = false → q d = true → (∀ i, i < n → i ≠ d → q i = p i) → gl_cnt q n = gl_cnt p n + 1
  | 0, hd, _, _, _ => absurd hd (by omega)
  | n + 1, hd, hp, hq, h => by
    show gl_cnt q n + (if q n = true then 1 else 0) = gl_cnt p n + (if p n = true then 1 else 0) + 1
    by_cases e : d = n
    · subst e
      rw [hp, hq, gl_cnt_congr (fun i hi => h i (by omega) (by omega))]
      simp
    · rw [gl_cnt_add (n := n) (by omega) hp hq (fun i hi => h i (by omega)), h n (by omega) (by omega)]
      omega
theorem gl_cnt_lt {p q : Nat → Bool} {d : Nat} : ∀ {n : Nat}, d < n → p d = false → q d = true → (∀ i, i < n → p i = true → q i = true) → gl_cnt p n + 1 ≤ gl_cnt q n
  | 0, hd, _, _, _ => absurd hd (by omega)
  | n + 1, hd, hp, hq, h => by
    show gl_cnt p n + (if p n = true then 1 else 0) + 1 ≤ gl_cnt q n + (if q n = true then 1 else 0)
    by_cases e : d = n
    · subst e
      have := gl_cnt_mono (p := p) (q := q) (n := d) (fun i hi => h i (by omega))
      rw [hp, hq]
      simp
      omega
    · have ih := gl_cnt_lt (n := n) (show d < n by omega) hp hq (fun i hi => h i (by omega))
      have hn := h n (by omega)
      split
      · rename_i g; rw [if_pos (hn g)]; omega
      · omega
end
section
/-! ===== the grammar, plain: c rules, a text of s letters; lf: left sides, rt: right sides, zf: sizes, tx: text ===== -/
/-- the first k signs of rule r lead from i to p -/
def gl_Pre (rt : Nat → Nat) (P : Nat → Nat → Nat → Prop) (r i : Nat) : Nat → Nat → Prop
  | 0, p => p = i
  | k + 1, p => ∃ q, gl_Pre rt P r i k q ∧ P (rt (3 * r + k)) q p
def gl_Step (c s : Nat) (lf rt zf tx : Nat → Nat) (P : Nat → Nat → Nat → Prop) (x i j : Nat) : Prop :=
  (5 ≤ x ∧ i < s ∧ tx i = x ∧ j = i + 1) ∨ (x < 5 ∧ ∃ r, r < c ∧ lf r = x ∧ gl_Pre rt P r i (zf r) j)
/-- sign x can stand for the text from i to j: the least relation that is closed -/
def gl_D (c s : Nat) (lf rt zf tx : Nat → Nat) (x i j : Nat) : Prop :=
  ∀ P : Nat → Nat → Nat → Prop, (∀ x i j, gl_Step c s lf rt zf tx P x i j → P x i j) → P x i j
theorem gl_Pre_mono {rt : Nat → Nat} {P Q : Nat → Nat → Nat → Prop} (h : ∀ x i j, P x i j → Q x i j) {r i : Nat} : ∀ {k p : Nat}, gl_Pre rt P r i k p → gl_Pre rt Q r i k p
  | 0, _, hp => hp
  | _ + 1, _, hp => by
    obtain ⟨q, h1, h2⟩ := hp
    exact ⟨q, gl_Pre_mono h h1, h _ _ _ h2⟩
section
variable {c s : Nat} {lf rt zf tx : Nat → Nat}
theorem gl_Step_mono {P Q : Nat → Nat → Nat → Prop} (h : ∀ x i j, P x i j → Q x i j) {x i j : Nat} (hs : gl_Step c s lf rt zf tx P x i j) : gl_Step c s lf rt zf tx Q x i j := by
  rcases hs with hs | ⟨hx, r, hr, hl, hp⟩
  · exact Or.inl hs
  · exact Or.inr ⟨hx, r, hr, hl, gl_Pre_mono h hp⟩
theorem gl_D_fold {x i j : Nat} (h : gl_Step c s lf rt zf tx (gl_D c s lf rt zf tx) x i j) : gl_D c s lf rt zf tx x i j := by
  intro P hP
  exact hP x i j (gl_Step_mono (fun x i j hd => hd P hP) h)
theorem gl_D_unfold {x i j : Nat} (h : gl_D c s lf rt zf tx x i j) : gl_Step c s lf rt zf tx (gl_D c s lf rt zf tx) x i j :=
  h (gl_Step c s lf rt zf tx (gl_D c s lf rt zf tx)) (fun _ _ _ hs => gl_Step_mono (fun _ _ _ h => gl_D_fold h) hs)
theorem gl_Pre_le {P : Nat → Nat → Nat → Prop} (h : ∀ x i j, P x i j → i ≤ s → i ≤ j ∧ j ≤ s) {r i : Nat} (hi : i ≤ s) : ∀ {k p : Nat}, gl_Pre rt P r i k p → i ≤ p ∧ p ≤ s
  | 0, p, hp => by
    have hp' : p = i := hp
    omega
  | k + 1, p, hp => by
    obtain ⟨q, h1, h2⟩ := hp
    have a := gl_Pre_le h hi h1
    have b := h _ _ _ h2 (by omega)
    omega
theorem gl_D_le {x i j : Nat} (h : gl_D c s lf rt zf tx x i j) : i ≤ s → i ≤ j ∧ j ≤ s := by
  refine h (fun _ i j => i ≤ s → i ≤ j ∧ j ≤ s) (fun x i j hs hi => ?_)
  rcases hs with ⟨_, h1, _, h2⟩ | ⟨_, r, _, _, hp⟩
  · omega
  · exact gl_Pre_le (P := fun _ i j => i ≤ s → i ≤ j ∧ j ≤ s) (fun _ _ _ h hi => h hi) hi hp
theorem gl_PreD_le {r i k p : Nat} (hi : i ≤ s) (h : gl_Pre rt (gl_D c s lf rt zf tx) r i k p) : i ≤ p ∧ p ≤ s :=
  gl_Pre_le (fun _ _ _ h hi => gl_D_le h hi) hi h
/-- a letter -/
theorem gl_D_let {x i j : Nat} (hx : 5 ≤ x) : gl_D c s lf rt zf tx x i j ↔ (i < s ∧ tx i = x ∧ j = i + 1) := by
  constructor
  · intro h
    rcases gl_D_unfold h with ⟨_, h⟩ | ⟨h, _⟩
    · exact h
    · omega
  · intro h
    exact gl_D_fold (Or.inl ⟨hx, h⟩)
/-- a name -/
theorem gl_D_nam {x i j : Nat} (hx : x < 5) : gl_D c s lf rt zf tx x i j ↔ ∃ r, r < c ∧ lf r = x ∧ gl_Pre rt (gl_D c s lf rt zf tx) r i (zf r) j := by
  constructor
  · intro h
    rcases gl_D_unfold h with ⟨h, _⟩ | ⟨_, h⟩
    · omega
    · exact h
  · intro h
    exact gl_D_fold (Or.inr ⟨hx, h⟩)
/-- sets that are closed hold all that the grammar gives -/
theorem gl_complete {se : Nat → Prop} {ca en : Nat → Nat → Prop} {op : Nat → Prop}
    (hz : ∀ r, r < c → zf r ≤ 3) (hc : c ≤ 12) (hs : s ≤ 8)
    (k1 : ∀ l n p, l < 48 → n < 45 → p < 9 → se ((l * 45 + n) * 9 + p) →
      (l % 4 = zf (l / 4) → en n p) ∧
      (l % 4 ≠ zf (l / 4) → 5 ≤ rt (3 * (l / 4) + l % 4) → p < s → tx p = rt (3 * (l / 4) + l % 4) → se (((l + 1) * 45 + n) * 9 + (p + 1))) ∧
      (l % 4 ≠ zf (l / 4) → rt (3 * (l / 4) + l % 4) < 5 → ca (9 * rt (3 * (l / 4) + l % 4) + p) ((l + 1) * 45 + n) ∧ op (9 * rt (3 * (l / 4) + l % 4) + p)))
    (k2 : ∀ n k p, n < 45 → k < 2160 → p < 9 → ca n k → en n p → se (k * 9 + p))
    (k3 : ∀ n, n < 45 → op n → ∀ r, r < c → lf r = n / 9 → se ((4 * r * 45 + n) * 9 + n % 9))
    {x i j : Nat} (h : gl_D c s lf rt zf tx x i j) :
    x < 5 → i ≤ s → op (9 * x + i) → en (9 * x + i) j := by
  have main := h (fun x i j => i ≤ s → (5 ≤ x → i < s ∧ tx i = x ∧ j = i + 1) ∧ (x < 5 → op (9 * x + i) → en (9 * x + i) j) ∧ i ≤ j ∧ j ≤ s) (fun x i j hst hi => ?_)
  · intro hx hi ho
    exact (main hi).2.1 hx ho
  rcases hst with ⟨h5, h1, h2, h3⟩ | ⟨h5, r, hr, hl, hp⟩
  · exact ⟨fun _ => ⟨h1, h2, h3⟩, fun h => absurd h (by omega), by omega, by omega⟩
  · have hb : i ≤ j ∧ j ≤ s := gl_Pre_le (s := s) (fun _ _ _ h hi => (h hi).2.2) hi hp
    refine ⟨fun h => absurd h (by omega), fun _ ho => ?_, hb.1, hb.2⟩
    have hzr := hz r hr
    have go : ∀ k p, k ≤ zf r → gl_Pre rt (fun x i j => i ≤ s → (5 ≤ x → i < s ∧ tx i = x ∧ j = i + 1) ∧ (x < 5 → op (9 * x + i) → en (9 * x + i) j) ∧ i ≤ j ∧ j ≤ s) r i k p → se (((4 * r + k) * 45 + (9 * x + i)) * 9 + p) := by
      intro k
      induction k with
      | zero =>
        intro p _ hp
        have hp' : p = i := hp
        subst hp'
        have t := k3 (9 * x + p) (by omega) ho r hr (by omega)
        rw [show (9 * x + p) % 9 = p by omega] at t
        exact t
      | succ k ih =>
        intro p hk hp
        obtain ⟨q, hq, hx⟩ := hp
        have a := ih q (by omega) hq
        have hqb : i ≤ q ∧ q ≤ s := gl_Pre_le (s := s) (fun _ _ _ h hi => (h hi).2.2) hi hq
        have hx' := hx hqb.2
        have t := k1 (4 * r + k) (9 * x + i) q (by omega) (by omega) (by omega) a
        rw [show (4 * r + k) / 4 = r by omega, show (4 * r + k) % 4 = k by omega] at t
        rcases Nat.lt_or_ge (rt (3 * r + k)) 5 with h5' | h5'
        · obtain ⟨tc, to⟩ := t.2.2 (by omega) h5'
          have te := hx'.2.1 h5' to
          have := k2 _ _ p (by omega) (by omega) (by omega) tc te
          exact this
        · obtain ⟨e1, e2, e3⟩ := hx'.1 h5'
          rw [e3]
          exact t.2.1 (by omega) h5' e1 e2
    have ht := go (zf r) j (by omega) hp
    have t := k1 (4 * r + zf r) (9 * x + i) j (by omega) (by omega) (by omega) ht
    rw [show (4 * r + zf r) / 4 = r by omega, show (4 * r + zf r) % 4 = zf r by omega] at t
    exact t.1 rfl
end
end
section
/-! ===== the state of a search: count, seen, pending, callers, ended, begun nodes; what always holds of it ===== -/
abbrev gl_E : Type := Int32 × (Nat → Int32) × (Nat → Int32) × (Nat → Int32) × (Nat → Int32) × (Nat → Int32)
def gl_se (e : gl_E) (d : Nat) : Bool := gl_ba e.2.1 d
def gl_pe (e : gl_E) (d : Nat) : Bool := gl_ba e.2.2.1 d
def gl_ca (e : gl_E) (n k : Nat) : Bool := gl_ba e.2.2.2.1 (2176 * n + k)
def gl_en (e : gl_E) (n p : Nat) : Bool := gl_bt (e.2.2.2.2.1 n) p
def gl_op (e : gl_E) (n : Nat) : Prop := ¬ e.2.2.2.2.2 n = 0
def gl_ha (e : gl_E) (d : Nat) : Bool := gl_se e d && !gl_pe e d
def gl_W (c s : Nat) (lf zf : Nat → Nat) : Prop := c ≤ 12 ∧ s ≤ 8 ∧ ∀ r, r < c → lf r < 5 ∧ zf r ≤ 3
def gl_okd (c s : Nat) (lf rt zf tx : Nat → Nat) (d : Nat) : Prop :=
  ∃ r k A i p, d = ((4 * r + k) * 45 + (9 * A + i)) * 9 + p ∧ r < c ∧ k ≤ zf r ∧ lf r = A ∧ i ≤ s ∧ gl_Pre rt (gl_D c s lf rt zf tx) r i k p
def gl_okc (c s : Nat) (lf rt zf tx : Nat → Nat) (n m : Nat) : Prop :=
  ∃ r k A i B q, n = 9 * B + q ∧ m = (4 * r + k + 1) * 45 + (9 * A + i) ∧ r < c ∧ k < zf r ∧ lf r = A ∧ i ≤ s ∧ rt (3 * r + k) = B ∧ B < 5 ∧ gl_Pre rt (gl_D c s lf rt zf tx) r i k q
def gl_oke (c s : Nat) (lf rt zf tx : Nat → Nat) (n p : Nat) : Prop :=
  ∃ A i, n = 9 * A + i ∧ A < 5 ∧ i ≤ s ∧ gl_D c s lf rt zf tx A i p
def gl_C (c s : Nat) (lf rt zf tx : Nat → Nat) (e : gl_E) : Prop :=
  (∀ d, d < 19456 → gl_se e d = true → gl_okd c s lf rt zf tx d) ∧
  (∀ d, d < 19456 → gl_pe e d = true → gl_se e d = true) ∧
  e.1 = nI (gl_cnt (gl_pe e) 19440) ∧
  (∀ n k, n < 45 → k < 2160 → gl_ca e n k = true → gl_okc c s lf rt zf tx n k) ∧
  (∀ n p, n < 45 → p < 32 → gl_en e n p = true → gl_oke c s lf rt zf tx n p)
def gl_done (s : Nat) (rt zf tx : Nat → Nat) (e : gl_E) (l n p : Nat) : Prop :=
  (l % 4 = zf (l / 4) → gl_en e n p = true) ∧
  (l % 4 ≠ zf (l / 4) → 5 ≤ rt (3 * (l / 4) + l % 4) → p < s → tx p = rt (3 * (l / 4) + l % 4) → gl_se e (((l + 1) * 45 + n) * 9 + (p + 1)) = true) ∧
  (l % 4 ≠ zf (l / 4) → rt (3 * (l / 4) + l % 4) < 5 → gl_ca e (9 * rt (3 * (l / 4) + l % 4) + p) ((l + 1) * 45 + n) = true ∧ gl_op e (9 * rt (3 * (l / 4) + l % 4) + p))
def gl_K1 (s : Nat) (rt zf tx : Nat → Nat) (e : gl_E) : Prop :=
  ∀ l n p, l < 48 → n < 45 → p < 9 → gl_ha e ((l * 45 + n) * 9 + p) = true → gl_done s rt zf tx e l n p
def gl_K2 (e : gl_E) : Prop := ∀ n k p, n < 45 → k < 2160 → p < 9 → gl_ca e n k = true → gl_en e n p = true → gl_se e (k * 9 + p) = true
def gl_K3 (c : Nat) (lf : Nat → Nat) (e : gl_E) : Prop := ∀ n, n < 45 → gl_op e n → ∀ r, r < c → lf r = n / 9 → gl_se e ((4 * r * 45 + n) * 9 + n % 9) = true
def gl_K4 (e : gl_E) : Prop := ∀ n k, n < 45 → k < 2160 → gl_ca e n k = true → gl_op e n
def gl_Mono (e e' : gl_E) : Prop :=
  (∀ d, gl_se e d = true → gl_se e' d = true) ∧ (∀ n k, gl_ca e n k = true → gl_ca e' n k = true) ∧
  (∀ n p, gl_en e n p = true → gl_en e' n p = true) ∧ (∀ n, gl_op e n → gl_op e' n) ∧ (∀ d, gl_ha e' d = gl_ha e d)
theorem gl_Mono_r (e : gl_E) : gl_Mono e e := ⟨fun _ h => h, fun _ _ h => h, fun _ _ h => h, fun _ h => h, fun _ => rfl⟩
theorem gl_Mono_t {e e' e'' : gl_E} (h : gl_Mono e e') (g : gl_Mono e' e'') : gl_Mono e e'' :=
  ⟨fun d t => g.1 d (h.1 d t), fun n k t => g.2.1 n k (h.2.1 n k t), fun n p t => g.2.2.1 n p (h.2.2.1 n p t), fun n t => g.2.2.2.1 n (h.2.2.2.1 n t), fun d => (g.2.2.2.2 d).trans (h.2.2.2.2 d)⟩
theorem gl_done_m {s : Nat} {rt zf tx : Nat → Nat} {e e' : gl_E} {l n p : Nat} (h : gl_Mono e e') (g : gl_done s rt zf tx e l n p) : gl_done s rt zf tx e' l n p :=
  ⟨fun t => h.2.2.1 _ _ (g.1 t), fun a b d f => h.1 _ (g.2.1 a b d f), fun a b => ⟨h.2.1 _ _ (g.2.2 a b).1, h.2.2.2.1 _ (g.2.2 a b).2⟩⟩
theorem gl_K1_m {s : Nat} {rt zf tx : Nat → Nat} {e e' : gl_E} (h : gl_Mono e e') (g : gl_K1 s rt zf tx e) : gl_K1 s rt zf tx e' :=
  fun l n p hl hn hp t => gl_done_m h (g l n p hl hn hp (by rw [← h.2.2.2.2]; exact t))
/-- callers and ended as they were -/
theorem gl_K2_m {e e' : gl_E} (h : gl_Mono e e') (h7 : e'.2.2.2.1 = e.2.2.2.1) (h8 : e'.2.2.2.2.1 = e.2.2.2.2.1) (g : gl_K2 e) : gl_K2 e' := by
  intro n k p hn hk hp t1 t2
  refine h.1 _ (g n k p hn hk hp ?_ ?_)
  · unfold gl_ca at t1 ⊢; rw [← h7]; exact t1
  · unfold gl_en at t2 ⊢; rw [← h8]; exact t2
theorem gl_K3_m {c : Nat} {lf : Nat → Nat} {e e' : gl_E} (h : gl_Mono e e') (h9 : e'.2.2.2.2.2 = e.2.2.2.2.2) (g : gl_K3 c lf e) : gl_K3 c lf e' := by
  intro n hn t r hr hl
  refine h.1 _ (g n hn ?_ r hr hl)
  unfold gl_op at t ⊢; rw [← h9]; exact t
theorem gl_K4_m {e e' : gl_E} (h : gl_Mono e e') (h7 : e'.2.2.2.1 = e.2.2.2.1) (g : gl_K4 e) : gl_K4 e' := by
  intro n k hn hk t
  refine h.2.2.2.1 _ (g n k hn hk ?_)
  unfold gl_ca at t ⊢; rw [← h7]; exact t
section
variable {c s : Nat} {lf rt zf tx : Nat → Nat}
theorem gl_okd_lt {d : Nat} (hw : gl_W c s lf zf) (h : gl_okd c s lf rt zf tx d) : d < 19440 := by
  obtain ⟨r, k, A, i, p, rfl, hr, hk, hA, hi, hp⟩ := h
  have h1 := hw.2.2 r hr
  have h2 := gl_PreD_le hi hp
  have h3 := hw.1
  have h4 := hw.2.1
  omega
theorem gl_okd_dec {l n p : Nat} (hw : gl_W c s lf zf) (hn : n < 45) (hp : p < 9) (h : gl_okd c s lf rt zf tx ((l * 45 + n) * 9 + p)) :
    ∃ r k A i, l = 4 * r + k ∧ n = 9 * A + i ∧ r < c ∧ k ≤ zf r ∧ lf r = A ∧ i ≤ s ∧ gl_Pre rt (gl_D c s lf rt zf tx) r i k p := by
  obtain ⟨r, k, A, i, p', e, hr, hk, hA, hi, hp'⟩ := h
  have h1 := hw.2.2 r hr
  have h2 := gl_PreD_le hi hp'
  have h3 := hw.1
  have h4 := hw.2.1
  have e1 : p = p' := by omega
  have e2 : l * 45 + n = (4 * r + k) * 45 + (9 * A + i) := by omega
  subst e1
  exact ⟨r, k, A, i, by omega, by omega, hr, hk, hA, hi, hp'⟩
theorem gl_okc_okd {n m p : Nat} (hw : gl_W c s lf zf) (h : gl_okc c s lf rt zf tx n m) (g : gl_oke c s lf rt zf tx n p) : gl_okd c s lf rt zf tx (m * 9 + p) := by
  obtain ⟨r, k, A, i, B, q, rfl, rfl, hr, hk, hA, hi, hB, hB5, hp⟩ := h
  obtain ⟨A', i', e, hA', hi', hD⟩ := g
  have h2 := gl_PreD_le hi hp
  have h4 := hw.2.1
  have e1 : i' = q := by omega
  have e2 : A' = B := by omega
  subst e1 e2
  exact ⟨r, k + 1, A, i, p, rfl, hr, hk, hA, hi, i', hp, by rw [hB]; exact hD⟩
/-- a new descriptor -/
theorem gl_C_add {e : gl_E} {d : Nat} (hw : gl_W c s lf zf) (hC : gl_C c s lf rt zf tx e) (hd : gl_okd c s lf rt zf tx d) (hs : gl_se e d = false) :
    gl_C c s lf rt zf tx (e.1 + 1, gl_sb e.2.1 d, gl_sb e.2.2.1 d, e.2.2.2) ∧ gl_Mono e (e.1 + 1, gl_sb e.2.1 d, gl_sb e.2.2.1 d, e.2.2.2) ∧ gl_se (e.1 + 1, gl_sb e.2.1 d, gl_sb e.2.2.1 d, e.2.2.2) d = true := by
  obtain ⟨c1, c2, c3, c4, c5⟩ := hC
  have hlt := gl_okd_lt hw hd
  have hse : ∀ x, gl_se (e.1 + 1, gl_sb e.2.1 d, gl_sb e.2.2.1 d, e.2.2.2) x = (gl_se e x || decide (x = d)) := fun x => gl_ba_sb e.2.1 d x
  have hpe : ∀ x, gl_pe (e.1 + 1, gl_sb e.2.1 d, gl_sb e.2.2.1 d, e.2.2.2) x = (gl_pe e x || decide (x = d)) := fun x => gl_ba_sb e.2.2.1 d x
  have hp : gl_pe e d = false := by
    cases h : gl_pe e d
    · rfl
    · have := c2 d (by omega) h
      rw [hs] at this
      exact absurd this (by decide)
  refine ⟨⟨?_, ?_, ?_, c4, c5⟩, ⟨?_, fun _ _ h => h, fun _ _ h => h, fun _ h => h, ?_⟩, ?_⟩
  · intro x hx h
    by_cases ex : x = d
    · rw [ex]; exact hd
    · rw [hse x, decide_eq_false ex, Bool.or_false] at h
      exact c1 x hx h
  · intro x hx h
    by_cases ex : x = d
    · rw [hse x, decide_eq_true ex, Bool.or_true]
    · rw [hpe x, decide_eq_false ex, Bool.or_false] at h
      rw [hse x, c2 x hx h, Bool.true_or]
  · show e.1 + 1 = _
    rw [gl_cnt_add (p := gl_pe e) (d := d) hlt hp (by rw [hpe d, decide_eq_true rfl, Bool.or_true]) (fun x _ hx => by rw [hpe x, decide_eq_false hx, Bool.or_false]), c3, nI_1]
  · intro x h
    rw [hse x, h, Bool.true_or]
  · intro x
    unfold gl_ha
    rw [hse x, hpe x]
    by_cases ex : x = d
    · subst ex
      rw [decide_eq_true rfl, hs, Bool.or_true, Bool.or_true]; rfl
    · rw [decide_eq_false ex, Bool.or_false, Bool.or_false]
  · rw [hse d, decide_eq_true rfl, Bool.or_true]
/-- a descriptor is taken -/
theorem gl_C_take {e : gl_E} {d : Nat} (hC : gl_C c s lf rt zf tx e) (hd : d < 19440) (hp : gl_pe e d = true) :
    gl_C c s lf rt zf tx (e.1 - 1, e.2.1, gl_cb e.2.2.1 d, e.2.2.2) ∧ (∀ x, gl_ha (e.1 - 1, e.2.1, gl_cb e.2.2.1 d, e.2.2.2) x = (gl_ha e x || (decide (x = d) && gl_se e x))) := by
  obtain ⟨c1, c2, c3, c4, c5⟩ := hC
  have hpe : ∀ x, gl_pe (e.1 - 1, e.2.1, gl_cb e.2.2.1 d, e.2.2.2) x = (gl_pe e x && !decide (x = d)) := fun x => gl_ba_cb e.2.2.1 d x
  refine ⟨⟨c1, ?_, ?_, c4, c5⟩, ?_⟩
  · intro x hx h
    rw [hpe x, Bool.and_eq_true] at h
    exact c2 x hx h.1
  · show e.1 - 1 = _
    have t := gl_cnt_add (p := gl_pe (e.1 - 1, e.2.1, gl_cb e.2.2.1 d, e.2.2.2)) (q := gl_pe e) (d := d) hd (by rw [hpe d, decide_eq_true rfl, Bool.not_true, Bool.and_false]) hp (fun x _ hx => by rw [hpe x, decide_eq_false hx, Bool.not_false, Bool.and_true])
    exact (congrArg (fun z => z - 1) (c3.trans (congrArg nI t))).trans (nI_pred _)
  · intro x
    unfold gl_ha
    rw [hpe x]
    show (gl_se e x && !(gl_pe e x && !decide (x = d))) = _
    cases gl_se e x <;> cases gl_pe e x <;> cases decide (x = d) <;> rfl
/-- a new caller -/
theorem gl_C_ca {e : gl_E} {n k : Nat} (hk : k < 2160) (hC : gl_C c s lf rt zf tx e) (ho : gl_okc c s lf rt zf tx n k) :
    gl_C c s lf rt zf tx (e.1, e.2.1, e.2.2.1, gl_sb e.2.2.2.1 (2176 * n + k), e.2.2.2.2) ∧ gl_Mono e (e.1, e.2.1, e.2.2.1, gl_sb e.2.2.2.1 (2176 * n + k), e.2.2.2.2) ∧
    (∀ n' k', k' < 2160 → gl_ca (e.1, e.2.1, e.2.2.1, gl_sb e.2.2.2.1 (2176 * n + k), e.2.2.2.2) n' k' = true → gl_ca e n' k' = true ∨ (n' = n ∧ k' = k)) ∧
    gl_ca (e.1, e.2.1, e.2.2.1, gl_sb e.2.2.2.1 (2176 * n + k), e.2.2.2.2) n k = true := by
  obtain ⟨c1, c2, c3, c4, c5⟩ := hC
  have hca : ∀ x y, gl_ca (e.1, e.2.1, e.2.2.1, gl_sb e.2.2.2.1 (2176 * n + k), e.2.2.2.2) x y = (gl_ca e x y || decide (2176 * x + y = 2176 * n + k)) := fun x y => gl_ba_sb e.2.2.2.1 (2176 * n + k) (2176 * x + y)
  have h3 : ∀ n' k', k' < 2160 → gl_ca (e.1, e.2.1, e.2.2.1, gl_sb e.2.2.2.1 (2176 * n + k), e.2.2.2.2) n' k' = true → gl_ca e n' k' = true ∨ (n' = n ∧ k' = k) := by
    intro n' k' hk' h
    by_cases ex : 2176 * n' + k' = 2176 * n + k
    · exact Or.inr ⟨by omega, by omega⟩
    · rw [hca, decide_eq_false ex, Bool.or_false] at h
      exact Or.inl h
  refine ⟨⟨c1, c2, c3, ?_, c5⟩, ⟨fun _ h => h, ?_, fun _ _ h => h, fun _ h => h, fun _ => rfl⟩, h3, ?_⟩
  · intro n' k' hn' hk' h
    rcases h3 n' k' hk' h with g | ⟨g1, g2⟩
    · exact c4 n' k' hn' hk' g
    · rw [g1, g2]; exact ho
  · intro n' k' h
    rw [hca, h, Bool.true_or]
  · rw [hca, decide_eq_true rfl, Bool.or_true]
/-- a new end -/
theorem gl_C_en {e : gl_E} {n p : Nat} (hp : p < 32) (hC : gl_C c s lf rt zf tx e) (ho : gl_oke c s lf rt zf tx n p) :
    gl_C c s lf rt zf tx (e.1, e.2.1, e.2.2.1, e.2.2.2.1, upd e.2.2.2.2.1 n (e.2.2.2.2.1 n ||| gl_one p), e.2.2.2.2.2) ∧ gl_Mono e (e.1, e.2.1, e.2.2.1, e.2.2.2.1, upd e.2.2.2.2.1 n (e.2.2.2.2.1 n ||| gl_one p), e.2.2.2.2.2) ∧
    (∀ n' p', p' < 32 → gl_en (e.1, e.2.1, e.2.2.1, e.2.2.2.1, upd e.2.2.2.2.1 n (e.2.2.2.2.1 n ||| gl_one p), e.2.2.2.2.2) n' p' = true → gl_en e n' p' = true ∨ (n' = n ∧ p' = p)) ∧
    gl_en (e.1, e.2.1, e.2.2.1, e.2.2.2.1, upd e.2.2.2.2.1 n (e.2.2.2.2.1 n ||| gl_one p), e.2.2.2.2.2) n p = true := by
  obtain ⟨c1, c2, c3, c4, c5⟩ := hC
  have hen : ∀ x y, gl_en (e.1, e.2.1, e.2.2.1, e.2.2.2.1, upd e.2.2.2.2.1 n (e.2.2.2.2.1 n ||| gl_one p), e.2.2.2.2.2) x y = gl_bt (upd e.2.2.2.2.1 n (e.2.2.2.2.1 n ||| gl_one p) x) y := fun x y => rfl
  have h3 : ∀ n' p', p' < 32 → gl_en (e.1, e.2.1, e.2.2.1, e.2.2.2.1, upd e.2.2.2.2.1 n (e.2.2.2.2.1 n ||| gl_one p), e.2.2.2.2.2) n' p' = true → gl_en e n' p' = true ∨ (n' = n ∧ p' = p) := by
    intro n' p' hp' h
    rw [hen] at h
    by_cases ex : n' = n
    · rw [ex, pk_us, gl_b_set hp hp', Bool.or_eq_true] at h
      rcases h with h | h
      · left; rw [ex]; exact h
      · exact Or.inr ⟨ex, of_decide_eq_true h⟩
    · rw [pk_un ex] at h
      exact Or.inl h
  refine ⟨⟨c1, c2, c3, c4, ?_⟩, ⟨fun _ h => h, fun _ _ h => h, ?_, fun _ h => h, fun _ => rfl⟩, h3, ?_⟩
  · intro n' p' hn' hp' h
    rcases h3 n' p' hp' h with g | ⟨g1, g2⟩
    · exact c5 n' p' hn' hp' g
    · rw [g1, g2]; exact ho
  · intro n' p' h
    rw [hen]
    by_cases ex : n' = n
    · rw [ex, pk_us, gl_b_or]
      rw [ex] at h
      have h' : gl_bt (e.2.2.2.2.1 n) p' = true := h
      rw [h', Bool.true_or]
    · rw [pk_un ex]; exact h
  · rw [hen, pk_us, gl_b_set hp hp, decide_eq_true rfl, Bool.or_true]
/-- a node is begun -/
theorem gl_C_op {e : gl_E} {n : Nat} (hC : gl_C c s lf rt zf tx e) :
    gl_C c s lf rt zf tx (e.1, e.2.1, e.2.2.1, e.2.2.2.1, e.2.2.2.2.1, upd e.2.2.2.2.2 n 1) ∧ gl_Mono e (e.1, e.2.1, e.2.2.1, e.2.2.2.1, e.2.2.2.2.1, upd e.2.2.2.2.2 n 1) ∧
    (∀ n', gl_op (e.1, e.2.1, e.2.2.1, e.2.2.2.1, e.2.2.2.2.1, upd e.2.2.2.2.2 n 1) n' → gl_op e n' ∨ n' = n) ∧
    gl_op (e.1, e.2.1, e.2.2.1, e.2.2.2.1, e.2.2.2.2.1, upd e.2.2.2.2.2 n 1) n := by
  have hop : ∀ n', gl_op (e.1, e.2.1, e.2.2.1, e.2.2.2.1, e.2.2.2.2.1, upd e.2.2.2.2.2 n 1) n' = ¬ upd e.2.2.2.2.2 n 1 n' = 0 := fun n' => rfl
  have h1 : ¬ (1 : Int32) = 0 := by decide
  refine ⟨hC, ⟨fun _ h => h, fun _ _ h => h, fun _ _ h => h, ?_, fun _ => rfl⟩, ?_, ?_⟩
  · intro n' h
    rw [hop]
    by_cases ex : n' = n
    · rw [ex, pk_us]; exact h1
    · rw [pk_un ex]; exact h
  · intro n' h
    by_cases ex : n' = n
    · exact Or.inr ex
    · rw [hop, pk_un ex] at h
      exact Or.inl h
  · rw [hop, pk_us]; exact h1
end
end
section
/-! ===== the walk: add, call, attend, finish, handle ===== -/
def gl_G (a1 a2 a3 a4 : Nat → Int32) (c s : Nat) (lf rt zf tx : Nat → Nat) : Prop :=
  gl_W c s lf zf ∧ (∀ r, r < c → a1 r = nI (lf r) ∧ a3 r = nI (zf r) ∧ ∀ k, k < zf r → a2 (3 * r + k) = nI (rt (3 * r + k)) ∧ rt (3 * r + k) ≤ 7) ∧
  ∀ i, i < s → a4 i = nI (tx i) ∧ tx i ≤ 7
abbrev gl_mk (c s : Nat) (a1 a2 a3 a4 : Nat → Int32) (e : gl_E) : St1 := (nI c, nI s, e.1, a1, a2, a3, a4, e.2.1, e.2.2.1, e.2.2.2.1, e.2.2.2.2.1, e.2.2.2.2.2)
theorem gl_nf {x : Bool} (h : ¬ x = false) : x = true := by
  cases x
  · exact absurd rfl h
  · rfl
theorem gl_add_raw {post : St1 → Prop} {f1 f2 o : Int32} {a1 a2 a3 a4 b5 b6 b7 b8 b9 : Nat → Int32} {l n p : Nat} {p0 p1 p2 : Int32} (e0 : p0 = nI l) (e1 : p1 = nI n) (e2 : p2 = nI p) (hd : (l * 45 + n) * 9 + p < 19440)
    (h0 : gl_ba b5 ((l * 45 + n) * 9 + p) = false → post (f1, f2, o + 1, a1, a2, a3, a4, gl_sb b5 ((l * 45 + n) * 9 + p), gl_sb b6 ((l * 45 + n) * 9 + p), b7, b8, b9))
    (h1 : gl_ba b5 ((l * 45 + n) * 9 + p) = true → post (f1, f2, o, a1, a2, a3, a4, b5, b6, b7, b8, b9)) :
    wpX_add post (f1, f2, o, a1, a2, a3, a4, b5, b6, b7, b8, b9) p0 p1 p2 := by
  subst e0 e1 e2
  have ed : (nI l * 45 + nI n) * 9 + nI p = nI ((l * 45 + n) * 9 + p) := by
    show (nI l * nI 45 + nI n) * nI 9 + nI p = _
    rw [pk_mul, nI_add, pk_mul, nI_add]
  generalize (l * 45 + n) * 9 + p = d at *
  have e5 : nI d >>> ((5 : Int32) &&& 31) = nI (d / 32) := pk_shrN (by omega) _ 5 (by decide)
  have e31 : nI d &&& 31 = nI (d % 32) := pk_andN (by omega) 5 (by decide)
  have ecl : (nI (d / 32)).toNatClampNeg = d / 32 := nI_clamp (by omega)
  have hin : vp_in (nI (d / 32)) 608 := vp_in_nI (by omega) (by omega)
  unfold wpX_add
  refine nm_r ed ?_
  rw [e31, e5, ecl]
  refine nm_e ⟨hin, ?_⟩
  exact ek_if (gl_t_or (by omega)) (fun h => ⟨hin, hin, nm_e ⟨hin, hin, nm_e (nm_e (h0 h))⟩⟩) (fun h => h1 (by
    have h' : ¬ gl_ba b5 d = false := h
    exact gl_nf h'))
section
variable {c s : Nat} {lf rt zf tx : Nat → Nat} {a1 a2 a3 a4 : Nat → Int32}
theorem gl_add {post : St1 → Prop} {e : gl_E} {l n p : Nat} {p0 p1 p2 : Int32} (e0 : p0 = nI l) (e1 : p1 = nI n) (e2 : p2 = nI p) (hw : gl_W c s lf zf) (hC : gl_C c s lf rt zf tx e)
    (hd : gl_okd c s lf rt zf tx ((l * 45 + n) * 9 + p))
    (H : ∀ e', gl_C c s lf rt zf tx e' → gl_Mono e e' → e'.2.2.2 = e.2.2.2 → gl_se e' ((l * 45 + n) * 9 + p) = true → post (gl_mk c s a1 a2 a3 a4 e')) :
    wpX_add post (gl_mk c s a1 a2 a3 a4 e) p0 p1 p2 := by
  refine gl_add_raw e0 e1 e2 (gl_okd_lt hw hd) (fun h => ?_) (fun h => ?_)
  · obtain ⟨t1, t2, t3⟩ := gl_C_add hw hC hd h
    exact H _ t1 t2 rfl t3
  · exact H e hC (gl_Mono_r e) rfl h
theorem gl_call {post : St1 → Prop} {e : gl_E} {n : Nat} {p0 : Int32} (e0 : p0 = nI n) (hG : gl_G a1 a2 a3 a4 c s lf rt zf tx) (hn : n < 45) (hns : n % 9 ≤ s) (hC : gl_C c s lf rt zf tx e) (h3 : gl_K3 c lf e)
    (H : ∀ e', gl_C c s lf rt zf tx e' → gl_Mono e e' → e'.2.2.2.1 = e.2.2.2.1 → e'.2.2.2.2.1 = e.2.2.2.2.1 → gl_K3 c lf e' → gl_op e' n → post (gl_mk c s a1 a2 a3 a4 e')) :
    wpX_call post (gl_mk c s a1 a2 a3 a4 e) p0 := by
  subst e0
  have hc := hG.1.1
  have ecl : (nI n).toNatClampNeg = n := nI_clamp (by omega)
  have hin : vp_in (nI n) 45 := vp_in_nI hn (by omega)
  unfold wpX_call
  dsimp only
  rw [ecl]
  refine ⟨hin, br_c (fun h => ⟨hin, nm_e ?_⟩) (fun h => H e hC (gl_Mono_r e) rfl rfl h3 h)⟩
  obtain ⟨t1, t2, t3, t4⟩ := gl_C_op (n := n) hC
  refine pk_loop (fun f i (z : gl_E) => wX_call_19 post (nI n) f (nI i) (nI c) (nI s) z.1 a1 a2 a3 a4 z.2.1 z.2.2.1 z.2.2.2.1 z.2.2.2.2.1 z.2.2.2.2.2)
    (fun i z => gl_C c s lf rt zf tx z ∧ gl_Mono (e.1, e.2.1, e.2.2.1, e.2.2.2.1, e.2.2.2.2.1, upd e.2.2.2.2.2 n 1) z ∧ z.2.2.2 = (e.2.2.2.1, e.2.2.2.2.1, upd e.2.2.2.2.2 n 1) ∧ ∀ r, r < i → lf r = n / 9 → gl_se z ((4 * r * 45 + n) * 9 + n % 9) = true)
    c 0 (e.1, e.2.1, e.2.2.1, e.2.2.2.1, e.2.2.2.2.1, upd e.2.2.2.2.2 n 1) (by omega) ⟨t1, gl_Mono_r _, rfl, fun r hr => absurd hr (by omega)⟩ ?_ ?_
  · rintro f z ⟨q1, q2, q3, q4⟩
    refine pk_le c c (fun _ => H z q1 (gl_Mono_t t2 q2) (by rw [q3]) (by rw [q3]) ?_ (q2.2.2.2.1 n t4)) (fun y => absurd y (by omega))
    intro n' hn' ho r hr hl
    have ho' : gl_op (e.1, e.2.1, e.2.2.1, e.2.2.2.1, e.2.2.2.2.1, upd e.2.2.2.2.2 n 1) n' := by
      unfold gl_op at ho ⊢
      rw [q3] at ho
      exact ho
    rcases t3 n' ho' with g | g
    · exact q2.1 _ (t2.1 _ (h3 n' hn' g r hr hl))
    · subst g
      exact q4 r hr hl
  · rintro f i z hi ⟨q1, q2, q3, q4⟩ hw
    have hlf := (hG.1.2.2 i hi).1
    refine pk_le c i (fun y => absurd y (by omega)) (fun _ => ⟨pk_in i 12 (by omega), by decide, ?_⟩)
    rw [nI_clamp (show i < 2 ^ 31 by omega)]
    refine pk_eq (lf i) (n / 9) (fun g => ⟨by decide, ?_⟩) (fun g => nm_r (nI_1 i) (hw z ⟨q1, q2, q3, ?_⟩)) (hx := (hG.2.1 i hi).1) (hy := pk_div (a := n) (d := 9) (by omega) (by omega) (by omega))
    · refine gl_add (e := z) (l := 4 * i) (n := n) (p := n % 9) (pk_mul 4 i) rfl (pk_rem (a := n) (d := 9) (by omega) (by omega) (by omega)) hG.1 q1 ⟨i, 0, n / 9, n % 9, n % 9, by omega, hi, by omega, g, hns, rfl⟩ (fun e' u1 u2 u3 u4 => ?_)
      refine nm_r (nI_1 i) (hw e' ⟨u1, gl_Mono_t q2 u2, u3.trans q3, fun r hr hl => ?_⟩)
      by_cases er : r = i
      · rw [er]; exact u4
      · exact u2.1 _ (q4 r (by omega) hl)
    · intro r hr hl
      by_cases er : r = i
      · rw [er] at hl; exact absurd hl g
      · exact q4 r (by omega) hl
theorem gl_attend {post : St1 → Prop} {e : gl_E} {x l m : Nat} {p0 p1 p2 : Int32} (e0 : p0 = nI x) (e1 : p1 = nI l) (e2 : p2 = nI m) (hG : gl_G a1 a2 a3 a4 c s lf rt zf tx) (hx : x < 45) (hk : l * 45 + m < 2160)
    (hC : gl_C c s lf rt zf tx e) (h2 : gl_K2 e) (h3 : gl_K3 c lf e) (h4 : gl_K4 e) (ho : gl_okc c s lf rt zf tx x (l * 45 + m))
    (H : ∀ e', gl_C c s lf rt zf tx e' → gl_Mono e e' → gl_K2 e' → gl_K3 c lf e' → gl_K4 e' → gl_ca e' x (l * 45 + m) = true → gl_op e' x → post (gl_mk c s a1 a2 a3 a4 e')) :
    wpX_attend post (gl_mk c s a1 a2 a3 a4 e) p0 p1 p2 := by
  subst e0 e1 e2
  have hxs : x % 9 ≤ s := by
    obtain ⟨r, k, A, i, B, q, rfl, _, hr, _, _, hi, _, _, hp⟩ := ho
    have t := gl_PreD_le hi hp
    have := hG.1.2.1
    omega
  have ek : nI l * 45 + nI m = nI (l * 45 + m) := by
    show nI l * nI 45 + nI m = _
    rw [pk_mul, nI_add]
  have e5 : nI (l * 45 + m) >>> ((5 : Int32) &&& 31) = nI ((l * 45 + m) / 32) := pk_shrN (by omega) _ 5 (by decide)
  have em : (l * 45 + m) % 32 = (2176 * x + (l * 45 + m)) % 32 := by omega
  have e31 : nI (l * 45 + m) &&& 31 = nI ((2176 * x + (l * 45 + m)) % 32) := by
    rw [← em]
    exact pk_andN (by omega) 5 (by decide)
  have ex : 68 * nI x + nI ((l * 45 + m) / 32) = nI ((2176 * x + (l * 45 + m)) / 32) := by
    show nI 68 * nI x + nI ((l * 45 + m) / 32) = _
    rw [pk_mul, nI_add, show 68 * x + (l * 45 + m) / 32 = (2176 * x + (l * 45 + m)) / 32 by omega]
  have ecl : (nI ((2176 * x + (l * 45 + m)) / 32)).toNatClampNeg = (2176 * x + (l * 45 + m)) / 32 := nI_clamp (by omega)
  have hin : vp_in (nI ((2176 * x + (l * 45 + m)) / 32)) 3060 := vp_in_nI (by omega) (by omega)
  unfold wpX_attend
  refine nm_r ek ?_
  rw [e5, e31]
  refine nm_r ex (nm_e ?_)
  rw [ecl]
  refine ⟨hin, ek_if (gl_t_or (by omega)) (fun h => ⟨hin, hin, nm_e ?_⟩) (fun h => ?_)⟩
  · obtain ⟨t1, t2, t3, t4⟩ := gl_C_ca (n := x) hk hC ho
    refine pk_loop (fun f i (z : gl_E) => wX_attend_62 post (nI x) (nI l) (nI m) f (nI i) (nI c) (nI s) z.1 a1 a2 a3 a4 z.2.1 z.2.2.1 z.2.2.2.1 z.2.2.2.2.1 z.2.2.2.2.2)
      (fun i z => gl_C c s lf rt zf tx z ∧ gl_Mono (e.1, e.2.1, e.2.2.1, gl_sb e.2.2.2.1 (2176 * x + (l * 45 + m)), e.2.2.2.2) z ∧ z.2.2.2 = (gl_sb e.2.2.2.1 (2176 * x + (l * 45 + m)), e.2.2.2.2) ∧ ∀ p, p < i → gl_en e x p = true → gl_se z ((l * 45 + m) * 9 + p) = true)
      9 0 (e.1, e.2.1, e.2.2.1, gl_sb e.2.2.2.1 (2176 * x + (l * 45 + m)), e.2.2.2.2) (by omega) ⟨t1, gl_Mono_r _, rfl, fun r hr => absurd hr (by omega)⟩ ?_ ?_
    · rintro f z ⟨q1, q2, q3, q4⟩
      have z7 : z.2.2.2.1 = gl_sb e.2.2.2.1 (2176 * x + (l * 45 + m)) := by rw [q3]
      have z8 : z.2.2.2.2.1 = e.2.2.2.2.1 := by rw [q3]
      have z9 : z.2.2.2.2.2 = e.2.2.2.2.2 := by rw [q3]
      refine pk_le 9 9 (fun _ => gl_call (e := z) rfl hG hx hxs q1 (gl_K3_m (gl_Mono_t t2 q2) z9 h3) (fun e' u1 u2 u7 u8 uk uo => ?_)) (fun y => absurd y (by omega))
      have hmo : gl_Mono e e' := gl_Mono_t t2 (gl_Mono_t q2 u2)
      have hca : ∀ n' k', k' < 2160 → gl_ca e' n' k' = true → gl_ca e n' k' = true ∨ (n' = x ∧ k' = l * 45 + m) := by
        intro n' k' hk' h
        refine t3 n' k' hk' ?_
        unfold gl_ca at h ⊢
        rw [u7, z7] at h
        exact h
      refine H e' u1 hmo ?_ uk ?_ ((gl_Mono_t q2 u2).2.1 _ _ t4) uo
      · intro n' k' p' hn' hk' hp' hc he
        have he' : gl_en e n' p' = true := by
          unfold gl_en at he ⊢
          rw [u8, z8] at he
          exact he
        rcases hca n' k' hk' hc with g | ⟨g1, g2⟩
        · exact hmo.1 _ (h2 n' k' p' hn' hk' hp' g he')
        · rw [g2]
          rw [g1] at he'
          exact u2.1 _ (q4 p' hp' he')
      · intro n' k' hn' hk' hc
        rcases hca n' k' hk' hc with g | ⟨g1, g2⟩
        · exact hmo.2.2.2.1 _ (h4 n' k' hn' hk' g)
        · rw [g1]; exact uo
    · rintro f i z hi ⟨q1, q2, q3, q4⟩ hw
      have z8 : z.2.2.2.2.1 = e.2.2.2.2.1 := by rw [q3]
      refine pk_le 9 i (fun y => absurd y (by omega)) (fun _ => ⟨pk_in x 45 hx, ?_⟩)
      rw [nI_clamp (show x < 2 ^ 31 by omega)]
      refine ek_if (gl_t_s1 (n := i) (by omega)) (fun g => ?_) (fun g => nm_r (nI_1 i) (hw z ⟨q1, q2, q3, ?_⟩))
      · refine gl_add (e := z) (l := l) (n := m) (p := i) rfl rfl rfl hG.1 q1 (gl_okc_okd hG.1 ho (q1.2.2.2.2 x i hx (by omega) g)) (fun e' u1 u2 u3 u4 => ?_)
        refine nm_r (nI_1 i) (hw e' ⟨u1, gl_Mono_t q2 u2, u3.trans q3, fun r hr hl => ?_⟩)
        by_cases er : r = i
        · rw [er]; exact u4
        · exact u2.1 _ (q4 r (by omega) hl)
      · intro r hr hl
        by_cases er : r = i
        · rw [er] at hl
          rw [z8] at g
          exact absurd hl g
        · exact q4 r (by omega) hl
  · have hca : gl_ca e x (l * 45 + m) = true := gl_nf h
    exact H e hC (gl_Mono_r e) h2 h3 h4 hca (h4 x _ hx hk hca)
theorem gl_finish {post : St1 → Prop} {e : gl_E} {n p : Nat} {p0 p1 : Int32} (e0 : p0 = nI n) (e1 : p1 = nI p) (hG : gl_G a1 a2 a3 a4 c s lf rt zf tx) (hn : n < 45) (hp : p < 9)
    (hC : gl_C c s lf rt zf tx e) (h2 : gl_K2 e) (h3 : gl_K3 c lf e) (h4 : gl_K4 e) (ho : gl_oke c s lf rt zf tx n p)
    (H : ∀ e', gl_C c s lf rt zf tx e' → gl_Mono e e' → gl_K2 e' → gl_K3 c lf e' → gl_K4 e' → gl_en e' n p = true → post (gl_mk c s a1 a2 a3 a4 e')) :
    wpX_finish post (gl_mk c s a1 a2 a3 a4 e) p0 p1 := by
  subst e0 e1
  have ecl : (nI n).toNatClampNeg = n := nI_clamp (by omega)
  have hin : vp_in (nI n) 45 := vp_in_nI hn (by omega)
  unfold wpX_finish
  dsimp only
  rw [ecl]
  refine ⟨hin, ek_if (gl_t_s1 (n := p) (by omega)) (fun g => H e hC (gl_Mono_r e) h2 h3 h4 g) (fun g => ⟨hin, hin, nm_e ?_⟩)⟩
  obtain ⟨t1, t2, t3, t4⟩ := gl_C_en (n := n) (p := p) (by omega) hC ho
  refine pk_loop (fun f i (z : gl_E) => wX_finish_33 post (nI n) (nI p) f (nI i) (nI c) (nI s) z.1 a1 a2 a3 a4 z.2.1 z.2.2.1 z.2.2.2.1 z.2.2.2.2.1 z.2.2.2.2.2)
    (fun i z => gl_C c s lf rt zf tx z ∧ gl_Mono (e.1, e.2.1, e.2.2.1, e.2.2.2.1, upd e.2.2.2.2.1 n (e.2.2.2.2.1 n ||| gl_one p), e.2.2.2.2.2) z ∧ z.2.2.2 = (e.2.2.2.1, upd e.2.2.2.2.1 n (e.2.2.2.2.1 n ||| gl_one p), e.2.2.2.2.2) ∧ ∀ k, k < i → gl_ca e n k = true → gl_se z (k * 9 + p) = true)
    2160 0 (e.1, e.2.1, e.2.2.1, e.2.2.2.1, upd e.2.2.2.2.1 n (e.2.2.2.2.1 n ||| gl_one p), e.2.2.2.2.2) (by omega) ⟨t1, gl_Mono_r _, rfl, fun r hr => absurd hr (by omega)⟩ ?_ ?_
  · rintro f z ⟨q1, q2, q3, q4⟩
    have z7 : z.2.2.2.1 = e.2.2.2.1 := by rw [q3]
    have z8 : z.2.2.2.2.1 = upd e.2.2.2.2.1 n (e.2.2.2.2.1 n ||| gl_one p) := by rw [q3]
    have z9 : z.2.2.2.2.2 = e.2.2.2.2.2 := by rw [q3]
    have hmo : gl_Mono e z := gl_Mono_t t2 q2
    refine pk_le 2160 2160 (fun _ => H z q1 hmo ?_ (gl_K3_m hmo z9 h3) (gl_K4_m hmo z7 h4) (q2.2.2.1 _ _ t4)) (fun y => absurd y (by omega))
    intro n' k' p' hn' hk' hp' hc he
    have hc' : gl_ca e n' k' = true := by
      unfold gl_ca at hc ⊢
      rw [z7] at hc
      exact hc
    have he' : gl_en e n' p' = true ∨ (n' = n ∧ p' = p) := by
      refine t3 n' p' (by omega) ?_
      unfold gl_en at he ⊢
      rw [z8] at he
      exact he
    rcases he' with g | ⟨g1, g2⟩
    · exact hmo.1 _ (h2 n' k' p' hn' hk' hp' hc' g)
    · rw [g2]
      rw [g1] at hc'
      exact q4 k' hk' hc'
  · rintro f i z hi ⟨q1, q2, q3, q4⟩ hw
    have z7 : z.2.2.2.1 = e.2.2.2.1 := by rw [q3]
    have e5 : nI i >>> ((5 : Int32) &&& 31) = nI (i / 32) := pk_shrN (by omega) _ 5 (by decide)
    have em : i % 32 = (2176 * n + i) % 32 := by omega
    have e31 : nI i &&& 31 = nI ((2176 * n + i) % 32) := by
      rw [← em]
      exact pk_andN (by omega) 5 (by decide)
    have ex : 68 * nI n + nI (i / 32) = nI ((2176 * n + i) / 32) := by
      show nI 68 * nI n + nI (i / 32) = _
      rw [pk_mul, nI_add, show 68 * n + i / 32 = (2176 * n + i) / 32 by omega]
    have ecl : (nI ((2176 * n + i) / 32)).toNatClampNeg = (2176 * n + i) / 32 := nI_clamp (by omega)
    have hin : vp_in (nI ((2176 * n + i) / 32)) 3060 := vp_in_nI (by omega) (by omega)
    have hd : (i / 45 * 45 + i % 45) * 9 + p = i * 9 + p := by omega
    refine pk_le 2160 i (fun y => absurd y (by omega)) (fun _ => ?_)
    rw [e5, e31, ex, ecl]
    refine ⟨hin, ek_if (gl_t_u1 (by omega)) (fun g => ⟨by decide, by decide, ?_⟩) (fun g => nm_r (nI_1 i) (hw z ⟨q1, q2, q3, ?_⟩))⟩
    · refine gl_add (e := z) (l := i / 45) (n := i % 45) (p := p) (pk_div (a := i) (d := 45) (by omega) (by omega) (by omega)) (pk_rem (a := i) (d := 45) (by omega) (by omega) (by omega)) rfl hG.1 q1 (by
        rw [hd]
        exact gl_okc_okd hG.1 (q1.2.2.2.1 n i hn hi g) ho) (fun e' u1 u2 u3 u4 => ?_)
      rw [hd] at u4
      refine nm_r (nI_1 i) (hw e' ⟨u1, gl_Mono_t q2 u2, u3.trans q3, fun r hr hl => ?_⟩)
      by_cases er : r = i
      · rw [er]; exact u4
      · exact u2.1 _ (q4 r (by omega) hl)
    · intro r hr hl
      by_cases er : r = i
      · rw [er] at hl
        rw [z7] at g
        exact absurd hl g
      · exact q4 r (by omega) hl
theorem gl_handle {post : St1 → Prop} {e : gl_E} {l n p : Nat} {p0 p1 p2 : Int32} (e0 : p0 = nI l) (e1 : p1 = nI n) (e2 : p2 = nI p) (hG : gl_G a1 a2 a3 a4 c s lf rt zf tx) (hn : n < 45) (hp : p < 9)
    (hd : gl_okd c s lf rt zf tx ((l * 45 + n) * 9 + p)) (hC : gl_C c s lf rt zf tx e) (h2 : gl_K2 e) (h3 : gl_K3 c lf e) (h4 : gl_K4 e)
    (H : ∀ e', gl_C c s lf rt zf tx e' → gl_Mono e e' → gl_K2 e' → gl_K3 c lf e' → gl_K4 e' → gl_done s rt zf tx e' l n p → post (gl_mk c s a1 a2 a3 a4 e')) :
    wpX_handle post (gl_mk c s a1 a2 a3 a4 e) p0 p1 p2 := by
  subst e0 e1 e2
  obtain ⟨r, k, A, i, rfl, rfl, hr, hk, hA, hi, hP⟩ := gl_okd_dec hG.1 hn hp hd
  have hc := hG.1.1
  have hs := hG.1.2.1
  have hlz := hG.1.2.2 r hr
  have hps := gl_PreD_le hi hP
  obtain ⟨g1, g3, g2⟩ := hG.2.1 r hr
  have e2 : nI (4 * r + k) >>> ((2 : Int32) &&& 31) = nI r := by
    rw [pk_shrN (show 4 * r + k < 2 ^ 31 by omega) _ 2 (by decide), show (4 * r + k) / 2 ^ 2 = r by omega]
  have e3 : nI (4 * r + k) &&& 3 = nI k := by
    rw [pk_andN (show 4 * r + k < 2 ^ 32 by omega) 2 (by decide), show (4 * r + k) % 2 ^ 2 = k by omega]
  have d1 : (4 * r + k) / 4 = r := by omega
  have d2 : (4 * r + k) % 4 = k := by omega
  have hin : vp_in (nI r) 12 := vp_in_nI (by omega) (by omega)
  unfold wpX_handle
  refine nm_r e2 (nm_r e3 ⟨hin, ?_⟩)
  rw [nI_clamp (show r < 2 ^ 31 by omega)]
  refine pk_eq k (zf r) (fun g => ?_) (fun g => ?_) (hy := g3)
  · refine gl_finish (e := e) rfl rfl hG hn hp hC h2 h3 h4 ⟨A, i, rfl, by omega, hi, (gl_D_nam (by omega)).mpr ⟨r, hr, hA, by rw [← g]; exact hP⟩⟩ (fun e' u1 u2 u3 u4 u5 u6 => ?_)
    refine H e' u1 u2 u3 u4 u5 ?_
    unfold gl_done
    rw [d1, d2]
    exact ⟨fun _ => u6, fun t => absurd g t, fun t => absurd g t⟩
  · have hkz : k < zf r := by omega
    obtain ⟨g4, g5⟩ := g2 k hkz
    have e6 : 3 * nI r + nI k = nI (3 * r + k) := by
      show nI 3 * nI r + nI k = _
      rw [pk_mul, nI_add]
    rw [e6, nI_clamp (show 3 * r + k < 2 ^ 31 by omega)]
    refine ⟨vp_in_nI (by omega) (by omega), nm_r g4 ?_⟩
    have e9 : 9 * nI (rt (3 * r + k)) + nI p = nI (9 * rt (3 * r + k) + p) := by
      show nI 9 * nI (rt (3 * r + k)) + nI p = _
      rw [pk_mul, nI_add]
    refine pk_lt (rt (3 * r + k)) 5 (fun g6 => ?_) (fun g6 => ?_)
    · refine gl_attend (e := e) (x := 9 * rt (3 * r + k) + p) (l := 4 * r + k + 1) (m := 9 * A + i) e9 (nI_1 _) rfl hG (by omega) (by omega) hC h2 h3 h4 ⟨r, k, A, i, rt (3 * r + k), p, rfl, rfl, hr, hkz, hA, hi, rfl, g6, hP⟩ (fun e' u1 u2 u3 u4 u5 u6 u7 => ?_)
      refine H e' u1 u2 u3 u4 u5 ?_
      unfold gl_done
      rw [d1, d2]
      exact ⟨fun t => absurd t g, fun _ t => absurd t (by omega), fun _ _ => ⟨u6, u7⟩⟩
    · have hno : ¬ (p < s ∧ tx p = rt (3 * r + k)) → post (gl_mk c s a1 a2 a3 a4 e) := by
        intro hh
        refine H e hC (gl_Mono_r e) h2 h3 h4 ?_
        unfold gl_done
        rw [d1, d2]
        exact ⟨fun t => absurd t g, fun _ _ t1 t2 => absurd ⟨t1, t2⟩ hh, fun _ t => absurd t (by omega)⟩
      refine pk_le s p (fun y => hno (fun t => absurd t.1 (by omega))) (fun y => ⟨pk_in p 9 hp, ?_⟩)
      obtain ⟨g7, g8⟩ := hG.2.2 p y
      rw [nI_clamp (show p < 2 ^ 31 by omega)]
      refine pk_eq (tx p) (rt (3 * r + k)) (fun y2 => ?_) (fun y2 => hno (fun t => absurd t.2 y2)) (hx := g7)
      refine gl_add (e := e) (l := 4 * r + k + 1) (n := 9 * A + i) (p := p + 1) (nI_1 _) rfl (nI_1 _) hG.1 hC ⟨r, k + 1, A, i, p + 1, rfl, hr, hkz, hA, hi, p, hP, (gl_D_let (by omega)).mpr ⟨y, y2, rfl⟩⟩ (fun e' u1 u2 u3 u4 => ?_)
      have z7 : e'.2.2.2.1 = e.2.2.2.1 := by rw [u3]
      have z8 : e'.2.2.2.2.1 = e.2.2.2.2.1 := by rw [u3]
      have z9 : e'.2.2.2.2.2 = e.2.2.2.2.2 := by rw [u3]
      refine H e' u1 u2 (gl_K2_m u2 z7 z8 h2) (gl_K3_m u2 z9 h3) (gl_K4_m u2 z7 h4) ?_
      unfold gl_done
      rw [d1, d2]
      exact ⟨fun t => absurd t g, fun _ _ _ _ => u4, fun _ t => absurd t (by omega)⟩
end
end
section
/-! ===== the walk: handleWord, run, start, endsOf ===== -/
def gl_Inv (c s : Nat) (lf rt zf tx : Nat → Nat) (e : gl_E) : Prop :=
  gl_C c s lf rt zf tx e ∧ gl_K1 s rt zf tx e ∧ gl_K2 e ∧ gl_K3 c lf e ∧ gl_K4 e
def gl_Adv (e e' : gl_E) : Prop :=
  (∀ d, gl_se e d = true → gl_se e' d = true) ∧ (∀ d, gl_ha e d = true → gl_ha e' d = true) ∧ (∀ n, gl_op e n → gl_op e' n)
theorem gl_Adv_r (e : gl_E) : gl_Adv e e := ⟨fun _ h => h, fun _ h => h, fun _ h => h⟩
theorem gl_Adv_t {e e' e'' : gl_E} (h : gl_Adv e e') (g : gl_Adv e' e'') : gl_Adv e e'' :=
  ⟨fun d t => g.1 d (h.1 d t), fun d t => g.2.1 d (h.2.1 d t), fun n t => g.2.2 n (h.2.2 n t)⟩
theorem gl_ha_of {e : gl_E} {d : Nat} (h1 : gl_se e d = true) (h2 : gl_pe e d = false) : gl_ha e d = true := by
  unfold gl_ha; rw [h1, h2]; rfl
theorem gl_ha_no {e : gl_E} {d : Nat} (h2 : gl_pe e d = true) : gl_ha e d = false := by
  unfold gl_ha; rw [h2, Bool.not_true, Bool.and_false]
theorem gl_nt {x : Bool} (h : ¬ x = true) : x = false := by
  cases x
  · rfl
  · exact absurd rfl h
section
variable {c s : Nat} {lf rt zf tx : Nat → Nat} {a1 a2 a3 a4 : Nat → Int32}
theorem gl_word {post : St1 → Prop} {e : gl_E} {w : Nat} {p0 : Int32} (e0 : p0 = nI w) (hw : w < 608) (hG : gl_G a1 a2 a3 a4 c s lf rt zf tx) (hI : gl_Inv c s lf rt zf tx e)
    (H : ∀ e', gl_Inv c s lf rt zf tx e' → gl_Adv e e' → (∀ d, gl_pe e d = true → d / 32 = w → gl_ha e' d = true) → post (gl_mk c s a1 a2 a3 a4 e')) :
    wpX_handleWord post (gl_mk c s a1 a2 a3 a4 e) p0 := by
  subst e0
  unfold wpX_handleWord
  refine pk_loop (fun f i (z : gl_E) => wX_handleWord_2 post (nI w) f (nI i) (nI c) (nI s) z.1 a1 a2 a3 a4 z.2.1 z.2.2.1 z.2.2.2.1 z.2.2.2.2.1 z.2.2.2.2.2)
    (fun i z => gl_Inv c s lf rt zf tx z ∧ gl_Adv e z ∧ ∀ d, gl_pe e d = true → d / 32 = w → d % 32 < i → gl_ha z d = true)
    32 0 e (by omega) ⟨hI, gl_Adv_r e, fun d _ _ h => absurd h (by omega)⟩ ?_ ?_
  · rintro f z ⟨q1, q2, q3⟩
    exact pk_le 32 32 (fun _ => H z q1 q2 (fun d h1 h2 => q3 d h1 h2 (by omega))) (fun y => absurd y (by omega))
  · rintro f i z hi ⟨q1, q2, q3⟩ hgo
    have hin : vp_in (nI w) 608 := vp_in_nI hw (by omega)
    have dd : (32 * w + i) / 32 = w := by omega
    have dm : (32 * w + i) % 32 = i := by omega
    refine pk_le 32 i (fun y => absurd y (by omega)) (fun _ => ⟨hin, ?_⟩)
    rw [nI_clamp (show w < 2 ^ 31 by omega)]
    refine ek_if (gl_t_u1 hi) (fun g => ⟨hin, hin, nm_r (e' := gl_cb z.2.2.1 (32 * w + i)) ?_ (nm_e (nm_r (e' := nI (32 * w + i)) ?_ ⟨by decide, nm_r (pk_div (a := 32 * w + i) (d := 9) (by omega) (by omega) (by omega)) ⟨by decide, by decide, by decide, ?_⟩⟩))⟩) (fun g => nm_r (nI_1 i) (hgo z ⟨q1, q2, ?_⟩))
    · unfold gl_cb
      rw [dd, dm]; rfl
    · show nI 32 * nI w + nI i = _
      rw [pk_mul, nI_add]
    · have hpe : gl_pe z (32 * w + i) = true := by
        unfold gl_pe gl_ba
        rw [dd, dm]; exact g
      obtain ⟨v0, v1, v2, v3, v4⟩ := q1
      have hse : gl_se z (32 * w + i) = true := v0.2.1 _ (by omega) hpe
      have hok := v0.1 _ (by omega) hse
      have hlt := gl_okd_lt hG.1 hok
      have hd : ((32 * w + i) / 9 / 45 * 45 + (32 * w + i) / 9 % 45) * 9 + (32 * w + i) % 9 = 32 * w + i := by omega
      obtain ⟨t1, t2⟩ := gl_C_take v0 hlt hpe
      refine gl_handle (e := (z.1 - 1, z.2.1, gl_cb z.2.2.1 (32 * w + i), z.2.2.2)) (l := (32 * w + i) / 9 / 45) (n := (32 * w + i) / 9 % 45) (p := (32 * w + i) % 9)
        (pk_div (a := (32 * w + i) / 9) (d := 45) (by omega) (by omega) (by omega)) (pk_rem (a := (32 * w + i) / 9) (d := 45) (by omega) (by omega) (by omega)) (pk_rem (a := 32 * w + i) (d := 9) (by omega) (by omega) (by omega))
        hG (by omega) (by omega) (by rw [hd]; exact hok) t1 v2 v3 v4 (fun e' u1 u2 u3 u4 u5 u6 => ?_)
      have hha : ∀ x, gl_ha e' x = (gl_ha z x || (decide (x = 32 * w + i) && gl_se z x)) := fun x => (u2.2.2.2.2 x).trans (t2 x)
      have hd2 : gl_ha e' (32 * w + i) = true := by
        rw [hha, hse, decide_eq_true rfl, Bool.and_true, Bool.or_true]
      have hA : gl_Adv z e' := ⟨u2.1, fun x hx => by rw [hha, hx, Bool.true_or], u2.2.2.2.1⟩
      refine nm_r (nI_1 i) (hgo e' ⟨⟨u1, ?_, u3, u4, u5⟩, gl_Adv_t q2 hA, ?_⟩)
      · intro l' n' p' hl' hn' hp' h'
        rw [hha, Bool.or_eq_true] at h'
        rcases h' with h' | h'
        · exact gl_done_m u2 (v1 l' n' p' hl' hn' hp' h')
        · rw [Bool.and_eq_true] at h'
          have hx := of_decide_eq_true h'.1
          have x1 : p' = (32 * w + i) % 9 := by omega
          have x2 : l' * 45 + n' = (32 * w + i) / 9 := by omega
          have x3 : n' = (32 * w + i) / 9 % 45 := by omega
          have x4 : l' = (32 * w + i) / 9 / 45 := by omega
          rw [x1, x3, x4]
          exact u6
      · intro d h1 h2 h3
        by_cases ed : d % 32 = i
        · rw [show d = 32 * w + i by omega]; exact hd2
        · exact hA.2.1 d (q3 d h1 h2 (by omega))
    · intro d h1 h2 h3
      by_cases ed : d % 32 = i
      · refine gl_ha_of (q2.1 d (hI.1.2.1 d (by omega) h1)) ?_
        unfold gl_pe gl_ba
        rw [h2, ed]
        exact gl_nt g
      · exact q3 d h1 h2 (by omega)
theorem gl_sweep {post : St1 → Prop} {J : Int32 → Int32 → Int32 → Int32 → (Nat → Int32) → (Nat → Int32) → (Nat → Int32) → (Nat → Int32) → (Nat → Int32) → (Nat → Int32) → (Nat → Int32) → (Nat → Int32) → (Nat → Int32) → Prop} {e : gl_E} {x : Nat}
    (hG : gl_G a1 a2 a3 a4 c s lf rt zf tx) (hI : gl_Inv c s lf rt zf tx e)
    (H : ∀ e', gl_Inv c s lf rt zf tx e' → gl_Adv e e' → (∀ d, d < 19456 → gl_pe e d = true → gl_ha e' d = true) → J (nI (x + 1)) (nI c) (nI s) e'.1 a1 a2 a3 a4 e'.2.1 e'.2.2.1 e'.2.2.2.1 e'.2.2.2.2.1 e'.2.2.2.2.2) :
    ∃ fu, wX_run_18 post J (nI x) fu 0 (nI c) (nI s) e.1 a1 a2 a3 a4 e.2.1 e.2.2.1 e.2.2.2.1 e.2.2.2.2.1 e.2.2.2.2.2 := by
  refine pk_loop (fun f i (z : gl_E) => wX_run_18 post J (nI x) f (nI i) (nI c) (nI s) z.1 a1 a2 a3 a4 z.2.1 z.2.2.1 z.2.2.2.1 z.2.2.2.2.1 z.2.2.2.2.2)
    (fun i z => gl_Inv c s lf rt zf tx z ∧ gl_Adv e z ∧ ∀ d, d < 19456 → gl_pe e d = true → d / 32 < i → gl_ha z d = true)
    608 0 e (by omega) ⟨hI, gl_Adv_r e, fun d _ _ h => absurd h (by omega)⟩ ?_ ?_
  · rintro f z ⟨q1, q2, q3⟩
    exact pk_le 608 608 (fun _ => nm_r (nI_1 x) (H z q1 q2 (fun d h1 h2 => q3 d h1 h2 (by omega)))) (fun y => absurd y (by omega))
  · rintro f i z hi ⟨q1, q2, q3⟩ hgo
    refine pk_le 608 i (fun y => absurd y (by omega)) (fun _ => ⟨pk_in i 608 hi, ?_⟩)
    rw [nI_clamp (show i < 2 ^ 31 by omega)]
    refine br_c (fun g => nm_r (nI_1 i) (hgo z ⟨q1, q2, ?_⟩)) (fun g => gl_word (e := z) rfl hi hG q1 (fun e' u1 u2 u3 => nm_r (nI_1 i) (hgo e' ⟨u1, gl_Adv_t q2 u2, ?_⟩)))
    · intro d h1 h2 h3
      by_cases ed : d / 32 = i
      · refine gl_ha_of (q2.1 d (hI.1.2.1 d h1 h2)) ?_
        unfold gl_pe
        exact gl_ba_0 (by rw [ed]; exact g)
      · exact q3 d h1 h2 (by omega)
    · intro d h1 h2 h3
      by_cases ed : d / 32 = i
      · by_cases hp : gl_pe z d = true
        · exact u3 d hp ed
        · exact u2.2.1 d (gl_ha_of (q2.1 d (hI.1.2.1 d h1 h2)) (gl_nt hp))
      · exact u2.2.1 d (q3 d h1 h2 (by omega))
theorem gl_run {post : St1 → Prop} {e : gl_E} (hG : gl_G a1 a2 a3 a4 c s lf rt zf tx) (hI : gl_Inv c s lf rt zf tx e)
    (H : ∀ e', gl_Inv c s lf rt zf tx e' → (∀ d, d < 19440 → gl_pe e' d = false) → (∀ n, gl_op e n → gl_op e' n) → post (gl_mk c s a1 a2 a3 a4 e')) :
    wpX_run post (gl_mk c s a1 a2 a3 a4 e) := by
  unfold wpX_run
  refine pk_loop (fun f i (z : gl_E) => wX_run_2 post f (nI i) (nI c) (nI s) z.1 a1 a2 a3 a4 z.2.1 z.2.2.1 z.2.2.2.1 z.2.2.2.2.1 z.2.2.2.2.2)
    (fun i z => gl_Inv c s lf rt zf tx z ∧ (∀ n, gl_op e n → gl_op z n) ∧ i ≤ gl_cnt (gl_ha z) 19440)
    19441 0 e (by omega) ⟨hI, fun _ h => h, Nat.zero_le _⟩ ?_ ?_
  · rintro f z ⟨q1, q2, q3⟩
    have := gl_cnt_le (gl_ha z) 19440
    exact absurd q3 (by omega)
  · rintro f i z hi ⟨q1, q2, q3⟩ hgo
    have hle := gl_cnt_le (gl_pe z) 19440
    refine pk_le 19441 i (fun y => absurd y (by omega)) (fun _ => ?_)
    refine pk_le (gl_cnt (gl_pe z) 19440) 0 (fun y => H z q1 (gl_cnt_0 (by omega)) q2) (fun y => ?_) (hx := q1.1.2.2.1)
    refine gl_sweep (e := z) hG q1 (fun e' u1 u2 u3 => hgo e' ⟨u1, fun n h => u2.2.2 n (q2 n h), ?_⟩)
    by_cases hh : ∃ d, d < 19440 ∧ gl_pe z d = true
    · obtain ⟨d, h1, h2⟩ := hh
      have := gl_cnt_lt (p := gl_ha z) (q := gl_ha e') h1 (gl_ha_no h2) (u3 d (by omega) h2) (fun x _ hx => u2.2.1 x hx)
      omega
    · have : gl_cnt (gl_pe z) 19440 = 0 := gl_cnt_z (fun x hx => gl_nt (fun h => hh ⟨x, hx, h⟩))
      omega
theorem gl_start {post : St1 → Prop} {e : gl_E}
    (H : ∀ e' : gl_E, e'.1 = 0 → (∀ w, w < 608 → e'.2.1 w = 0 ∧ e'.2.2.1 w = 0) → (∀ w, w < 3060 → e'.2.2.2.1 w = 0) → (∀ n, n < 45 → e'.2.2.2.2.1 n = 0 ∧ e'.2.2.2.2.2 n = 0) → post (gl_mk c s a1 a2 a3 a4 e')) :
    wpX_start post (gl_mk c s a1 a2 a3 a4 e) := by
  unfold wpX_start
  refine pk_loop (fun f i (z : gl_E) => wX_start_7 post (nI c) (nI s) 0 f (nI i) a1 a2 a3 a4 z.2.1 z.2.2.1 z.2.2.2.1 z.2.2.2.2.1 z.2.2.2.2.2)
    (fun i z => ∀ w, w < i → z.2.1 w = 0 ∧ z.2.2.1 w = 0) 608 0 e (by omega) (fun w h => absurd h (by omega)) ?_ ?_
  · intro f z q1
    refine pk_le 608 608 (fun _ => ?_) (fun y => absurd y (by omega))
    refine pk_loop (fun f i (y : gl_E) => wX_start_36 post (nI c) (nI s) 0 f (nI i) a1 a2 a3 a4 z.2.1 z.2.2.1 y.2.2.2.1 z.2.2.2.2.1 z.2.2.2.2.2)
      (fun i y => ∀ w, w < i → y.2.2.2.1 w = 0) 3060 0 z (by omega) (fun w h => absurd h (by omega)) ?_ ?_
    · intro f y q2
      refine pk_le 3060 3060 (fun _ => ?_) (fun y => absurd y (by omega))
      refine pk_loop (fun f i (v : gl_E) => wX_start_58 post (nI c) (nI s) 0 f (nI i) a1 a2 a3 a4 z.2.1 z.2.2.1 y.2.2.2.1 v.2.2.2.2.1 v.2.2.2.2.2)
        (fun i v => ∀ w, w < i → v.2.2.2.2.1 w = 0 ∧ v.2.2.2.2.2 w = 0) 45 0 z (by omega) (fun w h => absurd h (by omega)) ?_ ?_
      · intro f v q3
        exact pk_le 45 45 (fun _ => H (0, z.2.1, z.2.2.1, y.2.2.2.1, v.2.2.2.2.1, v.2.2.2.2.2) rfl q1 q2 q3) (fun y => absurd y (by omega))
      · intro f i v hi q3 hgo
        refine pk_le 45 i (fun y => absurd y (by omega)) (fun _ => ⟨pk_in i 45 hi, nm_e ⟨pk_in i 45 hi, nm_e (nm_r (nI_1 i) ?_)⟩⟩)
        rw [nI_clamp (show i < 2 ^ 31 by omega)]
        refine hgo (v.1, v.2.1, v.2.2.1, v.2.2.2.1, upd v.2.2.2.2.1 i 0, upd v.2.2.2.2.2 i 0) (fun w hw => ?_)
        show upd v.2.2.2.2.1 i 0 w = 0 ∧ upd v.2.2.2.2.2 i 0 w = 0
        by_cases ew : w = i
        · rw [ew, pk_us, pk_us]; exact ⟨rfl, rfl⟩
        · rw [pk_un ew, pk_un ew]; exact q3 w (by omega)
    · intro f i y hi q2 hgo
      refine pk_le 3060 i (fun y => absurd y (by omega)) (fun _ => ⟨pk_in i 3060 hi, nm_e (nm_r (nI_1 i) ?_)⟩)
      rw [nI_clamp (show i < 2 ^ 31 by omega)]
      refine hgo (y.1, y.2.1, y.2.2.1, upd y.2.2.2.1 i 0, y.2.2.2.2) (fun w hw => ?_)
      show upd y.2.2.2.1 i 0 w = 0
      by_cases ew : w = i
      · rw [ew, pk_us]
      · rw [pk_un ew]; exact q2 w (by omega)
  · intro f i z hi q1 hgo
    refine pk_le 608 i (fun y => absurd y (by omega)) (fun _ => ⟨pk_in i 608 hi, nm_e ⟨pk_in i 608 hi, nm_e (nm_r (nI_1 i) ?_)⟩⟩)
    rw [nI_clamp (show i < 2 ^ 31 by omega)]
    refine hgo (z.1, upd z.2.1 i 0, upd z.2.2.1 i 0, z.2.2.2) (fun w hw => ?_)
    show upd z.2.1 i 0 w = 0 ∧ upd z.2.2.1 i 0 w = 0
    by_cases ew : w = i
    · rw [ew, pk_us, pk_us]; exact ⟨rfl, rfl⟩
    · rw [pk_un ew, pk_un ew]; exact q1 w (by omega)
theorem gl_endsOf {post : Int32 → St1 → Prop} {e : gl_E} {x i : Nat} {p0 p1 : Int32} (e0 : p0 = nI x) (e1 : p1 = nI i) (hG : gl_G a1 a2 a3 a4 c s lf rt zf tx) (hx : x ≤ 7) (hi : i ≤ s)
    (H : ∀ r e', (∀ p, p < 32 → (gl_bt r p = true ↔ gl_D c s lf rt zf tx x i p)) → post r (gl_mk c s a1 a2 a3 a4 e')) :
    wpX_endsOf post (gl_mk c s a1 a2 a3 a4 e) p0 p1 := by
  subst e0 e1
  have hs := hG.1.2.1
  have hc := hG.1.1
  unfold wpX_endsOf
  refine pk_lt x 5 (fun h5 => ?_) (fun h5 => ?_)
  · have en : 9 * nI x + nI i = nI (9 * x + i) := by
      show nI 9 * nI x + nI i = _
      rw [pk_mul, nI_add]
    refine gl_start (e := e) (fun e1 z0 z1 z2 z3 => ?_)
    have hse : ∀ d, d < 19456 → gl_se e1 d = false := fun d hd => gl_ba_0 (z1 (d / 32) (by omega)).1
    have hpe : ∀ d, d < 19456 → gl_pe e1 d = false := fun d hd => gl_ba_0 (z1 (d / 32) (by omega)).2
    have hca : ∀ n k, n < 45 → k < 2160 → gl_ca e1 n k = false := fun n k hn hk => gl_ba_0 (z2 ((2176 * n + k) / 32) (by omega))
    have hen : ∀ n p, n < 45 → gl_en e1 n p = false := fun n p hn => by
      unfold gl_en
      rw [(z3 n hn).1, gl_b_0]
    have hop : ∀ n, n < 45 → ¬ gl_op e1 n := fun n hn h => h (z3 n hn).2
    have hft : ¬ false = true := by decide
    have hC : gl_C c s lf rt zf tx e1 := by
      refine ⟨fun d hd h => ?_, fun d hd h => ?_, ?_, fun n k hn hk h => ?_, fun n p hn hp h => ?_⟩
      · rw [hse d hd] at h; exact absurd h hft
      · rw [hpe d hd] at h; exact absurd h hft
      · rw [z0, gl_cnt_z (fun d hd => hpe d (by omega))]; rfl
      · rw [hca n k hn hk] at h; exact absurd h hft
      · rw [hen n p hn] at h; exact absurd h hft
    refine gl_call (e := e1) (n := 9 * x + i) en hG (by omega) (by omega) hC (fun n hn h => absurd h (hop n hn)) (fun e2 u1 u2 u7 u8 uk uo => ?_)
    have hI : gl_Inv c s lf rt zf tx e2 := by
      refine ⟨u1, fun l n p hl hn hp h => ?_, fun n k p hn hk hp h => ?_, uk, fun n k hn hk h => ?_⟩
      · rw [u2.2.2.2.2] at h
        unfold gl_ha at h
        rw [hse _ (by omega)] at h
        exact absurd h hft
      · have h' := hca n k hn hk
        unfold gl_ca at h h'
        rw [u7, h'] at h
        exact absurd h hft
      · have h' := hca n k hn hk
        unfold gl_ca at h h'
        rw [u7, h'] at h
        exact absurd h hft
    refine gl_run (e := e2) hG hI (fun e3 v1 v2 v3 => ?_)
    show vp_in (9 * nI x + nI i) 45 ∧ post (e3.2.2.2.2.1 (9 * nI x + nI i).toNatClampNeg) (gl_mk c s a1 a2 a3 a4 e3)
    rw [en, nI_clamp (show 9 * x + i < 2 ^ 31 by omega)]
    refine ⟨vp_in_nI (by omega) (by omega), H _ e3 (fun p hp => ⟨fun h => ?_, fun h => ?_⟩)⟩
    · obtain ⟨A, i', g1, g2, g3, g4⟩ := v1.1.2.2.2.2 (9 * x + i) p (by omega) hp h
      have w1 : A = x := by omega
      have w2 : i' = i := by omega
      rw [w1, w2] at g4
      exact g4
    · exact gl_complete (se := fun d => gl_se e3 d = true) (ca := fun n k => gl_ca e3 n k = true) (en := fun n p => gl_en e3 n p = true) (op := gl_op e3)
        (fun r hr => (hG.1.2.2 r hr).2) hc hs (fun l n p hl hn hp h => v1.2.1 l n p hl hn hp (gl_ha_of h (v2 _ (by omega)))) v1.2.2.1 v1.2.2.2.1 h h5 hi (v3 _ uo)
  · have hno : ¬ (i < s ∧ tx i = x) → post 0 (gl_mk c s a1 a2 a3 a4 e) := by
      intro hh
      refine H 0 e (fun p hp => ?_)
      rw [gl_b_0]
      exact ⟨fun h => absurd h (by decide), fun h => absurd ⟨((gl_D_let h5).mp h).1, ((gl_D_let h5).mp h).2.1⟩ hh⟩
    refine pk_le s i (fun y => hno (fun t => absurd t.1 (by omega))) (fun y => ⟨pk_in i 9 (by omega), ?_⟩)
    obtain ⟨g7, g8⟩ := hG.2.2 i y
    rw [nI_clamp (show i < 2 ^ 31 by omega)]
    refine pk_eq (tx i) x (fun y2 => ?_) (fun y2 => hno (fun t => absurd t.2 y2)) (hx := g7)
    rw [nI_1]
    refine H _ e (fun p hp => ?_)
    rw [show (1 : Int32) <<< (nI (i + 1) &&& 31) = gl_one (i + 1) from rfl, gl_b_one (by omega) hp, gl_D_let h5]
    exact ⟨fun h => ⟨y, y2, of_decide_eq_true h⟩, fun h => decide_eq_true h.2.2⟩
end
end
section
/-! ===== the walk: the questions that the law asks ===== -/
noncomputable def gl_dN (Q : Prop) : Nat := @ite Nat Q (Classical.propDecidable Q) 1 0
theorem gl_dN_t {Q : Prop} (h : Q) : gl_dN Q = 1 := by
  unfold gl_dN
  exact if_pos h
theorem gl_dN_f {Q : Prop} (h : ¬ Q) : gl_dN Q = 0 := by
  unfold gl_dN
  exact if_neg h
theorem gl_dN_le (Q : Prop) : gl_dN Q ≤ 1 := by
  by_cases h : Q
  · rw [gl_dN_t h]; omega
  · rw [gl_dN_f h]; omega
theorem gl_bitN {r : Int32} {j : Nat} {Q : Prop} (hj : j < 32) (h : gl_bt r j = true ↔ Q) : (r >>> (nI j &&& 31)) &&& 1 = nI (gl_dN Q) := by
  rw [gl_t_s hj]
  by_cases q : Q
  · rw [gl_dN_t q, if_pos (h.mpr q)]; rfl
  · rw [gl_dN_f q, if_neg (fun t => q (h.mp t))]; rfl
def gl_sum (f : Nat → Nat) : Nat → Nat
  | 0 => 0
  | n + 1 => gl_sum f n + f n
theorem gl_sum_le {f : Nat → Nat} {b : Nat} (h : ∀ i, f i ≤ b) : ∀ n, gl_sum f n ≤ b * n
  | 0 => Nat.zero_le _
  | n + 1 => by
    have a := gl_sum_le h n
    have b' := h n
    show gl_sum f n + f n ≤ b * (n + 1)
    rw [Nat.mul_succ]
    omega
theorem gl_sum_congr {f g : Nat → Nat} : ∀ {n : Nat}, (∀ i, i < n → f i = g i) → gl_sum f n = gl_sum g n
  | 0, _ => rfl
  | n + 1, h => by
    show gl_sum f n + f n = gl_sum g n + g n
    rw [gl_sum_congr (fun i hi => h i (by omega)), h n (by omega)]
theorem gl_sum_tail {f : Nat → Nat} {m : Nat} : ∀ {n : Nat}, (∀ i, m ≤ i → f i = 0) → m ≤ n → gl_sum f n = gl_sum f m
  | 0, _, h => by rw [show m = 0 by omega]
  | n + 1, h, hm => by
    by_cases e : m = n + 1
    · rw [e]
    · show gl_sum f n + f n = gl_sum f m
      rw [gl_sum_tail (n := n) h (by omega), h n (by omega), Nat.add_zero]
theorem gl_isSign {post : Int32 → Prop} {u : St2} {x : Nat} (hx : x ≤ 7) (h : post 1) : wpX_isSign post u (nI x) :=
  br_f (nI_pos (by omega)) (pk_lt 7 x (fun y => absurd y (by omega)) (fun _ => h))
theorem gl_isName {post : Int32 → Prop} {u : St2} {x : Nat} (hx : x < 5) (h : post 1) : wpX_isName post u (nI x) :=
  br_f (nI_pos (by omega)) (pk_le 5 x (fun y => absurd y (by omega)) (fun _ => h))
theorem gl_n10 : ¬ (1 : Int32) = 0 := by decide
section
variable {c s : Nat} {lf rt zf tx : Nat → Nat} {a1 a2 a3 a4 : Nat → Int32}
theorem gl_isStretch {post : Int32 → Prop} {e : gl_E} {i j : Nat} (hs : s ≤ 8) (hi : i < 2 ^ 31) (hj : j < 2 ^ 31) (h1 : i ≤ j → j ≤ s → post 1) (h0 : ¬ (i ≤ j ∧ j ≤ s) → post 0) : wpX_isStretch post (gl_mk c s a1 a2 a3 a4 e) (nI i) (nI j) :=
  br_f (nI_pos hi) (pk_lt j i (fun y => h0 (fun t => absurd t.1 (by omega))) (fun y => pk_lt s j (fun y2 => h0 (fun t => absurd t.2 (by omega))) (fun y2 => h1 y y2)))
theorem gl_ends {post : Int32 → St1 → Prop} {e : gl_E} {x i : Nat} (hG : gl_G a1 a2 a3 a4 c s lf rt zf tx) (hx : x ≤ 7) (hi : i ≤ s)
    (H : ∀ r e', (∀ p, p < 32 → (gl_bt r p = true ↔ gl_D c s lf rt zf tx x i p)) → post r (gl_mk c s a1 a2 a3 a4 e')) :
    wpX_ends post (gl_mk c s a1 a2 a3 a4 e) (nI x) (nI i) := by
  have hs := hG.1.2.1
  unfold wpX_ends
  refine gl_isSign hx (br_f gl_n10 (br_f (nI_pos (by omega)) (pk_lt s i (fun y => absurd y (by omega)) (fun _ => ?_))))
  exact gl_endsOf (e := e) rfl rfl hG hx hi (fun r e' h => H r e' h)
theorem gl_fits {post : Int32 → St1 → Prop} {e : gl_E} {x i j : Nat} {p0 p1 : Int32} (e0 : p0 = nI x) (e1 : p1 = nI i) (hG : gl_G a1 a2 a3 a4 c s lf rt zf tx) (hx : x ≤ 7) (hi : i < 9) (hj : j < 9)
    (H : i ≤ j → j ≤ s → ∀ e', post (nI (gl_dN (gl_D c s lf rt zf tx x i j))) (gl_mk c s a1 a2 a3 a4 e'))
    (H2 : ¬ (i ≤ j ∧ j ≤ s) → post (-2) (gl_mk c s a1 a2 a3 a4 e)) :
    wpX_fits post (gl_mk c s a1 a2 a3 a4 e) p0 p1 (nI j) := by
  subst e0 e1
  have hs := hG.1.2.1
  unfold wpX_fits
  refine gl_isSign hx (br_f gl_n10 ?_)
  refine gl_isStretch (e := e) hs (by omega) (by omega) (fun h1 h2 => br_f gl_n10 ?_) (fun h => br_t rfl (H2 h))
  refine gl_endsOf (e := e) rfl rfl hG hx (by omega) (fun r e' h => ?_)
  have t := H h1 h2 e'
  rw [← gl_bitN (r := r) (by omega) (h j (by omega))] at t
  exact t
theorem gl_accepts {post : Int32 → St1 → Prop} {e : gl_E} (hG : gl_G a1 a2 a3 a4 c s lf rt zf tx)
    (H : ∀ e', post (nI (gl_dN (gl_D c s lf rt zf tx 0 0 s))) (gl_mk c s a1 a2 a3 a4 e')) :
    wpX_accepts post (gl_mk c s a1 a2 a3 a4 e) := by
  have hs := hG.1.2.1
  unfold wpX_accepts
  refine gl_endsOf (e := e) (x := 0) (i := 0) rfl rfl hG (by omega) (by omega) (fun r e' h => ?_)
  have t := H e'
  rw [← gl_bitN (r := r) (by omega) (h s (by omega))] at t
  exact t
noncomputable def gl_row (c s : Nat) (lf rt zf tx : Nat → Nat) (x m i : Nat) : Nat := gl_sum (fun j => gl_dN (gl_D c s lf rt zf tx x i j)) m
noncomputable def gl_tot (c s : Nat) (lf rt zf tx : Nat → Nat) (x m n : Nat) : Nat := gl_sum (gl_row c s lf rt zf tx x m) n
theorem gl_stretches {post : Int32 → St1 → Prop} {e : gl_E} {x : Nat} (hG : gl_G a1 a2 a3 a4 c s lf rt zf tx) (hx : x ≤ 7)
    (H : ∀ e', post (nI (gl_tot c s lf rt zf tx x (s + 1) (s + 1))) (gl_mk c s a1 a2 a3 a4 e')) :
    wpX_stretches post (gl_mk c s a1 a2 a3 a4 e) (nI x) := by
  have hs := hG.1.2.1
  unfold wpX_stretches
  refine gl_isSign hx (br_f gl_n10 ?_)
  refine pk_loop (fun f i (z : gl_E) => wX_stretches_13 post (nI x) f (nI (gl_tot c s lf rt zf tx x (s + 1) i)) (nI i) (nI c) (nI s) z.1 a1 a2 a3 a4 z.2.1 z.2.2.1 z.2.2.2.1 z.2.2.2.2.1 z.2.2.2.2.2)
    (fun _ _ => True) (s + 1) 0 e (by omega) trivial ?_ ?_
  · intro f z _
    exact pk_lt s (s + 1) (fun _ => H z) (fun y => absurd y (by omega))
  · intro f i z hi _ hgo
    refine pk_lt s i (fun y => absurd y (by omega)) (fun _ => ?_)
    refine gl_endsOf (e := z) rfl rfl hG hx (by omega) (fun r e' h => ?_)
    refine pk_loop (σ := Unit) (fun f2 j _ => wX_stretches_32 post (wX_stretches_13 post (nI x) f) (nI x) (nI i) r (nI c) (nI s) e'.1 a1 a2 a3 a4 e'.2.1 e'.2.2.1 e'.2.2.2.1 e'.2.2.2.2.1 e'.2.2.2.2.2 f2 (nI (gl_tot c s lf rt zf tx x (s + 1) i + gl_row c s lf rt zf tx x j i)) (nI j))
      (fun _ _ => True) (s + 1) 0 () (by omega) trivial ?_ ?_
    · intro f2 _ _
      exact pk_lt s (s + 1) (fun _ => nm_r (nI_1 i) (hgo e' trivial)) (fun y => absurd y (by omega))
    · intro f2 j _ hj _ hgo2
      refine pk_lt s j (fun y => absurd y (by omega)) (fun _ => nm_r ?_ (nm_r (nI_1 j) (hgo2 () trivial)))
      rw [gl_bitN (r := r) (by omega) (h j (by omega)), nI_add, Nat.add_assoc]
      rfl
theorem gl_doesFit {post : Int32 → St1 → Prop} {e : gl_E} {r i j : Nat} (hG : gl_G a1 a2 a3 a4 c s lf rt zf tx) (hr : r < c) (hij : i ≤ j) (hj : j ≤ s)
    (H1 : gl_Pre rt (gl_D c s lf rt zf tx) r i (zf r) j → ∀ e', post 1 (gl_mk c s a1 a2 a3 a4 e'))
    (H0 : ¬ gl_Pre rt (gl_D c s lf rt zf tx) r i (zf r) j → ∀ e', post 0 (gl_mk c s a1 a2 a3 a4 e')) :
    wpX_doesFit post (gl_mk c s a1 a2 a3 a4 e) (nI r) (nI i) (nI j) := by
  have hs := hG.1.2.1
  have hc := hG.1.1
  obtain ⟨g1, g3, g2⟩ := hG.2.1 r hr
  have hlz := hG.1.2.2 r hr
  unfold wpX_doesFit
  refine nm_e ?_
  refine pk_loop (σ := Int32 × gl_E) (fun f k z => wX_doesFit_8 post (nI r) (nI i) (nI j) f z.1 (nI k) (nI c) (nI s) z.2.1 a1 a2 a3 a4 z.2.2.1 z.2.2.2.1 z.2.2.2.2.1 z.2.2.2.2.2.1 z.2.2.2.2.2.2)
    (fun k z => ∀ p, p ≤ j → (gl_bt z.1 p = true ↔ gl_Pre rt (gl_D c s lf rt zf tx) r i k p)) (zf r) 0 (gl_one i, e) (by omega) (fun p hp => ?_) ?_ ?_
  · show gl_bt (gl_one i) p = true ↔ p = i
    rw [gl_b_one (by omega) (by omega)]
    exact ⟨fun h => of_decide_eq_true h, fun h => decide_eq_true h⟩
  · intro f z q
    refine ⟨pk_in r 12 (by omega), ?_⟩
    rw [nI_clamp (show r < 2 ^ 31 by omega)]
    refine pk_le (zf r) (zf r) (fun _ => ?_) (fun y => absurd y (by omega)) (hx := g3)
    exact ek_if ((gl_t_s1 (by omega)).trans (q j (by omega))) (fun h => H1 h z.2) (fun h => H0 h z.2)
  · intro f k z hk q hgo
    obtain ⟨g4, g5⟩ := g2 k hk
    refine ⟨pk_in r 12 (by omega), ?_⟩
    rw [nI_clamp (show r < 2 ^ 31 by omega)]
    refine pk_le (zf r) k (fun y => absurd y (by omega)) (fun _ => ?_) (hx := g3)
    refine pk_loop (σ := Int32 × gl_E) (fun f2 q' y => wX_doesFit_25 post (wX_doesFit_8 post (nI r) (nI i) (nI j) f) (nI r) (nI i) (nI j) z.1 (nI k) f2 y.1 (nI q') (nI c) (nI s) y.2.1 a1 a2 a3 a4 y.2.2.1 y.2.2.2.1 y.2.2.2.2.1 y.2.2.2.2.2.1 y.2.2.2.2.2.2)
      (fun q' y => ∀ p, p ≤ j → (gl_bt y.1 p = true ↔ ∃ t, t < q' ∧ gl_Pre rt (gl_D c s lf rt zf tx) r i k t ∧ gl_D c s lf rt zf tx (rt (3 * r + k)) t p)) (j + 1) i (0, z.2) (by omega) (fun p hp => ?_) ?_ ?_
    · show gl_bt 0 p = true ↔ _
      rw [gl_b_0]
      refine ⟨fun h => absurd h (by decide), ?_⟩
      rintro ⟨t, h1, h2, _⟩
      have := gl_PreD_le (show i ≤ s by omega) h2
      omega
    · intro f2 y q2
      refine pk_lt j (j + 1) (fun _ => nm_r (nI_1 k) (hgo (y.1, y.2) (fun p hp => (q2 p hp).trans ⟨?_, ?_⟩))) (fun y => absurd y (by omega))
      · rintro ⟨t, _, h2, h3⟩
        exact ⟨t, h2, h3⟩
      · rintro ⟨t, h2, h3⟩
        have b1 := gl_PreD_le (show i ≤ s by omega) h2
        have b2 := gl_D_le h3 b1.2
        exact ⟨t, by omega, h2, h3⟩
    · intro f2 t y ht q2 hgo2
      have e6 : 3 * nI r + nI k = nI (3 * r + k) := by
        show nI 3 * nI r + nI k = _
        rw [pk_mul, nI_add]
      refine pk_lt j t (fun y => absurd y (by omega)) (fun _ => ?_)
      refine ek_if ((gl_t_s1 (n := t) (by omega)).trans (q t (by omega))) (fun g => ?_) (fun g => nm_r (nI_1 t) (hgo2 (y.1, y.2) (fun p hp => (q2 p hp).trans ⟨?_, ?_⟩)))
      · have b1 := gl_PreD_le (show i ≤ s by omega) g
        rw [e6, nI_clamp (show 3 * r + k < 2 ^ 31 by omega)]
        refine ⟨vp_in_nI (by omega) (by omega), ?_⟩
        refine gl_endsOf (e := y.2) g4 rfl hG g5 b1.2 (fun w e' h => ?_)
        refine nm_e (nm_r (nI_1 t) (hgo2 (y.1 ||| w, e') (fun p hp => ?_)))
        show gl_bt (y.1 ||| w) p = true ↔ _
        rw [gl_b_or, Bool.or_eq_true, q2 p hp, h p (by omega)]
        constructor
        · rintro (⟨t', h1, h2, h3⟩ | h1)
          · exact ⟨t', by omega, h2, h3⟩
          · exact ⟨t, by omega, g, h1⟩
        · rintro ⟨t', h1, h2, h3⟩
          by_cases et : t' = t
          · right; rw [← et]; exact h3
          · exact Or.inl ⟨t', by omega, h2, h3⟩
      · rintro ⟨t', h1, h2, h3⟩
        exact ⟨t', by omega, h2, h3⟩
      · rintro ⟨t', h1, h2, h3⟩
        by_cases et : t' = t
        · rw [et] at h2; exact absurd h2 g
        · exact ⟨t', by omega, h2, h3⟩
theorem gl_ways {post : Int32 → St1 → Prop} {e : gl_E} {x i j : Nat} (hG : gl_G a1 a2 a3 a4 c s lf rt zf tx) (hx : x < 5) (hij : i ≤ j) (hj : j ≤ s)
    (H : ∀ m e', m ≤ 12 → (1 ≤ m ↔ gl_D c s lf rt zf tx x i j) → post (nI m) (gl_mk c s a1 a2 a3 a4 e')) :
    wpX_ways post (gl_mk c s a1 a2 a3 a4 e) (nI x) (nI i) (nI j) := by
  have hs := hG.1.2.1
  have hc := hG.1.1
  unfold wpX_ways
  refine gl_isName hx (br_f gl_n10 ?_)
  refine gl_isStretch (e := e) hs (by omega) (by omega) (fun _ _ => br_f gl_n10 ?_) (fun h => absurd ⟨hij, hj⟩ h)
  refine pk_loop (σ := Nat × gl_E) (fun f r z => wX_ways_27 post (nI x) (nI i) (nI j) f (nI z.1) (nI r) (nI c) (nI s) z.2.1 a1 a2 a3 a4 z.2.2.1 z.2.2.2.1 z.2.2.2.2.1 z.2.2.2.2.2.1 z.2.2.2.2.2.2)
    (fun r z => z.1 ≤ r ∧ (1 ≤ z.1 ↔ ∃ t, t < r ∧ lf t = x ∧ gl_Pre rt (gl_D c s lf rt zf tx) t i (zf t) j)) c 0 (0, e) (by omega) ⟨Nat.le_refl 0, fun h => absurd (show 1 ≤ 0 from h) (by decide), fun h => ?_⟩ ?_ ?_
  · obtain ⟨t, h1, _⟩ := h
    omega
  · rintro f z ⟨q1, q2⟩
    exact pk_le c c (fun _ => H z.1 z.2 (by omega) (q2.trans (gl_D_nam hx).symm)) (fun y => absurd y (by omega))
  · rintro f r z hr ⟨q1, q2⟩ hgo
    have hlf := (hG.1.2.2 r hr).1
    refine pk_le c r (fun y => absurd y (by omega)) (fun _ => ⟨pk_in r 12 (by omega), ?_⟩)
    rw [nI_clamp (show r < 2 ^ 31 by omega)]
    have hno : ¬ (lf r = x ∧ gl_Pre rt (gl_D c s lf rt zf tx) r i (zf r) j) → (1 ≤ z.1 ↔ ∃ t, t < r + 1 ∧ lf t = x ∧ gl_Pre rt (gl_D c s lf rt zf tx) t i (zf t) j) := by
      intro hh
      refine q2.trans ⟨?_, ?_⟩
      · rintro ⟨t, h1, h2⟩
        exact ⟨t, by omega, h2⟩
      · rintro ⟨t, h1, h2⟩
        by_cases et : t = r
        · rw [et] at h2; exact absurd h2 hh
        · exact ⟨t, by omega, h2⟩
    refine pk_eq (lf r) x (fun g => ?_) (fun g => nm_r (nI_1 r) (hgo (z.1, z.2) ⟨by show z.1 ≤ r + 1; omega, hno (fun t => g t.1)⟩)) (hx := (hG.2.1 r hr).1)
    refine gl_doesFit (e := z.2) hG hr hij hj (fun h e' => ?_) (fun h e' => ?_)
    · exact br_f gl_n10 (nm_r (nI_1 z.1) (nm_r (nI_1 r) (hgo (z.1 + 1, e') ⟨by show z.1 + 1 ≤ r + 1; omega, fun _ => ⟨r, by omega, g, h⟩, fun _ => by show 1 ≤ z.1 + 1; omega⟩)))
    · exact br_t rfl (nm_r (nI_1 r) (hgo (z.1, e') ⟨by show z.1 ≤ r + 1; omega, hno (fun t => h t.2)⟩))
end
end
section
/-! ===== the walk: the law's own check ===== -/
theorem gl_of32 (x : Int32) : x = nI x.toBitVec.toNat := by
  apply Int32.toBitVec_inj.mp
  show x.toBitVec = BitVec.ofNat 32 x.toBitVec.toNat
  rw [BitVec.ofNat_toNat, BitVec.setWidth_eq]
theorem gl_small {x : Int32} (h : ∀ p, p < 32 → gl_bt x p = true → p < 9) : ∃ m, m < 512 ∧ x = nI m := by
  refine ⟨x.toBitVec.toNat, ?_, gl_of32 x⟩
  refine Nat.lt_pow_two_of_testBit (n := 9) _ (fun i hi => ?_)
  rw [BitVec.testBit_toNat]
  rcases Nat.lt_or_ge i 32 with h1 | h1
  · refine gl_nt (fun t => ?_)
    have := h i h1 t
    omega
  · exact BitVec.getLsbD_of_ge _ _ h1
section
variable {c s : Nat} {lf rt zf tx : Nat → Nat} {a1 a2 a3 a4 : Nat → Int32}
theorem gl_tot_eq (hs : s ≤ 8) (x : Nat) : gl_tot c s lf rt zf tx x (s + 1) (s + 1) = gl_tot c s lf rt zf tx x 9 (s + 1) := by
  unfold gl_tot
  refine gl_sum_congr (fun i hi => ?_)
  unfold gl_row
  refine (gl_sum_tail (fun j hj => ?_) (by omega)).symm
  refine gl_dN_f (fun h => ?_)
  have := gl_D_le h (by omega)
  omega
theorem gl_h127 {post : Int32 → St1 → Prop} {J10 J43 : Int32 → Int32 → Int32 → Int32 → Int32 → (Nat → Int32) → (Nat → Int32) → (Nat → Int32) → (Nat → Int32) → (Nat → Int32) → (Nat → Int32) → (Nat → Int32) → (Nat → Int32) → (Nat → Int32) → Prop} {e : gl_E} {x i j : Nat} {x3 x5 z : Int32}
    (hG : gl_G a1 a2 a3 a4 c s lf rt zf tx) (hx : x < 5) (hij : i ≤ j) (hj : j ≤ s) (hz : z = nI (gl_dN (gl_D c s lf rt zf tx x i j)))
    (H : ∀ e' : gl_E, J43 x3 (nI (j + 1)) (nI c) (nI s) e'.1 a1 a2 a3 a4 e'.2.1 e'.2.2.1 e'.2.2.2.1 e'.2.2.2.2.1 e'.2.2.2.2.2) :
    wL_holds_127 post J10 J43 (nI x) (nI s) x3 (nI i) x5 (nI j) z (nI c) (nI s) e.1 a1 a2 a3 a4 e.2.1 e.2.2.1 e.2.2.2.1 e.2.2.2.2.1 e.2.2.2.2.2 := by
  unfold wL_holds_127
  refine gl_ways (e := e) hG hx hij hj (fun m e' hm h => pk_lt m 1 (fun y => ?_) (fun y => ?_))
  · refine br_t ?_ (nm_r (nI_1 j) (H e'))
    rw [hz, gl_dN_f (fun t => absurd (h.mpr t) (by omega))]; rfl
  · refine br_t ?_ (nm_r (nI_1 j) (H e'))
    rw [hz, gl_dN_t (h.mp y)]; rfl
theorem gl_h88 {post : Int32 → St1 → Prop} {J10 J43 : Int32 → Int32 → Int32 → Int32 → Int32 → (Nat → Int32) → (Nat → Int32) → (Nat → Int32) → (Nat → Int32) → (Nat → Int32) → (Nat → Int32) → (Nat → Int32) → (Nat → Int32) → (Nat → Int32) → Prop} {e : gl_E} {j : Nat} {x1 x2 x3 x4 x5 x7 x8 : Int32}
    (h7 : x7 = 0) (h8 : x8 = -2)
    (H : J43 x3 (nI (j + 1)) (nI c) (nI s) e.1 a1 a2 a3 a4 e.2.1 e.2.2.1 e.2.2.2.1 e.2.2.2.2.1 e.2.2.2.2.2) :
    wL_holds_88 post J10 J43 x1 x2 x3 x4 x5 (nI j) x7 x8 (nI c) (nI s) e.1 a1 a2 a3 a4 e.2.1 e.2.2.1 e.2.2.2.1 e.2.2.2.2.1 e.2.2.2.2.2 := by
  unfold wL_holds_88
  exact br_t h7 (br_t h8 (nm_r (nI_1 j) H))
theorem gl_holds {post : Int32 → St1 → Prop} {e : gl_E} {x : Nat} {p1 : Int32} (e1 : p1 = nI x) (hG : gl_G a1 a2 a3 a4 c s lf rt zf tx) (hx : x ≤ 7)
    (H : ∀ e', post 1 (gl_mk c s a1 a2 a3 a4 e')) :
    wpL_holds post (gl_mk c s a1 a2 a3 a4 e) p1 := by
  subst e1
  have hs := hG.1.2.1
  have hb : ∀ i, gl_row c s lf rt zf tx x 9 i ≤ 9 := fun i => by
    have := gl_sum_le (f := fun j => gl_dN (gl_D c s lf rt zf tx x i j)) (b := 1) (fun j => gl_dN_le _) 9
    unfold gl_row
    omega
  unfold wpL_holds
  refine pk_loop (fun f i (z : gl_E) => wL_holds_10 post (nI x) (nI s) f (nI (gl_tot c s lf rt zf tx x 9 i)) (nI i) (nI c) (nI s) z.1 a1 a2 a3 a4 z.2.1 z.2.2.1 z.2.2.2.1 z.2.2.2.2.1 z.2.2.2.2.2)
    (fun _ _ => True) (s + 1) 0 e (by omega) trivial ?_ ?_
  · intro f z _
    refine pk_lt s (s + 1) (fun _ => ?_) (fun y => absurd y (by omega))
    refine gl_stretches (e := z) hG hx (fun e2 => br_t ?_ ?_)
    · rw [gl_tot_eq hs]
    · refine gl_accepts (e := e2) hG (fun e3 => ?_)
      refine gl_fits (e := e3) (x := 0) (i := 0) rfl rfl hG (by omega) (by omega) (by omega) (fun _ _ e4 => br_t rfl (H e4)) (fun t => absurd ⟨Nat.zero_le s, Nat.le_refl s⟩ t)
  · intro f i z hi _ hgo
    refine pk_lt s i (fun y => absurd y (by omega)) (fun _ => ?_)
    refine gl_ends (e := z) hG hx (by omega) (fun r e2 h => ?_)
    obtain ⟨m, hm, hr⟩ := gl_small (x := r) (fun p hp t => by
      have := gl_D_le ((h p hp).mp t) (by omega)
      omega)
    refine br_f (by rw [hr]; exact nI_pos (by omega)) (br_t (by rw [hr]; exact nI_lt (b := 512) hm (by decide)) ?_)
    refine pk_loop (fun f2 j (y : gl_E) => wL_holds_43 post (wL_holds_10 post (nI x) (nI s) f) (nI x) (nI s) (nI i) r f2 (nI (gl_tot c s lf rt zf tx x 9 i + gl_row c s lf rt zf tx x j i)) (nI j) (nI c) (nI s) y.1 a1 a2 a3 a4 y.2.1 y.2.2.1 y.2.2.2.1 y.2.2.2.2.1 y.2.2.2.2.2)
      (fun _ _ => True) 9 0 e2 (by omega) trivial ?_ ?_
    · intro f2 y _
      exact pk_le 9 9 (fun _ => nm_r (nI_1 i) (hgo y trivial)) (fun y => absurd y (by omega))
    · intro f2 j y hj _ hgo2
      have hbit := gl_bitN (r := r) (show j < 32 by omega) (h j (by omega))
      have hd1 := gl_dN_le (gl_D c s lf rt zf tx x i j)
      refine pk_le 9 j (fun y => absurd y (by omega)) (fun _ => nm_r hbit (nm_r (e' := nI (gl_tot c s lf rt zf tx x 9 i + gl_row c s lf rt zf tx x (j + 1) i)) ?_ ?_))
      · rw [nI_add, Nat.add_assoc]
        rfl
      · refine gl_fits (e := y) rfl rfl hG hx (by omega) hj (fun h1 h2 e3 => ?_) (fun hno => ?_)
        · refine pk_lt j i (fun t => absurd t (by omega)) (fun _ => pk_le j s (fun _ => br_t rfl ?_) (fun t => absurd t (by omega)))
          refine pk_le 5 x (fun _ => nm_r (nI_1 j) (hgo2 e3 trivial)) (fun hx5 => ?_)
          refine pk_eq (gl_dN (gl_D c s lf rt zf tx x i j)) 1 (fun t => ?_) (fun t => ?_)
          · exact gl_h127 (e := e3) hG hx5 h1 h2 (by rw [t]; rfl) (fun e' => hgo2 e' trivial)
          · exact gl_h127 (e := e3) hG hx5 h1 h2 (by rw [show gl_dN (gl_D c s lf rt zf tx x i j) = 0 by omega]; rfl) (fun e' => hgo2 e' trivial)
        · have h0 : nI (gl_dN (gl_D c s lf rt zf tx x i j)) = 0 := by
            rw [gl_dN_f (fun t => hno ?_)]
            · rfl
            · exact gl_D_le t (by omega)
          refine pk_lt j i (fun t => gl_h88 (e := y) h0 rfl (hgo2 y trivial)) (fun _ => pk_le j s (fun t => absurd ⟨by omega, t⟩ hno) (fun t => gl_h88 (e := y) h0 rfl (hgo2 y trivial)))
end
end
section
/-! ===== the walk: the calls that change the grammar and the text keep them well formed ===== -/
def gl_rv (a1 a2 a3 : Nat → Int32) (r : Nat) : Prop :=
  ∃ v z : Nat, v < 5 ∧ z ≤ 3 ∧ a1 r = nI v ∧ a3 r = nI z ∧ ∀ k, k < z → ∃ w : Nat, w ≤ 7 ∧ a2 (3 * r + k) = nI w
def gl_V (c s : Nat) (a1 a2 a3 a4 : Nat → Int32) : Prop :=
  c ≤ 12 ∧ s ≤ 8 ∧ (∀ r, r < c → gl_rv a1 a2 a3 r) ∧ ∀ i, i < s → ∃ t : Nat, t ≤ 7 ∧ a4 i = nI t
theorem gl_VG {c s : Nat} {a1 a2 a3 a4 : Nat → Int32} (h : gl_V c s a1 a2 a3 a4) :
    gl_G a1 a2 a3 a4 c s (fun r => (a1 r).toNatClampNeg) (fun k => (a2 k).toNatClampNeg) (fun r => (a3 r).toNatClampNeg) (fun i => (a4 i).toNatClampNeg) := by
  obtain ⟨hc, hs, hr, ht⟩ := h
  refine ⟨⟨hc, hs, fun r h => ?_⟩, fun r h => ?_, fun i h => ?_⟩
  · obtain ⟨v, z, h1, h2, h3, h4, _⟩ := hr r h
    show (a1 r).toNatClampNeg < 5 ∧ (a3 r).toNatClampNeg ≤ 3
    rw [h3, h4, nI_clamp (by omega), nI_clamp (by omega)]
    exact ⟨h1, h2⟩
  · obtain ⟨v, z, h1, h2, h3, h4, h5⟩ := hr r h
    show a1 r = nI (a1 r).toNatClampNeg ∧ a3 r = nI (a3 r).toNatClampNeg ∧ ∀ k, k < (a3 r).toNatClampNeg → a2 (3 * r + k) = nI (a2 (3 * r + k)).toNatClampNeg ∧ (a2 (3 * r + k)).toNatClampNeg ≤ 7
    rw [h3, h4, nI_clamp (show v < 2 ^ 31 by omega), nI_clamp (show z < 2 ^ 31 by omega)]
    refine ⟨rfl, rfl, fun k hk => ?_⟩
    obtain ⟨w, g1, g2⟩ := h5 k hk
    rw [g2, nI_clamp (show w < 2 ^ 31 by omega)]
    exact ⟨rfl, g1⟩
  · obtain ⟨t, g1, g2⟩ := ht i h
    show a4 i = nI (a4 i).toNatClampNeg ∧ (a4 i).toNatClampNeg ≤ 7
    rw [g2, nI_clamp (show t < 2 ^ 31 by omega)]
    exact ⟨rfl, g1⟩
theorem gl_dm1 (n : Nat) : nI n + (-1) = nI n - 1 := by
  rw [Int32.sub_eq_add_neg]
theorem gl_neg0 : nI 0 - 1 < 0 := by decide
section
variable {c s : Nat} {a1 a2 a3 a4 : Nat → Int32} {e : gl_E} {post : Int32 → St1 → Prop}
theorem gl_pop (hV : gl_V c s a1 a2 a3 a4)
    (H : ∀ c' s' a1' a2' a3' a4' e', gl_V c' s' a1' a2' a3' a4' → ∀ r, post r (gl_mk c' s' a1' a2' a3' a4' e')) : wpX_pop post (gl_mk c s a1 a2 a3 a4 e) := by
  have hs := hV.2.1
  unfold wpX_pop
  refine pk_eq s 0 (fun _ => H c s a1 a2 a3 a4 e hV _) (fun h => nm_r (e' := nI (s - 1)) (pk_sub (a := s) (b := 1) (by omega)) ⟨vp_in_nI (by omega) (by omega), H c (s - 1) a1 a2 a3 a4 e ?_ _⟩)
  exact ⟨hV.1, by omega, hV.2.2.1, fun i hi => hV.2.2.2 i (by omega)⟩
theorem gl_push {p0 : Int32} (hV : gl_V c s a1 a2 a3 a4)
    (H : ∀ c' s' a1' a2' a3' a4' e', gl_V c' s' a1' a2' a3' a4' → ∀ r, post r (gl_mk c' s' a1' a2' a3' a4' e')) : wpX_push post (gl_mk c s a1 a2 a3 a4 e) p0 := by
  have hs := hV.2.1
  have h0 := H c s a1 a2 a3 a4 e hV
  unfold wpX_push
  refine br_c (fun _ => h0 _) (fun h5 => br_c (fun h7 => ?_) (fun _ => h0 _))
  have hn : ¬ p0 < 0 := by
    intro h
    apply h5
    rw [Int32.lt_iff_toInt_lt] at h ⊢
    have x1 : (0 : Int32).toInt = 0 := by decide
    have x2 : (5 : Int32).toInt = 5 := by decide
    omega
  obtain ⟨t, ht, rfl⟩ := nI_of2 (M := 7) (n := 7) (by decide) hn h7
  refine pk_eq s 8 (fun _ => h0 _) (fun h8 => ⟨vp_in_nI (by omega) (by omega), nm_e (nm_r (nI_1 s) (H c (s + 1) a1 a2 a3 _ e ?_ _))⟩)
  rw [nI_clamp (show s < 2 ^ 31 by omega)]
  refine ⟨hV.1, by omega, hV.2.2.1, fun i hi => ?_⟩
  by_cases ei : i = s
  · rw [ei, pk_us]; exact ⟨t, ht, rfl⟩
  · rw [pk_un ei]; exact hV.2.2.2 i (by omega)
theorem gl_clear (hV : gl_V c s a1 a2 a3 a4)
    (H : ∀ c' s' a1' a2' a3' a4' e', gl_V c' s' a1' a2' a3' a4' → ∀ r, post r (gl_mk c' s' a1' a2' a3' a4' e')) : wpX_clear post (gl_mk c s a1 a2 a3 a4 e) := by
  unfold wpX_clear
  exact H 0 s a1 a2 a3 a4 e ⟨by omega, hV.2.1, fun r h => absurd h (by omega), hV.2.2.2⟩ _
theorem gl_write {p0 p1 : Int32} (hV : gl_V c s a1 a2 a3 a4)
    (H : ∀ c' s' a1' a2' a3' a4' e', gl_V c' s' a1' a2' a3' a4' → ∀ r, post r (gl_mk c' s' a1' a2' a3' a4' e')) : wpX_write post (gl_mk c s a1 a2 a3 a4 e) p0 p1 := by
  have hs := hV.2.1
  have h0 := H c s a1 a2 a3 a4 e hV
  unfold wpX_write
  refine br_c (fun _ => h0 _) (fun hn => br_c (fun h8 => ?_) (fun _ => h0 _))
  obtain ⟨n, hn8, rfl⟩ := nI_of2 (M := 8) (n := 8) (by decide) hn h8
  refine pk_loop (σ := Int32) (fun f i y => wX_write_17 post (nI n) p1 (nI c) (nI s) e.1 a1 a2 a3 a4 e.2.1 e.2.2.1 e.2.2.2.1 e.2.2.2.2.1 e.2.2.2.2.2 f y (nI i)) (fun i _ => i ≤ n) n 0 1 (by omega) (by omega) ?_ ?_
  · intro f y _
    refine pk_le n n (fun _ => br_c (fun _ => h0 _) (fun hp => br_c (fun _ => nm_e ?_) (fun _ => h0 _))) (fun y => absurd y (by omega))
    obtain ⟨v, hv, rfl⟩ := nI_of hp
    refine ⟨n + 1, pk_loopD (σ := Nat × (Nat → Int32)) (fun f i z => wX_write_53 post (nI n) (nI c) (nI s) e.1 f (nI z.1) (nI i - 1) a1 a2 a3 z.2 e.2.1 e.2.2.1 e.2.2.2.1 e.2.2.2.2.1 e.2.2.2.2.2)
      (fun i z => i ≤ n ∧ z.1 < 2 ^ 31 ∧ ∀ j, i ≤ j → j < n → ∃ t : Nat, t ≤ 7 ∧ z.2 j = nI t) ?_ ?_ n (v, a4) ⟨Nat.le_refl n, hv, fun j h1 h2 => absurd h1 (by omega)⟩⟩
    · rintro f z ⟨q1, q2, q3⟩
      exact br_t gl_neg0 (H c n a1 a2 a3 z.2 e ⟨hV.1, hn8, hV.2.2.1, fun i hi => q3 i (by omega) hi⟩ _)
    · rintro f i z ⟨q1, q2, q3⟩ hgo
      have e1 : nI (i + 1) - 1 = nI i := nI_pred i
      have e3 : (5 : Int32) + (nI z.1 - nI z.1 / 3 * 3) = nI (5 + z.1 % 3) := by
        show nI 5 + (nI z.1 - nI z.1 / nI 3 * nI 3) = _
        rw [pk_rem (by omega) (by omega) (by omega), nI_add]
      have e4 : nI z.1 / 3 = nI (z.1 / 3) := pk_div (a := z.1) (d := 3) (by omega) (by omega) (by omega)
      show wX_write_53 post (nI n) (nI c) (nI s) e.1 (f + 1) (nI z.1) (nI (i + 1) - 1) a1 a2 a3 z.2 e.2.1 e.2.2.1 e.2.2.2.1 e.2.2.2.2.1 e.2.2.2.2.2
      rw [e1]
      refine br_f (nI_pos (by omega)) ⟨by decide, vp_in_nI (by omega) (by omega), nm_e ⟨by decide, nm_r e4 (nm_r (gl_dm1 i) ?_)⟩⟩
      rw [e3, nI_clamp (show i < 2 ^ 31 by omega)]
      refine hgo (z.1 / 3, upd z.2 i (nI (5 + z.1 % 3))) ⟨by omega, by show z.1 / 3 < 2 ^ 31; omega, fun j h1 h2 => ?_⟩
      show ∃ t : Nat, t ≤ 7 ∧ upd z.2 i (nI (5 + z.1 % 3)) j = nI t
      by_cases ej : j = i
      · rw [ej, pk_us]; exact ⟨5 + z.1 % 3, by omega, rfl⟩
      · rw [pk_un ej]; exact q3 j (by omega) h2
  · intro f i y hi _ hgo
    exact pk_le n i (fun y => absurd y (by omega)) (fun _ => nm_e (nm_r (nI_1 i) (hgo _ (by omega))))
theorem gl_drop {p0 : Int32} (hV : gl_V c s a1 a2 a3 a4)
    (H : ∀ c' s' a1' a2' a3' a4' e', gl_V c' s' a1' a2' a3' a4' → ∀ r, post r (gl_mk c' s' a1' a2' a3' a4' e')) : wpX_drop post (gl_mk c s a1 a2 a3 a4 e) p0 := by
  have hc := hV.1
  have h0 := H c s a1 a2 a3 a4 e hV
  unfold wpX_drop wpX_isRule
  rcases pk_ix p0 (n := c) (by omega) with h | h | ⟨j, hj, rfl⟩
  · exact br_t h (br_t rfl (h0 _))
  · exact br_c (fun _ => br_t rfl (h0 _)) (fun _ => br_t h (br_t rfl (h0 _)))
  refine br_f (nI_pos (by omega)) (pk_le c j (fun y => absurd y (by omega)) (fun _ => br_f gl_n10 (nm_r (nI_1 j) ?_)))
  refine pk_loop (σ := (Nat → Int32) × (Nat → Int32) × (Nat → Int32)) (fun f i z => wX_drop_14 post (nI c) (nI s) e.1 f (nI i) z.1 z.2.1 z.2.2 a4 e.2.1 e.2.2.1 e.2.2.2.1 e.2.2.2.2.1 e.2.2.2.2.2)
    (fun i z => 1 ≤ i ∧ ∀ r, r < c → gl_rv z.1 z.2.1 z.2.2 r) c (j + 1) (a1, a2, a3) (by omega) ⟨by omega, hV.2.2.1⟩ ?_ ?_
  · rintro f z ⟨q1, q2⟩
    exact pk_le c c (fun _ => nm_r (e' := nI (c - 1)) (pk_sub (a := c) (b := 1) (by omega)) (H (c - 1) s z.1 z.2.1 z.2.2 a4 e ⟨by omega, hV.2.1, fun r hr => q2 r (by omega), hV.2.2.2⟩ _)) (fun y => absurd y (by omega))
  · rintro f i z hi ⟨q1, q2⟩ hgo
    have e1 : nI i - 1 = nI (i - 1) := pk_sub (a := i) (b := 1) (by omega)
    refine pk_le c i (fun y => absurd y (by omega)) (fun _ => ?_)
    rw [e1, nI_clamp (show i < 2 ^ 31 by omega), nI_clamp (show i - 1 < 2 ^ 31 by omega)]
    have v1 : vp_in (nI i) 12 := vp_in_nI (by omega) (by omega)
    have v2 : vp_in (nI (i - 1)) 12 := vp_in_nI (by omega) (by omega)
    refine ⟨v1, v2, nm_e ⟨v1, v2, nm_e ?_⟩⟩
    refine pk_loop (σ := Nat → Int32) (fun f2 k b => wX_drop_52 post (wX_drop_14 post (nI c) (nI s) e.1 f) (nI i) (nI c) (nI s) e.1 f2 (nI k) (upd z.1 (i - 1) (z.1 i)) b (upd z.2.2 (i - 1) (z.2.2 i)) a4 e.2.1 e.2.2.1 e.2.2.2.1 e.2.2.2.2.1 e.2.2.2.2.2)
      (fun k b => (∀ j, ¬ (3 * i - 3 ≤ j ∧ j < 3 * i) → b j = z.2.1 j) ∧ ∀ k', k' < k → b (3 * i - 3 + k') = z.2.1 (3 * i + k')) 3 0 z.2.1 (by omega) ⟨fun _ _ => rfl, fun k' h => absurd h (by omega)⟩ ?_ ?_
    · rintro f2 b ⟨w1, w2⟩
      refine pk_le 3 3 (fun _ => nm_r (nI_1 i) (hgo (upd z.1 (i - 1) (z.1 i), b, upd z.2.2 (i - 1) (z.2.2 i)) ⟨by omega, fun r hr => ?_⟩)) (fun y => absurd y (by omega))
      show gl_rv (upd z.1 (i - 1) (z.1 i)) b (upd z.2.2 (i - 1) (z.2.2 i)) r
      by_cases er : r = i - 1
      · obtain ⟨v, zz, g1, g2, g3, g4, g5⟩ := q2 i hi
        refine ⟨v, zz, g1, g2, by rw [er, pk_us]; exact g3, by rw [er, pk_us]; exact g4, fun k hk => ?_⟩
        rw [show 3 * r + k = 3 * i - 3 + k by omega, w2 k (by omega)]
        exact g5 k hk
      · obtain ⟨v, zz, g1, g2, g3, g4, g5⟩ := q2 r hr
        refine ⟨v, zz, g1, g2, by rw [pk_un er]; exact g3, by rw [pk_un er]; exact g4, fun k hk => ?_⟩
        rw [w1 (3 * r + k) (by omega)]
        exact g5 k hk
    · rintro f2 k b hk ⟨w1, w2⟩ hgo2
      have e2 : 3 * nI i + nI k = nI (3 * i + k) := by
        show nI 3 * nI i + nI k = _
        rw [pk_mul, nI_add]
      have e3 : 3 * nI i - 3 + nI k = nI (3 * i - 3 + k) := by
        show nI 3 * nI i - nI 3 + nI k = _
        rw [pk_mul, pk_sub (by omega), nI_add]
      refine pk_le 3 k (fun y => absurd y (by omega)) (fun _ => ?_)
      rw [e2, e3, nI_clamp (show 3 * i + k < 2 ^ 31 by omega), nI_clamp (show 3 * i - 3 + k < 2 ^ 31 by omega)]
      refine ⟨vp_in_nI (by omega) (by omega), vp_in_nI (by omega) (by omega), nm_e (nm_r (nI_1 k) (hgo2 _ ⟨fun t ht => ?_, fun k' hk' => ?_⟩))⟩
      · rw [pk_un (by omega)]; exact w1 t ht
      · by_cases ek : k' = k
        · rw [ek, pk_us]; exact w1 _ (by omega)
        · rw [pk_un (by omega)]; exact w2 k' (by omega)
end
/-- what is left of v behind t digits -/
def gl_dv (v : Nat) : Nat → Nat
  | 0 => v
  | t + 1 => gl_dv v t / 9
theorem gl_dv_le (v : Nat) : ∀ t, gl_dv v t ≤ v
  | 0 => Nat.le_refl v
  | t + 1 => by
    have := gl_dv_le v t
    show gl_dv v t / 9 ≤ v
    omega
theorem gl_rowSize {post : Int32 → Prop} {u : St2} {p0 : Int32} (h0 : post (-1)) (H : ∀ v z, p0 = nI v → v < 729 → z ≤ 3 → (∀ t, t < z → gl_dv v t % 9 ≠ 0) → post (nI z)) : wpX_rowSize post u p0 := by
  unfold wpX_rowSize
  rcases pk_ix p0 (n := 729) (by omega) with h | h | ⟨v, hv, rfl⟩
  · exact br_t h h0
  · refine br_c (fun _ => h0) (fun _ => br_f (fun h2 => ?_) h0)
    have h' : (729 : Int32) ≤ p0 := h
    rw [Int32.lt_iff_toInt_lt] at h2
    rw [Int32.le_iff_toInt_le] at h'
    omega
  refine br_f (nI_pos (by omega)) (pk_lt v 729 (fun _ => ?_) (fun y => absurd y (by omega)))
  refine pk_loop (σ := Unit) (fun f i _ => wX_rowSize_17 post f (nI i) (nI (gl_dv v i))) (fun i _ => ∀ t, t < i → gl_dv v t % 9 ≠ 0) 3 0 () (by omega) (fun t h => absurd h (by omega)) ?_ ?_
  · intro f _ q
    refine pk_le (gl_dv v 3) 0 (fun _ => H v 3 rfl hv (by omega) q) (fun y => ?_) (ha := by have := gl_dv_le v 3; omega)
    have : v / 9 / 9 / 9 = gl_dv v 3 := rfl
    omega
  · intro f i _ hi q hgo
    have hle := gl_dv_le v i
    refine pk_le (gl_dv v i) 0 (fun _ => H v i rfl hv (by omega) q) (fun y => ⟨by decide, ?_⟩)
    refine pk_eq (gl_dv v i % 9) 0 (fun _ => h0) (fun g => nm_r (nI_1 i) ⟨by decide, nm_r (pk_div (a := gl_dv v i) (d := 9) (by omega) (by omega) (by omega)) (hgo () (fun t ht => ?_))⟩) (hx := pk_rem (a := gl_dv v i) (d := 9) (by omega) (by omega) (by omega))
    by_cases et : t = i
    · rw [et]; exact g
    · exact q t (by omega)
section
variable {c s : Nat} {a1 a2 a3 a4 : Nat → Int32} {e : gl_E} {post : Int32 → St1 → Prop}
theorem gl_rule {p0 p1 : Int32} (hV : gl_V c s a1 a2 a3 a4)
    (H : ∀ c' s' a1' a2' a3' a4' e', gl_V c' s' a1' a2' a3' a4' → ∀ r, post r (gl_mk c' s' a1' a2' a3' a4' e')) : wpX_rule post (gl_mk c s a1 a2 a3 a4 e) p0 p1 := by
  have hc := hV.1
  have h0 := H c s a1 a2 a3 a4 e hV
  unfold wpX_rule wpX_isName
  rcases pk_ix p0 (n := 5) (by omega) with h | h | ⟨j, hj, rfl⟩
  · exact br_t h (br_t rfl (h0 _))
  · exact br_c (fun _ => br_t rfl (h0 _)) (fun _ => br_t h (br_t rfl (h0 _)))
  refine br_f (nI_pos (by omega)) (pk_le 5 j (fun y => absurd y (by omega)) (fun _ => br_f gl_n10 ?_))
  refine gl_rowSize (br_f (by decide) (h0 _)) (fun v z hp hv hz hd => ?_)
  subst hp
  refine br_t (nI_pos' (by omega)) (pk_eq c 12 (fun _ => h0 _) (fun h12 => ?_))
  have v1 : vp_in (nI c) 12 := vp_in_nI (by omega) (by omega)
  rw [nI_clamp (show c < 2 ^ 31 by omega)]
  refine ⟨v1, nm_e ⟨v1, nm_e (nm_e ?_)⟩⟩
  refine ⟨z + 1, pk_loopD (σ := Nat × (Nat → Int32)) (fun f i y => wX_rule_61 post (nI c) (nI s) e.1 f (nI y.1) (nI i - 1) (upd a1 c (nI j)) y.2 (upd a3 c (nI z)) a4 e.2.1 e.2.2.1 e.2.2.2.1 e.2.2.2.2.1 e.2.2.2.2.2)
    (fun i y => i ≤ z ∧ y.1 = gl_dv v (z - i) ∧ (∀ k, i ≤ k → k < z → ∃ w : Nat, w ≤ 7 ∧ y.2 (3 * c + k) = nI w) ∧ ∀ k, k < 3 * c → y.2 k = a2 k) ?_ ?_ z (v, a2) ⟨Nat.le_refl z, by rw [Nat.sub_self]; rfl, fun k h1 h2 => absurd h1 (by omega), fun _ _ => rfl⟩⟩
  · rintro f y ⟨q1, q2, q3, q4⟩
    refine br_t gl_neg0 (nm_r (nI_1 c) (H (c + 1) s (upd a1 c (nI j)) y.2 (upd a3 c (nI z)) a4 e ⟨by omega, hV.2.1, fun r hr => ?_, hV.2.2.2⟩ _))
    by_cases er : r = c
    · rw [er]
      exact ⟨j, z, hj, hz, pk_us, pk_us, fun k hk => q3 k (by omega) hk⟩
    · obtain ⟨v', z', g1, g2, g3, g4, g5⟩ := hV.2.2.1 r (by omega)
      refine ⟨v', z', g1, g2, by rw [pk_un er]; exact g3, by rw [pk_un er]; exact g4, fun k hk => ?_⟩
      rw [q4 (3 * r + k) (by omega)]
      exact g5 k hk
  · rintro f i ⟨y1, y2⟩ ⟨q1, q2, q3, q4⟩ hgo
    have q2' : y1 = gl_dv v (z - (i + 1)) := q2
    have hle := gl_dv_le v (z - (i + 1))
    have hdd := hd (z - (i + 1)) (by omega)
    rw [← q2'] at hle hdd
    have e1 : nI (i + 1) - 1 = nI i := nI_pred i
    have e2 : 3 * nI c + nI i = nI (3 * c + i) := by
      show nI 3 * nI c + nI i = _
      rw [pk_mul, nI_add]
    have e3 : nI y1 - nI y1 / 9 * 9 - 1 = nI (y1 % 9 - 1) := by
      show nI y1 - nI y1 / nI 9 * nI 9 - nI 1 = _
      rw [pk_rem (by omega) (by omega) (by omega), pk_sub (by omega)]
    have e4 : nI y1 / 9 = nI (y1 / 9) := pk_div (a := y1) (d := 9) (by omega) (by omega) (by omega)
    show wX_rule_61 post (nI c) (nI s) e.1 (f + 1) (nI y1) (nI (i + 1) - 1) (upd a1 c (nI j)) y2 (upd a3 c (nI z)) a4 e.2.1 e.2.2.1 e.2.2.2.1 e.2.2.2.2.1 e.2.2.2.2.2
    rw [e1]
    refine br_f (nI_pos (by omega)) ⟨by decide, ?_⟩
    rw [e2, e3, nI_clamp (show 3 * c + i < 2 ^ 31 by omega)]
    refine ⟨vp_in_nI (by omega) (by omega), nm_e ⟨by decide, nm_r e4 (nm_r (gl_dm1 i) ?_)⟩⟩
    refine hgo (y1 / 9, upd y2 (3 * c + i) (nI (y1 % 9 - 1))) ⟨by omega, ?_, fun k h1 h2 => ?_, fun k hk => ?_⟩
    · show y1 / 9 = gl_dv v (z - i)
      rw [show z - i = z - (i + 1) + 1 by omega, q2']
      rfl
    · show ∃ w : Nat, w ≤ 7 ∧ upd y2 (3 * c + i) (nI (y1 % 9 - 1)) (3 * c + k) = nI w
      by_cases ek : k = i
      · rw [ek, pk_us]; exact ⟨y1 % 9 - 1, by omega, rfl⟩
      · rw [pk_un (by omega)]; exact q3 k (by omega) h2
    · show upd y2 (3 * c + i) (nI (y1 % 9 - 1)) k = a2 k
      rw [pk_un (by omega)]; exact q4 k hk
end
theorem gl_sign {post : Int32 → Prop} {u : St2} {p0 : Int32} (H : ∀ r, post r) : wpL_sign post u p0 :=
  br_c (fun _ => br_c (fun _ => H _) (fun _ => H _)) (fun _ => H _)
theorem gl_rowW {post : Int32 → Prop} {u : St2} {p0 : Int32} (H : ∀ r, post r) : wpL_row post u p0 := by
  unfold wpL_row
  exact gl_sign (fun _ => nm_e (gl_sign (fun _ => nm_e (gl_sign (fun _ => nm_e (nm_e (br_c (fun _ => br_c (fun _ => H _) (fun _ => H _)) (fun _ => br_c (fun _ => H _) (fun _ => br_c (fun _ => H _) (fun _ => H _))))))))))
theorem gl_turn {post : St1 → Prop} {c s : Nat} {a1 a2 a3 a4 : Nat → Int32} {e : gl_E} {p1 p2 : Int32} (hV : gl_V c s a1 a2 a3 a4)
    (H : ∀ c' s' a1' a2' a3' a4' e', gl_V c' s' a1' a2' a3' a4' → post (gl_mk c' s' a1' a2' a3' a4' e')) : wpL_turn post (gl_mk c s a1 a2 a3 a4 e) p1 p2 := by
  unfold wpL_turn
  refine br_c (fun _ => br_c (fun _ => br_c (fun _ => ?_) (fun _ => br_c (fun _ => br_c (fun _ => br_c (fun _ => ?_) (fun _ => H c s a1 a2 a3 a4 e hV)) (fun _ => ?_)) (fun _ => ⟨by decide, ?_⟩))) (fun _ => ?_)) (fun _ => gl_rowW (fun r => ?_))
  · exact gl_pop (e := e) hV (fun c' s' a1' a2' a3' a4' e' h _ => H c' s' a1' a2' a3' a4' e' h)
  · exact gl_clear (e := e) hV (fun c' s' a1' a2' a3' a4' e' h _ => H c' s' a1' a2' a3' a4' e' h)
  · exact gl_drop (e := e) hV (fun c' s' a1' a2' a3' a4' e' h _ => H c' s' a1' a2' a3' a4' e' h)
  · exact gl_write (e := e) hV (fun c' s' a1' a2' a3' a4' e' h _ => H c' s' a1' a2' a3' a4' e' h)
  · exact gl_push (e := e) hV (fun c' s' a1' a2' a3' a4' e' h _ => H c' s' a1' a2' a3' a4' e' h)
  · exact gl_rule (e := e) hV (fun c' s' a1' a2' a3' a4' e' h _ => H c' s' a1' a2' a3' a4' e' h)
end
section
/-! ===== the law ===== -/
theorem gl_cell {post : Int32 → Prop} {L k : Nat} {xs : Nat → Int32} {u : St2} {p1 : Int32} (e1 : p1 = nI k) (hL : L < 2 ^ 31) (hk : k < 2 ^ 31) (H : ∀ r, post r) : wpL_cell post L xs u p1 := by
  subst e1
  unfold wpL_cell
  exact pk_le L k (fun _ => H _) (fun y => ⟨vp_in_nI y hL, H _⟩)
theorem gl_law {L : Nat} {xs : Nat → Int32} {kc ks : Nat} (hL : L ≤ 260) {c s : Nat} {a1 a2 a3 a4 : Nat → Int32} {e : gl_E} (hV : gl_V c s a1 a2 a3 a4) :
    ∃ fu, wL_law_10 (fun r => r = 1) L xs kc ks fu 0 (nI c) (nI s) e.1 a1 a2 a3 a4 e.2.1 e.2.2.1 e.2.2.2.1 e.2.2.2.2.1 e.2.2.2.2.2 := by
  refine loop_m (σ := Nat × Nat × Nat × (Nat → Int32) × (Nat → Int32) × (Nat → Int32) × (Nat → Int32) × gl_E)
    (fun f z => wL_law_10 (fun r => r = 1) L xs kc ks f (nI z.1) (nI z.2.1) (nI z.2.2.1) z.2.2.2.2.2.2.2.1 z.2.2.2.1 z.2.2.2.2.1 z.2.2.2.2.2.1 z.2.2.2.2.2.2.1 z.2.2.2.2.2.2.2.2.1 z.2.2.2.2.2.2.2.2.2.1 z.2.2.2.2.2.2.2.2.2.2.1 z.2.2.2.2.2.2.2.2.2.2.2.1 z.2.2.2.2.2.2.2.2.2.2.2.2)
    (fun z => z.1 ≤ L + 1 ∧ gl_V z.2.1 z.2.2.1 z.2.2.2.1 z.2.2.2.2.1 z.2.2.2.2.2.1 z.2.2.2.2.2.2.1) (fun z => L + 1 - z.1) ?_ (0, c, s, a1, a2, a3, a4, e) ⟨Nat.zero_le _, hV⟩
  rintro f ⟨k, c, s, a1, a2, a3, a4, e⟩ ⟨q1, q2⟩ hgo
  have q1' : k ≤ L + 1 := q1
  have q2' : gl_V c s a1 a2 a3 a4 := q2
  refine pk_le L k (fun _ => ?_) (fun hk => ?_)
  · refine gl_holds (e := e) (x := 0) rfl (gl_VG q2') (by omega) (fun e' => br_f gl_n10 ?_)
    exact gl_holds (e := e') (x := 1) rfl (gl_VG q2') (by omega) (fun e'' => br_f gl_n10 rfl)
  · refine gl_cell rfl (by omega) (by omega) (fun r1 => gl_cell (nI_1 k) (by omega) (by omega) (fun r2 => ?_))
    refine gl_turn (e := e) q2' (fun c' s' a1' a2' a3' a4' e' h => ?_)
    have next : ∀ e'' : gl_E, wL_law_10 (fun r => r = 1) L xs kc ks f (nI (k + 2)) (nI c') (nI s') e''.1 a1' a2' a3' a4' e''.2.1 e''.2.2.1 e''.2.2.2.1 e''.2.2.2.2.1 e''.2.2.2.2.2 :=
      fun e'' => hgo (k + 2, c', s', a1', a2', a3', a4', e'') ⟨by show k + 2 ≤ L + 1; omega, h⟩ (by show L + 1 - (k + 2) < L + 1 - k; omega)
    have e2 : nI k + 2 = nI (k + 2) := nI_add k 2
    obtain ⟨x, hx, ex⟩ := pk_andE (r1 >>> ((4 : Int32) &&& 31)) (m := 7) 3 (by decide)
    exact br_c (fun _ => gl_holds (e := e') ex (gl_VG h) (by omega) (fun e'' => br_f gl_n10 (nm_r e2 (next e'')))) (fun _ => nm_r e2 (next e'))
theorem i_vc (xs : Nat → Int32) (L : Nat) (hL : L ≤ 260) : wpL_law (fun r => r = 1) L xs := by
  unfold wpL_law
  refine ⟨9, 4435, by omega, by omega, ?_⟩
  unfold wpX_init
  refine ⟨by omega, by omega, by omega, by omega, by omega, by omega, by omega, by omega, by omega, by omega, by omega, by omega, by omega, by omega, by omega, by omega, by omega, by omega, ?_⟩
  exact gl_law (c := 0) (s := 0) (a1 := fun _ => 0) (a2 := fun _ => 0) (a3 := fun _ => 0) (a4 := fun _ => 0) (e := (0, (fun _ => 0), (fun _ => 0), (fun _ => 0), (fun _ => 0), (fun _ => 0))) hL ⟨by omega, by omega, fun r h => absurd h (by omega), fun r h => absurd h (by omega)⟩
end
