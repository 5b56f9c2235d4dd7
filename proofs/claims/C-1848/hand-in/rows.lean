section
/-! rows of kit/rows (PURE-ROWS, BITS), pasted -/
theorem pk_us {f : Nat → Int32} {k : Nat} {x : Int32} : upd f k x k = x := if_pos rfl
theorem pk_un {f : Nat → Int32} {k j : Nat} {x : Int32} (h : j ≠ k) : upd f k x j = f j := if_neg h
theorem pk_sub {a b : Nat} (h : b ≤ a) : nI a - nI b = nI (a - b) := by
  obtain ⟨c, rfl⟩ : ∃ c, a = c + b := ⟨a - b, by omega⟩
  rw [← nI_add, Int32.add_sub_cancel, Nat.add_sub_cancel]
theorem pk_mul (a b : Nat) : nI a * nI b = nI (a * b) := (Int32.ofNat_mul a b).symm
theorem pk_ix (x : Int32) {n : Nat} (hn : n < 2 ^ 31) : x < 0 ∨ nI n ≤ x ∨ ∃ j : Nat, j < n ∧ x = nI j := by
  by_cases h : x < 0
  · exact Or.inl h
  · obtain ⟨j, hj, rfl⟩ := nI_of h
    by_cases h2 : j < n
    · exact Or.inr (Or.inr ⟨j, h2, rfl⟩)
    · exact Or.inr (Or.inl (nI_le (by omega) hj))
theorem ek_if {c d A B : Prop} (e : c ↔ d) (f : d → A) (g : ¬ d → B) : (c → A) ∧ (¬ c → B) :=
  ⟨fun z => f (e.mp z), fun z => g (fun y => z (e.mpr y))⟩
theorem ts_nt {x : Bool} (h : ¬ x = true) : x = false := by cases x <;> simp_all
def bt (x : Int32) (i : Nat) : Bool := x.toBitVec.getLsbD i
theorem b_ext {x y : Int32} (h : ∀ i, i < 32 → bt x i = bt y i) : x = y := Int32.toBitVec_inj.mp (BitVec.eq_of_getLsbD_eq (fun i hi => h i hi))
theorem b_or (x y : Int32) (i : Nat) : bt (x ||| y) i = (bt x i || bt y i) := by unfold bt; rw [Int32.toBitVec_or, BitVec.getLsbD_or]
theorem b_and (x y : Int32) (i : Nat) : bt (x &&& y) i = (bt x i && bt y i) := by unfold bt; rw [Int32.toBitVec_and, BitVec.getLsbD_and]
theorem b_xor (x y : Int32) (i : Nat) : bt (x ^^^ y) i = (bt x i ^^ bt y i) := by unfold bt; rw [Int32.toBitVec_xor, BitVec.getLsbD_xor]
theorem b_big {x : Int32} {i : Nat} (h : 32 ≤ i) : bt x i = false := BitVec.getLsbD_of_ge _ _ h
theorem b_m1 : ∀ i, i < 32 → bt (-1) i = true := by decide +kernel
theorem b_0 (i : Nat) : bt 0 i = false := BitVec.getLsbD_zero
theorem s_l : ∀ n, n < 32 → ((nI n &&& 31).toBitVec.smod 32).toNat = n := by decide +kernel
theorem b_shl (n : Nat) (hn : n < 32) (x : Int32) {i : Nat} (hi : i < 32) : bt (x <<< (nI n &&& 31)) i = (decide (n ≤ i) && bt x (i - n)) := by
  unfold bt
  rw [Int32.toBitVec_shiftLeft]
  show (x.toBitVec <<< ((nI n &&& 31).toBitVec.smod 32).toNat).getLsbD i = _
  rw [s_l n hn, BitVec.getLsbD_shiftLeft]
  rcases Nat.lt_or_ge i n with h | h
  · simp [h, Nat.not_le.mpr h]
  · simp [hi, h, Nat.not_lt.mpr h]
theorem b_sshr (n : Nat) (hn : n < 32) (x : Int32) {i : Nat} (hi : i < 32) : bt (x >>> (nI n &&& 31)) i = if n + i < 32 then bt x (n + i) else bt x 31 := by
  unfold bt
  rw [Int32.toBitVec_shiftRight]
  show (x.toBitVec.sshiftRight ((nI n &&& 31).toBitVec.smod 32).toNat).getLsbD i = _
  rw [s_l n hn, BitVec.getLsbD_sshiftRight, BitVec.msb_eq_getLsbD_last]
  simp [hi]
/-! single bits -/
theorem lm_b1 : ∀ i, i < 32 → bt 1 i = decide (i = 0) := by decide +kernel
theorem lm_bit1 (x : Int32) (n : Nat) (hn : n < 32) : ((x >>> (nI n &&& 31)) &&& 1) = if bt x n = true then 1 else 0 := by
  apply b_ext
  intro i hi
  rw [b_and, lm_b1 i hi]
  by_cases h0 : i = 0
  · subst h0
    rw [b_sshr n hn x hi, if_pos (by omega), Nat.add_zero]
    cases h : bt x n
    · rw [if_neg (by decide), b_0]; rfl
    · rw [if_pos rfl, lm_b1 0 hi]; rfl
  · rw [decide_eq_false h0, Bool.and_false]
    cases h : bt x n
    · rw [if_neg (by decide), b_0]
    · rw [if_pos rfl, lm_b1 i hi, decide_eq_false h0]
theorem lm_bit (x : Int32) (n : Nat) (hn : n < 32) : ((x >>> (nI n &&& 31)) &&& 1) = 1 ↔ bt x n = true := by
  rw [lm_bit1 x n hn]
  cases h : bt x n
  · exact ⟨fun z => absurd z (by decide), fun z => absurd z (by decide)⟩
  · exact ⟨fun _ => rfl, fun _ => if_pos rfl⟩
theorem lm_one (n i : Nat) (hn : n < 32) : bt ((1 : Int32) <<< (nI n &&& 31)) i = decide (i = n) := by
  rcases Nat.lt_or_ge i 32 with hi | hi
  · rw [b_shl n hn 1 hi]
    by_cases h : n ≤ i
    · rw [decide_eq_true h, lm_b1 _ (by omega), Bool.true_and]
      by_cases e : i = n
      · rw [decide_eq_true e, decide_eq_true (by omega)]
      · rw [decide_eq_false e, decide_eq_false (by omega)]
    · rw [decide_eq_false h, decide_eq_false (by omega)]; rfl
  · rw [b_big hi, decide_eq_false (by omega)]
theorem lm_set (x : Int32) (n i : Nat) (hn : n < 32) : bt (x ||| ((1 : Int32) <<< (nI n &&& 31))) i = (bt x i || decide (i = n)) := by
  rw [b_or, lm_one n i hn]
theorem lm_clr (x : Int32) (n i : Nat) (hn : n < 32) : bt (x &&& (((1 : Int32) <<< (nI n &&& 31)) ^^^ (-1))) i = (bt x i && !decide (i = n)) := by
  rcases Nat.lt_or_ge i 32 with hi | hi
  · rw [b_and, b_xor, b_m1 i hi, lm_one n i hn]
    cases decide (i = n) <;> rfl
  · rw [b_big hi, b_big hi]; rfl
theorem lm_15 : ∀ d, d < 2 → ∀ i, i < 32 → bt ((15 : Int32) <<< ((4 * nI d) &&& 31)) i = decide (i / 4 = d) := by decide +kernel
theorem lm_clr15 (x : Int32) (d i : Nat) (hd : d < 2) : bt (x &&& (((15 : Int32) <<< ((4 * nI d) &&& 31)) ^^^ (-1))) i = (bt x i && !decide (i / 4 = d)) := by
  rcases Nat.lt_or_ge i 32 with hi | hi
  · rw [b_and, b_xor, b_m1 i hi, lm_15 d hd i hi]
    cases decide (i / 4 = d) <;> rfl
  · rw [b_big hi, b_big hi]; rfl
theorem lm_and15 (x : Int32) (d i : Nat) (hd : d < 2) : bt (x &&& ((15 : Int32) <<< ((4 * nI d) &&& 31))) i = (bt x i && decide (i / 4 = d)) := by
  rcases Nat.lt_or_ge i 32 with hi | hi
  · rw [b_and, lm_15 d hd i hi]
  · rw [b_big hi, b_big hi]; rfl
theorem lm_sh2 : ∀ f, f < 8 → nI f >>> ((2 : Int32) &&& 31) = nI (f / 4) := by decide +kernel
theorem lm_dv4 : ∀ f, f < 8 → nI f / 4 = nI (f / 4) := by decide +kernel
theorem lm_6 (m : Nat) : 6 + nI m = nI (6 + m) := nI_add 6 m
theorem lm_8x (s f : Nat) : nI s * 8 + nI f = nI (8 * s + f) := by
  rw [show (8 : Int32) = nI 8 from rfl, pk_mul, nI_add, Nat.mul_comm]
theorem lm_8y (s f : Nat) : 8 * nI s + nI f = nI (8 * s + f) := by
  rw [show (8 : Int32) = nI 8 from rfl, pk_mul, nI_add]
/-- a boolean's int -/
def lm_b (b : Bool) : Int32 := if b = true then 1 else 0
theorem lm_bt : lm_b true = 1 := rfl
theorem lm_bf : lm_b false = 0 := rfl
theorem lm_b0 (b : Bool) : lm_b b = 0 ↔ b = false := by cases b <;> decide
theorem lm_b01 (b : Bool) : ¬ lm_b b = 0 ↔ b = true := by cases b <;> decide
/-- a set gathered bit by bit -/
def lm_ds (g : Nat → Bool) : Nat → Int32
  | 0 => 0
  | n + 1 => if g n = true then lm_ds g n ||| ((1 : Int32) <<< (nI n &&& 31)) else lm_ds g n
theorem lm_ds_b (g : Nat → Bool) : ∀ n, n ≤ 32 → ∀ i, bt (lm_ds g n) i = (decide (i < n) && g i) := by
  intro n
  induction n with
  | zero => intro _ i; rw [lm_ds, b_0, decide_eq_false (Nat.not_lt_zero i)]; rfl
  | succ n ih =>
    intro hn i
    rw [lm_ds]
    by_cases e : i = n
    · subst e
      cases h : g i
      · rw [if_neg (by decide), ih (by omega), h, Bool.and_false, Bool.and_false]
      · rw [if_pos rfl, lm_set _ _ _ (by omega), decide_eq_true rfl, Bool.or_true, decide_eq_true (by omega)]; rfl
    · have e2 : decide (i < n + 1) = decide (i < n) := by
        by_cases h : i < n
        · rw [decide_eq_true h, decide_eq_true (by omega)]
        · rw [decide_eq_false h, decide_eq_false (by omega)]
      rw [e2]
      cases h : g n
      · rw [if_neg (by decide), ih (by omega)]
      · rw [if_pos rfl, lm_set _ _ _ (by omega), decide_eq_false e, Bool.or_false, ih (by omega)]
theorem lm_ds_eq {g : Nat → Bool} {x : Int32} {n : Nat} (hn : n ≤ 32) (hg : ∀ i, i < n → g i = bt x i) (hx : ∀ i, n ≤ i → bt x i = false) : lm_ds g n = x := by
  apply b_ext
  intro i hi
  rw [lm_ds_b g n hn]
  by_cases h : i < n
  · rw [decide_eq_true h, hg i h]; rfl
  · rw [decide_eq_false h, hx i (by omega)]; rfl
/-- a count -/
def lm_cn (g : Nat → Bool) : Nat → Nat
  | 0 => 0
  | n + 1 => lm_cn g n + (if g n = true then 1 else 0)
theorem lm_cn_le (g : Nat → Bool) : ∀ n, lm_cn g n ≤ n := by
  intro n
  induction n with
  | zero => exact Nat.le_refl _
  | succ n ih => rw [lm_cn]; split <;> omega
theorem lm_cn_congr {g g' : Nat → Bool} : ∀ n, (∀ i, i < n → g i = g' i) → lm_cn g n = lm_cn g' n := by
  intro n
  induction n with
  | zero => intro _; rfl
  | succ n ih => intro h; rw [lm_cn, lm_cn, h n (by omega), ih (fun i hi => h i (by omega))]
theorem lm_cn_s (g : Nat → Bool) (n : Nat) : nI (lm_cn g n) + (if g n = true then 1 else 0) = nI (lm_cn g (n + 1)) := by
  rw [lm_cn, ← nI_add]
  cases g n <;> rfl
end
section
/-- a file at a node: own, hidden, its directory hidden, seen here, seen below; content, contents here, below -/
def lm_Fv (o h d fs fp : Bool) (c e ep : Int32) : Prop :=
  (o = true → fs = true ∧ c = e) ∧ (o = false → (h = true ∨ d = true) → fs = false) ∧ (o = false → h = false → d = false → fs = fp ∧ (fp = true → e = ep))
/-- a directory at a node: own, hidden, seen here, seen below -/
def lm_Dv (o h ds dp : Bool) : Prop :=
  (o = true → ds = true) ∧ (o = false → h = true → ds = false) ∧ (o = false → h = false → ds = dp)
/-- node s over node p is right -/
def lm_Nd (ow hi oD hD ct di fi co : Nat → Int32) (s p : Nat) : Prop :=
  (∀ f, f < 8 → lm_Fv (bt (ow s) f) (bt (hi s) f) (bt (hD s) (f / 4)) (bt (fi s) f) (bt (fi p) f) (ct (8 * s + f)) (co (8 * s + f)) (co (8 * p + f))) ∧
  (∀ d, d < 2 → lm_Dv (bt (oD s) d) (bt (hD s) d) (bt (di s) d) (bt (di p) d)) ∧
  (∀ i, 8 ≤ i → bt (fi s) i = false) ∧ (∀ i, 2 ≤ i → bt (di s) i = false) ∧
  (∀ f, f < 8 → bt (fi s) f = true → bt (di s) (f / 4) = true)
/-- sheet 0 is empty -/
def lm_Z (un ow hi oD hD di fi ba : Nat → Int32) : Prop :=
  un 0 = -1 ∧ ba 0 = -4 ∧ ow 0 = 0 ∧ hi 0 = 0 ∧ oD 0 = 0 ∧ hD 0 = 0 ∧ di 0 = 0 ∧ fi 0 = 0
/-- a mount in use -/
def lm_M (L : Nat) (un ow hi oD hD ct di fi co bg : Nat → Int32) (m : Nat) : Prop :=
  ∃ p, p < L ∧ un (6 + m) = nI p ∧ bg m = nI p ∧ lm_Nd ow hi oD hD ct di fi co (6 + m) p ∧ (∀ f, f < 8 → bt (ow (6 + m)) f = true → bt (hi (6 + m)) f = false)
def lm_I (L : Nat) (un ow hi oD hD ct us di fi co ba bg : Nat → Int32) : Prop :=
  1 ≤ L ∧ L ≤ 6 ∧ lm_Z un ow hi oD hD di fi ba ∧
  (∀ k, 0 < k → k < L → ∃ p, p < k ∧ un k = nI p ∧ ba k = nI p ∧ lm_Nd ow hi oD hD ct di fi co k p) ∧
  (∀ m, m < 4 → us m ≠ 0 → lm_M L un ow hi oD hD ct di fi co bg m)
def i_Rel (_ : Nat) (u : SX) (v : SY) : Prop :=
  ∃ (L : Nat) (un ow hi oD hD ct us di fi co ba bg : Nat → Int32), u = (nI L, un, ow, hi, oD, hD, ct, us) ∧ v = (nI L, di, fi, co, ba, us, bg) ∧ lm_I L un ow hi oD hD ct us di fi co ba bg
theorem i_up {k : Nat} {u : SX} {v : SY} (h : i_Rel k u v) : i_Rel (k + 4) u v := h
theorem lm_mk {k L : Nat} {un ow hi oD hD ct us di fi co ba bg : Nat → Int32} (h : lm_I L un ow hi oD hD ct us di fi co ba bg) : i_Rel k (nI L, un, ow, hi, oD, hD, ct, us) (nI L, di, fi, co, ba, us, bg) :=
  ⟨L, un, ow, hi, oD, hD, ct, us, di, fi, co, ba, bg, rfl, rfl, h⟩
theorem lm_I0 : lm_I 1 (upd (fun _ => 0) 0 (-1)) (fun _ => 0) (fun _ => 0) (fun _ => 0) (fun _ => 0) (fun _ => 0) (fun _ => 0) (fun _ => 0) (fun _ => 0) (fun _ => 0) (upd (fun _ => 0) 0 (-4)) (fun _ => 0) :=
  ⟨by omega, by omega, ⟨rfl, rfl, rfl, rfl, rfl, rfl, rfl, rfl⟩, fun k h1 h2 => absurd h2 (by omega), fun m _ h => absurd rfl h⟩
theorem i_vc0 : wpX_init (fun u => wpY_init (fun v => i_Rel 0 u v)) := by
  unfold wpX_init wpY_init
  intro a ea b eb
  subst ea eb
  exact lm_mk (L := 1) lm_I0
/-- a node moved, or kept, with the same data -/
theorem lm_fr {ow hi oD hD ct di fi co ow' hi' oD' hD' ct' di' fi' co' : Nat → Int32} {s p s' p' : Nat}
    (h : lm_Nd ow hi oD hD ct di fi co s p)
    (e1 : ow' s' = ow s) (e2 : hi' s' = hi s) (e3 : oD' s' = oD s) (e4 : hD' s' = hD s) (e5 : ∀ f, f < 8 → ct' (8 * s' + f) = ct (8 * s + f))
    (e6 : di' s' = di s) (e7 : fi' s' = fi s) (e8 : ∀ f, f < 8 → co' (8 * s' + f) = co (8 * s + f))
    (e9 : di' p' = di p) (e10 : fi' p' = fi p) (e11 : ∀ f, f < 8 → co' (8 * p' + f) = co (8 * p + f)) :
    lm_Nd ow' hi' oD' hD' ct' di' fi' co' s' p' := by
  obtain ⟨h1, h2, h3, h4, h5⟩ := h
  refine ⟨fun f hf => ?_, fun d hd => ?_, ?_, ?_, ?_⟩
  · rw [e1, e2, e4, e5 f hf, e7, e8 f hf, e10, e11 f hf]; exact h1 f hf
  · rw [e3, e4, e6, e9]; exact h2 d hd
  · rw [e7]; exact h3
  · rw [e6]; exact h4
  · rw [e6, e7]; exact h5
/-- a change of one top -/
theorem lm_chg {L m : Nat} {un ow hi oD hD ct us di fi co ba bg un' ow' hi' oD' hD' ct' us' di' fi' co' bg' : Nat → Int32}
    (h : lm_I L un ow hi oD hD ct us di fi co ba bg)
    (hA : ∀ s, s ≠ 6 + m → un' s = un s ∧ ow' s = ow s ∧ hi' s = hi s ∧ oD' s = oD s ∧ hD' s = hD s ∧ di' s = di s ∧ fi' s = fi s)
    (hC : ∀ s f, s ≠ 6 + m → f < 8 → ct' (8 * s + f) = ct (8 * s + f) ∧ co' (8 * s + f) = co (8 * s + f))
    (hU : ∀ j, j ≠ m → us' j = us j ∧ bg' j = bg j)
    (hN : us' m ≠ 0 → lm_M L un' ow' hi' oD' hD' ct' di' fi' co' bg' m) :
    lm_I L un' ow' hi' oD' hD' ct' us' di' fi' co' ba bg' := by
  obtain ⟨hL1, hL6, ⟨z1, z2, z3, z4, z5, z6, z7, z8⟩, hK, hM⟩ := h
  have key : ∀ s p, s ≠ 6 + m → p < 6 → lm_Nd ow hi oD hD ct di fi co s p → lm_Nd ow' hi' oD' hD' ct' di' fi' co' s p := by
    intro s p hs hp hn
    obtain ⟨_, a2, a3, a4, a5, a6, a7⟩ := hA s hs
    obtain ⟨_, _, _, _, _, b6, b7⟩ := hA p (by omega)
    exact lm_fr hn a2 a3 a4 a5 (fun f hf => (hC s f hs hf).1) a6 a7 (fun f hf => (hC s f hs hf).2) b6 b7 (fun f hf => (hC p f (by omega) hf).2)
  refine ⟨hL1, hL6, ?_, ?_, ?_⟩
  · obtain ⟨a1, a2, a3, a4, a5, a6, a7⟩ := hA 0 (by omega)
    exact ⟨a1.trans z1, z2, a2.trans z3, a3.trans z4, a4.trans z5, a5.trans z6, a6.trans z7, a7.trans z8⟩
  · intro k hk hkL
    obtain ⟨p, hp, e1, e2, e3⟩ := hK k hk hkL
    exact ⟨p, hp, (hA k (by omega)).1.trans e1, e2, key k p (by omega) (by omega) e3⟩
  · intro j hj hu
    by_cases e : j = m
    · subst e
      exact hN hu
    · obtain ⟨u1, u2⟩ := hU j e
      rw [u1] at hu
      obtain ⟨p, hp, e1, e2, e3, e4⟩ := hM j hj hu
      have hs : 6 + j ≠ 6 + m := by omega
      obtain ⟨a1, a2, a3, _⟩ := hA (6 + j) hs
      exact ⟨p, hp, a1.trans e1, u2.trans e2, key _ p hs (by omega) e3, by rw [a2, a3]; exact e4⟩
/-- a sheet that is there -/
def lm_live (L : Nat) (us : Nat → Int32) (s : Nat) : Prop := s < L ∨ ∃ m, m < 4 ∧ s = 6 + m ∧ us m ≠ 0
theorem lm_live10 {L : Nat} {us : Nat → Int32} {s : Nat} (hL : L ≤ 6) (h : lm_live L us s) : s < 10 := by
  rcases h with h | ⟨m, h1, h2, _⟩ <;> omega
/-- what is plain of Y's tree of a sheet that is there -/
theorem lm_tree {L : Nat} {un ow hi oD hD ct us di fi co ba bg : Nat → Int32} (h : lm_I L un ow hi oD hD ct us di fi co ba bg) {s : Nat} (hs : lm_live L us s) :
    (∀ i, 8 ≤ i → bt (fi s) i = false) ∧ (∀ i, 2 ≤ i → bt (di s) i = false) ∧ (∀ f, f < 8 → bt (fi s) f = true → bt (di s) (f / 4) = true) := by
  obtain ⟨hL1, hL6, ⟨z1, z2, z3, z4, z5, z6, z7, z8⟩, hK, hM⟩ := h
  rcases hs with hs | ⟨m, hm, rfl, hu⟩
  · rcases Nat.eq_zero_or_pos s with e | e
    · subst e
      rw [z7, z8]
      exact ⟨fun i _ => b_0 i, fun i _ => b_0 i, fun f _ hf => by rw [b_0] at hf; exact absurd hf (by decide)⟩
    · obtain ⟨p, _, _, _, hn⟩ := hK s e hs
      exact hn.2.2
  · obtain ⟨p, _, _, _, hn, _⟩ := hM m hm hu
    exact hn.2.2
end
section
/-! the small methods, each against its answer -/
theorem lm_ref (L : Nat) (un ow hi oD hD ct us di fi co ba bg : Nat → Int32) (v1 : Int32) : ∃ r : Int32,
    (r = -1 ∨ (r = -3 ∧ ∃ m, m < 4 ∧ v1 = nI m ∧ us m = 0) ∨ (r = 0 ∧ ∃ m, m < 4 ∧ v1 = nI m ∧ us m ≠ 0)) ∧
    (∀ post : Int32 → Prop, post r → wpX_refused post (nI L, un, ow, hi, oD, hD, ct, us) v1) ∧
    (∀ post : Int32 → Prop, post r → wpY_test post (nI L, di, fi, co, ba, us, bg) v1) := by
  unfold wpX_refused wpY_test
  dsimp only
  rcases pk_ix v1 (n := 4) (by omega) with h | h | ⟨m, hm, rfl⟩
  · exact ⟨-1, Or.inl rfl, fun _ hp => br_t h hp, fun _ hp => br_t h hp⟩
  · have h4 : (4 : Int32) ≤ v1 := h
    have a0 : ¬ v1 < 0 := Int32.not_lt.mpr (Int32.le_trans (by decide) h4)
    have a4 : ¬ v1 < 4 := Int32.not_lt.mpr h4
    have a3 : ¬ v1 ≤ 3 := fun z => absurd (Int32.le_trans h4 z) (by decide)
    exact ⟨-1, Or.inl rfl, fun _ hp => br_f a0 (br_f a4 hp), fun _ hp => br_f a0 (br_f a3 hp)⟩
  · have ec : (nI m).toNatClampNeg = m := nI_clamp (by omega)
    have a0 : ¬ nI m < 0 := nI_pos (by omega)
    have a4 : nI m < 4 := nI_lt (b := 4) hm (by omega)
    have a3 : nI m ≤ 3 := nI_le (b := 3) (by omega) (by omega)
    have hin : vp_in (nI m) 4 := vp_in_nI hm (by omega)
    rw [ec]
    by_cases hu : us m = 0
    · exact ⟨-3, Or.inr (Or.inl ⟨rfl, m, hm, rfl, hu⟩), fun _ hp => br_f a0 (br_t a4 ⟨hin, br_t hu hp⟩), fun _ hp => br_f a0 (br_t a3 ⟨hin, br_t hu hp⟩)⟩
    · exact ⟨0, Or.inr (Or.inr ⟨rfl, m, hm, rfl, hu⟩), fun _ hp => br_f a0 (br_t a4 ⟨hin, br_f hu hp⟩), fun _ hp => br_f a0 (br_t a3 ⟨hin, br_f hu hp⟩)⟩
theorem lm_bad (l : Int32) (un ow hi oD hD ct us : Nat → Int32) (v : Int32) :
    (∃ f, f < 8 ∧ v = nI f ∧ ∀ post : Int32 → Prop, post 0 → wpX_badFile post (l, un, ow, hi, oD, hD, ct, us) v) ∨
    ((v < 0 ∨ (¬ v < 0 ∧ ¬ v ≤ 7)) ∧ ∀ post : Int32 → Prop, post 1 → wpX_badFile post (l, un, ow, hi, oD, hD, ct, us) v) := by
  unfold wpX_badFile
  dsimp only
  rcases pk_ix v (n := 8) (by omega) with h | h | ⟨f, hf, rfl⟩
  · exact Or.inr ⟨Or.inl h, fun _ hp => br_t h hp⟩
  · have h8 : (8 : Int32) ≤ v := h
    have a0 : ¬ v < 0 := Int32.not_lt.mpr (Int32.le_trans (by decide) h8)
    have a8 : ¬ v < 8 := Int32.not_lt.mpr h8
    have a7 : ¬ v ≤ 7 := fun z => absurd (Int32.le_trans h8 z) (by decide)
    exact Or.inr ⟨Or.inr ⟨a0, a7⟩, fun _ hp => br_f a0 (br_f a8 hp)⟩
  · exact Or.inl ⟨f, hf, rfl, fun _ hp => br_f (nI_pos (by omega)) (br_t (nI_lt (b := 8) hf (by omega)) hp)⟩
section
variable {L : Nat} {un ow hi oD hD ct us di fi co ba bg : Nat → Int32}
theorem lm_tF_r {v : SY} {v1 v2 r : Int32} (hY : ∀ post : Int32 → Prop, post r → wpY_test post v v1) (h0 : ¬ r = 0) {post : Int32 → Prop} (hp : post r) : wpY_testFile post v v1 v2 := by
  obtain ⟨a1, a2, a3, a4, a5, a6, a7⟩ := v
  unfold wpY_testFile
  exact hY _ (br_f h0 hp)
theorem lm_tF_b {v : SY} {v1 v2 : Int32} (hY : ∀ post : Int32 → Prop, post 0 → wpY_test post v v1) (hb : v2 < 0 ∨ (¬ v2 < 0 ∧ ¬ v2 ≤ 7)) {post : Int32 → Prop} (hp : post (-1)) : wpY_testFile post v v1 v2 := by
  obtain ⟨a1, a2, a3, a4, a5, a6, a7⟩ := v
  unfold wpY_testFile
  refine hY _ (br_t rfl ?_)
  rcases hb with h | ⟨h1, h2⟩
  · exact br_t h hp
  · exact br_f h1 (br_f h2 hp)
theorem lm_tF_o {v : SY} {v1 : Int32} {f : Nat} (hY : ∀ post : Int32 → Prop, post 0 → wpY_test post v v1) (hf : f < 8) {post : Int32 → Prop} (hp : post 0) : wpY_testFile post v v1 (nI f) := by
  obtain ⟨a1, a2, a3, a4, a5, a6, a7⟩ := v
  unfold wpY_testFile
  exact hY _ (br_t rfl (br_f (nI_pos (by omega)) (br_t (nI_le (b := 7) (by omega) (by omega)) hp)))
theorem lm_tD_r {v : SY} {v1 v2 r : Int32} (hY : ∀ post : Int32 → Prop, post r → wpY_test post v v1) (h0 : ¬ r = 0) {post : Int32 → Prop} (hp : post r) : wpY_testDirectory post v v1 v2 := by
  obtain ⟨a1, a2, a3, a4, a5, a6, a7⟩ := v
  unfold wpY_testDirectory
  exact hY _ (br_f h0 hp)
theorem lm_tD_b {v : SY} {v1 v2 : Int32} (hY : ∀ post : Int32 → Prop, post 0 → wpY_test post v v1) (hb : v2 < 0 ∨ (¬ v2 < 0 ∧ ¬ v2 ≤ 1)) {post : Int32 → Prop} (hp : post (-1)) : wpY_testDirectory post v v1 v2 := by
  obtain ⟨a1, a2, a3, a4, a5, a6, a7⟩ := v
  unfold wpY_testDirectory
  refine hY _ (br_t rfl ?_)
  rcases hb with h | ⟨h1, h2⟩
  · exact br_t h hp
  · exact br_f h1 (br_f h2 hp)
theorem lm_tD_o {v : SY} {v1 : Int32} {d : Nat} (hY : ∀ post : Int32 → Prop, post 0 → wpY_test post v v1) (hd : d < 2) {post : Int32 → Prop} (hp : post 0) : wpY_testDirectory post v v1 (nI d) := by
  obtain ⟨a1, a2, a3, a4, a5, a6, a7⟩ := v
  unfold wpY_testDirectory
  exact hY _ (br_t rfl (br_f (nI_pos (by omega)) (br_t (nI_le (b := 1) (by omega) (by omega)) hp)))
theorem lm_has {l : Int32} {post : Int32 → Prop} {s f : Nat} (hs : s < 10) (hf : f < 8) (hp : post (lm_b (bt (fi s) f))) : wpY_has post (l, di, fi, co, ba, us, bg) (nI s) (nI f) := by
  unfold wpY_has
  dsimp only
  rw [nI_clamp (by omega)]
  refine ⟨vp_in_nI hs (by omega), ek_if (lm_bit _ _ (by omega)) (fun b => ?_) (fun b => ?_)⟩
  · rw [b] at hp; exact hp
  · rw [ts_nt b] at hp; exact hp
theorem lm_hasD {l : Int32} {post : Int32 → Prop} {s d : Nat} (hs : s < 10) (hd : d < 2) (hp : post (lm_b (bt (di s) d))) : wpY_hasDirectory post (l, di, fi, co, ba, us, bg) (nI s) (nI d) := by
  unfold wpY_hasDirectory
  dsimp only
  rw [nI_clamp (by omega)]
  refine ⟨vp_in_nI hs (by omega), ek_if (lm_bit _ _ (by omega)) (fun b => ?_) (fun b => ?_)⟩
  · rw [b] at hp; exact hp
  · rw [ts_nt b] at hp; exact hp
/-! holder -/
def lm_H (ct fi co : Nat → Int32) (s f : Nat) (r : Int32) : Prop :=
  (r = -1 ∧ bt (fi s) f = false) ∨ ∃ t, t < 10 ∧ r = nI t ∧ bt (fi s) f = true ∧ ct (8 * t + f) = co (8 * s + f)
theorem lm_hstep {l : Int32} {post : Int32 → Prop} {s p i n f : Nat} (hs : s < 10) (li : i < 10) (hf : f < 8) (hun : un s = nI p)
    (hF : lm_Fv (bt (ow s) f) (bt (hi s) f) (bt (hD s) (f / 4)) (bt (fi s) f) (bt (fi p) f) (ct (8 * s + f)) (co (8 * s + f)) (co (8 * p + f)))
    (hp : ∀ r, lm_H ct fi co s f r → post r)
    (hr : (∀ r, lm_H ct fi co p f r → post r) → wX_holder_10 post (nI f) (nI (f / 4)) l un ow hi oD hD ct us n (nI p) (nI (i + 1))) :
    wX_holder_10 post (nI f) (nI (f / 4)) l un ow hi oD hD ct us (n + 1) (nI s) (nI i) := by
  have ec : (nI s).toNatClampNeg = s := nI_clamp (by omega)
  have hin : vp_in (nI s) 10 := vp_in_nI hs (by omega)
  have g1 : ¬ (10 : Int32) ≤ nI i := nI_ge (b := 10) li (by omega)
  have g2 : ¬ nI s < 0 := nI_pos (by omega)
  simp only [wX_holder_10, ec]
  refine br_f g1 (br_f g2 ⟨hin, ek_if (lm_bit _ _ (by omega)) (fun b1 => ?_) (fun b1 => ⟨hin, ek_if (lm_bit _ _ (by omega)) (fun b2 => ?_) (fun b2 => ⟨hin, ek_if (lm_bit _ _ (by omega)) (fun b3 => ?_) (fun b3 => ⟨hin, nm_r hun (nm_r (nI_1 i) ?_)⟩)⟩)⟩)⟩)
  · obtain ⟨f1, f2⟩ := hF.1 b1
    exact hp _ (Or.inr ⟨s, hs, rfl, f1, f2⟩)
  · exact hp _ (Or.inl ⟨rfl, hF.2.1 (ts_nt b1) (Or.inl b2)⟩)
  · exact hp _ (Or.inl ⟨rfl, hF.2.1 (ts_nt b1) (Or.inr b3)⟩)
  · obtain ⟨f1, f2⟩ := hF.2.2 (ts_nt b1) (ts_nt b2) (ts_nt b3)
    refine hr (fun r hr' => hp r ?_)
    rcases hr' with ⟨e1, e2⟩ | ⟨t, t1, t2, t3, t4⟩
    · exact Or.inl ⟨e1, f1.trans e2⟩
    · exact Or.inr ⟨t, t1, t2, f1.trans t3, t4.trans (f2 t3).symm⟩
theorem lm_nb {j : Nat} (hj : j < 32) : ¬ (((0 : Int32) >>> (nI j &&& 31)) &&& 1) = 1 := fun z => by
  rw [lm_bit _ _ hj, b_0] at z
  exact absurd z (by decide)
theorem lm_hzero {l : Int32} {post : Int32 → Prop} {i n f : Nat} (li : i < 10) (hf : f < 8) (z1 : un 0 = -1) (z3 : ow 0 = 0) (z4 : hi 0 = 0) (z6 : hD 0 = 0) (hp : post (-1)) :
    wX_holder_10 post (nI f) (nI (f / 4)) l un ow hi oD hD ct us (n + 1 + 1) (nI 0) (nI i) := by
  have ec : (nI 0).toNatClampNeg = 0 := nI_clamp (by omega)
  have hin : vp_in (nI 0) 10 := vp_in_nI (by omega) (by omega)
  have g1 : ¬ (10 : Int32) ≤ nI i := nI_ge (b := 10) li (by omega)
  have g2 : ¬ nI 0 < 0 := nI_pos (by omega)
  rw [wX_holder_10]
  simp only [ec, z3, z4, z6]
  refine br_f g1 (br_f g2 ⟨hin, br_f (lm_nb (by omega)) ⟨hin, br_f (lm_nb (by omega)) ⟨hin, br_f (lm_nb (by omega)) ⟨hin, fun x ex y ey => ?_⟩⟩⟩⟩)
  rw [wX_holder_10]
  refine br_c (fun _ => hp) (fun _ => br_t ?_ hp)
  rw [ex, z1]
  decide
theorem lm_hlay (h : lm_I L un ow hi oD hD ct us di fi co ba bg) {f : Nat} (hf : f < 8) (l : Int32) {post : Int32 → Prop} : ∀ n k i, k < L → k + 2 ≤ n → i + k < 10 → (∀ r, lm_H ct fi co k f r → post r) →
    wX_holder_10 post (nI f) (nI (f / 4)) l un ow hi oD hD ct us n (nI k) (nI i) := by
  obtain ⟨hL1, hL6, ⟨z1, z2, z3, z4, z5, z6, z7, z8⟩, hK, hM⟩ := h
  intro n
  induction n with
  | zero => intro k i _ h2; omega
  | succ n ih =>
    intro k i hk h2 h3 hp
    rcases Nat.eq_zero_or_pos k with e | e
    · subst e
      obtain ⟨q, rfl⟩ : ∃ q, n = q + 1 := ⟨n - 1, by omega⟩
      exact lm_hzero (by omega) hf z1 z3 z4 z6 (hp _ (Or.inl ⟨rfl, by rw [z8, b_0]⟩))
    · obtain ⟨p, p1, p2, p3, p4⟩ := hK k e hk
      exact lm_hstep (by omega) (by omega) hf p2 (p4.1 f hf) hp (fun q => ih p (i + 1) (by omega) (by omega) (by omega) q)
theorem lm_hold (h : lm_I L un ow hi oD hD ct us di fi co ba bg) {s f : Nat} (hs : lm_live L us s) (hf : f < 8) {post : Int32 → Prop} (hp : ∀ r, lm_H ct fi co s f r → post r) :
    wpX_holder post (nI L, un, ow, hi, oD, hD, ct, us) (nI s) (nI f) := by
  have hL := h.2.1
  unfold wpX_holder
  dsimp only
  refine nm_r (lm_sh2 f hf) ⟨8 + 1, ?_⟩
  rcases hs with hs | ⟨m, hm, rfl, hu⟩
  · exact lm_hlay h hf (nI L) (8 + 1) s 0 hs (by omega) (by omega) hp
  · obtain ⟨p, p1, p2, p3, p4, p5⟩ := h.2.2.2.2 m hm hu
    exact lm_hstep (i := 0) (by omega) (by omega) hf p2 (p4.1 f hf) hp (fun q => lm_hlay h hf (nI L) 8 p 1 p1 (by omega) (by omega) q)
/-! directoryThere -/
theorem lm_dstep {l : Int32} {post : Int32 → Prop} {s p i n d : Nat} (hs : s < 10) (li : i < 10) (hd : d < 2) (hun : un s = nI p)
    (hF : lm_Dv (bt (oD s) d) (bt (hD s) d) (bt (di s) d) (bt (di p) d))
    (hp : post (lm_b (bt (di s) d)))
    (hr : post (lm_b (bt (di p) d)) → wX_directoryThere_5 post (nI d) l un ow hi oD hD ct us n (nI p) (nI (i + 1))) :
    wX_directoryThere_5 post (nI d) l un ow hi oD hD ct us (n + 1) (nI s) (nI i) := by
  have ec : (nI s).toNatClampNeg = s := nI_clamp (by omega)
  have hin : vp_in (nI s) 10 := vp_in_nI hs (by omega)
  have g1 : ¬ (10 : Int32) ≤ nI i := nI_ge (b := 10) li (by omega)
  have g2 : ¬ nI s < 0 := nI_pos (by omega)
  simp only [wX_directoryThere_5, ec]
  refine br_f g1 (br_f g2 ⟨hin, ek_if (lm_bit _ _ (by omega)) (fun b1 => ?_) (fun b1 => ⟨hin, ek_if (lm_bit _ _ (by omega)) (fun b2 => ?_) (fun b2 => ⟨hin, nm_r hun (nm_r (nI_1 i) ?_)⟩)⟩)⟩)
  · rw [hF.1 b1] at hp; exact hp
  · rw [hF.2.1 (ts_nt b1) b2] at hp; exact hp
  · rw [hF.2.2 (ts_nt b1) (ts_nt b2)] at hp; exact hr hp
theorem lm_dzero {l : Int32} {post : Int32 → Prop} {i n d : Nat} (li : i < 10) (hd : d < 2) (z1 : un 0 = -1) (z5 : oD 0 = 0) (z6 : hD 0 = 0) (hp : post 0) :
    wX_directoryThere_5 post (nI d) l un ow hi oD hD ct us (n + 1 + 1) (nI 0) (nI i) := by
  have ec : (nI 0).toNatClampNeg = 0 := nI_clamp (by omega)
  have hin : vp_in (nI 0) 10 := vp_in_nI (by omega) (by omega)
  have g1 : ¬ (10 : Int32) ≤ nI i := nI_ge (b := 10) li (by omega)
  have g2 : ¬ nI 0 < 0 := nI_pos (by omega)
  rw [wX_directoryThere_5]
  simp only [ec, z5, z6]
  refine br_f g1 (br_f g2 ⟨hin, br_f (lm_nb (by omega)) ⟨hin, br_f (lm_nb (by omega)) ⟨hin, fun x ex y ey => ?_⟩⟩⟩)
  rw [wX_directoryThere_5]
  refine br_c (fun _ => hp) (fun _ => br_t ?_ hp)
  rw [ex, z1]
  decide
theorem lm_dlay (h : lm_I L un ow hi oD hD ct us di fi co ba bg) {d : Nat} (hd : d < 2) (l : Int32) {post : Int32 → Prop} : ∀ n k i, k < L → k + 2 ≤ n → i + k < 10 → post (lm_b (bt (di k) d)) →
    wX_directoryThere_5 post (nI d) l un ow hi oD hD ct us n (nI k) (nI i) := by
  obtain ⟨hL1, hL6, ⟨z1, z2, z3, z4, z5, z6, z7, z8⟩, hK, hM⟩ := h
  intro n
  induction n with
  | zero => intro k i _ h2; omega
  | succ n ih =>
    intro k i hk h2 h3 hp
    rcases Nat.eq_zero_or_pos k with e | e
    · subst e
      obtain ⟨q, rfl⟩ : ∃ q, n = q + 1 := ⟨n - 1, by omega⟩
      rw [z7, b_0] at hp
      exact lm_dzero (by omega) hd z1 z5 z6 hp
    · obtain ⟨p, p1, p2, p3, p4⟩ := hK k e hk
      exact lm_dstep (by omega) (by omega) hd p2 (p4.2.1 d hd) hp (fun q => ih p (i + 1) (by omega) (by omega) (by omega) q)
theorem lm_dir (h : lm_I L un ow hi oD hD ct us di fi co ba bg) {s d : Nat} (hs : lm_live L us s) (hd : d < 2) {post : Int32 → Prop} (hp : post (lm_b (bt (di s) d))) :
    wpX_directoryThere post (nI L, un, ow, hi, oD, hD, ct, us) (nI s) (nI d) := by
  have hL := h.2.1
  unfold wpX_directoryThere
  dsimp only
  refine ⟨8 + 1, ?_⟩
  rcases hs with hs | ⟨m, hm, rfl, hu⟩
  · exact lm_dlay h hd (nI L) (8 + 1) s 0 hs (by omega) (by omega) hp
  · obtain ⟨p, p1, p2, p3, p4, p5⟩ := h.2.2.2.2 m hm hu
    exact lm_dstep (i := 0) (by omega) (by omega) hd p2 (p4.2.1 d hd) hp (fun q => lm_dlay h hd (nI L) 8 p 1 p1 (by omega) (by omega) q)
end
end
section
theorem lm_ds_t {g : Nat → Bool} {n : Nat} (h : g n = true) : lm_ds g (n + 1) = lm_ds g n ||| ((1 : Int32) <<< (nI n &&& 31)) := by rw [lm_ds, if_pos h]
theorem lm_ds_f {g : Nat → Bool} {n : Nat} (h : g n = false) : lm_ds g (n + 1) = lm_ds g n := by rw [lm_ds, if_neg (by rw [h]; decide)]
section
variable {L : Nat} {un ow hi oD hD ct us di fi co ba bg : Nat → Int32}
/-! filesSeen, directories -/
theorem lm_seen (h : lm_I L un ow hi oD hD ct us di fi co ba bg) {s : Nat} (hs : lm_live L us s) {post : Int32 → Prop} (hp : post (fi s)) :
    wpX_filesSeen post (nI L, un, ow, hi, oD, hD, ct, us) (nI s) := by
  have key : ∀ n i, i ≤ 8 → 8 - i < n → wX_filesSeen_4 post (nI s) (nI L) un ow hi oD hD ct us n (lm_ds (bt (fi s)) i) (nI i) := by
    intro n
    induction n with
    | zero => intro i _ h2; omega
    | succ n ih =>
      intro i h1 h2
      rw [wX_filesSeen_4]
      by_cases e : i = 8
      · subst e
        refine br_t (nI_le (a := 8) (b := 8) (by omega) (by omega)) ?_
        rw [lm_ds_eq (x := fi s) (by omega) (fun _ _ => rfl) (lm_tree h hs).1]
        exact hp
      · refine br_f (nI_ge (b := 8) (by omega) (by omega)) (lm_hold h hs (by omega) (fun r hr => ?_))
        have ih' := ih (i + 1) (by omega) (by omega)
        rcases hr with ⟨rfl, e2⟩ | ⟨t, t1, rfl, t3, t4⟩
        · rw [lm_ds_f e2] at ih'
          exact br_t (by decide) (nm_r (nI_1 i) ih')
        · rw [lm_ds_t t3] at ih'
          exact br_f (nI_pos (by omega)) (nm_e (nm_r (nI_1 i) ih'))
  unfold wpX_filesSeen
  exact ⟨9, key 9 0 (by omega) (by omega)⟩
theorem lm_dirs (h : lm_I L un ow hi oD hD ct us di fi co ba bg) {m : Nat} (hm : m < 4) (hu : us m ≠ 0) {post : Int32 → Prop} (hp : post (di (6 + m))) :
    ∃ n, wX_directories_17 post (nI m) (nI L) un ow hi oD hD ct us n 0 0 := by
  have hs : lm_live L us (6 + m) := Or.inr ⟨m, hm, rfl, hu⟩
  have key : ∀ n i, i ≤ 2 → 2 - i < n → wX_directories_17 post (nI m) (nI L) un ow hi oD hD ct us n (lm_ds (bt (di (6 + m))) i) (nI i) := by
    intro n
    induction n with
    | zero => intro i _ h2; omega
    | succ n ih =>
      intro i h1 h2
      rw [wX_directories_17]
      by_cases e : i = 2
      · subst e
        refine br_t (nI_le (a := 2) (b := 2) (by omega) (by omega)) ?_
        rw [lm_ds_eq (x := di (6 + m)) (by omega) (fun _ _ => rfl) (lm_tree h hs).2.1]
        exact hp
      · refine br_f (nI_ge (b := 2) (by omega) (by omega)) ?_
        unfold wpX_top
        dsimp only
        rw [lm_6]
        refine lm_dir h hs (by omega) ?_
        have ih' := ih (i + 1) (by omega) (by omega)
        cases e2 : bt (di (6 + m)) i
        · rw [lm_ds_f e2] at ih'
          exact br_t rfl (nm_r (nI_1 i) ih')
        · rw [lm_ds_t e2] at ih'
          exact br_f (by decide) (nm_e (nm_r (nI_1 i) ih'))
  exact ⟨3, key 3 0 (by omega) (by omega)⟩
/-! counts -/
theorem lm_size {l x : Int32} {post : Int32 → Prop} (hp : post (nI (lm_cn (bt x) 8))) : wpX_sizeOf post (l, un, ow, hi, oD, hD, ct, us) x := by
  have key : ∀ n i, i ≤ 8 → 8 - i < n → wX_sizeOf_4 post x l un ow hi oD hD ct us n (nI (lm_cn (bt x) i)) (nI i) := by
    intro n
    induction n with
    | zero => intro i _ h2; omega
    | succ n ih =>
      intro i h1 h2
      rw [wX_sizeOf_4]
      by_cases e : i = 8
      · subst e
        exact br_t (nI_le (a := 8) (b := 8) (by omega) (by omega)) hp
      · refine br_f (nI_ge (b := 8) (by omega) (by omega)) (nm_r ?_ (nm_r (nI_1 i) (ih (i + 1) (by omega) (by omega))))
        rw [lm_bit1 _ _ (by omega), lm_cn_s]
  unfold wpX_sizeOf
  exact ⟨9, key 9 0 (by omega) (by omega)⟩
theorem lm_sizeY {l x : Int32} {post : Int32 → Prop} (hp : post (nI (lm_cn (bt x) 8))) : ∃ n, wY_changes_33 post x l di fi co ba us bg n 0 0 := by
  have key : ∀ n i, i ≤ 8 → 8 - i < n → wY_changes_33 post x l di fi co ba us bg n (nI (lm_cn (bt x) i)) (nI i) := by
    intro n
    induction n with
    | zero => intro i _ h2; omega
    | succ n ih =>
      intro i h1 h2
      rw [wY_changes_33]
      by_cases e : i = 8
      · subst e
        exact br_t (nI_le (a := 8) (b := 8) (by omega) (by omega)) hp
      · refine br_f (nI_ge (b := 8) (by omega) (by omega)) (nm_r ?_ (nm_r (nI_1 i) (ih (i + 1) (by omega) (by omega))))
        rw [lm_bit1 _ _ (by omega), lm_cn_s]
  exact ⟨9, key 9 0 (by omega) (by omega)⟩
/-! difference, differing -/
def lm_df (fi co : Nat → Int32) (a b f : Nat) : Bool := (bt (fi a) f != bt (fi b) f) || (bt (fi a) f && !decide (co (8 * a + f) = co (8 * b + f)))
theorem lm_dj {l : Int32} {post : Int32 → Prop} {J : Int32 → Int32 → Prop} {a b i : Nat} {r1 r2 : Int32} (li : i < 8) (h1 : lm_H ct fi co a i r1) (h2 : lm_H ct fi co b i r2)
    (hJ : J (lm_ds (lm_df fi co a b) (i + 1)) (nI (i + 1))) :
    ((0 ≤ r1 → wX_difference_40 post J (nI a) (nI b) (lm_ds (lm_df fi co a b) i) (nI i) r1 r2 0 l un ow hi oD hD ct us) ∧ (¬ 0 ≤ r1 → wX_difference_40 post J (nI a) (nI b) (lm_ds (lm_df fi co a b) i) (nI i) r1 r2 1 l un ow hi oD hD ct us)) := by
  unfold wX_difference_40 wX_difference_50 wX_difference_58 wX_difference_104 wX_difference_106
  rcases h1 with ⟨rfl, a1⟩ | ⟨t, t1, rfl, t3, t4⟩
  · refine br_f (by decide) ?_
    rcases h2 with ⟨rfl, b1⟩ | ⟨w, w1, rfl, w3, w4⟩
    · have e : lm_df fi co a b i = false := by unfold lm_df; rw [a1, b1]; rfl
      rw [lm_ds_f e] at hJ
      exact br_f (by decide) (br_t rfl (br_t (by decide) (br_t rfl (nm_r (nI_1 i) hJ))))
    · have e : lm_df fi co a b i = true := by unfold lm_df; rw [a1, w3]; rfl
      rw [lm_ds_t e] at hJ
      exact br_t (nI_pos' (by omega)) (br_f (by decide) (br_t (by decide) (br_f (by decide) (nm_e (nm_r (nI_1 i) hJ)))))
  · refine br_t (nI_pos' (by omega)) ?_
    have p1 : ¬ nI t < 0 := nI_pos (by omega)
    rcases h2 with ⟨rfl, b1⟩ | ⟨w, w1, rfl, w3, w4⟩
    · have e : lm_df fi co a b i = true := by unfold lm_df; rw [t3, b1]; rfl
      rw [lm_ds_t e] at hJ
      exact br_f (by decide) (br_f (by decide) (br_f p1 (br_t (by decide) (br_f (by decide) (nm_e (nm_r (nI_1 i) hJ))))))
    · have p2 : ¬ nI w < 0 := nI_pos (by omega)
      have i1 : vp_in (nI (8 * t + i)) 80 := vp_in_nI (by omega) (by omega)
      have i2 : vp_in (nI (8 * w + i)) 80 := vp_in_nI (by omega) (by omega)
      rw [lm_8x, lm_8x, nI_clamp (n := 8 * t + i) (by omega), nI_clamp (n := 8 * w + i) (by omega), t4, w4]
      refine br_t (nI_pos' (by omega)) (br_t rfl (br_f p1 (br_f p2 ⟨i1, i2, br_c (fun z => ?_) (fun z => ?_)⟩)))
      · have e : lm_df fi co a b i = false := by unfold lm_df; rw [t3, w3, decide_eq_true z]; rfl
        rw [lm_ds_f e] at hJ
        exact br_t rfl (nm_r (nI_1 i) hJ)
      · have e : lm_df fi co a b i = true := by unfold lm_df; rw [t3, w3, decide_eq_false z]; rfl
        rw [lm_ds_t e] at hJ
        exact br_f (by decide) (nm_e (nm_r (nI_1 i) hJ))
theorem lm_diff (h : lm_I L un ow hi oD hD ct us di fi co ba bg) {a b : Nat} (ha : lm_live L us a) (hb : lm_live L us b) {post : Int32 → Prop} (hp : post (lm_ds (lm_df fi co a b) 8)) :
    wpX_difference post (nI L, un, ow, hi, oD, hD, ct, us) (nI a) (nI b) := by
  have key : ∀ n i, i ≤ 8 → 8 - i < n → wX_difference_5 post (nI a) (nI b) (nI L) un ow hi oD hD ct us n (lm_ds (lm_df fi co a b) i) (nI i) := by
    intro n
    induction n with
    | zero => intro i _ h2; omega
    | succ n ih =>
      intro i h1 h2
      rw [wX_difference_5]
      by_cases e : i = 8
      · subst e
        exact br_t (nI_le (a := 8) (b := 8) (by omega) (by omega)) hp
      · refine br_f (nI_ge (b := 8) (by omega) (by omega)) (lm_hold h ha (by omega) (fun r1 q1 => lm_hold h hb (by omega) (fun r2 q2 => ?_)))
        exact lm_dj (by omega) q1 q2 (ih (i + 1) (by omega) (by omega))
  unfold wpX_difference
  exact ⟨9, key 9 0 (by omega) (by omega)⟩
theorem lm_diffY {l : Int32} {a b : Nat} (ha : a < 10) (hb : b < 10) {post : Int32 → Prop} (hp : post (lm_ds (lm_df fi co a b) 8)) :
    wpY_differing post (l, di, fi, co, ba, us, bg) (nI a) (nI b) := by
  have key : ∀ n i, i ≤ 8 → 8 - i < n → wY_differing_5 post (nI a) (nI b) l di fi co ba us bg n (lm_ds (lm_df fi co a b) i) (nI i) := by
    intro n
    induction n with
    | zero => intro i _ h2; omega
    | succ n ih =>
      intro i h1 h2
      rw [wY_differing_5]
      by_cases e : i = 8
      · subst e
        exact br_t (nI_le (a := 8) (b := 8) (by omega) (by omega)) hp
      · refine br_f (nI_ge (b := 8) (by omega) (by omega)) (lm_has ha (by omega) (lm_has hb (by omega) ?_))
        have ih' := ih (i + 1) (by omega) (by omega)
        unfold wY_differing_66 wY_differing_70 wY_differing_71
        have i1 : vp_in (nI (8 * a + i)) 80 := vp_in_nI (by omega) (by omega)
        have i2 : vp_in (nI (8 * b + i)) 80 := vp_in_nI (by omega) (by omega)
        rw [lm_8y, lm_8y, nI_clamp (n := 8 * a + i) (by omega), nI_clamp (n := 8 * b + i) (by omega)]
        cases e1 : bt (fi a) i <;> cases e2 : bt (fi b) i
        · have e : lm_df fi co a b i = false := by unfold lm_df; rw [e1, e2]; rfl
          rw [lm_ds_f e] at ih'
          refine br_t rfl (lm_has ha (by omega) ?_)
          rw [e1]
          exact br_t rfl (br_t rfl (nm_r (nI_1 i) ih'))
        · have e : lm_df fi co a b i = true := by unfold lm_df; rw [e1, e2]; rfl
          rw [lm_ds_t e] at ih'
          exact br_f (by decide) (br_f (by decide) (nm_e (nm_r (nI_1 i) ih')))
        · have e : lm_df fi co a b i = true := by unfold lm_df; rw [e1, e2]; rfl
          rw [lm_ds_t e] at ih'
          exact br_f (by decide) (br_f (by decide) (nm_e (nm_r (nI_1 i) ih')))
        · refine br_t rfl (lm_has ha (by omega) ?_)
          rw [e1]
          refine br_f (by decide) ⟨i1, i2, br_c (fun z => ?_) (fun z => ?_)⟩
          · have e : lm_df fi co a b i = false := by unfold lm_df; rw [e1, e2, decide_eq_true z]; rfl
            rw [lm_ds_f e] at ih'
            exact br_t rfl (nm_r (nI_1 i) ih')
          · have e : lm_df fi co a b i = true := by unfold lm_df; rw [e1, e2, decide_eq_false z]; rfl
            rw [lm_ds_t e] at ih'
            exact br_f (by decide) (nm_e (nm_r (nI_1 i) ih'))
  unfold wpY_differing
  exact ⟨9, key 9 0 (by omega) (by omega)⟩
/-! Y's copy -/
theorem lm_copy {l : Int32} {a b : Nat} (ha : a < 10) (hb : b < 10) (hab : a ≠ b) {post : SY → Prop}
    (hp : ∀ co' : Nat → Int32, (∀ j, j < 8 → co' (8 * b + j) = co (8 * a + j)) → (∀ x, x < 8 * b ∨ 8 * b + 8 ≤ x → co' x = co x) → post (l, upd di b (di a), upd fi b (fi a), co', ba, us, bg)) :
    wpY_copy post (l, di, fi, co, ba, us, bg) (nI a) (nI b) := by
  have key : ∀ n i (c : Nat → Int32), i ≤ 8 → 8 - i < n → (∀ j, j < i → c (8 * b + j) = co (8 * a + j)) → (∀ x, x < 8 * b ∨ 8 * b + 8 ≤ x → c x = co x) →
      wY_copy_26 post (nI a) (nI b) l n (nI i) (upd di b (di a)) (upd fi b (fi a)) c ba us bg := by
    intro n
    induction n with
    | zero => intro i c _ h2; omega
    | succ n ih =>
      intro i c h1 h2 h3 h4
      rw [wY_copy_26]
      dsimp only
      by_cases e : i = 8
      · subst e
        exact br_t (nI_le (a := 8) (b := 8) (by omega) (by omega)) (hp c h3 h4)
      · have i1 : vp_in (nI (8 * a + i)) 80 := vp_in_nI (by omega) (by omega)
        have i2 : vp_in (nI (8 * b + i)) 80 := vp_in_nI (by omega) (by omega)
        rw [lm_8y, lm_8y, nI_clamp (n := 8 * a + i) (by omega), nI_clamp (n := 8 * b + i) (by omega)]
        refine br_f (nI_ge (b := 8) (by omega) (by omega)) ⟨i1, i2, nm_e (nm_r (nI_1 i) (ih (i + 1) _ (by omega) (by omega) (fun j hj => ?_) (fun x hx => ?_)))⟩
        · by_cases ej : j = i
          · subst ej
            rw [pk_us]
            exact h4 _ (by omega)
          · rw [pk_un (by omega)]
            exact h3 j (by omega)
        · rw [pk_un (by omega)]
          exact h4 x hx
  unfold wpY_copy
  dsimp only
  rw [nI_clamp (n := a) (by omega), nI_clamp (n := b) (by omega)]
  have ja : vp_in (nI a) 10 := vp_in_nI ha (by omega)
  have jb : vp_in (nI b) 10 := vp_in_nI hb (by omega)
  exact ⟨ja, jb, nm_e ⟨ja, jb, nm_e ⟨9, key 9 0 co (by omega) (by omega) (fun j hj => absurd hj (by omega)) (fun _ _ => rfl)⟩⟩⟩
end
end
section
theorem lm_cn_0 {g : Nat → Bool} : ∀ n, (∀ i, i < n → g i = false) → lm_cn g n = 0 := by
  intro n
  induction n with
  | zero => intro _; rfl
  | succ n ih => intro h; rw [lm_cn, h n (by omega), ih (fun i li => h i (by omega))]; rfl
theorem lm_cn_e {g : Nat → Bool} {a : Nat} : ∀ b, (∀ i, a ≤ i → i < a + b → g i = false) → lm_cn g (a + b) = lm_cn g a := by
  intro b
  induction b with
  | zero => intro _; rfl
  | succ b ih => intro h; rw [← Nat.add_assoc, lm_cn, h (a + b) (by omega) (by omega), ih (fun i l1 l2 => h i l1 (by omega))]; rfl
/-- all of the first n -/
def lm_fa (g : Nat → Bool) : Nat → Bool
  | 0 => true
  | n + 1 => lm_fa g n && g n
theorem lm_fa_t {g : Nat → Bool} : ∀ n, lm_fa g n = true → ∀ i, i < n → g i = true := by
  intro n
  induction n with
  | zero => intro _ i li; omega
  | succ n ih =>
    intro h i li
    rw [lm_fa, Bool.and_eq_true] at h
    by_cases e : i = n
    · subst e; exact h.2
    · exact ih h.1 i (by omega)
theorem lm_fa_f {g : Nat → Bool} {i : Nat} (hg : g i = false) : ∀ n, i < n → lm_fa g n = false := by
  intro n
  induction n with
  | zero => intro li; omega
  | succ n ih =>
    intro li
    rw [lm_fa]
    by_cases e : i = n
    · subst e; rw [hg, Bool.and_false]
    · rw [ih (by omega)]; rfl
theorem lm_fa_congr {g g' : Nat → Bool} : ∀ n, (∀ i, i < n → g i = g' i) → lm_fa g n = lm_fa g' n := by
  intro n
  induction n with
  | zero => intro _; rfl
  | succ n ih => intro h; rw [lm_fa, lm_fa, h n (by omega), ih (fun i li => h i (by omega))]
theorem lm_topX {u : SX} {post : Int32 → Prop} {m : Nat} (hp : post (nI (6 + m))) : wpX_top post u (nI m) := by
  obtain ⟨a1, a2, a3, a4, a5, a6, a7, a8⟩ := u
  unfold wpX_top
  dsimp only
  rw [lm_6]
  exact hp
section
variable {L : Nat} {un ow hi oD hD ct us di fi co ba bg : Nat → Int32}
theorem lm_clean {l : Int32} {s : Nat} (hs : s < 10) {post : SX → Prop} (hp : post (l, un, upd ow s 0, upd hi s 0, upd oD s 0, upd hD s 0, ct, us)) : wpX_clean post (l, un, ow, hi, oD, hD, ct, us) (nI s) := by
  unfold wpX_clean
  dsimp only
  rw [nI_clamp (n := s) (by omega)]
  have hin : vp_in (nI s) 10 := vp_in_nI hs (by omega)
  exact ⟨hin, nm_e ⟨hin, nm_e ⟨hin, nm_e ⟨hin, nm_e hp⟩⟩⟩⟩
/-! commit's loop -/
theorem lm_comX {t : Nat} (ht : t < 10) (hL : L < 6) (hLt : L ≠ t) {post : Int32 → SX → Prop}
    (hp : ∀ ct' : Nat → Int32, (∀ j, j < 8 → ct' (8 * L + j) = ct (8 * t + j)) → (∀ x, x < 8 * L ∨ 8 * L + 8 ≤ x → ct' x = ct x) →
      post (nI L) (nI (L + 1), upd (upd un L (un t)) t (nI L), upd ow t 0, upd hi t 0, upd oD t 0, upd hD t 0, ct', us)) :
    ∃ n, wX_commit_93 post (nI t) (nI L) n 0 un ow hi oD hD ct us := by
  have jt : vp_in (nI t) 10 := vp_in_nI ht (by omega)
  have jL : vp_in (nI L) 10 := vp_in_nI (by omega) (by omega)
  have et : (nI t).toNatClampNeg = t := nI_clamp (by omega)
  have eL : (nI L).toNatClampNeg = L := nI_clamp (by omega)
  have key : ∀ n i (c : Nat → Int32), i ≤ 8 → 8 - i < n → (∀ j, j < i → c (8 * L + j) = ct (8 * t + j)) → (∀ x, x < 8 * L ∨ 8 * L + 8 ≤ x → c x = ct x) →
      wX_commit_93 post (nI t) (nI L) n (nI i) un ow hi oD hD c us := by
    intro n
    induction n with
    | zero => intro i c _ h2; omega
    | succ n ih =>
      intro i c h1 h2 h3 h4
      rw [wX_commit_93]
      dsimp only
      by_cases e : i = 8
      · subst e
        rw [et, eL]
        refine br_t (nI_le (a := 8) (b := 8) (by omega) (by omega)) ⟨jt, jL, nm_e (lm_clean ht ?_)⟩
        refine ⟨jt, nm_e (nm_r (nI_1 L) ?_)⟩
        rw [nI_pred]
        exact hp c h3 h4
      · have i1 : vp_in (nI (8 * t + i)) 80 := vp_in_nI (by omega) (by omega)
        have i2 : vp_in (nI (8 * L + i)) 80 := vp_in_nI (by omega) (by omega)
        rw [lm_8x, lm_8x, nI_clamp (n := 8 * t + i) (by omega), nI_clamp (n := 8 * L + i) (by omega)]
        refine br_f (nI_ge (b := 8) (by omega) (by omega)) ⟨i1, i2, nm_e (nm_r (nI_1 i) (ih (i + 1) _ (by omega) (by omega) (fun j hj => ?_) (fun x hx => ?_)))⟩
        · by_cases ej : j = i
          · subst ej
            rw [pk_us]
            exact h4 _ (by omega)
          · rw [pk_un (by omega)]
            exact h3 j (by omega)
        · rw [pk_un (by omega)]
          exact h4 x hx
  exact ⟨9, key 9 0 ct (by omega) (by omega) (fun j hj => absurd hj (by omega)) (fun _ _ => rfl)⟩
/-! rmdir's loop in Y -/
def lm_gd (x : Int32) (d i : Nat) : Bool := bt x i && decide (i / 4 = d)
theorem lm_rmY {l : Int32} {m d : Nat} (hm : m < 4) (hd : d < 2) {post : Int32 → SY → Prop}
    (hp : post (nI (lm_cn (lm_gd (fi (6 + m)) d) 8)) (l, upd di (6 + m) (di (6 + m) &&& (((1 : Int32) <<< (nI d &&& 31)) ^^^ (-1))), upd fi (6 + m) (fi (6 + m) &&& (((15 : Int32) <<< ((4 * nI d) &&& 31)) ^^^ (-1))), co, ba, us, bg)) :
    ∃ n, wY_rmdir_36 post (nI m) (nI d) l di fi co ba us bg n 0 (nI (4 * d)) := by
  have e4 : 4 * nI d + 4 = nI (4 * d + 4) := by
    rw [show (4 : Int32) = nI 4 from rfl, pk_mul, nI_add]
  have j6 : vp_in (nI (6 + m)) 10 := vp_in_nI (by omega) (by omega)
  have e6 : (nI (6 + m)).toNatClampNeg = 6 + m := nI_clamp (by omega)
  have key : ∀ n i, 4 * d ≤ i → i ≤ 4 * d + 4 → 4 * d + 4 - i < n → wY_rmdir_36 post (nI m) (nI d) l di fi co ba us bg n (nI (lm_cn (lm_gd (fi (6 + m)) d) i)) (nI i) := by
    intro n
    induction n with
    | zero => intro i _ _ h2; omega
    | succ n ih =>
      intro i h0 h1 h2
      rw [wY_rmdir_36]
      dsimp only
      rw [e4, lm_6]
      by_cases e : i = 4 * d + 4
      · subst e
        rw [e6]
        refine br_t (nI_le (by omega) (by omega)) ⟨j6, j6, nm_e ⟨j6, j6, nm_e ?_⟩⟩
        have ee : lm_cn (lm_gd (fi (6 + m)) d) 8 = lm_cn (lm_gd (fi (6 + m)) d) (4 * d + 4) := by
          rw [show 8 = 4 * d + 4 + (4 - 4 * d) by omega]
          refine lm_cn_e _ (fun i l1 l2 => ?_)
          unfold lm_gd
          rw [decide_eq_false (by omega), Bool.and_false]
        rw [ee] at hp
        exact hp
      · refine br_f (nI_ge (by omega) (by omega)) (lm_has (by omega) (by omega) ?_)
        have ih' := ih (i + 1) (by omega) (by omega) (by omega)
        have eg : lm_gd (fi (6 + m)) d i = bt (fi (6 + m)) i := by
          unfold lm_gd
          rw [decide_eq_true (by omega), Bool.and_true]
        rw [← lm_cn_s, eg] at ih'
        cases e2 : bt (fi (6 + m)) i
        · rw [e2, if_neg (by decide), Int32.add_zero] at ih'
          exact br_t rfl (nm_r (nI_1 i) ih')
        · rw [e2, if_pos rfl] at ih'
          exact br_f (by decide) (nm_e (nm_r (nI_1 i) ih'))
  have k0 := key 5 (4 * d) (by omega) (by omega) (by omega)
  rw [lm_cn_0 (4 * d) (fun i li => by unfold lm_gd; rw [decide_eq_false (by omega), Bool.and_false])] at k0
  exact ⟨5, k0⟩
/-! drop -/
def lm_g1 (a : Nat → Int32) (q j : Nat) : Bool := !decide (a j = nI q)
def lm_g2 (us a : Nat → Int32) (o q j : Nat) : Bool := decide (us j = 0) || !decide (a (o + j) = nI q)
theorem lm_dr55 {q : Nat} {c : Bool} (hq : q < 10) (hL : nI L - 1 = nI q) {post : Int32 → SX → Prop}
    (h0 : (c && lm_fa (lm_g2 us un 6 q) 4) = false → post (-4) (nI L, un, ow, hi, oD, hD, ct, us))
    (h1 : (c && lm_fa (lm_g2 us un 6 q) 4) = true → post (nI q) (nI q, un, upd ow q 0, upd hi q 0, upd oD q 0, upd hD q 0, ct, us)) :
    ∃ n, wX_drop_55 post (nI q) (nI L) un ow hi oD hD ct us n (lm_b c) 0 := by
  have key : ∀ n i, i ≤ 4 → 4 - i < n → wX_drop_55 post (nI q) (nI L) un ow hi oD hD ct us n (lm_b (c && lm_fa (lm_g2 us un 6 q) i)) (nI i) := by
    intro n
    induction n with
    | zero => intro i _ h2; omega
    | succ n ih =>
      intro i l1 l2
      rw [wX_drop_55]
      dsimp only
      by_cases e : i = 4
      · subst e
        refine br_t (nI_le (a := 4) (b := 4) (by omega) (by omega)) ?_
        cases eb : (c && lm_fa (lm_g2 us un 6 q) 4)
        · exact br_t rfl (h0 eb)
        · exact br_f (by decide) (lm_clean hq (nm_r hL (h1 eb)))
      · have ih' := ih (i + 1) (by omega) (by omega)
        rw [lm_fa, ← Bool.and_assoc] at ih'
        refine br_f (nI_ge (b := 4) (by omega) (by omega)) ?_
        cases eb : (c && lm_fa (lm_g2 us un 6 q) i)
        · rw [eb, Bool.false_and] at ih'
          exact br_t rfl (nm_r (nI_1 i) ih')
        · rw [eb, Bool.true_and] at ih'
          rw [nI_clamp (n := i) (by omega)]
          refine br_f (by decide) ⟨vp_in_nI (by omega) (by omega), br_c (fun z => ?_) (fun z => lm_topX ?_)⟩
          · have eg : lm_g2 us un 6 q i = true := by unfold lm_g2; rw [decide_eq_true z]; rfl
            rw [eg] at ih'
            exact nm_r (nI_1 i) ih'
          · rw [nI_clamp (n := 6 + i) (by omega)]
            refine ⟨vp_in_nI (by omega) (by omega), br_c (fun y => ?_) (fun y => ?_)⟩
            · have eg : lm_g2 us un 6 q i = false := by unfold lm_g2; rw [decide_eq_false z, decide_eq_true y]; rfl
              rw [eg] at ih'
              exact nm_r (nI_1 i) ih'
            · have eg : lm_g2 us un 6 q i = true := by unfold lm_g2; rw [decide_eq_false z, decide_eq_false y]; rfl
              rw [eg] at ih'
              exact nm_r (nI_1 i) ih'
  have k0 := key 5 0 (by omega) (by omega)
  rw [lm_fa, Bool.and_true] at k0
  exact ⟨5, k0⟩
theorem lm_dr19 {q : Nat} {c : Bool} (hL6 : L ≤ 6) {post : Int32 → SX → Prop}
    (hx : ∃ n, wX_drop_55 post (nI q) (nI L) un ow hi oD hD ct us n (lm_b (c && lm_fa (lm_g1 un q) L)) 0) :
    ∃ n, wX_drop_19 post (nI q) (nI L) un ow hi oD hD ct us n (lm_b c) 0 := by
  have key : ∀ n i, i ≤ L → L - i < n → wX_drop_19 post (nI q) (nI L) un ow hi oD hD ct us n (lm_b (c && lm_fa (lm_g1 un q) i)) (nI i) := by
    intro n
    induction n with
    | zero => intro i _ h2; omega
    | succ n ih =>
      intro i l1 l2
      rw [wX_drop_19]
      dsimp only
      by_cases e : i = L
      · subst e
        exact br_t (nI_le (by omega) (by omega)) hx
      · have ih' := ih (i + 1) (by omega) (by omega)
        rw [lm_fa, ← Bool.and_assoc] at ih'
        refine br_f (nI_ge (by omega) (by omega)) ?_
        cases eb : (c && lm_fa (lm_g1 un q) i)
        · rw [eb, Bool.false_and] at ih'
          exact br_t rfl (nm_r (nI_1 i) ih')
        · rw [eb, Bool.true_and] at ih'
          rw [nI_clamp (n := i) (by omega)]
          refine br_f (by decide) ⟨vp_in_nI (by omega) (by omega), br_c (fun y => ?_) (fun y => ?_)⟩
          · have eg : lm_g1 un q i = false := by unfold lm_g1; rw [decide_eq_true y]; rfl
            rw [eg] at ih'
            exact nm_r (nI_1 i) ih'
          · have eg : lm_g1 un q i = true := by unfold lm_g1; rw [decide_eq_false y]; rfl
            rw [eg] at ih'
            exact nm_r (nI_1 i) ih'
  have k0 := key (L + 1) 0 (by omega) (by omega)
  rw [lm_fa, Bool.and_true] at k0
  exact ⟨L + 1, k0⟩
theorem lm_dropX {q : Nat} (hL6 : L ≤ 6) (hq : L = q + 1) {post : Int32 → SX → Prop}
    (h0 : ((decide (0 < q) && lm_fa (lm_g1 un q) L) && lm_fa (lm_g2 us un 6 q) 4) = false → post (-4) (nI L, un, ow, hi, oD, hD, ct, us))
    (h1 : ((decide (0 < q) && lm_fa (lm_g1 un q) L) && lm_fa (lm_g2 us un 6 q) 4) = true → post (nI q) (nI q, un, upd ow q 0, upd hi q 0, upd oD q 0, upd hD q 0, ct, us)) :
    wpX_drop post (nI L, un, ow, hi, oD, hD, ct, us) := by
  have e1 : nI L - 1 = nI q := by rw [hq]; exact nI_pred q
  have k := lm_dr19 hL6 (lm_dr55 (by omega) e1 h0 h1)
  unfold wpX_drop
  dsimp only
  refine nm_r e1 ?_
  by_cases z : 0 < q
  · rw [decide_eq_true z] at k
    exact br_f (nI_nle z (by omega)) k
  · rw [decide_eq_false z] at k
    have e0 : q = 0 := by omega
    subst e0
    exact br_t (by decide) k
theorem lm_freeY {q : Nat} (hL6 : L ≤ 6) {post : Int32 → Prop} (hp : post (lm_b (lm_fa (lm_g2 us bg 0 q) 4 && lm_fa (lm_g1 ba q) L))) :
    wpY_isFree post (nI L, di, fi, co, ba, us, bg) (nI q) := by
  have key2 : lm_fa (lm_g2 us bg 0 q) 4 = true → ∀ n i, i ≤ L → L - i < n → lm_fa (lm_g1 ba q) i = true → wY_isFree_36 post (nI q) (nI L) di fi co ba us bg n (nI i) := by
    intro hb n
    rw [hb, Bool.true_and] at hp
    induction n with
    | zero => intro i _ h2; omega
    | succ n ih =>
      intro i l1 l2 hi'
      rw [wY_isFree_36]
      dsimp only
      by_cases e : i = L
      · subst e
        rw [hi'] at hp
        exact br_t (nI_le (by omega) (by omega)) hp
      · rw [nI_clamp (n := i) (by omega)]
        refine br_f (nI_ge (by omega) (by omega)) ⟨vp_in_nI (by omega) (by omega), br_c (fun y => ?_) (fun y => nm_r (nI_1 i) (ih (i + 1) (by omega) (by omega) ?_))⟩
        · have eg : lm_g1 ba q i = false := by unfold lm_g1; rw [decide_eq_true y]; rfl
          rw [lm_fa_f eg L (by omega)] at hp
          exact hp
        · rw [lm_fa, hi']
          unfold lm_g1
          rw [decide_eq_false y]
          rfl
  have key : ∀ n i, i ≤ 4 → 4 - i < n → lm_fa (lm_g2 us bg 0 q) i = true → wY_isFree_2 post (nI q) (nI L) di fi co ba us bg n (nI i) := by
    intro n
    induction n with
    | zero => intro i _ h2; omega
    | succ n ih =>
      intro i l1 l2 hi'
      rw [wY_isFree_2]
      dsimp only
      by_cases e : i = 4
      · subst e
        exact br_t (nI_le (a := 4) (b := 4) (by omega) (by omega)) ⟨L + 1, key2 hi' (L + 1) 0 (by omega) (by omega) rfl⟩
      · rw [nI_clamp (n := i) (by omega)]
        have j4 : vp_in (nI i) 4 := vp_in_nI (by omega) (by omega)
        refine br_f (nI_ge (b := 4) (by omega) (by omega)) ⟨j4, br_c (fun z => nm_r (nI_1 i) (ih (i + 1) (by omega) (by omega) ?_)) (fun z => ⟨j4, br_c (fun y => ?_) (fun y => nm_r (nI_1 i) (ih (i + 1) (by omega) (by omega) ?_))⟩)⟩
        · rw [lm_fa, hi']
          unfold lm_g2
          rw [decide_eq_true z]
          rfl
        · have eg : lm_g2 us bg 0 q i = false := by unfold lm_g2; rw [Nat.zero_add, decide_eq_false z, decide_eq_true y]; rfl
          rw [lm_fa_f eg 4 (by omega)] at hp
          exact hp
        · rw [lm_fa, hi']
          unfold lm_g2
          rw [Nat.zero_add, decide_eq_false z, decide_eq_false y]
          rfl
  unfold wpY_isFree
  exact ⟨5, key 5 0 (by omega) (by omega) rfl⟩
end
end
section
/-! what each change makes of a node (pure) -/
theorem lm_ne {i j : Nat} (h : i ≠ j) : decide (i = j) = false := decide_eq_false h
section
variable {ow hi oD hD ct di fi co ow' hi' oD' hD' ct' di' fi' co' : Nat → Int32} {t p : Nat}
/-- a fresh top over p -/
theorem lm_N_new (o : ow t = 0) (h : hi t = 0) (oo : oD t = 0) (hh : hD t = 0) (e1 : di t = di p) (e2 : fi t = fi p) (e3 : ∀ f, f < 8 → co (8 * t + f) = co (8 * p + f))
    (ht : (∀ i, 8 ≤ i → bt (fi p) i = false) ∧ (∀ i, 2 ≤ i → bt (di p) i = false) ∧ (∀ f, f < 8 → bt (fi p) f = true → bt (di p) (f / 4) = true)) :
    lm_Nd ow hi oD hD ct di fi co t p := by
  have f0 : ¬ false = true := by decide
  refine ⟨fun f hf => ?_, fun d hd => ?_, ?_⟩
  · rw [o, h, hh, e2, e3 f hf, b_0, b_0]
    exact ⟨fun z => absurd z f0, fun _ z => z.elim (fun z => absurd z f0) (fun z => absurd z f0), fun _ _ _ => ⟨rfl, fun _ => rfl⟩⟩
  · rw [oo, hh, e1, b_0]
    exact ⟨fun z => absurd z f0, fun _ z => absurd z f0, fun _ _ => rfl⟩
  · rw [e1, e2]; exact ht
theorem lm_N_mkdir (hn : lm_Nd ow hi oD hD ct di fi co t p) {d : Nat} (hd : d < 2) (e : bt (di t) d = false)
    (b1 : ∀ i, bt (oD' t) i = (bt (oD t) i || decide (i = d))) (b2 : ∀ i, bt (hD' t) i = (bt (hD t) i || decide (i = d))) (b3 : ∀ i, bt (di' t) i = (bt (di t) i || decide (i = d))) (b4 : di' p = di p) :
    lm_Nd ow hi oD' hD' ct di' fi co t p := by
  obtain ⟨h1, h2, h3, h4, h5⟩ := hn
  refine ⟨fun f hf => ?_, fun j hj => ?_, h3, fun i li => ?_, fun f hf z => ?_⟩
  · have hF := h1 f hf
    rw [b2]
    by_cases ed : f / 4 = d
    · have efs : bt (fi t) f = false := by
        cases z : bt (fi t) f
        · rfl
        · have := h5 f hf z
          rw [ed, e] at this
          exact absurd this (by decide)
      have eo : bt (ow t) f = false := by
        cases z : bt (ow t) f
        · rfl
        · have := (hF.1 z).1
          rw [efs] at this
          exact absurd this (by decide)
      rw [decide_eq_true ed, Bool.or_true]
      exact ⟨fun z => by rw [eo] at z; exact absurd z (by decide), fun _ _ => efs, fun _ _ z => absurd z (by decide)⟩
    · rw [lm_ne ed, Bool.or_false]
      exact hF
  · have hDv := h2 j hj
    rw [b1, b2, b3, b4]
    by_cases ed : j = d
    · rw [decide_eq_true ed, Bool.or_true, Bool.or_true, Bool.or_true]
      exact ⟨fun _ => rfl, fun z => absurd z (by decide), fun z => absurd z (by decide)⟩
    · rw [lm_ne ed, Bool.or_false, Bool.or_false, Bool.or_false]
      exact hDv
  · rw [b3, h4 i li, lm_ne (by omega)]; rfl
  · rw [b3, h5 f hf z]; rfl
theorem lm_N_rmdir (hn : lm_Nd ow hi oD hD ct di fi co t p) {d : Nat} (hd : d < 2)
    (b1 : ∀ i, bt (ow' t) i = (bt (ow t) i && !decide (i / 4 = d))) (b2 : ∀ i, bt (hi' t) i = (bt (hi t) i && !decide (i / 4 = d)))
    (b3 : ∀ i, bt (oD' t) i = (bt (oD t) i && !decide (i = d))) (b4 : ∀ i, bt (hD' t) i = (bt (hD t) i || decide (i = d)))
    (b5 : ∀ i, bt (fi' t) i = (bt (fi t) i && !decide (i / 4 = d))) (b6 : ∀ i, bt (di' t) i = (bt (di t) i && !decide (i = d))) (b7 : fi' p = fi p) (b8 : di' p = di p) :
    lm_Nd ow' hi' oD' hD' ct di' fi' co t p := by
  obtain ⟨h1, h2, h3, h4, h5⟩ := hn
  refine ⟨fun f hf => ?_, fun j hj => ?_, fun i li => ?_, fun i li => ?_, fun f hf z => ?_⟩
  · have hF := h1 f hf
    rw [b1, b2, b4, b5, b7]
    by_cases ed : f / 4 = d
    · rw [decide_eq_true ed, Bool.not_true, Bool.and_false, Bool.and_false, Bool.and_false, Bool.or_true]
      exact ⟨fun z => absurd z (by decide), fun _ _ => rfl, fun _ _ z => absurd z (by decide)⟩
    · rw [lm_ne ed, Bool.not_false, Bool.and_true, Bool.and_true, Bool.and_true, Bool.or_false]
      exact hF
  · have hDv := h2 j hj
    rw [b3, b4, b6, b8]
    by_cases ed : j = d
    · rw [decide_eq_true ed, Bool.not_true, Bool.and_false, Bool.and_false, Bool.or_true]
      exact ⟨fun z => absurd z (by decide), fun _ _ => rfl, fun _ z => absurd z (by decide)⟩
    · rw [lm_ne ed, Bool.not_false, Bool.and_true, Bool.and_true, Bool.or_false]
      exact hDv
  · rw [b5, h3 i li]; rfl
  · rw [b6, h4 i li]; rfl
  · rw [b5, Bool.and_eq_true, Bool.not_eq_true', decide_eq_false_iff_not] at z
    rw [b6, h5 f hf z.1, lm_ne z.2]; rfl
theorem lm_N_set (hn : lm_Nd ow hi oD hD ct di fi co t p) {f : Nat} (hf : f < 8) (hd : bt (di t) (f / 4) = true)
    (b1 : ∀ i, bt (ow' t) i = (bt (ow t) i || decide (i = f))) (b2 : ∀ i, bt (hi' t) i = (bt (hi t) i && !decide (i = f)))
    (b3 : ∀ i, bt (fi' t) i = (bt (fi t) i || decide (i = f))) (b4 : fi' p = fi p)
    (c1 : ct' (8 * t + f) = co' (8 * t + f)) (c2 : ∀ g, g < 8 → g ≠ f → ct' (8 * t + g) = ct (8 * t + g)) (c3 : ∀ g, g < 8 → g ≠ f → co' (8 * t + g) = co (8 * t + g))
    (c4 : ∀ g, g < 8 → co' (8 * p + g) = co (8 * p + g)) :
    lm_Nd ow' hi' oD hD ct' di fi' co' t p := by
  obtain ⟨h1, h2, h3, h4, h5⟩ := hn
  refine ⟨fun g hg => ?_, h2, fun i li => ?_, h4, fun g hg z => ?_⟩
  · have hF := h1 g hg
    rw [b1, b2, b3, b4]
    by_cases ed : g = f
    · subst ed
      rw [decide_eq_true rfl, Bool.or_true, Bool.or_true]
      exact ⟨fun _ => ⟨rfl, c1⟩, fun z => absurd z (by decide), fun z => absurd z (by decide)⟩
    · rw [lm_ne ed, Bool.or_false, Bool.or_false, Bool.not_false, Bool.and_true, c2 g hg ed, c3 g hg ed, c4 g hg]
      exact hF
  · rw [b3, h3 i li, lm_ne (by omega)]; rfl
  · by_cases ed : g = f
    · subst ed; exact hd
    · rw [b3, lm_ne ed, Bool.or_false] at z
      exact h5 g hg z
theorem lm_N_clr (hn : lm_Nd ow hi oD hD ct di fi co t p) {f : Nat} (hf : f < 8)
    (b1 : ∀ i, bt (ow' t) i = (bt (ow t) i && !decide (i = f))) (b2 : ∀ i, bt (hi' t) i = (bt (hi t) i || decide (i = f)))
    (b3 : ∀ i, bt (fi' t) i = (bt (fi t) i && !decide (i = f))) (b4 : fi' p = fi p) :
    lm_Nd ow' hi' oD hD ct di fi' co t p := by
  obtain ⟨h1, h2, h3, h4, h5⟩ := hn
  refine ⟨fun g hg => ?_, h2, fun i li => ?_, h4, fun g hg z => ?_⟩
  · have hF := h1 g hg
    rw [b1, b2, b3, b4]
    by_cases ed : g = f
    · subst ed
      rw [decide_eq_true rfl, Bool.not_true, Bool.and_false, Bool.and_false, Bool.or_true]
      exact ⟨fun z => absurd z (by decide), fun _ _ => rfl, fun _ z => absurd z (by decide)⟩
    · rw [lm_ne ed, Bool.or_false, Bool.not_false, Bool.and_true, Bool.and_true]
      exact hF
  · rw [b3, h3 i li]; rfl
  · rw [b3, Bool.and_eq_true] at z
    exact h5 g hg z.1
/-- squash: a mark that hides nothing goes -/
theorem lm_N_sqh (hn : lm_Nd ow hi oD hD ct di fi co t p) {f : Nat} (hf : f < 8)
    (hz : bt (fi p) f = false ∨ bt (hD t) (f / 4) = true) (b2 : ∀ i, bt (hi' t) i = (bt (hi t) i && !decide (i = f))) :
    lm_Nd ow hi' oD hD ct di fi co t p := by
  obtain ⟨h1, h2, h345⟩ := hn
  refine ⟨fun g hg => ?_, h2, h345⟩
  have hF := h1 g hg
  rw [b2]
  by_cases ed : g = f
  · subst ed
    rw [decide_eq_true rfl, Bool.not_true, Bool.and_false]
    refine ⟨hF.1, fun z y => ?_, fun z _ y => ?_⟩
    · exact hF.2.1 z (Or.inr (y.elim (fun q => absurd q (by decide)) id))
    · rcases hz with q | q
      · cases eh : bt (hi t) g
        · exact hF.2.2 z eh y
        · rw [hF.2.1 z (Or.inl eh), q]
          exact ⟨rfl, fun w => absurd w (by decide)⟩
      · rw [q] at y
        exact absurd y (by decide)
  · rw [lm_ne ed, Bool.not_false, Bool.and_true]
    exact hF
/-- squash: a file that is the same below goes -/
theorem lm_N_sqo (hn : lm_Nd ow hi oD hD ct di fi co t p) {f : Nat} (hf : f < 8) (eo : bt (ow t) f = true) (eh : bt (hi t) f = false)
    (ef : bt (fi p) f = true) (ec : ct (8 * t + f) = co (8 * p + f)) (b1 : ∀ i, bt (ow' t) i = (bt (ow t) i && !decide (i = f))) (ed : bt (hD t) (f / 4) = false) :
    lm_Nd ow' hi oD hD ct di fi co t p := by
  obtain ⟨h1, h2, h345⟩ := hn
  refine ⟨fun g hg => ?_, h2, h345⟩
  have hF := h1 g hg
  rw [b1]
  by_cases e : g = f
  · subst e
    rw [decide_eq_true rfl, Bool.not_true, Bool.and_false]
    obtain ⟨f1, f2⟩ := hF.1 eo
    refine ⟨fun z => absurd z (by decide), fun _ y => ?_, fun _ _ _ => ⟨f1.trans ef.symm, fun _ => f2.symm.trans ec⟩⟩
    rcases y with y | y
    · rw [eh] at y; exact absurd y (by decide)
    · rw [ed] at y; exact absurd y (by decide)
  · rw [lm_ne e, Bool.not_false, Bool.and_true]
    exact hF
end
end
section
/-! the changes of the whole relation (pure), and the small storing methods -/
section
variable {L : Nat} {un ow hi oD hD ct us di fi co ba bg : Nat → Int32}
theorem lm_setF {l x : Int32} {t f : Nat} (ht : t < 10) (hf : f < 8) {post : SX → Prop}
    (hp : post (l, un, upd ow t (ow t ||| ((1 : Int32) <<< (nI f &&& 31))), upd hi t (hi t &&& (((1 : Int32) <<< (nI f &&& 31)) ^^^ (-1))), oD, hD, upd ct (8 * t + f) x, us)) :
    wpX_setFile post (l, un, ow, hi, oD, hD, ct, us) (nI t) (nI f) x := by
  have j1 : vp_in (nI t) 10 := vp_in_nI ht (by omega)
  have j2 : vp_in (nI (8 * t + f)) 80 := vp_in_nI (by omega) (by omega)
  unfold wpX_setFile
  show vp_in (nI t) 10 ∧ _
  rw [lm_8x, nI_clamp (n := t) (by omega), nI_clamp (n := 8 * t + f) (by omega)]
  exact ⟨j1, j1, nm_e ⟨j1, j1, nm_e ⟨j2, nm_e hp⟩⟩⟩
theorem lm_clrF {l : Int32} {t f : Nat} (ht : t < 10) {post : SX → Prop}
    (hp : post (l, un, upd ow t (ow t &&& (((1 : Int32) <<< (nI f &&& 31)) ^^^ (-1))), upd hi t (hi t ||| ((1 : Int32) <<< (nI f &&& 31))), oD, hD, ct, us)) :
    wpX_clearFile post (l, un, ow, hi, oD, hD, ct, us) (nI t) (nI f) := by
  have j1 : vp_in (nI t) 10 := vp_in_nI ht (by omega)
  unfold wpX_clearFile
  show vp_in (nI t) 10 ∧ _
  rw [nI_clamp (n := t) (by omega)]
  exact ⟨j1, j1, nm_e ⟨j1, j1, nm_e hp⟩⟩
theorem lm_put {l x : Int32} {t f : Nat} (ht : t < 10) (hf : f < 8) {post : Int32 → SY → Prop}
    (hp : post (lm_b (bt (fi t) f)) (l, di, upd fi t (fi t ||| ((1 : Int32) <<< (nI f &&& 31))), upd co (8 * t + f) x, ba, us, bg)) :
    wpY_put post (l, di, fi, co, ba, us, bg) (nI t) (nI f) x := by
  have j1 : vp_in (nI t) 10 := vp_in_nI ht (by omega)
  have j2 : vp_in (nI (8 * t + f)) 80 := vp_in_nI (by omega) (by omega)
  unfold wpY_put
  refine lm_has ht hf ?_
  unfold wY_put_14
  rw [lm_8y, nI_clamp (n := t) (by omega), nI_clamp (n := 8 * t + f) (by omega)]
  cases e : bt (fi t) f
  · rw [e] at hp
    exact br_t rfl ⟨j1, j1, nm_e ⟨j2, nm_e hp⟩⟩
  · rw [e] at hp
    exact br_f (by decide) ⟨j1, j1, nm_e ⟨j2, nm_e hp⟩⟩
theorem lm_isL_o {k : Nat} (hL : L ≤ 6) (hk : k < L) {post : Int32 → Prop} (hp : post 1) : wpY_isLayer post (nI L, di, fi, co, ba, us, bg) (nI k) := by
  unfold wpY_isLayer
  exact br_f (nI_pos (by omega)) (br_f (nI_ge hk (by omega)) hp)
theorem lm_isL_b {v : Int32} (hb : v < 0 ∨ nI L ≤ v) {post : Int32 → Prop} (hp : post 0) : wpY_isLayer post (nI L, di, fi, co, ba, us, bg) v := by
  unfold wpY_isLayer
  by_cases h : v < 0
  · exact br_t h hp
  · exact br_f h (br_t (hb.resolve_left h) hp)
/-- a mount -/
theorem lm_c_mount (h : lm_I L un ow hi oD hD ct us di fi co ba bg) {m l : Nat} (hm : m < 4) (hl : l < L) {x : Int32} {co' : Nat → Int32}
    (c1 : ∀ j, j < 8 → co' (8 * (6 + m) + j) = co (8 * l + j)) (c2 : ∀ x, x < 8 * (6 + m) ∨ 8 * (6 + m) + 8 ≤ x → co' x = co x) :
    lm_I L (upd un (6 + m) (nI l)) (upd ow (6 + m) 0) (upd hi (6 + m) 0) (upd oD (6 + m) 0) (upd hD (6 + m) 0) ct (upd us m x) (upd di (6 + m) (di l)) (upd fi (6 + m) (fi l)) co' ba (upd bg m (nI l)) := by
  have hL := h.2.1
  have nl : l ≠ 6 + m := by omega
  have ht := lm_tree h (s := l) (Or.inl hl)
  refine lm_chg (m := m) h (fun s hs => ⟨pk_un hs, pk_un hs, pk_un hs, pk_un hs, pk_un hs, pk_un hs, pk_un hs⟩) (fun s f hs hf => ⟨rfl, c2 _ (by omega)⟩) (fun j hj => ⟨pk_un hj, pk_un hj⟩) (fun _ => ?_)
  refine ⟨l, hl, pk_us, pk_us, lm_N_new pk_us pk_us pk_us pk_us ?_ ?_ ?_ ?_, fun f hf z => ?_⟩
  · rw [pk_us, pk_un nl]
  · rw [pk_us, pk_un nl]
  · intro f hf
    rw [c1 f hf, c2 _ (by omega)]
  · rw [pk_un nl, pk_un nl]
    exact ht
  · rw [pk_us, b_0]
theorem lm_c_unmount (h : lm_I L un ow hi oD hD ct us di fi co ba bg) {m : Nat} {x : Int32} (hx : x = 0) : lm_I L un ow hi oD hD ct (upd us m x) di fi co ba bg :=
  lm_chg (m := m) h (fun s hs => ⟨rfl, rfl, rfl, rfl, rfl, rfl, rfl⟩) (fun s f hs hf => ⟨rfl, rfl⟩) (fun j hj => ⟨pk_un hj, rfl⟩) (fun z => absurd (pk_us.trans hx) z)
theorem lm_c_mkdir (h : lm_I L un ow hi oD hD ct us di fi co ba bg) {m d : Nat} (hm : m < 4) (hu : us m ≠ 0) (hd : d < 2) (e : bt (di (6 + m)) d = false) :
    lm_I L un ow hi (upd oD (6 + m) (oD (6 + m) ||| ((1 : Int32) <<< (nI d &&& 31)))) (upd hD (6 + m) (hD (6 + m) ||| ((1 : Int32) <<< (nI d &&& 31)))) ct us
      (upd di (6 + m) (di (6 + m) ||| ((1 : Int32) <<< (nI d &&& 31)))) fi co ba bg := by
  have hL := h.2.1
  obtain ⟨p, p1, p2, p3, p4, p5⟩ := h.2.2.2.2 m hm hu
  refine lm_chg (m := m) h (fun s hs => ⟨rfl, rfl, rfl, pk_un hs, pk_un hs, pk_un hs, rfl⟩) (fun s f hs hf => ⟨rfl, rfl⟩) (fun j hj => ⟨rfl, rfl⟩) (fun _ => ?_)
  refine ⟨p, p1, p2, p3, lm_N_mkdir p4 hd e (fun i => ?_) (fun i => ?_) (fun i => ?_) (pk_un (by omega)), p5⟩
  · rw [pk_us, lm_set _ _ _ (by omega)]
  · rw [pk_us, lm_set _ _ _ (by omega)]
  · rw [pk_us, lm_set _ _ _ (by omega)]
theorem lm_c_rmdir (h : lm_I L un ow hi oD hD ct us di fi co ba bg) {m d : Nat} (hm : m < 4) (hu : us m ≠ 0) (hd : d < 2) :
    lm_I L un (upd ow (6 + m) (ow (6 + m) &&& (((15 : Int32) <<< ((4 * nI d) &&& 31)) ^^^ (-1)))) (upd hi (6 + m) (hi (6 + m) &&& (((15 : Int32) <<< ((4 * nI d) &&& 31)) ^^^ (-1))))
      (upd oD (6 + m) (oD (6 + m) &&& (((1 : Int32) <<< (nI d &&& 31)) ^^^ (-1)))) (upd hD (6 + m) (hD (6 + m) ||| ((1 : Int32) <<< (nI d &&& 31)))) ct us
      (upd di (6 + m) (di (6 + m) &&& (((1 : Int32) <<< (nI d &&& 31)) ^^^ (-1)))) (upd fi (6 + m) (fi (6 + m) &&& (((15 : Int32) <<< ((4 * nI d) &&& 31)) ^^^ (-1)))) co ba bg := by
  have hL := h.2.1
  obtain ⟨p, p1, p2, p3, p4, p5⟩ := h.2.2.2.2 m hm hu
  refine lm_chg (m := m) h (fun s hs => ⟨rfl, pk_un hs, pk_un hs, pk_un hs, pk_un hs, pk_un hs, pk_un hs⟩) (fun s f hs hf => ⟨rfl, rfl⟩) (fun j hj => ⟨rfl, rfl⟩) (fun _ => ?_)
  refine ⟨p, p1, p2, p3, lm_N_rmdir p4 hd (fun i => ?_) (fun i => ?_) (fun i => ?_) (fun i => ?_) (fun i => ?_) (fun i => ?_) (pk_un (by omega)) (pk_un (by omega)), fun f hf z => ?_⟩
  · rw [pk_us, lm_clr15 _ _ _ hd]
  · rw [pk_us, lm_clr15 _ _ _ hd]
  · rw [pk_us, lm_clr _ _ _ (by omega)]
  · rw [pk_us, lm_set _ _ _ (by omega)]
  · rw [pk_us, lm_clr15 _ _ _ hd]
  · rw [pk_us, lm_clr _ _ _ (by omega)]
  · rw [pk_us, lm_clr15 _ _ _ hd, Bool.and_eq_true] at z
    rw [pk_us, lm_clr15 _ _ _ hd, p5 f hf z.1]
    rfl
theorem lm_c_set (h : lm_I L un ow hi oD hD ct us di fi co ba bg) {m f : Nat} (hm : m < 4) (hu : us m ≠ 0) (hf : f < 8) (hd : bt (di (6 + m)) (f / 4) = true) (x : Int32) {fi' : Nat → Int32}
    (b3 : ∀ i, bt (fi' (6 + m)) i = (bt (fi (6 + m)) i || decide (i = f))) (b4 : ∀ s, s ≠ 6 + m → fi' s = fi s) :
    lm_I L un (upd ow (6 + m) (ow (6 + m) ||| ((1 : Int32) <<< (nI f &&& 31)))) (upd hi (6 + m) (hi (6 + m) &&& (((1 : Int32) <<< (nI f &&& 31)) ^^^ (-1)))) oD hD
      (upd ct (8 * (6 + m) + f) x) us di fi' (upd co (8 * (6 + m) + f) x) ba bg := by
  have hL := h.2.1
  obtain ⟨p, p1, p2, p3, p4, p5⟩ := h.2.2.2.2 m hm hu
  refine lm_chg (m := m) h (fun s hs => ⟨rfl, pk_un hs, pk_un hs, rfl, rfl, rfl, b4 s hs⟩) (fun s g hs hg => ⟨pk_un (by omega), pk_un (by omega)⟩) (fun j hj => ⟨rfl, rfl⟩) (fun _ => ?_)
  refine ⟨p, p1, p2, p3, lm_N_set p4 hf hd (fun i => ?_) (fun i => ?_) b3 (b4 p (by omega)) (pk_us.trans pk_us.symm) (fun g hg e => pk_un (by omega)) (fun g hg e => pk_un (by omega)) (fun g hg => pk_un (by omega)), fun g hg z => ?_⟩
  · rw [pk_us, lm_set _ _ _ (by omega)]
  · rw [pk_us, lm_clr _ _ _ (by omega)]
  · rw [pk_us, lm_set _ _ _ (by omega)] at z
    rw [pk_us, lm_clr _ _ _ (by omega)]
    by_cases e : g = f
    · rw [decide_eq_true e, Bool.not_true, Bool.and_false]
    · rw [lm_ne e, Bool.or_false] at z
      rw [p5 g hg z]
      rfl
theorem lm_c_clr (h : lm_I L un ow hi oD hD ct us di fi co ba bg) {m f : Nat} (hm : m < 4) (hu : us m ≠ 0) (hf : f < 8) {fi' : Nat → Int32}
    (b3 : ∀ i, bt (fi' (6 + m)) i = (bt (fi (6 + m)) i && !decide (i = f))) (b4 : ∀ s, s ≠ 6 + m → fi' s = fi s) :
    lm_I L un (upd ow (6 + m) (ow (6 + m) &&& (((1 : Int32) <<< (nI f &&& 31)) ^^^ (-1)))) (upd hi (6 + m) (hi (6 + m) ||| ((1 : Int32) <<< (nI f &&& 31)))) oD hD ct us di fi' co ba bg := by
  have hL := h.2.1
  obtain ⟨p, p1, p2, p3, p4, p5⟩ := h.2.2.2.2 m hm hu
  refine lm_chg (m := m) h (fun s hs => ⟨rfl, pk_un hs, pk_un hs, rfl, rfl, rfl, b4 s hs⟩) (fun s g hs hg => ⟨rfl, rfl⟩) (fun j hj => ⟨rfl, rfl⟩) (fun _ => ?_)
  refine ⟨p, p1, p2, p3, lm_N_clr p4 hf (fun i => ?_) (fun i => ?_) b3 (b4 p (by omega)), fun g hg z => ?_⟩
  · rw [pk_us, lm_clr _ _ _ (by omega)]
  · rw [pk_us, lm_set _ _ _ (by omega)]
  · rw [pk_us, lm_clr _ _ _ (by omega), Bool.and_eq_true, Bool.not_eq_true', decide_eq_false_iff_not] at z
    rw [pk_us, lm_set _ _ _ (by omega), p5 g hg z.1, lm_ne z.2]
    rfl
theorem lm_c_sqh (h : lm_I L un ow hi oD hD ct us di fi co ba bg) {m f p : Nat} (hm : m < 4) (hu : us m ≠ 0) (hf : f < 8) (hp : un (6 + m) = nI p) (hpL : p < 2 ^ 31)
    (hz : bt (fi p) f = false ∨ bt (hD (6 + m)) (f / 4) = true) :
    lm_I L un ow (upd hi (6 + m) (hi (6 + m) &&& (((1 : Int32) <<< (nI f &&& 31)) ^^^ (-1)))) oD hD ct us di fi co ba bg := by
  have hL := h.2.1
  obtain ⟨q, p1, p2, p3, p4, p5⟩ := h.2.2.2.2 m hm hu
  have e : q = p := (nI_eq (by omega) hpL).mp (p2.symm.trans hp)
  subst e
  refine lm_chg (m := m) h (fun s hs => ⟨rfl, rfl, pk_un hs, rfl, rfl, rfl, rfl⟩) (fun s g hs hg => ⟨rfl, rfl⟩) (fun j hj => ⟨rfl, rfl⟩) (fun _ => ?_)
  refine ⟨q, p1, p2, p3, lm_N_sqh p4 hf hz (fun i => ?_), fun g hg z => ?_⟩
  · rw [pk_us, lm_clr _ _ _ (by omega)]
  · rw [pk_us, lm_clr _ _ _ (by omega), p5 g hg z]
    rfl
theorem lm_c_sqo (h : lm_I L un ow hi oD hD ct us di fi co ba bg) {m f p : Nat} (hm : m < 4) (hu : us m ≠ 0) (hf : f < 8) (hp : un (6 + m) = nI p) (hpL : p < 2 ^ 31)
    (eo : bt (ow (6 + m)) f = true) (ef : bt (fi p) f = true) (ec : ct (8 * (6 + m) + f) = co (8 * p + f)) (ed : bt (hD (6 + m)) (f / 4) = false) :
    lm_I L un (upd ow (6 + m) (ow (6 + m) &&& (((1 : Int32) <<< (nI f &&& 31)) ^^^ (-1)))) hi oD hD ct us di fi co ba bg := by
  have hL := h.2.1
  obtain ⟨q, p1, p2, p3, p4, p5⟩ := h.2.2.2.2 m hm hu
  have e : q = p := (nI_eq (by omega) hpL).mp (p2.symm.trans hp)
  subst e
  refine lm_chg (m := m) h (fun s hs => ⟨rfl, pk_un hs, rfl, rfl, rfl, rfl, rfl⟩) (fun s g hs hg => ⟨rfl, rfl⟩) (fun j hj => ⟨rfl, rfl⟩) (fun _ => ?_)
  refine ⟨q, p1, p2, p3, lm_N_sqo p4 hf eo (p5 f hf eo) ef ec (fun i => ?_) ed, fun g hg z => ?_⟩
  · rw [pk_us, lm_clr _ _ _ (by omega)]
  · rw [pk_us, lm_clr _ _ _ (by omega), Bool.and_eq_true] at z
    exact p5 g hg z.1
theorem lm_c_commit (h : lm_I L un ow hi oD hD ct us di fi co ba bg) {m : Nat} (hm : m < 4) (hu : us m ≠ 0) (hL : L < 6) {ct' co' : Nat → Int32}
    (a1 : ∀ j, j < 8 → ct' (8 * L + j) = ct (8 * (6 + m) + j)) (a2 : ∀ x, x < 8 * L ∨ 8 * L + 8 ≤ x → ct' x = ct x)
    (c1 : ∀ j, j < 8 → co' (8 * L + j) = co (8 * (6 + m) + j)) (c2 : ∀ x, x < 8 * L ∨ 8 * L + 8 ≤ x → co' x = co x) :
    lm_I (L + 1) (upd (upd un L (un (6 + m))) (6 + m) (nI L)) (upd (upd ow L (ow (6 + m))) (6 + m) 0) (upd (upd hi L (hi (6 + m))) (6 + m) 0) (upd (upd oD L (oD (6 + m))) (6 + m) 0) (upd (upd hD L (hD (6 + m))) (6 + m) 0) ct' us
      (upd di L (di (6 + m))) (upd fi L (fi (6 + m))) co' (upd ba L (bg m)) (upd bg m (nI L)) := by
  have ht := lm_tree h (s := 6 + m) (Or.inr ⟨m, hm, rfl, hu⟩)
  obtain ⟨hL1, hL6, ⟨z1, z2, z3, z4, z5, z6, z7, z8⟩, hK, hM⟩ := h
  have un2 : ∀ {g : Nat → Int32} {s : Nat} {x y : Int32}, s ≠ L → s ≠ 6 + m → upd (upd g L x) (6 + m) y s = g s := fun h1 h2 => (pk_un h2).trans (pk_un h1)
  have us2 : ∀ {g : Nat → Int32} {x y : Int32}, upd (upd g L x) (6 + m) y L = x := (pk_un (by omega)).trans pk_us
  have key : ∀ s p, s ≠ L → s ≠ 6 + m → p < L → lm_Nd ow hi oD hD ct di fi co s p →
      lm_Nd (upd (upd ow L (ow (6 + m))) (6 + m) 0) (upd (upd hi L (hi (6 + m))) (6 + m) 0) (upd (upd oD L (oD (6 + m))) (6 + m) 0) (upd (upd hD L (hD (6 + m))) (6 + m) 0) ct' (upd di L (di (6 + m))) (upd fi L (fi (6 + m))) co' s p := by
    intro s p h1 h2 h3 hn
    exact lm_fr hn (un2 h1 h2) (un2 h1 h2) (un2 h1 h2) (un2 h1 h2) (fun f hf => a2 _ (by omega)) (pk_un h1) (pk_un h1) (fun f hf => c2 _ (by omega)) (pk_un (by omega)) (pk_un (by omega)) (fun f hf => c2 _ (by omega))
  refine ⟨by omega, by omega, ?_, fun k k1 k2 => ?_, fun j hj hju => ?_⟩
  · have n1 : (0 : Nat) ≠ L := by omega
    have n2 : (0 : Nat) ≠ 6 + m := by omega
    exact ⟨(un2 n1 n2).trans z1, (pk_un n1).trans z2, (un2 n1 n2).trans z3, (un2 n1 n2).trans z4, (un2 n1 n2).trans z5, (un2 n1 n2).trans z6, (pk_un n1).trans z7, (pk_un n1).trans z8⟩
  · by_cases e : k = L
    · subst e
      obtain ⟨p, p1, p2, p3, p4, p5⟩ := hM m hm hu
      refine ⟨p, p1, us2.trans p2, pk_us.trans p3, ?_⟩
      exact lm_fr p4 us2 us2 us2 us2 a1 pk_us pk_us c1 (pk_un (by omega)) (pk_un (by omega)) (fun f hf => c2 _ (by omega))
    · obtain ⟨p, p1, p2, p3, p4⟩ := hK k k1 (by omega)
      exact ⟨p, p1, (un2 e (by omega)).trans p2, (pk_un e).trans p3, key k p e (by omega) (by omega) p4⟩
  · by_cases e : j = m
    · subst e
      refine ⟨L, by omega, pk_us, pk_us, lm_N_new pk_us pk_us pk_us pk_us ?_ ?_ ?_ ?_, fun f hf z => ?_⟩
      · rw [pk_us, pk_un (by omega)]
      · rw [pk_us, pk_un (by omega)]
      · intro f hf
        rw [c1 f hf, c2 _ (by omega)]
      · rw [pk_us, pk_us]; exact ht
      · rw [pk_us, b_0]
    · obtain ⟨p, p1, p2, p3, p4, p5⟩ := hM j hj hju
      have n1 : 6 + j ≠ L := by omega
      have n2 : 6 + j ≠ 6 + m := by omega
      exact ⟨p, by omega, (un2 n1 n2).trans p2, (pk_un e).trans p3, key _ p n1 n2 p1 p4, by rw [un2 n1 n2, un2 n1 n2]; exact p5⟩
theorem lm_c_drop {q : Nat} (h : lm_I (q + 1) un ow hi oD hD ct us di fi co ba bg) (hq : 0 < q) (hf : ∀ m, m < 4 → us m ≠ 0 → un (6 + m) ≠ nI q) :
    lm_I q un (upd ow q 0) (upd hi q 0) (upd oD q 0) (upd hD q 0) ct us di fi co ba bg := by
  obtain ⟨hL1, hL6, ⟨z1, z2, z3, z4, z5, z6, z7, z8⟩, hK, hM⟩ := h
  have key : ∀ s p, s ≠ q → lm_Nd ow hi oD hD ct di fi co s p → lm_Nd (upd ow q 0) (upd hi q 0) (upd oD q 0) (upd hD q 0) ct di fi co s p := by
    intro s p h1 hn
    exact lm_fr hn (pk_un h1) (pk_un h1) (pk_un h1) (pk_un h1) (fun f hf => rfl) rfl rfl (fun f hf => rfl) rfl rfl (fun f hf => rfl)
  have n0 : (0 : Nat) ≠ q := by omega
  refine ⟨by omega, by omega, ⟨z1, z2, (pk_un n0).trans z3, (pk_un n0).trans z4, (pk_un n0).trans z5, (pk_un n0).trans z6, z7, z8⟩, fun k k1 k2 => ?_, fun m hm hu => ?_⟩
  · obtain ⟨p, p1, p2, p3, p4⟩ := hK k k1 (by omega)
    exact ⟨p, p1, p2, p3, key k p (by omega) p4⟩
  · obtain ⟨p, p1, p2, p3, p4, p5⟩ := hM m hm hu
    have np : p ≠ q := fun e => hf m hm hu (by rw [p2, e])
    have n1 : 6 + m ≠ q := by omega
    exact ⟨p, by omega, p2, p3, key _ p n1 p4, by rw [pk_un n1, pk_un n1]; exact p5⟩
end
end
section
/-! the methods that only read -/
theorem i_vc_read {k : Nat} {u : SX} {v : SY} (I : i_Rel k u v) (hk : k + 4 ≤ 2048) (v1 : Int32) (v2 : Int32) : wpX_read (fun r => wpY_read (fun r' => r' = r ∧ i_Rel (k + 4) u v) v v1 v2) u v1 v2 := by
  obtain ⟨L, un, ow, hi, oD, hD, ct, us, di, fi, co, ba, bg, rfl, rfl, h⟩ := I
  have R : i_Rel (k + 4) (nI L, un, ow, hi, oD, hD, ct, us) (nI L, di, fi, co, ba, us, bg) := lm_mk h
  obtain ⟨r, hr, hX, hY⟩ := lm_ref L un ow hi oD hD ct us di fi co ba bg v1
  unfold wpX_read wpY_read
  refine hX _ ?_
  rcases hr with rfl | ⟨rfl, _⟩ | ⟨rfl, m, hm, rfl, hu⟩
  · exact br_t (by decide) (lm_tF_r hY (by decide) (br_f (by decide) ⟨rfl, R⟩))
  · exact br_t (by decide) (lm_tF_r hY (by decide) (br_f (by decide) ⟨rfl, R⟩))
  · have hs : lm_live L us (6 + m) := Or.inr ⟨m, hm, rfl, hu⟩
    refine br_f (by decide) ?_
    rcases lm_bad (nI L) un ow hi oD hD ct us v2 with ⟨f, hf, rfl, hB⟩ | ⟨hb, hB⟩
    · rw [lm_6]
      refine hB _ (br_t rfl (lm_topX (lm_hold h hs hf (fun r hr => ?_))))
      rcases hr with ⟨rfl, e⟩ | ⟨t, t1, rfl, t3, t4⟩
      · refine br_f (by decide) (lm_tF_o hY hf (br_t rfl (lm_has (by omega) hf ?_)))
        rw [e]
        exact br_t rfl ⟨rfl, R⟩
      · rw [lm_8x, nI_clamp (n := 8 * t + f) (by omega), lm_8y, nI_clamp (n := 8 * (6 + m) + f) (by omega), t4]
        refine br_t (nI_pos' (by omega)) ⟨vp_in_nI (by omega) (by omega), lm_tF_o hY hf (br_t rfl (lm_has (by omega) hf ?_))⟩
        rw [t3]
        exact br_f (by decide) ⟨vp_in_nI (by omega) (by omega), rfl, R⟩
    · exact hB _ (br_f (by decide) (lm_tF_b hY hb (br_f (by decide) ⟨rfl, R⟩)))
theorem i_vc_files {k : Nat} {u : SX} {v : SY} (I : i_Rel k u v) (hk : k + 4 ≤ 2048) (v1 : Int32) : wpX_files (fun r => wpY_files (fun r' => r' = r ∧ i_Rel (k + 4) u v) v v1) u v1 := by
  obtain ⟨L, un, ow, hi, oD, hD, ct, us, di, fi, co, ba, bg, rfl, rfl, h⟩ := I
  have R : i_Rel (k + 4) (nI L, un, ow, hi, oD, hD, ct, us) (nI L, di, fi, co, ba, us, bg) := lm_mk h
  obtain ⟨r, hr, hX, hY⟩ := lm_ref L un ow hi oD hD ct us di fi co ba bg v1
  unfold wpX_files wpY_files
  refine hX _ ?_
  rcases hr with rfl | ⟨rfl, _⟩ | ⟨rfl, m, hm, rfl, hu⟩
  · exact br_f (by decide) (hY _ (br_f (by decide) ⟨rfl, R⟩))
  · exact br_f (by decide) (hY _ (br_f (by decide) ⟨rfl, R⟩))
  · have hs : lm_live L us (6 + m) := Or.inr ⟨m, hm, rfl, hu⟩
    rw [lm_6, nI_clamp (n := 6 + m) (by omega)]
    exact br_t (by decide) (lm_topX (lm_seen h hs (hY _ (br_t rfl ⟨vp_in_nI (by omega) (by omega), rfl, R⟩))))
theorem i_vc_directories {k : Nat} {u : SX} {v : SY} (I : i_Rel k u v) (hk : k + 4 ≤ 2048) (v1 : Int32) : wpX_directories (fun r => wpY_directories (fun r' => r' = r ∧ i_Rel (k + 4) u v) v v1) u v1 := by
  obtain ⟨L, un, ow, hi, oD, hD, ct, us, di, fi, co, ba, bg, rfl, rfl, h⟩ := I
  have R : i_Rel (k + 4) (nI L, un, ow, hi, oD, hD, ct, us) (nI L, di, fi, co, ba, us, bg) := lm_mk h
  obtain ⟨r, hr, hX, hY⟩ := lm_ref L un ow hi oD hD ct us di fi co ba bg v1
  unfold wpX_directories wpY_directories
  refine hX _ ?_
  rcases hr with rfl | ⟨rfl, _⟩ | ⟨rfl, m, hm, rfl, hu⟩
  · exact br_f (by decide) (hY _ (br_f (by decide) ⟨rfl, R⟩))
  · exact br_f (by decide) (hY _ (br_f (by decide) ⟨rfl, R⟩))
  · refine br_t (by decide) (lm_dirs h hm hu ?_)
    rw [lm_6, nI_clamp (n := 6 + m) (by omega)]
    exact hY _ (br_t rfl ⟨vp_in_nI (by omega) (by omega), rfl, R⟩)
theorem i_vc_layers {k : Nat} {u : SX} {v : SY} (I : i_Rel k u v) (hk : k + 4 ≤ 2048) : wpX_layers (fun r => wpY_layers (fun r' => r' = r ∧ i_Rel (k + 4) u v) v) u := by
  obtain ⟨L, un, ow, hi, oD, hD, ct, us, di, fi, co, ba, bg, rfl, rfl, h⟩ := I
  have R : i_Rel (k + 4) (nI L, un, ow, hi, oD, hD, ct, us) (nI L, di, fi, co, ba, us, bg) := lm_mk h
  unfold wpX_layers wpY_layers
  exact ⟨rfl, R⟩
theorem i_vc_base {k : Nat} {u : SX} {v : SY} (I : i_Rel k u v) (hk : k + 4 ≤ 2048) (v1 : Int32) : wpX_base (fun r => wpY_base (fun r' => r' = r ∧ i_Rel (k + 4) u v) v v1) u v1 := by
  obtain ⟨L, un, ow, hi, oD, hD, ct, us, di, fi, co, ba, bg, rfl, rfl, h⟩ := I
  have R : i_Rel (k + 4) (nI L, un, ow, hi, oD, hD, ct, us) (nI L, di, fi, co, ba, us, bg) := lm_mk h
  have hL1 := h.1
  have hL6 := h.2.1
  unfold wpX_base wpY_base
  dsimp only
  rcases pk_ix v1 (n := L) (by omega) with a | a | ⟨l, hl, rfl⟩
  · have b : v1 < 1 := Int32.lt_trans a (by decide)
    exact br_t b (lm_isL_b (Or.inl a) (br_t rfl ⟨rfl, R⟩))
  · have b : ¬ v1 < 1 := Int32.not_lt.mpr (Int32.le_trans (nI_le (a := 1) hL1 (by omega)) a)
    exact br_f b (br_f (Int32.not_lt.mpr a) (lm_isL_b (Or.inr a) (br_t rfl ⟨rfl, R⟩)))
  · rw [nI_clamp (n := l) (by omega)]
    rcases Nat.eq_zero_or_pos l with e | e
    · subst e
      refine br_t (nI_lt (a := 0) (b := 1) (by omega) (by omega)) (lm_isL_o hL6 hl (br_f (by decide) ⟨vp_in_nI (by omega) (by omega), ?_, R⟩))
      exact h.2.2.1.2.1
    · obtain ⟨p, p1, p2, p3, p4⟩ := h.2.2.2.1 l e hl
      rw [p2, p3]
      exact br_f (nI_nlt (b := 1) (by omega) (by omega)) (br_t (nI_lt hl (by omega)) ⟨vp_in_nI (by omega) (by omega), lm_isL_o hL6 hl (br_f (by decide) ⟨vp_in_nI (by omega) (by omega), rfl, R⟩)⟩)
theorem i_vc_changes {k : Nat} {u : SX} {v : SY} (I : i_Rel k u v) (hk : k + 4 ≤ 2048) (v1 : Int32) : wpX_changes (fun r => wpY_changes (fun r' => r' = r ∧ i_Rel (k + 4) u v) v v1) u v1 := by
  obtain ⟨L, un, ow, hi, oD, hD, ct, us, di, fi, co, ba, bg, rfl, rfl, h⟩ := I
  have R : i_Rel (k + 4) (nI L, un, ow, hi, oD, hD, ct, us) (nI L, di, fi, co, ba, us, bg) := lm_mk h
  have hL6 := h.2.1
  obtain ⟨r, hr, hX, hY⟩ := lm_ref L un ow hi oD hD ct us di fi co ba bg v1
  unfold wpX_changes wpY_changes
  refine hX _ ?_
  rcases hr with rfl | ⟨rfl, _⟩ | ⟨rfl, m, hm, rfl, hu⟩
  · exact br_f (by decide) (hY _ (br_f (by decide) ⟨rfl, R⟩))
  · exact br_f (by decide) (hY _ (br_f (by decide) ⟨rfl, R⟩))
  · have hs : lm_live L us (6 + m) := Or.inr ⟨m, hm, rfl, hu⟩
    obtain ⟨p, p1, p2, p3, p4, p5⟩ := h.2.2.2.2 m hm hu
    refine br_t (by decide) (lm_topX ?_)
    dsimp only
    rw [lm_6, nI_clamp (n := 6 + m) (by omega), nI_clamp (n := m) (by omega), p2, p3]
    exact ⟨vp_in_nI (by omega) (by omega), lm_diff h hs (Or.inl p1) (lm_size (hY _ (br_t rfl ⟨vp_in_nI (by omega) (by omega), lm_diffY (by omega) (by omega) (lm_sizeY ⟨rfl, R⟩)⟩)))⟩
theorem i_vc_compare {k : Nat} {u : SX} {v : SY} (I : i_Rel k u v) (hk : k + 4 ≤ 2048) (v1 : Int32) (v2 : Int32) : wpX_compare (fun r => wpY_compare (fun r' => r' = r ∧ i_Rel (k + 4) u v) v v1 v2) u v1 v2 := by
  obtain ⟨L, un, ow, hi, oD, hD, ct, us, di, fi, co, ba, bg, rfl, rfl, h⟩ := I
  have R : i_Rel (k + 4) (nI L, un, ow, hi, oD, hD, ct, us) (nI L, di, fi, co, ba, us, bg) := lm_mk h
  have hL1 := h.1
  have hL6 := h.2.1
  have n0 : ∀ {w : Int32}, nI L ≤ w → ¬ w < 0 := fun a => Int32.not_lt.mpr (Int32.le_trans (nI_pos' (by omega)) a)
  unfold wpX_compare wpY_compare
  dsimp only
  rcases pk_ix v1 (n := L) (by omega) with a | a | ⟨l, hl, rfl⟩
  · exact br_t a (lm_isL_b (Or.inl a) (br_t rfl ⟨rfl, R⟩))
  · exact br_f (n0 a) (br_t a (lm_isL_b (Or.inr a) (br_t rfl ⟨rfl, R⟩)))
  · refine br_f (nI_pos (by omega)) (br_f (nI_ge hl (by omega)) ?_)
    rcases pk_ix v2 (n := L) (by omega) with a | a | ⟨j, hj, rfl⟩
    · exact br_t a (lm_isL_o hL6 hl (br_f (by decide) (lm_isL_b (Or.inl a) (br_t rfl ⟨rfl, R⟩))))
    · exact br_f (n0 a) (br_f (Int32.not_lt.mpr a) (lm_isL_o hL6 hl (br_f (by decide) (lm_isL_b (Or.inr a) (br_t rfl ⟨rfl, R⟩)))))
    · exact br_f (nI_pos (by omega)) (br_t (nI_lt hj (by omega)) (lm_diff h (Or.inl hl) (Or.inl hj) (lm_isL_o hL6 hl (br_f (by decide) (lm_isL_o hL6 hj (br_f (by decide) (lm_diffY (by omega) (by omega) ⟨rfl, R⟩)))))))
end
section
/-! the methods that store -/
theorem lm_dv (v : Int32) : (∃ d, d < 2 ∧ v = nI d) ∨ v < 0 ∨ (¬ v < 0 ∧ ¬ v ≤ 1) := by
  rcases pk_ix v (n := 2) (by omega) with h | h | ⟨d, hd, rfl⟩
  · exact Or.inr (Or.inl h)
  · have h2 : (2 : Int32) ≤ v := h
    exact Or.inr (Or.inr ⟨Int32.not_lt.mpr (Int32.le_trans (by decide) h2), fun z => absurd (Int32.le_trans h2 z) (by decide)⟩)
  · exact Or.inl ⟨d, hd, rfl⟩
theorem i_vc_mount {k : Nat} {u : SX} {v : SY} (I : i_Rel k u v) (hk : k + 4 ≤ 2048) (v1 : Int32) (v2 : Int32) : wpX_mount (fun r u' => wpY_mount (fun r' v' => r' = r ∧ i_Rel (k + 4) u' v') v v1 v2) u v1 v2 := by
  obtain ⟨L, un, ow, hi, oD, hD, ct, us, di, fi, co, ba, bg, rfl, rfl, h⟩ := I
  have R : i_Rel (k + 4) (nI L, un, ow, hi, oD, hD, ct, us) (nI L, di, fi, co, ba, us, bg) := lm_mk h
  have hL6 := h.2.1
  obtain ⟨r, hr, hX, hY⟩ := lm_ref L un ow hi oD hD ct us di fi co ba bg v1
  unfold wpX_mount wpY_mount
  dsimp only
  refine hX _ ?_
  rcases hr with rfl | ⟨rfl, m, hm, rfl, hu⟩ | ⟨rfl, m, hm, rfl, hu⟩
  · exact br_f (by decide) (br_t rfl (hY _ (br_f (by decide) (br_f (by decide) ⟨rfl, R⟩))))
  · refine br_t rfl ?_
    rcases pk_ix v2 (n := L) (by omega) with a | a | ⟨l, hl, rfl⟩
    · exact br_t a (hY _ (br_t rfl (lm_isL_b (Or.inl a) (br_t rfl ⟨rfl, R⟩))))
    · have n0 : ¬ v2 < 0 := Int32.not_lt.mpr (Int32.le_trans (nI_pos' (by omega)) a)
      exact br_f n0 (br_f (Int32.not_lt.mpr a) (hY _ (br_t rfl (lm_isL_b (Or.inr a) (br_t rfl ⟨rfl, R⟩)))))
    · have j4 : vp_in (nI m) 4 := vp_in_nI hm (by omega)
      rw [nI_clamp (n := m) (by omega), lm_6]
      refine br_f (nI_pos (by omega)) (br_t (nI_lt hl (by omega)) ⟨j4, nm_e (lm_topX (lm_clean (by omega) (lm_topX ⟨vp_in_nI (by omega) (by omega), nm_e ?_⟩)))⟩)
      rw [nI_clamp (n := 6 + m) (by omega)]
      refine hY _ (br_t rfl (lm_isL_o hL6 hl (br_f (by decide) ⟨j4, nm_e ⟨j4, nm_e (lm_copy (by omega) (by omega) (by omega) (fun co' c1 c2 => ⟨rfl, lm_mk (lm_c_mount h hm hl c1 c2)⟩))⟩⟩)))
  · exact br_f (by decide) (br_f (by decide) (hY _ (br_f (by decide) (br_t rfl ⟨rfl, R⟩))))
theorem i_vc_unmount {k : Nat} {u : SX} {v : SY} (I : i_Rel k u v) (hk : k + 4 ≤ 2048) (v1 : Int32) : wpX_unmount (fun r u' => wpY_unmount (fun r' v' => r' = r ∧ i_Rel (k + 4) u' v') v v1) u v1 := by
  obtain ⟨L, un, ow, hi, oD, hD, ct, us, di, fi, co, ba, bg, rfl, rfl, h⟩ := I
  have R : i_Rel (k + 4) (nI L, un, ow, hi, oD, hD, ct, us) (nI L, di, fi, co, ba, us, bg) := lm_mk h
  obtain ⟨r, hr, hX, hY⟩ := lm_ref L un ow hi oD hD ct us di fi co ba bg v1
  unfold wpX_unmount wpY_unmount
  dsimp only
  refine hX _ ?_
  rcases hr with rfl | ⟨rfl, _⟩ | ⟨rfl, m, hm, rfl, hu⟩
  · exact br_f (by decide) (hY _ (br_f (by decide) ⟨rfl, R⟩))
  · exact br_f (by decide) (hY _ (br_f (by decide) ⟨rfl, R⟩))
  · have j4 : vp_in (nI m) 4 := vp_in_nI hm (by omega)
    exact br_t (by decide) ⟨j4, nm_e (hY _ (br_t rfl ⟨j4, nm_e ⟨rfl, lm_mk (lm_c_unmount h rfl)⟩⟩))⟩
theorem i_vc_mkdir {k : Nat} {u : SX} {v : SY} (I : i_Rel k u v) (hk : k + 4 ≤ 2048) (v1 : Int32) (v2 : Int32) : wpX_mkdir (fun r u' => wpY_mkdir (fun r' v' => r' = r ∧ i_Rel (k + 4) u' v') v v1 v2) u v1 v2 := by
  obtain ⟨L, un, ow, hi, oD, hD, ct, us, di, fi, co, ba, bg, rfl, rfl, h⟩ := I
  have R : i_Rel (k + 4) (nI L, un, ow, hi, oD, hD, ct, us) (nI L, di, fi, co, ba, us, bg) := lm_mk h
  obtain ⟨r, hr, hX, hY⟩ := lm_ref L un ow hi oD hD ct us di fi co ba bg v1
  unfold wpX_mkdir wpY_mkdir
  dsimp only
  refine hX _ ?_
  rcases hr with rfl | ⟨rfl, _⟩ | ⟨rfl, m, hm, rfl, hu⟩
  · exact br_f (by decide) (lm_tD_r hY (by decide) (br_f (by decide) ⟨rfl, R⟩))
  · exact br_f (by decide) (lm_tD_r hY (by decide) (br_f (by decide) ⟨rfl, R⟩))
  · refine br_t (by decide) ?_
    rcases lm_dv v2 with ⟨d, hd, rfl⟩ | hb
    · have hs : lm_live L us (6 + m) := Or.inr ⟨m, hm, rfl, hu⟩
      have j : vp_in (nI (6 + m)) 10 := vp_in_nI (by omega) (by omega)
      rw [lm_6]
      refine br_f (nI_pos (by omega)) (br_t (nI_le (b := 1) (by omega) (by omega)) (lm_topX (lm_dir h hs hd ?_)))
      rw [nI_clamp (n := 6 + m) (by omega)]
      cases e : bt (di (6 + m)) d
      · refine br_t rfl ⟨j, j, nm_e ⟨j, j, nm_e (lm_tD_o hY hd (br_t rfl (lm_hasD (by omega) hd ?_)))⟩⟩
        rw [e]
        exact br_t rfl ⟨j, j, nm_e ⟨rfl, lm_mk (lm_c_mkdir h hm hu hd e)⟩⟩
      · refine br_f (by decide) (lm_tD_o hY hd (br_t rfl (lm_hasD (by omega) hd ?_)))
        rw [e]
        exact br_f (by decide) ⟨rfl, R⟩
    · rcases hb with a | ⟨a, b⟩
      · exact br_t a (lm_tD_b hY (Or.inl a) (br_f (by decide) ⟨rfl, R⟩))
      · exact br_f a (br_f b (lm_tD_b hY (Or.inr ⟨a, b⟩) (br_f (by decide) ⟨rfl, R⟩)))
theorem i_vc_rmdir {k : Nat} {u : SX} {v : SY} (I : i_Rel k u v) (hk : k + 4 ≤ 2048) (v1 : Int32) (v2 : Int32) : wpX_rmdir (fun r u' => wpY_rmdir (fun r' v' => r' = r ∧ i_Rel (k + 4) u' v') v v1 v2) u v1 v2 := by
  obtain ⟨L, un, ow, hi, oD, hD, ct, us, di, fi, co, ba, bg, rfl, rfl, h⟩ := I
  have R : i_Rel (k + 4) (nI L, un, ow, hi, oD, hD, ct, us) (nI L, di, fi, co, ba, us, bg) := lm_mk h
  obtain ⟨r, hr, hX, hY⟩ := lm_ref L un ow hi oD hD ct us di fi co ba bg v1
  unfold wpX_rmdir wpY_rmdir
  dsimp only
  refine hX _ ?_
  rcases hr with rfl | ⟨rfl, _⟩ | ⟨rfl, m, hm, rfl, hu⟩
  · exact br_f (by decide) (lm_tD_r hY (by decide) (br_f (by decide) ⟨rfl, R⟩))
  · exact br_f (by decide) (lm_tD_r hY (by decide) (br_f (by decide) ⟨rfl, R⟩))
  · refine br_t (by decide) ?_
    rcases lm_dv v2 with ⟨d, hd, rfl⟩ | hb
    · have hs : lm_live L us (6 + m) := Or.inr ⟨m, hm, rfl, hu⟩
      have j : vp_in (nI (6 + m)) 10 := vp_in_nI (by omega) (by omega)
      have e4 : 4 * nI d = nI (4 * d) := by rw [show (4 : Int32) = nI 4 from rfl, pk_mul]
      rw [lm_6]
      refine br_f (nI_pos (by omega)) (br_t (nI_le (b := 1) (by omega) (by omega)) (lm_topX (lm_dir h hs hd ?_)))
      rw [nI_clamp (n := 6 + m) (by omega)]
      cases e : bt (di (6 + m)) d
      · refine br_t rfl (lm_tD_o hY hd (br_t rfl (lm_hasD (by omega) hd ?_)))
        rw [e]
        exact br_t rfl ⟨rfl, R⟩
      · refine br_f (by decide) (lm_seen h hs ?_)
        unfold wpX_filesOf
        dsimp only
        refine nm_e ⟨j, j, nm_e ⟨j, j, nm_e ⟨j, j, nm_e ⟨j, j, nm_e (lm_size ?_)⟩⟩⟩⟩
        refine lm_tD_o hY hd (br_t rfl (lm_hasD (by omega) hd ?_))
        rw [e]
        refine br_f (by decide) (nm_r e4 (lm_rmY hm hd ⟨?_, lm_mk (lm_c_rmdir h hm hu hd)⟩))
        rw [lm_cn_congr 8 (fun i _ => (lm_and15 (fi (6 + m)) d i hd).trans rfl)]
        rfl
    · rcases hb with a | ⟨a, b⟩
      · exact br_t a (lm_tD_b hY (Or.inl a) (br_f (by decide) ⟨rfl, R⟩))
      · exact br_f a (br_f b (lm_tD_b hY (Or.inr ⟨a, b⟩) (br_f (by decide) ⟨rfl, R⟩)))
end
section
/-! the methods on files -/
theorem i_vc_write {k : Nat} {u : SX} {v : SY} (I : i_Rel k u v) (hk : k + 4 ≤ 2048) (v1 : Int32) (v2 : Int32) (v3 : Int32) : wpX_write (fun r u' => wpY_write (fun r' v' => r' = r ∧ i_Rel (k + 4) u' v') v v1 v2 v3) u v1 v2 v3 := by
  obtain ⟨L, un, ow, hi, oD, hD, ct, us, di, fi, co, ba, bg, rfl, rfl, h⟩ := I
  have R : i_Rel (k + 4) (nI L, un, ow, hi, oD, hD, ct, us) (nI L, di, fi, co, ba, us, bg) := lm_mk h
  obtain ⟨r, hr, hX, hY⟩ := lm_ref L un ow hi oD hD ct us di fi co ba bg v1
  unfold wpX_write wpY_write
  refine hX _ ?_
  rcases hr with rfl | ⟨rfl, _⟩ | ⟨rfl, m, hm, rfl, hu⟩
  · exact br_f (by decide) (lm_tF_r hY (by decide) (br_f (by decide) ⟨rfl, R⟩))
  · exact br_f (by decide) (lm_tF_r hY (by decide) (br_f (by decide) ⟨rfl, R⟩))
  · refine br_t (by decide) ?_
    rcases lm_bad (nI L) un ow hi oD hD ct us v2 with ⟨f, hf, rfl, hB⟩ | ⟨hb, hB⟩
    · have hs : lm_live L us (6 + m) := Or.inr ⟨m, hm, rfl, hu⟩
      have hd : f / 4 < 2 := by omega
      rw [lm_6, lm_sh2 f hf, lm_dv4 f hf]
      refine hB _ (br_t rfl (lm_topX (lm_dir h hs hd ?_)))
      cases e : bt (di (6 + m)) (f / 4)
      · refine br_t rfl (lm_tF_o hY hf (br_t rfl ⟨by decide, lm_hasD (by omega) hd ?_⟩))
        rw [e]
        exact br_t rfl ⟨rfl, R⟩
      · refine br_f (by decide) (lm_hold h hs hf (fun r hr => lm_setF (by omega) hf ?_))
        have R' : i_Rel (k + 4) (nI L, un, upd ow (6 + m) (ow (6 + m) ||| ((1 : Int32) <<< (nI f &&& 31))), upd hi (6 + m) (hi (6 + m) &&& (((1 : Int32) <<< (nI f &&& 31)) ^^^ (-1))), oD, hD, upd ct (8 * (6 + m) + f) v3, us)
            (nI L, di, upd fi (6 + m) (fi (6 + m) ||| ((1 : Int32) <<< (nI f &&& 31))), upd co (8 * (6 + m) + f) v3, ba, us, bg) :=
          lm_mk (lm_c_set h hm hu hf e v3 (fun i => by rw [pk_us, lm_set _ _ _ (by omega)]) (fun s z => pk_un z))
        rcases hr with ⟨rfl, e2⟩ | ⟨t, t1, rfl, t3, t4⟩
        · refine br_f (by decide) (lm_tF_o hY hf (br_t rfl ⟨by decide, lm_hasD (by omega) hd ?_⟩))
          rw [e]
          refine br_f (by decide) (lm_put (by omega) hf ?_)
          rw [e2]
          exact ⟨rfl, R'⟩
        · refine br_t (nI_pos' (by omega)) (lm_tF_o hY hf (br_t rfl ⟨by decide, lm_hasD (by omega) hd ?_⟩))
          rw [e]
          refine br_f (by decide) (lm_put (by omega) hf ?_)
          rw [t3]
          exact ⟨rfl, R'⟩
    · exact hB _ (br_f (by decide) (lm_tF_b hY hb (br_f (by decide) ⟨rfl, R⟩)))
theorem i_vc_grow {k : Nat} {u : SX} {v : SY} (I : i_Rel k u v) (hk : k + 4 ≤ 2048) (v1 : Int32) (v2 : Int32) (v3 : Int32) : wpX_grow (fun r u' => wpY_grow (fun r' v' => r' = r ∧ i_Rel (k + 4) u' v') v v1 v2 v3) u v1 v2 v3 := by
  obtain ⟨L, un, ow, hi, oD, hD, ct, us, di, fi, co, ba, bg, rfl, rfl, h⟩ := I
  have R : i_Rel (k + 4) (nI L, un, ow, hi, oD, hD, ct, us) (nI L, di, fi, co, ba, us, bg) := lm_mk h
  obtain ⟨r, hr, hX, hY⟩ := lm_ref L un ow hi oD hD ct us di fi co ba bg v1
  unfold wpX_grow wpY_grow
  refine hX _ ?_
  rcases hr with rfl | ⟨rfl, _⟩ | ⟨rfl, m, hm, rfl, hu⟩
  · exact br_f (by decide) (lm_tF_r hY (by decide) (br_f (by decide) ⟨rfl, R⟩))
  · exact br_f (by decide) (lm_tF_r hY (by decide) (br_f (by decide) ⟨rfl, R⟩))
  · refine br_t (by decide) ?_
    rcases lm_bad (nI L) un ow hi oD hD ct us v2 with ⟨f, hf, rfl, hB⟩ | ⟨hb, hB⟩
    · have hs : lm_live L us (6 + m) := Or.inr ⟨m, hm, rfl, hu⟩
      rw [lm_6]
      refine hB _ (br_t rfl (lm_topX (lm_hold h hs hf (fun r hr => ?_))))
      rcases hr with ⟨rfl, e2⟩ | ⟨t, t1, rfl, t3, t4⟩
      · refine br_f (by decide) (lm_tF_o hY hf (br_t rfl (lm_has (by omega) hf ?_)))
        rw [e2]
        exact br_t rfl ⟨rfl, R⟩
      · have j : vp_in (nI (8 * (6 + m) + f)) 80 := vp_in_nI (by omega) (by omega)
        rw [lm_8x, nI_clamp (n := 8 * t + f) (by omega), lm_8y, nI_clamp (n := 8 * (6 + m) + f) (by omega), t4]
        refine br_t (nI_pos' (by omega)) ⟨vp_in_nI (by omega) (by omega), lm_setF (by omega) hf (lm_tF_o hY hf (br_t rfl (lm_has (by omega) hf ?_)))⟩
        rw [t3]
        refine br_f (by decide) ⟨j, j, nm_e ⟨rfl, lm_mk (lm_c_set h hm hu hf ((lm_tree h hs).2.2 f hf t3) _ (fun i => ?_) (fun s z => rfl))⟩⟩
        by_cases e : i = f
        · rw [e, t3]; rfl
        · rw [lm_ne e, Bool.or_false]
    · exact hB _ (br_f (by decide) (lm_tF_b hY hb (br_f (by decide) ⟨rfl, R⟩)))
theorem i_vc_remove {k : Nat} {u : SX} {v : SY} (I : i_Rel k u v) (hk : k + 4 ≤ 2048) (v1 : Int32) (v2 : Int32) : wpX_remove (fun r u' => wpY_remove (fun r' v' => r' = r ∧ i_Rel (k + 4) u' v') v v1 v2) u v1 v2 := by
  obtain ⟨L, un, ow, hi, oD, hD, ct, us, di, fi, co, ba, bg, rfl, rfl, h⟩ := I
  have R : i_Rel (k + 4) (nI L, un, ow, hi, oD, hD, ct, us) (nI L, di, fi, co, ba, us, bg) := lm_mk h
  obtain ⟨r, hr, hX, hY⟩ := lm_ref L un ow hi oD hD ct us di fi co ba bg v1
  unfold wpX_remove wpY_remove
  dsimp only
  refine hX _ ?_
  rcases hr with rfl | ⟨rfl, _⟩ | ⟨rfl, m, hm, rfl, hu⟩
  · exact br_f (by decide) (lm_tF_r hY (by decide) (br_f (by decide) ⟨rfl, R⟩))
  · exact br_f (by decide) (lm_tF_r hY (by decide) (br_f (by decide) ⟨rfl, R⟩))
  · refine br_t (by decide) ?_
    rcases lm_bad (nI L) un ow hi oD hD ct us v2 with ⟨f, hf, rfl, hB⟩ | ⟨hb, hB⟩
    · have hs : lm_live L us (6 + m) := Or.inr ⟨m, hm, rfl, hu⟩
      have j : vp_in (nI (6 + m)) 10 := vp_in_nI (by omega) (by omega)
      rw [lm_6, nI_clamp (n := 6 + m) (by omega)]
      refine hB _ (br_t rfl (lm_topX (lm_hold h hs hf (fun r hr => ?_))))
      rcases hr with ⟨rfl, e2⟩ | ⟨t, t1, rfl, t3, t4⟩
      · refine br_f (by decide) (lm_tF_o hY hf (br_t rfl (lm_has (by omega) hf ?_)))
        rw [e2]
        exact br_t rfl ⟨rfl, R⟩
      · refine br_t (nI_pos' (by omega)) (lm_clrF (by omega) (lm_tF_o hY hf (br_t rfl (lm_has (by omega) hf ?_))))
        rw [t3]
        exact br_f (by decide) ⟨j, j, nm_e ⟨rfl, lm_mk (lm_c_clr h hm hu hf (fun i => by rw [pk_us, lm_clr _ _ _ (by omega)]) (fun s z => pk_un z))⟩⟩
    · exact hB _ (br_f (by decide) (lm_tF_b hY hb (br_f (by decide) ⟨rfl, R⟩)))
theorem i_vc_rename {k : Nat} {u : SX} {v : SY} (I : i_Rel k u v) (hk : k + 4 ≤ 2048) (v1 : Int32) (v2 : Int32) (v3 : Int32) : wpX_rename (fun r u' => wpY_rename (fun r' v' => r' = r ∧ i_Rel (k + 4) u' v') v v1 v2 v3) u v1 v2 v3 := by
  obtain ⟨L, un, ow, hi, oD, hD, ct, us, di, fi, co, ba, bg, rfl, rfl, h⟩ := I
  have R : i_Rel (k + 4) (nI L, un, ow, hi, oD, hD, ct, us) (nI L, di, fi, co, ba, us, bg) := lm_mk h
  obtain ⟨r, hr, hX, hY⟩ := lm_ref L un ow hi oD hD ct us di fi co ba bg v1
  unfold wpX_rename wpY_rename wY_rename_24 wY_rename_40 wY_rename_42
  refine hX _ ?_
  rcases hr with rfl | ⟨rfl, _⟩ | ⟨rfl, m, hm, rfl, hu⟩
  · exact br_f (by decide) (lm_tF_r hY (by decide) (br_f (by decide) (br_f (by decide) (br_f (by decide) ⟨rfl, R⟩))))
  · exact br_f (by decide) (lm_tF_r hY (by decide) (br_f (by decide) (br_f (by decide) (br_f (by decide) ⟨rfl, R⟩))))
  · refine br_t (by decide) ?_
    rcases lm_bad (nI L) un ow hi oD hD ct us v2 with ⟨f, hf, rfl, hB⟩ | ⟨hb, hB⟩
    · refine hB _ (br_t rfl ?_)
      rcases lm_bad (nI L) un ow hi oD hD ct us v3 with ⟨g, hg, rfl, hB2⟩ | ⟨hb2, hB2⟩
      · refine hB2 _ (br_t rfl ?_)
        by_cases e : f = g
        · subst e
          exact br_t rfl (lm_tF_o hY hf (br_t rfl (lm_tF_o hY hf (br_t rfl (br_t rfl (br_f (by decide) ⟨rfl, R⟩))))))
        · have ne : ¬ nI f = nI g := fun z => e ((nI_eq (by omega) (by omega)).mp z)
          have hs : lm_live L us (6 + m) := Or.inr ⟨m, hm, rfl, hu⟩
          have j : vp_in (nI (6 + m)) 10 := vp_in_nI (by omega) (by omega)
          have j2 : vp_in (nI (8 * (6 + m) + f)) 80 := vp_in_nI (by omega) (by omega)
          have hd : g / 4 < 2 := by omega
          rw [lm_6, lm_sh2 g hg, lm_dv4 g hg, lm_8y, nI_clamp (n := 6 + m) (by omega), nI_clamp (n := 8 * (6 + m) + f) (by omega)]
          refine br_f ne (lm_topX (lm_hold h hs hf (fun r hr => lm_dir h hs hd ?_)))
          rcases hr with ⟨rfl, e2⟩ | ⟨t, t1, rfl, t3, t4⟩
          · refine br_t (by decide) (lm_tF_o hY hf (br_t rfl (lm_tF_o hY hg (br_t rfl (br_f ne (br_t rfl (lm_has (by omega) hf ?_)))))))
            rw [e2]
            exact br_t rfl ⟨rfl, R⟩
          · refine br_f (nI_pos (by omega)) ?_
            cases e3 : bt (di (6 + m)) (g / 4)
            · refine br_t rfl (lm_tF_o hY hf (br_t rfl (lm_tF_o hY hg (br_t rfl (br_f ne (br_t rfl (lm_has (by omega) hf ?_)))))))
              rw [t3]
              refine br_f (by decide) ⟨by decide, lm_hasD (by omega) hd ?_⟩
              rw [e3]
              exact br_t rfl ⟨rfl, R⟩
            · refine br_f (by decide) (lm_hold h hs hg (fun r2 hr2 => ?_))
              rw [lm_8x, nI_clamp (n := 8 * t + f) (by omega), t4]
              refine ⟨vp_in_nI (by omega) (by omega), lm_setF (by omega) hg (lm_clrF (by omega) ?_)⟩
              have R2 := lm_c_clr (fi' := upd (upd fi (6 + m) (fi (6 + m) &&& (((1 : Int32) <<< (nI f &&& 31)) ^^^ (-1)))) (6 + m) (upd fi (6 + m) (fi (6 + m) &&& (((1 : Int32) <<< (nI f &&& 31)) ^^^ (-1))) (6 + m) ||| ((1 : Int32) <<< (nI g &&& 31))))
                (lm_c_set h hm hu hg e3 (co (8 * (6 + m) + f)) (fi' := upd fi (6 + m) (fi (6 + m) ||| ((1 : Int32) <<< (nI g &&& 31)))) (fun i => by rw [pk_us, lm_set _ _ _ (by omega)]) (fun s z => pk_un z)) hm hu hf
                (fun i => by
                  rw [pk_us, pk_us, pk_us, lm_set _ _ _ (by omega), lm_set _ _ _ (by omega), lm_clr _ _ _ (by omega)]
                  by_cases ei : i = f
                  · have eg : i ≠ g := by omega
                    rw [lm_ne eg, decide_eq_true ei, Bool.not_true, Bool.and_false, Bool.and_false]; rfl
                  · rw [lm_ne ei, Bool.not_false, Bool.and_true, Bool.and_true])
                (fun s z => by rw [pk_un z, pk_un z, pk_un z])
              have pb : bt (upd fi (6 + m) (fi (6 + m) &&& (((1 : Int32) <<< (nI f &&& 31)) ^^^ (-1))) (6 + m)) g = bt (fi (6 + m)) g := by
                rw [pk_us, lm_clr _ _ _ (by omega), lm_ne (fun z => e z.symm), Bool.not_false, Bool.and_true]
              rcases hr2 with ⟨rfl, e4⟩ | ⟨w, w1, rfl, w3, w4⟩
              · refine br_f (by decide) (lm_tF_o hY hf (br_t rfl (lm_tF_o hY hg (br_t rfl (br_f ne (br_t rfl (lm_has (by omega) hf ?_)))))))
                rw [t3]
                refine br_f (by decide) ⟨by decide, lm_hasD (by omega) hd ?_⟩
                rw [e3]
                refine br_f (by decide) ⟨j, j, nm_e ⟨j2, lm_put (by omega) hg ?_⟩⟩
                rw [pb, e4]
                exact ⟨rfl, lm_mk R2⟩
              · refine br_t (nI_pos' (by omega)) (lm_tF_o hY hf (br_t rfl (lm_tF_o hY hg (br_t rfl (br_f ne (br_t rfl (lm_has (by omega) hf ?_)))))))
                rw [t3]
                refine br_f (by decide) ⟨by decide, lm_hasD (by omega) hd ?_⟩
                rw [e3]
                refine br_f (by decide) ⟨j, j, nm_e ⟨j2, lm_put (by omega) hg ?_⟩⟩
                rw [pb, w3]
                exact ⟨rfl, lm_mk R2⟩
      · exact hB2 _ (br_f (by decide) (lm_tF_o hY hf (br_t rfl (lm_tF_b hY hb2 (br_f (by decide) (br_f (by decide) ⟨rfl, R⟩))))))
    · exact hB _ (br_f (by decide) (lm_tF_b hY hb (br_f (by decide) (br_f (by decide) (br_f (by decide) ⟨rfl, R⟩)))))
end
section
/-! commit, drop, squash -/
theorem i_vc_commit {k : Nat} {u : SX} {v : SY} (I : i_Rel k u v) (hk : k + 4 ≤ 2048) (v1 : Int32) : wpX_commit (fun r u' => wpY_commit (fun r' v' => r' = r ∧ i_Rel (k + 4) u' v') v v1) u v1 := by
  obtain ⟨L, un, ow, hi, oD, hD, ct, us, di, fi, co, ba, bg, rfl, rfl, h⟩ := I
  have R : i_Rel (k + 4) (nI L, un, ow, hi, oD, hD, ct, us) (nI L, di, fi, co, ba, us, bg) := lm_mk h
  have hL6 := h.2.1
  obtain ⟨r, hr, hX, hY⟩ := lm_ref L un ow hi oD hD ct us di fi co ba bg v1
  unfold wpX_commit wpY_commit
  dsimp only
  refine hX _ ?_
  rcases hr with rfl | ⟨rfl, _⟩ | ⟨rfl, m, hm, rfl, hu⟩
  · exact br_f (by decide) (hY _ (br_f (by decide) ⟨rfl, R⟩))
  · exact br_f (by decide) (hY _ (br_f (by decide) ⟨rfl, R⟩))
  · refine br_t (by decide) ?_
    by_cases e : L = 6
    · have e6 : nI L = 6 := by rw [e]; rfl
      exact br_t e6 (hY _ (br_t rfl (br_t e6 ⟨rfl, R⟩)))
    · have e6 : ¬ nI L = 6 := fun z => e ((nI_eq (b := 6) (by omega) (by omega)).mp z)
      have j : vp_in (nI (6 + m)) 10 := vp_in_nI (by omega) (by omega)
      have jL : vp_in (nI L) 10 := vp_in_nI (by omega) (by omega)
      have jL6 : vp_in (nI L) 6 := vp_in_nI (by omega) (by omega)
      have j4 : vp_in (nI m) 4 := vp_in_nI hm (by omega)
      refine br_f e6 (lm_topX ?_)
      rw [lm_6, nI_clamp (n := 6 + m) (by omega), nI_clamp (n := L) (by omega)]
      refine ⟨j, jL, nm_e ⟨j, jL, nm_e ⟨j, jL, nm_e ⟨j, jL, nm_e (lm_comX (by omega) (by omega) (by omega) (fun ct' a1 a2 => ?_))⟩⟩⟩⟩
      refine hY _ (br_t rfl (br_f e6 (lm_copy (by omega) (by omega) (by omega) (fun co' c1 c2 => ?_))))
      dsimp only
      rw [nI_clamp (n := L) (by omega), nI_clamp (n := m) (by omega)]
      refine ⟨j4, jL6, nm_e ⟨j4, nm_e (nm_r (nI_1 L) ⟨nI_pred L, lm_mk (lm_c_commit h hm hu (by omega) a1 a2 c1 c2)⟩)⟩⟩
theorem i_vc_drop {k : Nat} {u : SX} {v : SY} (I : i_Rel k u v) (hk : k + 4 ≤ 2048) : wpX_drop (fun r u' => wpY_drop (fun r' v' => r' = r ∧ i_Rel (k + 4) u' v') v) u := by
  obtain ⟨L, un, ow, hi, oD, hD, ct, us, di, fi, co, ba, bg, rfl, rfl, h⟩ := I
  have R : i_Rel (k + 4) (nI L, un, ow, hi, oD, hD, ct, us) (nI L, di, fi, co, ba, us, bg) := lm_mk h
  obtain ⟨q, hq⟩ : ∃ q, L = q + 1 := ⟨L - 1, by have := h.1; omega⟩
  have hL6 := h.2.1
  have eL : nI L - 1 = nI q := by rw [hq]; exact nI_pred q
  have g2 : lm_fa (lm_g2 us un 6 q) 4 = lm_fa (lm_g2 us bg 0 q) 4 := by
    refine lm_fa_congr 4 (fun j hj => ?_)
    unfold lm_g2
    by_cases hu : us j = 0
    · rw [decide_eq_true hu]; rfl
    · obtain ⟨p, p1, p2, p3, p4, p5⟩ := h.2.2.2.2 j hj hu
      rw [Nat.zero_add, p2, p3]
  have g1 : lm_fa (lm_g1 un q) L = lm_fa (lm_g1 ba q) L := by
    refine lm_fa_congr L (fun j hj => ?_)
    unfold lm_g1
    rcases Nat.eq_zero_or_pos j with e | e
    · subst e
      have n0 : (0 : Int32) ≤ nI q := nI_pos' (by omega)
      have n1 : ¬ (-1 : Int32) = nI q := fun z => absurd (z ▸ n0) (by decide)
      have n4 : ¬ (-4 : Int32) = nI q := fun z => absurd (z ▸ n0) (by decide)
      rw [h.2.2.1.1, h.2.2.1.2.1, decide_eq_false n1, decide_eq_false n4]
    · obtain ⟨p, p1, p2, p3, p4⟩ := h.2.2.2.1 j e hj
      rw [p2, p3]
  refine lm_dropX hL6 hq (fun hf => ?_) (fun hf => ?_)
  · unfold wpY_drop
    dsimp only
    rcases Nat.eq_zero_or_pos q with e | e
    · have e1 : nI L = 1 := by rw [hq, e]; rfl
      exact br_t e1 ⟨rfl, R⟩
    · have e1 : ¬ nI L = 1 := fun z => absurd ((nI_eq (b := 1) (by omega) (by omega)).mp z) (by omega)
      rw [eL]
      refine br_f e1 (lm_freeY hL6 ?_)
      rw [decide_eq_true e, Bool.true_and, Bool.and_comm, g2, g1] at hf
      rw [hf]
      exact br_t rfl ⟨rfl, R⟩
  · unfold wpY_drop
    dsimp only
    rw [Bool.and_eq_true, Bool.and_eq_true, decide_eq_true_eq] at hf
    obtain ⟨⟨f1, f2⟩, f3⟩ := hf
    have e1 : ¬ nI L = 1 := fun z => absurd ((nI_eq (b := 1) (by omega) (by omega)).mp z) (by omega)
    rw [eL]
    refine br_f e1 (lm_freeY hL6 ?_)
    have hm : ∀ m, m < 4 → us m ≠ 0 → un (6 + m) ≠ nI q := by
      intro m hm hu z
      have := lm_fa_t 4 f3 m hm
      unfold lm_g2 at this
      rw [decide_eq_false hu, decide_eq_true z] at this
      exact absurd this (by decide)
    rw [← g1, ← g2, f2, f3]
    subst hq
    exact br_f (by decide) (nm_e ⟨rfl, lm_mk (lm_c_drop h f1 hm)⟩)
section
variable {L : Nat} {un ow hi oD hD ct us di fi co ba bg : Nat → Int32}
/-- squash: a file's second half -/
theorem lm_sq95 {m i p : Nat} {r c : Int32} (h : lm_I L un ow hi oD hD ct us di fi co ba bg) (hm : m < 4) (hu : us m ≠ 0) (li : i < 8) (hp : un (6 + m) = nI p) (hpL : p < L) (hr : lm_H ct fi co p i r)
    (hc : c = lm_b (bt (hD (6 + m)) (i / 4))) {post : Int32 → SX → Prop} {J : Int32 → (Nat → Int32) → (Nat → Int32) → (Nat → Int32) → (Nat → Int32) → (Nat → Int32) → (Nat → Int32) → (Nat → Int32) → Prop}
    (hJ : ∀ ow', lm_I L un ow' hi oD hD ct us di fi co ba bg → J (nI (i + 1)) un ow' hi oD hD ct us) :
    wX_squash_95 post J (nI (6 + m)) (nI i) r c (nI L) un ow hi oD hD ct us := by
  have hL6 := h.2.1
  have j : vp_in (nI (6 + m)) 10 := vp_in_nI (by omega) (by omega)
  have e6 : (nI (6 + m)).toNatClampNeg = 6 + m := nI_clamp (by omega)
  unfold wX_squash_95 wX_squash_115
  rw [e6]
  refine ⟨j, ek_if (lm_bit _ _ (by omega)) (fun b1 => br_f (by decide) ?_) (fun b1 => br_t rfl (nm_r (nI_1 i) (hJ ow h)))⟩
  rcases hr with ⟨rfl, e2⟩ | ⟨t, t1, rfl, t3, t4⟩
  · exact br_t (by decide) (nm_r (nI_1 i) (hJ ow h))
  · refine br_f (nI_pos (by omega)) ?_
    cases e3 : bt (hD (6 + m)) (i / 4)
    · rw [e3] at hc
      rw [lm_8x, lm_8x, nI_clamp (n := 8 * t + i) (by omega), nI_clamp (n := 8 * (6 + m) + i) (by omega)]
      refine br_t hc ⟨vp_in_nI (by omega) (by omega), vp_in_nI (by omega) (by omega), br_c (fun z => ⟨j, j, nm_e (nm_r (nI_1 i) (hJ _ ?_))⟩) (fun z => nm_r (nI_1 i) (hJ ow h))⟩
      exact lm_c_sqo h hm hu li hp (by omega) b1 t3 (z.symm.trans t4) e3
    · rw [e3] at hc
      exact br_f (by rw [hc]; decide) (nm_r (nI_1 i) (hJ ow h))
theorem lm_sq64 {m i p : Nat} {r c : Int32} (h : lm_I L un ow hi oD hD ct us di fi co ba bg) (hm : m < 4) (hu : us m ≠ 0) (li : i < 8) (hp : un (6 + m) = nI p) (hpL : p < L) (hr : lm_H ct fi co p i r)
    (hc : c = lm_b (bt (hD (6 + m)) (i / 4))) {post : Int32 → SX → Prop} {J : Int32 → (Nat → Int32) → (Nat → Int32) → (Nat → Int32) → (Nat → Int32) → (Nat → Int32) → (Nat → Int32) → (Nat → Int32) → Prop}
    (hJ : ∀ ow' hi', lm_I L un ow' hi' oD hD ct us di fi co ba bg → J (nI (i + 1)) un ow' hi' oD hD ct us) :
    wX_squash_64 post J (nI (6 + m)) (nI i) r c (nI L) un ow hi oD hD ct us := by
  have hL6 := h.2.1
  have j : vp_in (nI (6 + m)) 10 := vp_in_nI (by omega) (by omega)
  have e6 : (nI (6 + m)).toNatClampNeg = 6 + m := nI_clamp (by omega)
  unfold wX_squash_64 wX_squash_76
  rw [e6]
  have K : bt (fi p) i = false ∨ bt (hD (6 + m)) (i / 4) = true → wX_squash_95 post J (nI (6 + m)) (nI i) r c (nI L) un ow (upd hi (6 + m) (hi (6 + m) &&& (((1 : Int32) <<< (nI i &&& 31)) ^^^ (-1)))) oD hD ct us :=
    fun hz => lm_sq95 (lm_c_sqh h hm hu li hp (by omega) hz) hm hu li hp hpL hr hc (fun ow' h' => hJ ow' _ h')
  have K0 := lm_sq95 (post := post) (J := J) h hm hu li hp hpL hr hc (fun ow' h' => hJ ow' hi h')
  rcases hr with ⟨rfl, e2⟩ | ⟨t, t1, rfl, t3, t4⟩
  · exact br_t (by decide) ⟨j, j, nm_e (K (Or.inl e2))⟩
  · refine br_f (nI_pos (by omega)) ?_
    cases e3 : bt (hD (6 + m)) (i / 4)
    · rw [e3] at hc
      exact br_t hc K0
    · rw [e3] at hc
      exact br_f (by rw [hc]; decide) ⟨j, j, nm_e (K (Or.inr e3))⟩
theorem lm_sq {m : Nat} (hm : m < 4) (hu : us m ≠ 0) {post : Int32 → SX → Prop} (hp : ∀ ow' hi', lm_I L un ow' hi' oD hD ct us di fi co ba bg → post 0 (nI L, un, ow', hi', oD, hD, ct, us)) :
    ∀ n i ow hi, lm_I L un ow hi oD hD ct us di fi co ba bg → i ≤ 8 → 8 - i < n → wX_squash_21 post (nI (6 + m)) (nI L) n (nI i) un ow hi oD hD ct us := by
  intro n
  induction n with
  | zero => intro i ow hi _ _ l2; omega
  | succ n ih =>
    intro i ow hi h l1 l2
    rw [wX_squash_21]
    dsimp only
    by_cases e : i = 8
    · subst e
      exact br_t (nI_le (a := 8) (b := 8) (by omega) (by omega)) (hp ow hi h)
    · have j : vp_in (nI (6 + m)) 10 := vp_in_nI (by omega) (by omega)
      obtain ⟨p, p1, p2, p3, p4, p5⟩ := h.2.2.2.2 m hm hu
      have li : i < 8 := by omega
      have es : nI i >>> ((2 : Int32) &&& 31) = nI (i / 4) := lm_sh2 i li
      rw [nI_clamp (n := 6 + m) (by omega), p2]
      refine br_f (nI_ge (b := 8) (by omega) (by omega)) ⟨j, lm_hold h (Or.inl p1) li (fun r hr => ⟨j, ?_⟩)⟩
      have K : ∀ c, c = lm_b (bt (hD (6 + m)) (i / 4)) → wX_squash_64 post (wX_squash_21 post (nI (6 + m)) (nI L) n) (nI (6 + m)) (nI i) r c (nI L) un ow hi oD hD ct us :=
        fun c hc => lm_sq64 h hm hu li p2 p1 hr hc (fun ow' hi' h' => ih (i + 1) ow' hi' h' (by omega) (by omega))
      refine ek_if (d := bt (hD (6 + m)) (i / 4) = true) ?_ (fun b => K 1 (by rw [b]; rfl)) (fun b => K 0 (by rw [ts_nt b]; rfl))
      have eb := lm_bit (hD (6 + m)) (i / 4) (by omega)
      rw [← es] at eb
      exact eb
end
theorem i_vc_squash {k : Nat} {u : SX} {v : SY} (I : i_Rel k u v) (hk : k + 4 ≤ 2048) (v1 : Int32) : wpX_squash (fun r u' => wpY_squash (fun r' => r' = r ∧ i_Rel (k + 4) u' v) v v1) u v1 := by
  obtain ⟨L, un, ow, hi, oD, hD, ct, us, di, fi, co, ba, bg, rfl, rfl, h⟩ := I
  have R : i_Rel (k + 4) (nI L, un, ow, hi, oD, hD, ct, us) (nI L, di, fi, co, ba, us, bg) := lm_mk h
  obtain ⟨r, hr, hX, hY⟩ := lm_ref L un ow hi oD hD ct us di fi co ba bg v1
  unfold wpX_squash wpY_squash
  dsimp only
  refine hX _ ?_
  rcases hr with rfl | ⟨rfl, _⟩ | ⟨rfl, m, hm, rfl, hu⟩
  · exact br_f (by decide) (hY _ ⟨rfl, R⟩)
  · exact br_f (by decide) (hY _ ⟨rfl, R⟩)
  · exact br_t (by decide) (lm_topX ⟨9, lm_sq hm hu (fun ow' hi' h' => hY _ ⟨rfl, lm_mk h'⟩) 9 0 ow hi h (by omega) (by omega)⟩)
end
